set_option maxRecDepth 100000
/-! the component: images; what can be asked about it all -/
set_option maxHeartbeats 4000000 in
theorem xo_image {s : mm_S} {H : sp_H} {u : Nat} {b : Int32} : xa_Met yX0_image cX0_image 2 (some .int) 4 4 31 (fun w => [.ref (w.1 0), .int (b)]) s H u (some (.int (op_image s b))) (op_imageS s b) := by
  refine xa_Met.of (by decide +kernel) (fun _ => Nat.le_of_ble_eq_true rfl) (fun Z G w h0 hI => ?_)
  have hI9 := hI
  obtain ⟨⟨hW, hV, hZ⟩, hX, hH, hR⟩ := hI
  have hX0 := hX
  have hs : xx_same w h0 h0 := xx_same.rf
  have hr : xr_fr w h0 h0 := xr_fr.rf
  obtain ⟨tl, te, cap, m9, f9, tn, nm9, c9, mo9, D9, hq⟩ := hH
  show AW G (aw_rm 4 4 31) yX0_image cX0_image 2 (some .int) (aw_N G (xa_Po Z G w h0 H u (some (.int (op_image s b))) (op_imageS s b)) 4 31) 4 31 h0 0 [(0, .ref (w.1 0)), (1, .int (b))] []
  have e0 : (nI 0).toInt = 0 := rfl
  have e2 : (nI 2).toInt = 2 := rfl
  have no : ¬ (0 ≤ b.toInt ∧ b.toInt < 3) → xa_Po Z G w h0 H u (some (.int (op_image s b))) (op_imageS s b) (some (.int (-1))) h0 := fun z => xa_end hI9 hr hs hX xr_eq.rf (by rw [op_imageS, aw_if0 z]; exact mm_core.rf) (by rw [op_image, aw_if0 z])
  by_cases z : 0 ≤ b.toInt ∧ b.toInt < 3
  · obtain ⟨b', hb', rfl, b1, b2⟩ := aw_ofN z.1
    have hb3 : b' < 3 := by omega
    obtain ⟨tl2, te2, e, cp, K, B, M, hB, hi9, l4, l5⟩ := XB.of hI9
    obtain ⟨fk, d2, d3⟩ := hB.2.2.2.2.1.2.1
    have hk9 := hB.2.2.2.1
    obtain ⟨bB, cB, hkB, -⟩ := hk9.2.1 b' hb3
    have fin : op_image s (nI b') = nI (mm_a s 45 26) := by rw [op_image, aw_if1 z]
    have finS : op_imageS s (nI b') = mm_setA (mm_setA s 67 (aw_u (mm_a s 67) b' 1)) 68 (mm_imgB s b') := by rw [op_imageS, aw_if1 z, b2]
    refine aw_iload_n dX0_image_0 rfl ?_
    refine aw_iconst (v := nI 0) dX0_image_1 rfl ?_
    refine aw_iconst (v := nI 2) dX0_image_2 rfl ?_
    refine aw_callP (r := _) dX0_image_3 sX0_155 rfl (xp_isIn) rfl rfl ⟨Nat.le_of_ble_eq_true rfl, Nat.le_of_ble_eq_true rfl⟩ (Nat.le_of_ble_eq_true rfl) ?_
    refine aw_if_neB (tgt := 11) dX0_image_6 (by decide) (fun c_6 => ?_) (fun c_6 => by exfalso; exact c_6 (by omega))
    refine aw_aload_n dX0_image_11 rfl ?_
    refine aw_get dX0_image_12 fX0_81 rfl (hX.1 0 (by decide)) (by rfl) ?_
    refine aw_iload_n dX0_image_15 rfl ?_
    refine aw_kald dX0_image_16 d2 (vp_in_nI hb3 (by decide)) ?_
    rw [nI_clamp (by omega), d3 b' hb3]
    refine aw_aload_n dX0_image_17 rfl ?_
    refine aw_get dX0_image_18 fX0_28 rfl (hX.1 0 (by decide)) (by rfl) ?_
    refine aw_callS (kc := 0) (ks := 0) (mc2 := 4) (ms2 := 31) dX0_image_21 sX0_147 rfl (xg_copy (e := w.1 1) (A := mm_a s 45) ⟨hX.1 1 (by decide), hX.1 2 (by decide), hX.1 3 (by decide), hX.1 4 (by decide)⟩ ⟨hW.1 2 (by decide), hW.1 3 (by decide), hW.1 4 (by decide)⟩) rfl rfl ⟨Nat.le_of_ble_eq_true rfl, Nat.le_of_ble_eq_true rfl⟩ (by exact Nat.le_of_ble_eq_true rfl) (fun v9 h2 q9 => ?_)
    obtain ⟨a, a1, a2, a3, rfl, ⟨n0, n1, n2, n3⟩, ⟨c0, c1, c2, c3⟩, hSh, old2⟩ := q9
    have old2 : xe_f h0 h2 := fun q v z => by rw [old2 q (by rw [z]; exact fun z => by cases z), z]
    have out : ∀ q, h0 q = none → xo_out Z w q := fun q z => ⟨fun y => (by
      obtain ⟨v, y1, -⟩ := hB.2.2.2.2.2 q y
      rw [y1] at z
      cases z), fun c hc y => by
      rw [y] at z
      by_cases y15 : c = 15
      · obtain ⟨f, hf⟩ := hB.1.2
        rw [y15, hf] at z
        cases z
      · rw [hB.1.1 c (by omega)] at z
        cases z⟩
    have hO2 : xo_S Z G w h2 a (mm_a s 45) := ⟨a1, a2, a3, hSh, ⟨out _ n0, out _ n1, out _ n2, out _ n3⟩, c1, c2, c3⟩
    have hk2 : h2 (B b') = some (aw_o 4 [va_rf cB]) := old2 _ _ hkB
    have hX2 := old2.k.XC hX
    refine aw_put dX0_image_24 (pX0_135 _) rfl rfl bB hk2 (by exact Nat.le_of_ble_eq_true rfl) rfl rfl ?_
    have hX4 : XC G w (aw_up h2 (B b') (aw_o 4 [.ref a])) s := hX2.ot (hX2.ne hk2 (by decide) (by decide) (by decide))
    have hX := hX4
    refine aw_aload_n dX0_image_27 rfl ?_
    refine aw_get dX0_image_28 fX0_28 rfl (hX.1 0 (by decide)) (by rfl) ?_
    refine aw_get dX0_image_31 fX0_120 rfl (hX.st (i := 0) (by decide)) (by rfl) ?_
    try simp only [Nat.reduceMul, Nat.reduceAdd, Nat.zero_add]
    refine aw_ireturn dX0_image_34 rfl ?_
    have q04 : xq_f w h0 (aw_up h2 (B b') (aw_o 4 [.ref a])) := (old2.q).tr (xq_f.up hk2 (Or.inl rfl))
    have r24 : xr_fr w h2 (aw_up h2 (B b') (aw_o 4 [.ref a])) := (xq_f.up hk2 (Or.inl rfl)).r
    have r04 := q04.r
    have kp : ∀ q fs, h0 q = some (aw_o 4 fs) → q ≠ B b' → aw_up h2 (B b') (aw_o 4 [.ref a]) q = some (aw_o 4 fs) := fun q fs z ne => (aw_up_n ne).trans (old2 _ _ z)
    obtain ⟨s2, hs2⟩ : ∃ s2, s2 = mm_setA (mm_setA s 67 (aw_u (mm_a s 67) b' 1)) 68 (mm_imgB s b') := ⟨_, rfl⟩
    have a67 : mm_a s2 67 = aw_u (mm_a s 67) b' 1 := by rw [hs2, mm_a_A, if_neg (by decide), mm_a_A, if_pos rfl]
    have a68 : mm_a s2 68 = mm_imgB s b' := by rw [hs2, mm_a_A, if_pos rfl]
    have ao : ∀ k, k ≠ 67 → k ≠ 68 → mm_a s2 k = mm_a s k := fun k h1 h2 => by rw [hs2, mm_a_A, if_neg h2, mm_a_A, if_neg h1]
    have no2 : ∀ k, mm_n s2 k = mm_n s k := fun k => by rw [hs2]; rfl
    have vo : ∀ k, mm_v s2 k = mm_v s k := fun k => by rw [hs2]; rfl
    have hX5 : XC G w (aw_up h2 (B b') (aw_o 4 [.ref a])) s2 := hX4.cells (xx_cells_all (fun k _ => no2 k) (vo 51) (by rw [hs2]; rfl) (fun k hk => ao k (fun e => by subst e; cases hk) (fun e => by subst e; cases hk)) (ao 0 (by decide) (by decide)))
    have hB4 := hB.q (s' := s2) q04 (fun q hq => (hZ q hq).2) hX5 ⟨fun l hl => ?_, fun i hi => ?_, fun i hi => ?_⟩
    · refine ⟨by rw [fin], s2, by rw [finS, hs2]; exact mm_core.rf, hB4.fin (K2 := K) (B2 := B) (M2 := M) hW hV (fun q hq => (hZ q hq).2) hX5 ⟨(no2 48).symm, fun _ _ => rfl⟩ ⟨(no2 49).symm, fun i hi => by rw [no2, no2]; rfl⟩ ⟨(no2 64).symm, fun _ _ => rfl⟩ (by rw [no2, no2]; exact l4) (by rw [no2]; exact l5) hB4.2.2.2.1 (hi9.cg2 (by rw [no2, no2]) (no2 64)) (fun _ _ => rfl), r04⟩
    · rw [no2, no2] at hl
      obtain ⟨y1, a', y2, y3⟩ := hk9.1 l hl
      refine ⟨y1, a', kp _ _ y2 (hi9.2.2.1 l b' hl hb3), ?_⟩
      rw [ao 47 (by decide) (by decide)]
      exact y3.fr r04
    · obtain ⟨y1, c, y2, y3⟩ := hk9.2.1 i hi
      rw [a67, a68]
      by_cases z5 : i = b'
      · rw [z5]
        refine ⟨bB, some a, aw_up_s _ _ _, Or.inr ⟨aw_u_s _ _ _, a, rfl, (hO2.fr r24).ext (fun j hj => ?_)⟩⟩
        unfold mm_imgB
        rw [if_pos (by omega)]
        congr 1
        omega
      · refine ⟨y1, c, kp _ _ y2 (fun y => z5 (hi9.2.1 i b' hi hb3 y)), ?_⟩
        rw [aw_u_n z5]
        rcases y3 with z | ⟨z, a', z2, z3⟩
        · exact Or.inl z
        · refine Or.inr ⟨z, a', z2, (z3.fr r04).ext (fun j hj => ?_)⟩
          unfold mm_imgB
          rw [if_neg (by omega)]
    · rw [no2] at hi
      obtain ⟨y1, y2, y3⟩ := hk9.2.2 i hi
      have y4 : h2 (M i) = some (xm_at w s i) := old2 _ _ y3
      have y5 : M i ≠ B b' := fun y => by
        rw [y, hk2] at y4
        injection y4 with y4
        injection y4 with y4
        injection y4 with y4 _
        omega
      unfold xm_at at y4 ⊢
      rw [ao 59 (by decide) (by decide), ao 60 (by decide) (by decide), ao 61 (by decide) (by decide), ao 63 (by decide) (by decide), vo]
      exact ⟨y1, y2, (aw_up_n y5).trans y4⟩
  ·
    refine aw_iload_n dX0_image_0 rfl ?_
    refine aw_iconst (v := nI 0) dX0_image_1 rfl ?_
    refine aw_iconst (v := nI 2) dX0_image_2 rfl ?_
    refine aw_callP (r := _) dX0_image_3 sX0_155 rfl (xp_isIn) rfl rfl ⟨Nat.le_of_ble_eq_true rfl, Nat.le_of_ble_eq_true rfl⟩ (Nat.le_of_ble_eq_true rfl) ?_
    refine aw_if_neB (tgt := 11) dX0_image_6 (by decide) (fun c_6 => by exfalso; exact z (by omega)) (fun c_6 => ?_)
    refine aw_iconst (v := -1) dX0_image_9 rfl ?_
    refine aw_ireturn dX0_image_10 rfl ?_
    exact no z
set_option maxHeartbeats 4000000 in
theorem xo_back {s : mm_S} {H : sp_H} {u : Nat} {b : Int32} : xa_Met yX0_back cX0_back 2 (some .int) 4 0 0 (fun w => [.ref (w.1 0), .int (b)]) s H u (some (.int (op_back s b))) (op_backS s b) := by
  refine xa_Met.of (by decide +kernel) (fun _ => Nat.le_of_ble_eq_true rfl) (fun Z G w h0 hI => ?_)
  have hI9 := hI
  obtain ⟨⟨hW, hV, hZ⟩, hX, hH, hR⟩ := hI
  have hX0 := hX
  have hs : xx_same w h0 h0 := xx_same.rf
  have hr : xr_fr w h0 h0 := xr_fr.rf
  obtain ⟨tl, te, cap, m9, f9, tn, nm9, c9, mo9, D9, hq⟩ := hH
  show AW G (aw_rm 4 0 0) yX0_back cX0_back 2 (some .int) (aw_N G (xa_Po Z G w h0 H u (some (.int (op_back s b))) (op_backS s b)) 0 0) 0 0 h0 0 [(0, .ref (w.1 0)), (1, .int (b))] []
  have e0 : (nI 0).toInt = 0 := rfl
  have e2 : (nI 2).toInt = 2 := rfl
  have no : ¬ op_backP s b → xa_Po Z G w h0 H u (some (.int (op_back s b))) (op_backS s b) (some (.int (-1))) h0 := fun z => xa_end hI9 hr hs hX xr_eq.rf (by rw [op_backS, aw_if0 z]; exact mm_core.rf) (by rw [op_back, aw_if0 z])
  by_cases z : 0 ≤ b.toInt ∧ b.toInt < 3
  · obtain ⟨b', hb', rfl, b1, b2⟩ := aw_ofN z.1
    have hb3 : b' < 3 := by omega
    obtain ⟨tl2, te2, e, cp, K, B, M, hB, hi9, l4, l5⟩ := XB.of hI9
    obtain ⟨fk, d2, d3⟩ := hB.2.2.2.2.1.2.1
    have hk9 := hB.2.2.2.1
    obtain ⟨bB, cB, hkB, hcB⟩ := hk9.2.1 b' hb3
    rcases hcB with ⟨z67, rfl⟩ | ⟨z67, c, rfl, hcS⟩
    · have z9 : ¬ op_backP s (nI b') := fun q => by
        have := q.2.2
        rw [b2] at this
        omega
      refine aw_iload_n dX0_back_0 rfl ?_
      refine aw_iconst (v := nI 0) dX0_back_1 rfl ?_
      refine aw_iconst (v := nI 2) dX0_back_2 rfl ?_
      refine aw_callP (r := _) dX0_back_3 sX0_155 rfl (xp_isIn) rfl rfl ⟨Nat.le_of_ble_eq_true rfl, Nat.le_of_ble_eq_true rfl⟩ (Nat.le_of_ble_eq_true rfl) ?_
      refine aw_if_eqB (tgt := 21) dX0_back_6 (by decide) (fun c_6 => by exfalso; omega) (fun c_6 => ?_)
      refine aw_aload_n dX0_back_9 rfl ?_
      refine aw_get dX0_back_10 fX0_81 rfl (hX.1 0 (by decide)) (by rfl) ?_
      refine aw_iload_n dX0_back_13 rfl ?_
      refine aw_kald dX0_back_14 d2 (vp_in_nI hb3 (by decide)) ?_
      rw [nI_clamp (by omega), d3 b' hb3]
      refine aw_get dX0_back_15 fX0_135 rfl hkB (by rfl) ?_
      refine aw_ifnonnullN dX0_back_18 ?_
      refine aw_iconst (v := -1) dX0_back_21 rfl ?_
      refine aw_ireturn dX0_back_22 rfl ?_
      exact no z9
    · have z9 : op_backP s (nI b') := ⟨z.1, z.2, by rw [b2]; exact z67⟩
      obtain ⟨c1, c2, c3, hcSh, ⟨o0, o1, o2, o3⟩, bb1, bb2, bb3⟩ := hcS
      have fin : op_back s (nI b') = nI (mm_a s 68 (28 * b' + 26)) := by rw [op_back, aw_if1 z9, b2]
      have finS : op_backS s (nI b') = mm_setN (mm_setN (mm_setA s 45 (fun j => if j < 28 then mm_a s 68 (28 * b' + j) else mm_a s 45 j)) 48 0) 49 0 := by rw [op_backS, aw_if1 z9, b2]
      have tail : AW G (aw_rm 4 0 0) yX0_back cX0_back 2 (some .int) (aw_N G (xa_Po Z G w h0 H u (some (.int (op_back s (nI b')))) (op_backS s (nI b'))) 0 0) 0 0 (h0) 23 [(0, .ref (w.1 0)), (1, .int (nI b'))] [] := by
        refine aw_aload_n dX0_back_23 rfl ?_
        refine aw_get dX0_back_24 fX0_28 rfl (hX.1 0 (by decide)) (by rfl) ?_
        refine aw_aload_n dX0_back_27 rfl ?_
        refine aw_get dX0_back_28 fX0_81 rfl (hX.1 0 (by decide)) (by rfl) ?_
        refine aw_iload_n dX0_back_31 rfl ?_
        refine aw_kald dX0_back_32 d2 (vp_in_nI hb3 (by decide)) ?_
        rw [nI_clamp (by omega), d3 b' hb3]
        refine aw_get dX0_back_33 fX0_135 rfl hkB (by rfl) ?_
        refine aw_callV (kc := 0) (ks := 0) (mc2 := 0) (ms2 := 0) dX0_back_36 sX0_138 rfl (xg_of (d := w.1 1) (d1 := w.1 2) (d2 := w.1 3) (d3 := w.1 4) (e := c) (e1 := c1) (e2 := c2) (e3 := c3) (A := fun j => mm_a s 68 (28 * b' + j)) (B := mm_a s 45) ⟨hX.1 1 (by decide), hX.1 2 (by decide), hX.1 3 (by decide), hX.1 4 (by decide)⟩ hcSh ⟨hW.1 1 (by decide), hW.1 2 (by decide), hW.1 3 (by decide), hW.1 4 (by decide)⟩ ⟨bb1, bb2, bb3⟩ ⟨fun z => absurd (hW.2 2 3 (by decide) (by decide) z) (by decide), fun z => absurd (hW.2 2 4 (by decide) (by decide) z) (by decide), fun z => absurd (hW.2 3 4 (by decide) (by decide) z) (by decide)⟩ ⟨o2.2 2 (by decide), o3.2 2 (by decide), o3.2 3 (by decide)⟩ (o0.2 1 (by decide))) (hX.1 1 (by decide)) rfl rfl ⟨Nat.le_of_ble_eq_true rfl, Nat.le_of_ble_eq_true rfl⟩ (by exact Nat.le_of_ble_eq_true rfl) (fun v9 h3 q9 => ?_)
        obtain ⟨rfl, e3⟩ := q9
        obtain ⟨hX3, hs3⟩ := xx_ofc (F := fun j => if j < 28 then mm_a s 68 (28 * b' + j) else mm_a s 45 j) (A := fun j => mm_a s 68 (28 * b' + j)) hW hX (fun j hj => by rw [if_pos hj])
        rw [← e3] at hX3 hs3
        obtain ⟨F, hF⟩ : ∃ F : Nat → Nat, F = fun j => if j < 28 then mm_a s 68 (28 * b' + j) else mm_a s 45 j := ⟨_, rfl⟩
        rw [← hF] at hX3
        obtain ⟨s3, hs39⟩ : ∃ s3, s3 = mm_setA s 45 F := ⟨_, rfl⟩
        have hB3 : XB Z G w h3 s3 H u tl2 te2 e cp (xb_3 (mm_n s 48) (mm_n s 49) (mm_n s 64)) (xb_3 K (fun i => K (mm_n s 48 + mm_n s 49 - 1 - i)) M) K B M := by
          have k9 : XRk Z G w h3 s K B M := ⟨fun l hl => (by
            obtain ⟨y1, a', y2, y3⟩ := hk9.1 l hl
            exact ⟨y1, a', hs3.ob hX y2 (by decide) (by decide) (by decide), y3.fr hs3.r⟩), fun i hi => (by
            obtain ⟨y1, c, y2, y3⟩ := hk9.2.1 i hi
            refine ⟨y1, c, hs3.ob hX y2 (by decide) (by decide) (by decide), ?_⟩
            rcases y3 with z | ⟨z, a', z2, z3⟩
            · exact Or.inl z
            · exact Or.inr ⟨z, a', z2, z3.fr hs3.r⟩), fun i hi => (by
            obtain ⟨y1, y2, y3⟩ := hk9.2.2 i hi
            exact ⟨y1, y2, hs3.ob hX y3 (by omega) (by omega) (by omega)⟩)⟩
          rw [hs39]
          exact hB.q hs3.q (fun q hq => (hZ q hq).2) hX3 (XRk.cg2 (s := s) rfl rfl (fun k hk => by rw [mm_a_A, if_neg (fun z => by subst z; cases hk)]) rfl k9)
        have hX := hB3.1
        have x1 : xl_L G h3 (w.1 17) (e 0) (cp 0) (mm_n s 48) K := hB3.lists (i := 0) (by decide)
        obtain ⟨m1, f1, L1, -, -⟩ := x1.1
        refine aw_aload_n dX0_back_39 rfl ?_
        refine aw_get dX0_back_40 fX0_53 rfl (hX.1 0 (by decide)) (by rfl) ?_
        refine aw_callV (kc := 0) (ks := 0) (mc2 := 0) (ms2 := 0) dX0_back_43 sX0_129 rfl (xl_clear (fun _ => 0) hV.1.1 x1) L1 rfl rfl ⟨Nat.le_of_ble_eq_true rfl, Nat.le_of_ble_eq_true rfl⟩ (by exact Nat.le_of_ble_eq_true rfl) (fun v9 h4 q9 => ?_)
        obtain ⟨rfl, x2, f2⟩ := q9
        have hB4 := hB3.l (i := 0) hV (by decide) x2 f2
        have hX := hB4.1
        have x3 : xl_L G h4 (w.1 18) (e 1) (cp 1) (mm_n s 49) (fun i => K (mm_n s 48 + mm_n s 49 - 1 - i)) := hB4.lists (i := 1) (by decide)
        obtain ⟨m3, f3, L3, -, -⟩ := x3.1
        refine aw_aload_n dX0_back_46 rfl ?_
        refine aw_get dX0_back_47 fX0_57 rfl (hX.1 0 (by decide)) (by rfl) ?_
        refine aw_callV (kc := 0) (ks := 0) (mc2 := 0) (ms2 := 0) dX0_back_50 sX0_129 rfl (xl_clear (fun _ => 0) hV.1.2.1 x3) L3 rfl rfl ⟨Nat.le_of_ble_eq_true rfl, Nat.le_of_ble_eq_true rfl⟩ (by exact Nat.le_of_ble_eq_true rfl) (fun v9 h5 q9 => ?_)
        obtain ⟨rfl, x4, f4⟩ := q9
        have hB5 := hB4.l (i := 1) hV (by decide) x4 f4
        have hX := hB5.1
        refine aw_aload_n dX0_back_53 rfl ?_
        refine aw_get dX0_back_54 fX0_28 rfl (hX.1 0 (by decide)) (by rfl) ?_
        refine aw_get dX0_back_57 fX0_120 rfl (hX.st (i := 0) (by decide)) (by rfl) ?_
        try simp only [Nat.reduceMul, Nat.reduceAdd, Nat.zero_add]
        have e26 : mm_a s3 (45 + 0) 26 = mm_a s 68 (28 * b' + 26) := by
          rw [hs39, show 45 + 0 = 45 from rfl, mm_a_A, if_pos rfl, hF]
          rfl
        refine aw_ireturn dX0_back_60 rfl ?_
        obtain ⟨s2, hs2⟩ : ∃ s2, s2 = mm_setN (mm_setN s3 48 0) 49 0 := ⟨_, rfl⟩
        have n48 : mm_n s2 48 = 0 := by rw [hs2]; rfl
        have n49 : mm_n s2 49 = 0 := by rw [hs2]; rfl
        have no2 : ∀ k, k ≠ 48 → k ≠ 49 → mm_n s2 k = mm_n s3 k := fun k h1 h2 => by rw [hs2, mm_n_N, if_neg h2, mm_n_N, if_neg h1]
        have n64 : mm_n s2 64 = mm_n s 64 := by rw [no2 64 (by decide) (by decide), hs39]; rfl
        have ao : ∀ k, mm_a s2 k = mm_a s3 k := fun k => by rw [hs2]; rfl
        have vo : ∀ k, mm_v s2 k = mm_v s3 k := fun k => by rw [hs2]; rfl
        have hk5 := hB5.2.2.2.1
        refine ⟨by rw [fin, ← e26], s2, by rw [finS, hs2, hs39, hF]; exact mm_core.rf, hB5.fin (K2 := K) (B2 := B) (M2 := M) hW hV (fun q hq => (hZ q hq).2) (hB5.1.cells (xx_cells_all (fun k hk => no2 k (fun e => by subst e; cases hk) (fun e => by subst e; cases hk)) (vo 51) (by rw [hs2]; rfl) (fun k _ => ao k) (ao 0))) ⟨n48.symm, fun k hk => by rw [n48] at hk; omega⟩ ⟨n49.symm, fun k hk => by rw [n49] at hk; omega⟩ ⟨n64.symm, fun _ _ => rfl⟩ (by omega) (by omega) ⟨fun k hk => by rw [n48, n49] at hk; omega, fun i hi => ?_, fun i hi => ?_⟩ ⟨fun k l hk => by rw [n48, n49] at hk; omega, hi9.2.1, fun k i hk => by rw [n48, n49] at hk; omega, fun i j hi hj => by rw [n64] at hi hj; exact hi9.2.2.2 i j hi hj⟩ (fun _ _ => rfl), hs3.r.tr ((f2.k x1).r.tr (f4.k x3).r)⟩
        · rw [ao, ao]
          exact hk5.2.1 i hi
        · have hi' : i < mm_n s3 64 := by rw [← no2 64 (by decide) (by decide)]; exact hi
          have y := hk5.2.2 i hi'
          unfold xm_at at y ⊢
          rw [ao, ao, ao, ao, vo]
          exact y
      refine aw_iload_n dX0_back_0 rfl ?_
      refine aw_iconst (v := nI 0) dX0_back_1 rfl ?_
      refine aw_iconst (v := nI 2) dX0_back_2 rfl ?_
      refine aw_callP (r := _) dX0_back_3 sX0_155 rfl (xp_isIn) rfl rfl ⟨Nat.le_of_ble_eq_true rfl, Nat.le_of_ble_eq_true rfl⟩ (Nat.le_of_ble_eq_true rfl) ?_
      refine aw_if_eqB (tgt := 21) dX0_back_6 (by decide) (fun c_6 => by exfalso; omega) (fun c_6 => ?_)
      refine aw_aload_n dX0_back_9 rfl ?_
      refine aw_get dX0_back_10 fX0_81 rfl (hX.1 0 (by decide)) (by rfl) ?_
      refine aw_iload_n dX0_back_13 rfl ?_
      refine aw_kald dX0_back_14 d2 (vp_in_nI hb3 (by decide)) ?_
      rw [nI_clamp (by omega), d3 b' hb3]
      refine aw_get dX0_back_15 fX0_135 rfl hkB (by rfl) ?_
      refine aw_ifnonnull (tgt := 23) dX0_back_18 (by decide) ?_
      exact tail
  ·
    refine aw_iload_n dX0_back_0 rfl ?_
    refine aw_iconst (v := nI 0) dX0_back_1 rfl ?_
    refine aw_iconst (v := nI 2) dX0_back_2 rfl ?_
    refine aw_callP (r := _) dX0_back_3 sX0_155 rfl (xp_isIn) rfl rfl ⟨Nat.le_of_ble_eq_true rfl, Nat.le_of_ble_eq_true rfl⟩ (Nat.le_of_ble_eq_true rfl) ?_
    refine aw_if_eqB (tgt := 21) dX0_back_6 (by decide) (fun c_6 => ?_) (fun c_6 => by exfalso; omega)
    refine aw_iconst (v := -1) dX0_back_21 rfl ?_
    refine aw_ireturn dX0_back_22 rfl ?_
    exact no (fun q => z ⟨q.1, q.2.1⟩)
set_option maxHeartbeats 4000000 in
theorem xo_about {s : mm_S} {H : sp_H} {u : Nat} {q : Int32} (hu : mm_n s 23 = u) (eH : mm_H s = H) : xa_Met yX0_about cX0_about 2 (some .int) 5 0 0 (fun w => [.ref (w.1 0), .int (q)]) s H u (some (.int (op_about s q))) (s) := by
  refine xa_Met.of (by decide +kernel) (fun _ => Nat.le_of_ble_eq_true rfl) (fun Z G w h0 hI => ?_)
  have hI9 := hI
  obtain ⟨⟨hW, hV, hZ⟩, hX, hH, hR⟩ := hI
  have hX0 := hX
  have hs : xx_same w h0 h0 := xx_same.rf
  have hr : xr_fr w h0 h0 := xr_fr.rf
  obtain ⟨tl, te, cap, m9, f9, tn, nm9, c9, mo9, D9, hq⟩ := hH
  show AW G (aw_rm 5 0 0) yX0_about cX0_about 2 (some .int) (aw_N G (xa_Po Z G w h0 H u (some (.int (op_about s q))) (s)) 0 0) 0 0 h0 0 [(0, .ref (w.1 0)), (1, .int (q))] []
  obtain ⟨tl2, te2, e, cp, K, B, M, hB, hi9, l4, l5⟩ := XB.of hI9
  have x0 : xl_L G h0 (w.1 17) (e 0) (cp 0) (mm_n s 48) K := hB.lists (i := 0) (by decide)
  have x1 : xl_L G h0 (w.1 18) (e 1) (cp 1) (mm_n s 49) (fun i => K (mm_n s 48 + mm_n s 49 - 1 - i)) := hB.lists (i := 1) (by decide)
  have x2 : xl_L G h0 (w.1 19) (e 2) (cp 2) (mm_n s 64) M := hB.lists (i := 2) (by decide)
  obtain ⟨m0, f0, L0, -, -⟩ := x0.1
  obtain ⟨m1, f1, L1, -, -⟩ := x1.1
  obtain ⟨m2, f2, L2, -, -⟩ := x2.1
  have e42 : sp_hn H = mm_n s 42 := by rw [← eH]; rfl
  have e41 : sp_hs H = mm_n s 41 := by rw [← eH]; rfl
  have fin : ∀ (h : aw_H) (v : Int32), XC G w h s → xx_same w h0 h → v = op_about s q → xa_Po Z G w h0 H u (some (.int (op_about s q))) s (some (.int v)) h := fun h v hX hs e => xa_end hI9 hr hs hX xr_eq.rf mm_core.rf (by rw [e])
  refine aw_iload_n dX0_about_0 rfl ?_
  by_cases e_0 : q = nI 0
  · subst e_0
    refine aw_tableIn (off := 67) (tgt := 68) dX0_about_1 (by decide) (by decide) (by decide) (by decide) ?_
    refine aw_aload_n dX0_about_68 rfl ?_
    refine xx_call0 dX0_about_69 sX0_91 rfl hW hX (hq.mv hs hX0).xh hs xo_many rfl (hX.1 0 (by decide)) rfl rfl ⟨Nat.le_of_ble_eq_true rfl, Nat.le_of_ble_eq_true rfl⟩ (by exact Nat.le_of_ble_eq_true rfl) (fun h hX hs => ?_)
    refine aw_ireturn dX0_about_72 rfl ?_
    refine fin _ _ hX hs ?_
    first
      | rfl
      | (rw [e42]; rfl)
      | (rw [e41]; rfl)
      | (rw [← hu]; rfl)
      | (unfold op_about
         rw [if_neg (lv_neT e_0 (a := 0) rfl), if_neg (lv_neT e_1 (a := 1) rfl), if_neg (lv_neT e_2 (a := 2) rfl), if_neg (lv_neT e_3 (a := 3) rfl), if_neg (lv_neT e_4 (a := 4) rfl), if_neg (lv_neT e_5 (a := 5) rfl), if_neg (lv_neT e_6 (a := 6) rfl), if_neg (lv_neT e_7 (a := 7) rfl), if_neg (lv_neT e_8 (a := 8) rfl), if_neg (lv_neT e_9 (a := 9) rfl), if_neg (lv_neT e_10 (a := 10) rfl), if_neg (lv_neT e_11 (a := 11) rfl), if_neg (lv_neT e_12 (a := 12) rfl)])
  by_cases e_1 : q = nI 1
  · subst e_1
    refine aw_tableIn (off := 72) (tgt := 73) dX0_about_1 (by decide) (by decide) (by decide) (by decide) ?_
    refine aw_aload_n dX0_about_73 rfl ?_
    refine aw_get dX0_about_74 fX0_19 rfl (hX.1 0 (by decide)) (by rfl) ?_
    refine aw_get dX0_about_77 fX0_208 rfl (hq.mv hs hX0).1 (by rfl) ?_
    refine aw_ireturn dX0_about_80 rfl ?_
    refine fin _ _ hX hs ?_
    first
      | rfl
      | (rw [e42]; rfl)
      | (rw [e41]; rfl)
      | (rw [← hu]; rfl)
      | (unfold op_about
         rw [if_neg (lv_neT e_0 (a := 0) rfl), if_neg (lv_neT e_1 (a := 1) rfl), if_neg (lv_neT e_2 (a := 2) rfl), if_neg (lv_neT e_3 (a := 3) rfl), if_neg (lv_neT e_4 (a := 4) rfl), if_neg (lv_neT e_5 (a := 5) rfl), if_neg (lv_neT e_6 (a := 6) rfl), if_neg (lv_neT e_7 (a := 7) rfl), if_neg (lv_neT e_8 (a := 8) rfl), if_neg (lv_neT e_9 (a := 9) rfl), if_neg (lv_neT e_10 (a := 10) rfl), if_neg (lv_neT e_11 (a := 11) rfl), if_neg (lv_neT e_12 (a := 12) rfl)])
  by_cases e_2 : q = nI 2
  · subst e_2
    refine aw_tableIn (off := 80) (tgt := 81) dX0_about_1 (by decide) (by decide) (by decide) (by decide) ?_
    refine aw_aload_n dX0_about_81 rfl ?_
    refine aw_get dX0_about_82 fX0_28 rfl (hX.1 0 (by decide)) (by rfl) ?_
    refine aw_get dX0_about_85 fX0_119 rfl (hX.st (i := 0) (by decide)) (by rfl) ?_
    try simp only [Nat.reduceMul, Nat.reduceAdd, Nat.zero_add]
    refine aw_ireturn dX0_about_88 rfl ?_
    refine fin _ _ hX hs ?_
    first
      | rfl
      | (rw [e42]; rfl)
      | (rw [e41]; rfl)
      | (rw [← hu]; rfl)
      | (unfold op_about
         rw [if_neg (lv_neT e_0 (a := 0) rfl), if_neg (lv_neT e_1 (a := 1) rfl), if_neg (lv_neT e_2 (a := 2) rfl), if_neg (lv_neT e_3 (a := 3) rfl), if_neg (lv_neT e_4 (a := 4) rfl), if_neg (lv_neT e_5 (a := 5) rfl), if_neg (lv_neT e_6 (a := 6) rfl), if_neg (lv_neT e_7 (a := 7) rfl), if_neg (lv_neT e_8 (a := 8) rfl), if_neg (lv_neT e_9 (a := 9) rfl), if_neg (lv_neT e_10 (a := 10) rfl), if_neg (lv_neT e_11 (a := 11) rfl), if_neg (lv_neT e_12 (a := 12) rfl)])
  by_cases e_3 : q = nI 3
  · subst e_3
    refine aw_tableIn (off := 88) (tgt := 89) dX0_about_1 (by decide) (by decide) (by decide) (by decide) ?_
    refine aw_aload_n dX0_about_89 rfl ?_
    refine aw_get dX0_about_90 fX0_28 rfl (hX.1 0 (by decide)) (by rfl) ?_
    refine aw_get dX0_about_93 fX0_113 rfl (hX.st (i := 0) (by decide)) (by rfl) ?_
    try simp only [Nat.reduceMul, Nat.reduceAdd, Nat.zero_add]
    refine aw_ireturn dX0_about_96 rfl ?_
    refine fin _ _ hX hs ?_
    first
      | rfl
      | (rw [e42]; rfl)
      | (rw [e41]; rfl)
      | (rw [← hu]; rfl)
      | (unfold op_about
         rw [if_neg (lv_neT e_0 (a := 0) rfl), if_neg (lv_neT e_1 (a := 1) rfl), if_neg (lv_neT e_2 (a := 2) rfl), if_neg (lv_neT e_3 (a := 3) rfl), if_neg (lv_neT e_4 (a := 4) rfl), if_neg (lv_neT e_5 (a := 5) rfl), if_neg (lv_neT e_6 (a := 6) rfl), if_neg (lv_neT e_7 (a := 7) rfl), if_neg (lv_neT e_8 (a := 8) rfl), if_neg (lv_neT e_9 (a := 9) rfl), if_neg (lv_neT e_10 (a := 10) rfl), if_neg (lv_neT e_11 (a := 11) rfl), if_neg (lv_neT e_12 (a := 12) rfl)])
  by_cases e_4 : q = nI 4
  · subst e_4
    refine aw_tableIn (off := 96) (tgt := 97) dX0_about_1 (by decide) (by decide) (by decide) (by decide) ?_
    refine aw_aload_n dX0_about_97 rfl ?_
    refine aw_get dX0_about_98 fX0_28 rfl (hX.1 0 (by decide)) (by rfl) ?_
    refine aw_get dX0_about_101 fX0_120 rfl (hX.st (i := 0) (by decide)) (by rfl) ?_
    try simp only [Nat.reduceMul, Nat.reduceAdd, Nat.zero_add]
    refine aw_ireturn dX0_about_104 rfl ?_
    refine fin _ _ hX hs ?_
    first
      | rfl
      | (rw [e42]; rfl)
      | (rw [e41]; rfl)
      | (rw [← hu]; rfl)
      | (unfold op_about
         rw [if_neg (lv_neT e_0 (a := 0) rfl), if_neg (lv_neT e_1 (a := 1) rfl), if_neg (lv_neT e_2 (a := 2) rfl), if_neg (lv_neT e_3 (a := 3) rfl), if_neg (lv_neT e_4 (a := 4) rfl), if_neg (lv_neT e_5 (a := 5) rfl), if_neg (lv_neT e_6 (a := 6) rfl), if_neg (lv_neT e_7 (a := 7) rfl), if_neg (lv_neT e_8 (a := 8) rfl), if_neg (lv_neT e_9 (a := 9) rfl), if_neg (lv_neT e_10 (a := 10) rfl), if_neg (lv_neT e_11 (a := 11) rfl), if_neg (lv_neT e_12 (a := 12) rfl)])
  by_cases e_5 : q = nI 5
  · subst e_5
    refine aw_tableIn (off := 104) (tgt := 105) dX0_about_1 (by decide) (by decide) (by decide) (by decide) ?_
    refine aw_aload_n dX0_about_105 rfl ?_
    refine aw_get dX0_about_106 fX0_28 rfl (hX.1 0 (by decide)) (by rfl) ?_
    refine aw_get dX0_about_109 fX0_126 rfl (hX.st (i := 0) (by decide)) (by rfl) ?_
    try simp only [Nat.reduceMul, Nat.reduceAdd, Nat.zero_add]
    refine aw_ireturn dX0_about_112 rfl ?_
    refine fin _ _ hX hs ?_
    first
      | rfl
      | (rw [e42]; rfl)
      | (rw [e41]; rfl)
      | (rw [← hu]; rfl)
      | (unfold op_about
         rw [if_neg (lv_neT e_0 (a := 0) rfl), if_neg (lv_neT e_1 (a := 1) rfl), if_neg (lv_neT e_2 (a := 2) rfl), if_neg (lv_neT e_3 (a := 3) rfl), if_neg (lv_neT e_4 (a := 4) rfl), if_neg (lv_neT e_5 (a := 5) rfl), if_neg (lv_neT e_6 (a := 6) rfl), if_neg (lv_neT e_7 (a := 7) rfl), if_neg (lv_neT e_8 (a := 8) rfl), if_neg (lv_neT e_9 (a := 9) rfl), if_neg (lv_neT e_10 (a := 10) rfl), if_neg (lv_neT e_11 (a := 11) rfl), if_neg (lv_neT e_12 (a := 12) rfl)])
  by_cases e_6 : q = nI 6
  · subst e_6
    refine aw_tableIn (off := 112) (tgt := 113) dX0_about_1 (by decide) (by decide) (by decide) (by decide) ?_
    refine aw_aload_n dX0_about_113 rfl ?_
    refine aw_get dX0_about_114 fX0_53 rfl (hX.1 0 (by decide)) (by rfl) ?_
    refine aw_roV dX0_about_117 sX0_141 rfl (xl_size x0) L0 rfl rfl ⟨Nat.le_of_ble_eq_true rfl, Nat.le_of_ble_eq_true rfl⟩ (Nat.le_of_ble_eq_true rfl) ?_
    refine aw_ireturn dX0_about_120 rfl ?_
    refine fin _ _ hX hs ?_
    first
      | rfl
      | (rw [e42]; rfl)
      | (rw [e41]; rfl)
      | (rw [← hu]; rfl)
      | (unfold op_about
         rw [if_neg (lv_neT e_0 (a := 0) rfl), if_neg (lv_neT e_1 (a := 1) rfl), if_neg (lv_neT e_2 (a := 2) rfl), if_neg (lv_neT e_3 (a := 3) rfl), if_neg (lv_neT e_4 (a := 4) rfl), if_neg (lv_neT e_5 (a := 5) rfl), if_neg (lv_neT e_6 (a := 6) rfl), if_neg (lv_neT e_7 (a := 7) rfl), if_neg (lv_neT e_8 (a := 8) rfl), if_neg (lv_neT e_9 (a := 9) rfl), if_neg (lv_neT e_10 (a := 10) rfl), if_neg (lv_neT e_11 (a := 11) rfl), if_neg (lv_neT e_12 (a := 12) rfl)])
  by_cases e_7 : q = nI 7
  · subst e_7
    refine aw_tableIn (off := 120) (tgt := 121) dX0_about_1 (by decide) (by decide) (by decide) (by decide) ?_
    refine aw_aload_n dX0_about_121 rfl ?_
    refine aw_get dX0_about_122 fX0_57 rfl (hX.1 0 (by decide)) (by rfl) ?_
    refine aw_roV dX0_about_125 sX0_141 rfl (xl_size x1) L1 rfl rfl ⟨Nat.le_of_ble_eq_true rfl, Nat.le_of_ble_eq_true rfl⟩ (Nat.le_of_ble_eq_true rfl) ?_
    refine aw_ireturn dX0_about_128 rfl ?_
    refine fin _ _ hX hs ?_
    first
      | rfl
      | (rw [e42]; rfl)
      | (rw [e41]; rfl)
      | (rw [← hu]; rfl)
      | (unfold op_about
         rw [if_neg (lv_neT e_0 (a := 0) rfl), if_neg (lv_neT e_1 (a := 1) rfl), if_neg (lv_neT e_2 (a := 2) rfl), if_neg (lv_neT e_3 (a := 3) rfl), if_neg (lv_neT e_4 (a := 4) rfl), if_neg (lv_neT e_5 (a := 5) rfl), if_neg (lv_neT e_6 (a := 6) rfl), if_neg (lv_neT e_7 (a := 7) rfl), if_neg (lv_neT e_8 (a := 8) rfl), if_neg (lv_neT e_9 (a := 9) rfl), if_neg (lv_neT e_10 (a := 10) rfl), if_neg (lv_neT e_11 (a := 11) rfl), if_neg (lv_neT e_12 (a := 12) rfl)])
  by_cases e_8 : q = nI 8
  · subst e_8
    refine aw_tableIn (off := 128) (tgt := 129) dX0_about_1 (by decide) (by decide) (by decide) (by decide) ?_
    refine aw_aload_n dX0_about_129 rfl ?_
    refine aw_get dX0_about_130 fX0_73 rfl (hX.1 0 (by decide)) (by rfl) ?_
    refine aw_roV dX0_about_133 sX0_141 rfl (xl_size x2) L2 rfl rfl ⟨Nat.le_of_ble_eq_true rfl, Nat.le_of_ble_eq_true rfl⟩ (Nat.le_of_ble_eq_true rfl) ?_
    refine aw_ireturn dX0_about_136 rfl ?_
    refine fin _ _ hX hs ?_
    first
      | rfl
      | (rw [e42]; rfl)
      | (rw [e41]; rfl)
      | (rw [← hu]; rfl)
      | (unfold op_about
         rw [if_neg (lv_neT e_0 (a := 0) rfl), if_neg (lv_neT e_1 (a := 1) rfl), if_neg (lv_neT e_2 (a := 2) rfl), if_neg (lv_neT e_3 (a := 3) rfl), if_neg (lv_neT e_4 (a := 4) rfl), if_neg (lv_neT e_5 (a := 5) rfl), if_neg (lv_neT e_6 (a := 6) rfl), if_neg (lv_neT e_7 (a := 7) rfl), if_neg (lv_neT e_8 (a := 8) rfl), if_neg (lv_neT e_9 (a := 9) rfl), if_neg (lv_neT e_10 (a := 10) rfl), if_neg (lv_neT e_11 (a := 11) rfl), if_neg (lv_neT e_12 (a := 12) rfl)])
  by_cases e_9 : q = nI 9
  · subst e_9
    refine aw_tableIn (off := 136) (tgt := 137) dX0_about_1 (by decide) (by decide) (by decide) (by decide) ?_
    refine aw_aload_n dX0_about_137 rfl ?_
    refine aw_get dX0_about_138 fX0_339 rfl (hX.1 0 (by decide)) (by rfl) ?_
    refine aw_ireturn dX0_about_141 rfl ?_
    refine fin _ _ hX hs ?_
    first
      | rfl
      | (rw [e42]; rfl)
      | (rw [e41]; rfl)
      | (rw [← hu]; rfl)
      | (unfold op_about
         rw [if_neg (lv_neT e_0 (a := 0) rfl), if_neg (lv_neT e_1 (a := 1) rfl), if_neg (lv_neT e_2 (a := 2) rfl), if_neg (lv_neT e_3 (a := 3) rfl), if_neg (lv_neT e_4 (a := 4) rfl), if_neg (lv_neT e_5 (a := 5) rfl), if_neg (lv_neT e_6 (a := 6) rfl), if_neg (lv_neT e_7 (a := 7) rfl), if_neg (lv_neT e_8 (a := 8) rfl), if_neg (lv_neT e_9 (a := 9) rfl), if_neg (lv_neT e_10 (a := 10) rfl), if_neg (lv_neT e_11 (a := 11) rfl), if_neg (lv_neT e_12 (a := 12) rfl)])
  by_cases e_10 : q = nI 10
  · subst e_10
    refine aw_tableIn (off := 141) (tgt := 142) dX0_about_1 (by decide) (by decide) (by decide) (by decide) ?_
    refine aw_aload_n dX0_about_142 rfl ?_
    refine aw_get dX0_about_143 fX0_159 rfl (hX.1 0 (by decide)) (by rfl) ?_
    refine aw_ireturn dX0_about_146 rfl ?_
    refine fin _ _ hX hs ?_
    first
      | rfl
      | (rw [e42]; rfl)
      | (rw [e41]; rfl)
      | (rw [← hu]; rfl)
      | (unfold op_about
         rw [if_neg (lv_neT e_0 (a := 0) rfl), if_neg (lv_neT e_1 (a := 1) rfl), if_neg (lv_neT e_2 (a := 2) rfl), if_neg (lv_neT e_3 (a := 3) rfl), if_neg (lv_neT e_4 (a := 4) rfl), if_neg (lv_neT e_5 (a := 5) rfl), if_neg (lv_neT e_6 (a := 6) rfl), if_neg (lv_neT e_7 (a := 7) rfl), if_neg (lv_neT e_8 (a := 8) rfl), if_neg (lv_neT e_9 (a := 9) rfl), if_neg (lv_neT e_10 (a := 10) rfl), if_neg (lv_neT e_11 (a := 11) rfl), if_neg (lv_neT e_12 (a := 12) rfl)])
  by_cases e_11 : q = nI 11
  · subst e_11
    refine aw_tableIn (off := 146) (tgt := 147) dX0_about_1 (by decide) (by decide) (by decide) (by decide) ?_
    refine aw_aload_n dX0_about_147 rfl ?_
    refine aw_get dX0_about_148 fX0_19 rfl (hX.1 0 (by decide)) (by rfl) ?_
    refine aw_get dX0_about_151 fX0_359 rfl (hq.mv hs hX0).1 (by rfl) ?_
    refine aw_ireturn dX0_about_154 rfl ?_
    refine fin _ _ hX hs ?_
    first
      | rfl
      | (rw [e42]; rfl)
      | (rw [e41]; rfl)
      | (rw [← hu]; rfl)
      | (unfold op_about
         rw [if_neg (lv_neT e_0 (a := 0) rfl), if_neg (lv_neT e_1 (a := 1) rfl), if_neg (lv_neT e_2 (a := 2) rfl), if_neg (lv_neT e_3 (a := 3) rfl), if_neg (lv_neT e_4 (a := 4) rfl), if_neg (lv_neT e_5 (a := 5) rfl), if_neg (lv_neT e_6 (a := 6) rfl), if_neg (lv_neT e_7 (a := 7) rfl), if_neg (lv_neT e_8 (a := 8) rfl), if_neg (lv_neT e_9 (a := 9) rfl), if_neg (lv_neT e_10 (a := 10) rfl), if_neg (lv_neT e_11 (a := 11) rfl), if_neg (lv_neT e_12 (a := 12) rfl)])
  by_cases e_12 : q = nI 12
  · subst e_12
    refine aw_tableIn (off := 154) (tgt := 155) dX0_about_1 (by decide) (by decide) (by decide) (by decide) ?_
    refine aw_aload_n dX0_about_155 rfl ?_
    refine aw_get dX0_about_156 fX0_132 rfl (hX.1 0 (by decide)) (by rfl) ?_
    refine aw_ireturn dX0_about_159 rfl ?_
    refine fin _ _ hX hs ?_
    first
      | rfl
      | (rw [e42]; rfl)
      | (rw [e41]; rfl)
      | (rw [← hu]; rfl)
      | (unfold op_about
         rw [if_neg (lv_neT e_0 (a := 0) rfl), if_neg (lv_neT e_1 (a := 1) rfl), if_neg (lv_neT e_2 (a := 2) rfl), if_neg (lv_neT e_3 (a := 3) rfl), if_neg (lv_neT e_4 (a := 4) rfl), if_neg (lv_neT e_5 (a := 5) rfl), if_neg (lv_neT e_6 (a := 6) rfl), if_neg (lv_neT e_7 (a := 7) rfl), if_neg (lv_neT e_8 (a := 8) rfl), if_neg (lv_neT e_9 (a := 9) rfl), if_neg (lv_neT e_10 (a := 10) rfl), if_neg (lv_neT e_11 (a := 11) rfl), if_neg (lv_neT e_12 (a := 12) rfl)])
  refine aw_tableOut (tgt := 160) dX0_about_1 (by have q0 := lv_neT e_0 (a := 0) (by decide); have q1 := lv_neT e_1 (a := 1) (by decide); have q2 := lv_neT e_2 (a := 2) (by decide); have q3 := lv_neT e_3 (a := 3) (by decide); have q4 := lv_neT e_4 (a := 4) (by decide); have q5 := lv_neT e_5 (a := 5) (by decide); have q6 := lv_neT e_6 (a := 6) (by decide); have q7 := lv_neT e_7 (a := 7) (by decide); have q8 := lv_neT e_8 (a := 8) (by decide); have q9 := lv_neT e_9 (a := 9) (by decide); have q10 := lv_neT e_10 (a := 10) (by decide); have q11 := lv_neT e_11 (a := 11) (by decide); have q12 := lv_neT e_12 (a := 12) (by decide); omega) (by decide) ?_
  refine aw_iconst (v := -1) dX0_about_160 rfl ?_
  refine aw_ireturn dX0_about_161 rfl ?_
  refine fin _ _ hX hs ?_
  first
    | rfl
    | (rw [e42]; rfl)
    | (rw [e41]; rfl)
    | (rw [← hu]; rfl)
    | (unfold op_about
       rw [if_neg (lv_neT e_0 (a := 0) rfl), if_neg (lv_neT e_1 (a := 1) rfl), if_neg (lv_neT e_2 (a := 2) rfl), if_neg (lv_neT e_3 (a := 3) rfl), if_neg (lv_neT e_4 (a := 4) rfl), if_neg (lv_neT e_5 (a := 5) rfl), if_neg (lv_neT e_6 (a := 6) rfl), if_neg (lv_neT e_7 (a := 7) rfl), if_neg (lv_neT e_8 (a := 8) rfl), if_neg (lv_neT e_9 (a := 9) rfl), if_neg (lv_neT e_10 (a := 10) rfl), if_neg (lv_neT e_11 (a := 11) rfl), if_neg (lv_neT e_12 (a := 12) rfl)])

