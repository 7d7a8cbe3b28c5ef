set_option maxRecDepth 100000
/-! the component: an act taken back -/
/-- all but the changing cells, Kepts and marks stays -/
def xq_f (w : xx_Wd) (h h' : aw_H) : Prop := ∀ q v, h q = some v → (∀ c, c < 16 → q ≠ w.1 c) → (∀ ci fs, v = aw_o ci fs → ci ≠ 4 ∧ ci ≠ 12 ∧ ci ≠ 13) → h' q = some v
theorem xq_f.tr {w : xx_Wd} {h h' h2 : aw_H} (a : xq_f w h h') (b : xq_f w h' h2) : xq_f w h h2 := fun q v z o n => b q v (a q v z o n) o n
theorem xe_f.q {w : xx_Wd} {h h' : aw_H} (hf : xe_f h h') : xq_f w h h' := fun q v z _ _ => hf q v z
theorem xx_same.q {w : xx_Wd} {h h' : aw_H} (hs : xx_same w h h') : xq_f w h h' := fun q v z o _ => (hs q (by rw [z]; exact fun z => by cases z) o).trans z
theorem xq_f.up {w : xx_Wd} {h : aw_H} {a ci : Nat} {fs : List Value} {e : va_E} (ha : h a = some (aw_o ci fs)) (hc : ci = 4 ∨ ci = 12 ∨ ci = 13) : xq_f w h (aw_up h a e) := fun q v z _ n => (aw_up_n (fun y => by
  rw [y, ha] at z
  cases z
  have := n ci fs rfl
  omega)).trans z
theorem xq_f.r {w : xx_Wd} {h h' : aw_H} (hf : xq_f w h h') : xr_fr w h h' := fun q v z k o => hf q v z o (fun ci fs e => by
  rcases k with ⟨ci2, fs2, e2, n1, n2, n3, _⟩ | ⟨_, _, _, e2⟩ | ⟨_, _, _, e2⟩
  · rw [e] at e2
    cases e2
    exact ⟨n1, n2, n3⟩
  · rw [e] at e2
    cases e2
  · rw [e] at e2
    cases e2)
theorem xq_f.ob {w : xx_Wd} {h h' : aw_H} {G : aw_G} {s : mm_S} {q ci : Nat} {fs : List Value} (hf : xq_f w h h') (hX : XC G w h s) (hq : h q = some (aw_o ci fs)) (n : ci ≠ 0 ∧ ci ≠ 2 ∧ ci ≠ 3 ∧ ci ≠ 4 ∧ ci ≠ 12 ∧ ci ≠ 13) : h' q = some (aw_o ci fs) := hf _ _ hq (hX.ne hq n.1 n.2.1 n.2.2.1) (fun ci2 fs2 e => by cases e; exact n.2.2.2)
theorem xq_f.ar {w : xx_Wd} {h h' : aw_H} {G : aw_G} {s : mm_S} {q n : Nat} {f : Nat → Option Nat} (hf : xq_f w h h') (hX : XC G w h s) (hq : h q = some (aw_O G n f)) : h' q = some (aw_O G n f) := hf _ _ hq (hX.neO hq) (fun ci2 fs2 e => by cases e)
theorem xq_f.kp {w : xx_Wd} {h h' : aw_H} {G : aw_G} {s : mm_S} {q n : Nat} {f : Nat → Option Nat} (hf : xq_f w h h') (hX : XC G w h s) (hq : h q = some (aw_Kp G n f)) : h' q = some (aw_Kp G n f) := hf _ _ hq (hX.neK hq) (fun ci2 fs2 e => by cases e)
theorem xq_f.L {w : xx_Wd} {h h' : aw_H} {G : aw_G} {s : mm_S} {L e cap n : Nat} {x : Nat → Nat} (hf : xq_f w h h') (hX : XC G w h s) (hx : xl_L G h L e cap n x) : xl_L G h' L e cap n x := by
  obtain ⟨⟨m, f, g1, g2, g3⟩, g4⟩ := hx
  exact ⟨⟨m, f, hf.ob hX g1 (by decide), hf.ar hX g2, g3⟩, g4⟩
theorem xq_f.P {w : xx_Wd} {h h' : aw_H} {G : aw_G} {s : mm_S} (hf : xq_f w h h') (hX : XC G w h s) {c : Option Nat} {F : List (Nat × Nat)} (hP : xx_P h c F) : xx_P h' c F := by
  rcases hP with z | ⟨p, e, n, z⟩
  · exact Or.inl z
  · exact Or.inr ⟨p, e, n, xp_is.mv (fun q ci fs hc hq => hf.ob hX hq (by omega)) _ _ _ z⟩
theorem xq_f.H {w : xx_Wd} {h h' : aw_H} {G : aw_G} {s : mm_S} {H : sp_H} {u tl te cap : Nat} {m : Int32} {f : Nat → Option Nat} {tn : Nat → Nat} {nm : Nat → Int64} {c mo : Option Nat} {D : Nat → Int32} (hf : xq_f w h h') (hX : XC G w h s) (hH : XHq G w h H u tl te cap m f tn nm c mo D) : XHq G w h' H u tl te cap m f tn nm c mo D := by
  obtain ⟨g1, g2, g3, g4, g5, g6, g7, g8⟩ := hH
  exact ⟨hf.ob hX g1 (by decide), hf.ob hX g2 (by decide), hf.ar hX g3, g4, g5, fun t ht => ⟨(g6 t ht).1, hf.ob hX (g6 t ht).2 (by decide)⟩, hf.P hX g7, hf.P hX g8⟩
/-- the bundle, when a Kept or a mark has changed -/
theorem XB.q {Z : Nat → Prop} {G : aw_G} {w : xx_Wd} {h h' : aw_H} {s s' : mm_S} {H : sp_H} {u tl te : Nat} {e cap n : Nat → Nat} {x : Nat → Nat → Nat} {K B M : Nat → Nat} (hf : xq_f w h h') (hZ : ∀ q, Z q → ∀ c, c < 16 → q ≠ w.1 c) (hX' : XC G w h' s') (hk' : XRk Z G w h' s' K B M) (hB : XB Z G w h s H u tl te e cap n x K B M) : XB Z G w h' s' H u tl te e cap n x K B M := by
  obtain ⟨b1, ⟨hcap, m, f, tn, nm, c, mo, D, b2⟩, b3, b4, b5, b6⟩ := hB
  obtain ⟨d1, ⟨fk, d2, d3⟩, d4, ⟨nn, mm, fs, d5, d6⟩, d7, d8⟩ := b5
  refine ⟨hX', ⟨hcap, m, f, tn, nm, c, mo, D, hf.H b1 b2⟩, fun i hi => hf.L b1 (b3 i hi), hk', ⟨d1, ⟨fk, hf.kp b1 d2, d3⟩, d4, ⟨nn, mm, fs, hf.ob b1 d5 (by decide), hf.ob b1 d6 (by decide)⟩, ?_, d8⟩, fun q hq => ?_⟩
  · rw [hf.ar b1 b2.2.2.1]
    exact fun z => by cases z
  · obtain ⟨v, z1, z2⟩ := b6 q hq
    exact ⟨v, hf.r q v z1 z2 (hZ q hq), z2⟩
/-- now is what a State tells -/
theorem xx_ofc {G : aw_G} {w : xx_Wd} {h : aw_H} {s : mm_S} {A F : Nat → Nat} (hW : xx_W G w) (hX : XC G w h s) (hF : ∀ j, j < 28 → A j = F j) : XC G w (xx_ofH G h (w.1 1) (w.1 2) (w.1 3) (w.1 4) A) (mm_setA s 45 F) ∧ xx_same w h (xx_ofH G h (w.1 1) (w.1 2) (w.1 3) (w.1 4) A) := by
  have ne : ∀ a b, a < 16 → b < 16 → a ≠ b → w.1 a ≠ w.1 b := fun a b h1 h2 h3 z => h3 (hW.2 a b h1 h2 z)
  have aF : mm_a (mm_setA s 45 F) 45 = F := by rw [mm_a_A, if_pos rfl]
  refine ⟨⟨fun d hd => ?_, ?_⟩, ?_⟩
  · unfold xx_ofH
    by_cases e1 : d = 1
    · subst e1
      rw [aw_up_s]
      show _ = some (xx_st w.1 1 (mm_a (mm_setA s 45 F) 45))
      rw [aF]
      unfold xx_st
      rw [hF 24 (by decide), hF 25 (by decide), hF 26 (by decide), hF 27 (by decide)]
    · rw [aw_up_n (ne d 1 (by omega) (by omega) e1)]
      by_cases e4 : d = 4
      · subst e4
        rw [aw_up_s]
        show _ = some (xx_a8 G (fun j => mm_a (mm_setA s 45 F) 45 (8 * 2 + j)))
        rw [aF]
        exact congrArg some (xx_a8c (fun j hj => hF _ (by omega)))
      · rw [aw_up_n (ne d 4 (by omega) (by omega) e4)]
        by_cases e3 : d = 3
        · subst e3
          rw [aw_up_s]
          show _ = some (xx_a8 G (fun j => mm_a (mm_setA s 45 F) 45 (8 * 1 + j)))
          rw [aF]
          exact congrArg some (xx_a8c (fun j hj => hF _ (by omega)))
        · rw [aw_up_n (ne d 3 (by omega) (by omega) e3)]
          by_cases e2 : d = 2
          · subst e2
            rw [aw_up_s]
            show _ = some (xx_a8 G (fun j => mm_a (mm_setA s 45 F) 45 (8 * 0 + j)))
            rw [aF]
            exact congrArg some (xx_a8c (fun j hj => hF _ (by omega)))
          · rw [aw_up_n (ne d 2 (by omega) (by omega) e2), hX.1 d hd]
            have k : ∀ d, d < 16 → d ≠ 1 → d ≠ 2 → d ≠ 3 → d ≠ 4 → xx_cell G w s d = xx_cell G w (mm_setA s 45 F) d := by
              apply xx_16
              all_goals
                intro h1 h2 h3 h4
                first
                  | rfl
                  | omega
            rw [k d (by omega) e1 e2 e3 e4]
  · obtain ⟨f, hf⟩ := hX.2
    refine ⟨f, ?_⟩
    unfold xx_ofH
    rw [aw_up_n (ne 15 1 (by omega) (by omega) (by omega)), aw_up_n (ne 15 4 (by omega) (by omega) (by omega)), aw_up_n (ne 15 3 (by omega) (by omega) (by omega)), aw_up_n (ne 15 2 (by omega) (by omega) (by omega))]
    exact hf
  · unfold xx_ofH
    exact (((xx_same.rf.up (by decide)).up (by decide)).up (by decide)).up (by decide)
theorem mm_a_exch {s : mm_S} {i k : Nat} (h : k ≠ 45) (h2 : k ≠ 47) : mm_a (mm_exch s i) k = mm_a s k := by
  unfold mm_exch
  rw [mm_a_A, if_neg h, mm_a_A, if_neg h2]
theorem mm_a47_exch {s : mm_S} {i : Nat} : mm_a (mm_exch s i) 47 = fun j => if 28 * i ≤ j ∧ j < 28 * i + 28 then mm_a s 45 (j - 28 * i) else mm_a s 47 j := by
  unfold mm_exch
  rw [mm_a_A, if_neg (by decide), mm_a_A, if_pos rfl]
theorem mm_a45_exch {s : mm_S} {i : Nat} : mm_a (mm_exch s i) 45 = fun j => if j < 28 then mm_a s 47 (28 * i + j) else mm_a s 45 j := by
  unfold mm_exch
  rw [mm_a_A, if_pos rfl]
theorem mm_exch_c {G : aw_G} {w : xx_Wd} {h : aw_H} {s : mm_S} {i : Nat} (hX : XC G w h (mm_setA s 45 (fun j => if j < 28 then mm_a s 47 (28 * i + j) else mm_a s 45 j))) : XC G w h (mm_exch s i) := hX.cells (xx_cells_all (fun _ _ => rfl) rfl rfl (fun k hk => by
    by_cases z : k = 45
    · rw [z, mm_a45_exch, mm_a_A, if_pos rfl]
    · rw [mm_a_exch z (fun e => by subst e; cases hk), mm_a_A, if_neg z]) (by rw [mm_a_exch (by decide) (by decide), mm_a_A, if_neg (by decide)]))
/-! what is kept and what is now change places -/
set_option maxHeartbeats 4000000 in
theorem xb_turned {Z : Nat → Prop} {G : aw_G} {w : xx_Wd} {h0 : aw_H} {s : mm_S} {H : sp_H} {u tl te k : Nat} {e cp n : Nat → Nat} {x : Nat → Nat → Nat} {K B M : Nat → Nat} (hW : xx_W G w) (hZ : ∀ q, Z q → ∀ c, c < 16 → q ≠ w.1 c) (hB : XB Z G w h0 s H u tl te e cp n x K B M) (hi9 : XRi s K B M) (hk : k < mm_n s 48 + mm_n s 49) : aw_Met G yX0_turned cX0_turned 3 (some (.object "SoManyStairs$Kept")) 5 4 31 [.ref (w.1 0), .ref (K k)] h0 (fun v9 h9 => v9 = some (.ref (K k)) ∧ XB Z G w h9 (mm_exch s k) H u tl te e cp n x K B M ∧ xr_fr w h0 h9) := by
  refine aw_Met.of (by decide +kernel) (Nat.le_of_ble_eq_true rfl) ?_
  have hX := hB.1
  have hk9 := hB.2.2.2.1
  obtain ⟨bk, b, hkb, b1, b2, b3, hbS, ⟨o0, o1, o2, o3⟩, bb1, bb2, bb3⟩ := hk9.1 k hk
  show AW G (aw_rm 5 4 31) yX0_turned cX0_turned 3 (some (.object "SoManyStairs$Kept")) (aw_N G (fun v9 h9 => v9 = some (.ref (K k)) ∧ XB Z G w h9 (mm_exch s k) H u tl te e cp n x K B M ∧ xr_fr w h0 h9) 4 31) 4 31 h0 0 [(0, .ref (w.1 0)), (1, .ref (K k))] []
  refine aw_aload_n dX0_turned_0 rfl ?_
  refine aw_get dX0_turned_1 fX0_28 rfl (hX.1 0 (by decide)) (by rfl) ?_
  refine aw_callS (kc := 0) (ks := 0) (mc2 := 4) (ms2 := 31) dX0_turned_4 sX0_147 rfl (xg_copy (e := w.1 1) (A := mm_a s 45) ⟨hX.1 1 (by decide), hX.1 2 (by decide), hX.1 3 (by decide), hX.1 4 (by decide)⟩ ⟨hW.1 2 (by decide), hW.1 3 (by decide), hW.1 4 (by decide)⟩) rfl rfl ⟨Nat.le_of_ble_eq_true rfl, Nat.le_of_ble_eq_true rfl⟩ (by exact Nat.le_of_ble_eq_true rfl) (fun v9 h2 q9 => ?_)
  obtain ⟨a, a1, a2, a3, rfl, ⟨n0, n1, n2, n3⟩, ⟨c0, c1, c2, c3⟩, hSh, old2⟩ := q9
  have old2 : xe_f h0 h2 := fun q v z => by rw [old2 q (by rw [z]; exact fun z => by cases z), z]
  have hX2 := old2.k.XC hX
  have hX := hX2
  have out : ∀ q, h0 q = none → xo_out Z w q := fun q z => ⟨fun y => (by
    obtain ⟨v, y1, -⟩ := hB.2.2.2.2.2 q y
    rw [y1] at z
    cases z), fun c hc y => by
    rw [y] at z
    by_cases y15 : c = 15
    · obtain ⟨f, hf⟩ := hB.1.2
      rw [y15, hf] at z
      cases z
    · rw [hB.1.1 c (by omega)] at z
      cases z⟩
  have hO2 : xo_S Z G w h2 a (mm_a s 45) := ⟨a1, a2, a3, hSh, ⟨out _ n0, out _ n1, out _ n2, out _ n3⟩, c1, c2, c3⟩
  refine aw_astore_n dX0_turned_7 (by decide) rfl rfl ?_
  refine aw_aload_n dX0_turned_8 rfl ?_
  refine aw_get dX0_turned_9 fX0_28 rfl (hX.1 0 (by decide)) (by rfl) ?_
  refine aw_aload_n dX0_turned_12 rfl ?_
  refine aw_get dX0_turned_13 fX0_135 rfl (old2 _ _ hkb) (by rfl) ?_
  refine aw_callV (kc := 0) (ks := 0) (mc2 := 0) (ms2 := 0) dX0_turned_16 sX0_138 rfl (xg_of (d := w.1 1) (d1 := w.1 2) (d2 := w.1 3) (d3 := w.1 4) (e := b) (e1 := b1) (e2 := b2) (e3 := b3) (A := fun j => mm_a s 47 (28 * k + j)) (B := mm_a s 45) ⟨hX.1 1 (by decide), hX.1 2 (by decide), hX.1 3 (by decide), hX.1 4 (by decide)⟩ ⟨old2 _ _ hbS.1, old2 _ _ hbS.2.1, old2 _ _ hbS.2.2.1, old2 _ _ hbS.2.2.2⟩ ⟨hW.1 1 (by decide), hW.1 2 (by decide), hW.1 3 (by decide), hW.1 4 (by decide)⟩ ⟨bb1, bb2, bb3⟩ ⟨fun z => absurd (hW.2 2 3 (by decide) (by decide) z) (by decide), fun z => absurd (hW.2 2 4 (by decide) (by decide) z) (by decide), fun z => absurd (hW.2 3 4 (by decide) (by decide) z) (by decide)⟩ ⟨o2.2 2 (by decide), o3.2 2 (by decide), o3.2 3 (by decide)⟩ (o0.2 1 (by decide))) (hX.1 1 (by decide)) rfl rfl ⟨Nat.le_of_ble_eq_true rfl, Nat.le_of_ble_eq_true rfl⟩ (by exact Nat.le_of_ble_eq_true rfl) (fun v9 h3 q9 => ?_)
  obtain ⟨rfl, e3⟩ := q9
  obtain ⟨hX3, hs3⟩ := xx_ofc (F := fun j => if j < 28 then mm_a s 47 (28 * k + j) else mm_a s 45 j) (A := fun j => mm_a s 47 (28 * k + j)) hW hX2 (fun j hj => by rw [if_pos hj])
  rw [← e3] at hX3 hs3
  have hk3 : h3 (K k) = some (aw_o 4 [.ref b]) := hs3.ob hX2 (old2 _ _ hkb) (by decide) (by decide) (by decide)
  refine aw_aload_n dX0_turned_19 rfl ?_
  refine aw_aload_n dX0_turned_20 rfl ?_
  refine aw_put dX0_turned_21 (pX0_135 _) rfl rfl bk hk3 (by exact Nat.le_of_ble_eq_true rfl) rfl rfl ?_
  refine aw_aload_n dX0_turned_24 rfl ?_
  refine aw_areturn dX0_turned_25 rfl (Or.inl ⟨_, rfl⟩) (Or.inr ⟨_, rfl⟩) ?_
  have hX4 : XC G w (aw_up h3 (K k) (aw_o 4 [.ref a])) (mm_exch s k) := (hX3.ot (hX3.ne hk3 (by decide) (by decide) (by decide))) |> mm_exch_c
  have q03 : xq_f w h0 h3 := (old2.q).tr hs3.q
  have q04 : xq_f w h0 (aw_up h3 (K k) (aw_o 4 [.ref a])) := q03.tr (xq_f.up hk3 (Or.inl rfl))
  have r34 : xr_fr w h3 (aw_up h3 (K k) (aw_o 4 [.ref a])) := (xq_f.up hk3 (Or.inl rfl)).r
  have r04 := q04.r
  have r24 : xr_fr w h2 (aw_up h3 (K k) (aw_o 4 [.ref a])) := hs3.r.tr r34
  have kp : ∀ q fs, h0 q = some (aw_o 4 fs) → q ≠ K k → aw_up h3 (K k) (aw_o 4 [.ref a]) q = some (aw_o 4 fs) := fun q fs z ne => (aw_up_n ne).trans (hs3.ob hX2 (old2 _ _ z) (by decide) (by decide) (by decide))
  refine ⟨rfl, hB.q q04 hZ hX4 ⟨fun l hl => ?_, fun i hi => ?_, fun i hi => ?_⟩, r04⟩
  · by_cases z : l = k
    · subst z
      refine ⟨bk, a, aw_up_s _ _ _, (hO2.fr r24).ext (fun j hj => ?_)⟩
      rw [mm_a47_exch]
      show _ = if _ then _ else _
      rw [if_pos (by omega)]
      congr 1
      omega
    · obtain ⟨y1, a', y2, y3⟩ := hk9.1 l hl
      refine ⟨y1, a', kp _ _ y2 (fun y => z (hi9.1 l k hl hk y)), (y3.fr r04).ext (fun j hj => ?_)⟩
      rw [mm_a47_exch]
      show _ = if _ then _ else _
      rw [if_neg (by omega)]
  · obtain ⟨y1, c, y2, y3⟩ := hk9.2.1 i hi
    refine ⟨y1, c, kp _ _ y2 (fun y => hi9.2.2.1 k i hk hi y.symm), ?_⟩
    rw [mm_a_exch (by decide) (by decide), mm_a_exch (by decide) (by decide)]
    rcases y3 with z | ⟨z, a', z2, z3⟩
    · exact Or.inl z
    · exact Or.inr ⟨z, a', z2, z3.fr r04⟩
  · obtain ⟨y1, y2, y3⟩ := hk9.2.2 i hi
    have y4 : h3 (M i) = some (xm_at w s i) := hs3.ob hX2 (old2 _ _ y3) (by omega) (by omega) (by omega)
    have y5 : M i ≠ K k := fun y => by
      rw [y, hk3] at y4
      injection y4 with y4
      injection y4 with y4
      injection y4 with y4 _
      omega
    refine ⟨y1, ?_, (aw_up_n y5).trans (y4.trans ?_)⟩
    · rw [mm_a_exch (by decide) (by decide)]
      exact y2
    · unfold xm_at
      rw [mm_a_exch (by decide) (by decide), mm_a_exch (by decide) (by decide), mm_a_exch (by decide) (by decide), mm_a_exch (by decide) (by decide)]
      rfl

