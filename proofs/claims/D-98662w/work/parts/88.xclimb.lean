set_option maxRecDepth 100000
/-! the component: rows of climbs -/
def xx_cpy (s : mm_S) (n : Nat) : Nat → Int32 := fun j => if j < n then nI (mm_a s 72 j) else mm_v s 51 j
theorem xx_cpL {G : aw_G} {R : Room} {y : MethodName} {cc : ByteArray} {nL : Nat} {ret : Option FieldType} {Qf : List Frame → Array Value → State → State → Prop} {kc ks : Nat} {h0 h : aw_H} {pc : Nat} {ls : List (Nat × Value)} {st : List Value} {w : xx_Wd} {s : mm_S} {index n : Nat} (d : decode cc pc = .ok (.invokestatic index, 3)) (hw : Cond.methodLink y.cls index arraycopyName ∈ lw_all) (hW : xx_W G w) (hX : XC G w h s) (hs : xx_same w h0 h) (hn : n ≤ 8) (hf : 1 ≤ R.frames) (hl : 64 ≤ R.locals) (hc : (st.map fun v => v.category).sum ≤ 8) (kk : ∀ h', XC G w h' (mm_setV s 51 (xx_cpy s n)) → xx_same w h0 h' → AW G R y cc nL ret Qf kc ks h' (pc + 3) ls st) : AW G R y cc nL ret Qf kc ks h pc ls (.int (nI n) :: .int (nI 0) :: .ref (w.1 11) :: .int (nI 0) :: .ref (w.1 12) :: st) := by
  have e2 : ∀ dd, dd < 16 → dd ≠ 11 → xx_cell G w (mm_setV s 51 (xx_cpy s n)) dd = xx_cell G w s dd := by
    apply xx_16
    all_goals
      intro hn
      first
        | rfl
        | exact absurd rfl hn
  refine aw_copyI (sp := 0) (dp := 0) (n := n) d hw (hW.1 _ (by decide)) (hW.1 _ (by decide)) (hX.1 12 (by decide)) (hX.1 11 (by decide)) (by decide) (by decide) (by omega) (by omega) hf hl hc ?_
  have e : va_cpy (fun j => nI (mm_a s 72 j)) (fun j => mm_v s 51 j) 0 0 n = fun q => xx_cpy s n q := by
    funext q
    unfold va_cpy xx_cpy
    rw [Nat.zero_add, Nat.zero_add, Nat.sub_zero]
    by_cases z : q < n
    · rw [if_pos z, if_pos ⟨Nat.zero_le _, z⟩]
    · rw [if_neg z, if_neg (fun q => z q.2)]
  rw [e]
  exact kk (aw_up h (w.1 11) (xx_cell G w (mm_setV s 51 (xx_cpy s n)) 11)) (hX.up hW (by decide) e2) (hs.up (by decide))
/-- f for 1 .. k -/
def sp_it {α : Type} (f : Nat → α → α) : Nat → α → α
  | 0, x => x
  | k + 1, x => f (k + 1) (sp_it f k x)
/-- n climbs are told: laid, if they pay and are better -/
def sp_gl (s : mm_S) (n due c p : Nat) : mm_S := if p < due ∨ (mm_n s 52 = n ∧ mm_n s 70 ≤ c) then s else mm_setV (mm_setN (mm_setN s 70 c) 52 n) 51 (xx_cpy (mm_setN (mm_setN s 70 c) 52 n) n)
/-- the search: so many climbs more, c storeys climbed, p paid, b breath -/
def sp_gc (H : sp_H) (A : Nat → Nat) (n due : Nat) : Nat → Nat → Nat → Nat → mm_S → mm_S
  | 0, c, p, _, s => sp_gl s n due c p
  | l + 1, c, p, b, s => sp_it (fun k s => sp_gc H A n due l (c + k) (min 9999 (p + sp_cnt H (aw_u A 24 c) k 0 0)) (b - k) (mm_setA s 72 (aw_u (mm_a s 72) (n - (l + 1)) k))) (min (sp_hs H) b) s
theorem sp_it_P {α : Type} {f : Nat → α → α} {P : α → Prop} {K : Nat} (h : ∀ k x, 1 ≤ k → k ≤ K → P x → P (f k x)) : ∀ k x, k ≤ K → P x → P (sp_it f k x) := by
  intro k
  induction k with
  | zero => intro x _ hx; exact hx
  | succ k ih => intro x hk hx; exact h _ _ (by omega) hk (ih x (by omega) hx)
/-- what the search keeps -/
def sp_gI (A : Nat → Nat) (s : mm_S) : Prop := mm_a s 45 = A ∧ mm_n s 70 < 100000000 ∧ mm_n s 52 ≤ 8
theorem sp_gl_I {A : Nat → Nat} {s : mm_S} {n due c p : Nat} (hn : n ≤ 8) (hc : c < 100000000) (h : sp_gI A s) : sp_gI A (sp_gl s n due c p) := by
  unfold sp_gl
  split
  · exact h
  · exact ⟨h.1, hc, hn⟩
theorem sp_gc_I {H : sp_H} {A B : Nat → Nat} {n due : Nat} (hs : sp_hs H ≤ 20) (hn : n ≤ 8) : ∀ l c p b s, c + 20 * l < 100000000 → sp_gI B s → sp_gI B (sp_gc H A n due l c p b s) := by
  intro l
  induction l with
  | zero => intro c p b s hc h; exact sp_gl_I hn (by omega) h
  | succ l ih =>
    intro c p b s hc h
    unfold sp_gc
    refine sp_it_P (K := 20) (P := fun s => sp_gI B s) (fun k x k1 k2 hx => ?_) _ _ (by omega) h
    exact ih _ _ _ _ (by omega) hx
set_option maxHeartbeats 4000000 in
theorem xo_gc0 {s : mm_S} {H : sp_H} {u : Nat} {n c p due b : Nat} (hn8 : n ≤ 8) (hc : c < 2147483648) (hp : p < 2147483648) (hd : due < 2147483648) (hf : mm_n s 70 < 2147483648) (h5 : mm_n s 52 < 2147483648) : xx_Met yX0_goClimb cX0_goClimb 8 none 603 0 0 (fun w => [.ref (w.1 0), .int (nI (n)), .int (nI ((0))), .int (nI (c)), .int (nI (p)), .int (nI (due)), .int (nI (b))]) s H u none (sp_gl s n due c p) := by
  refine xx_Met.of (by decide +kernel) (fun _ => Nat.le_of_ble_eq_true rfl) (fun G w h0 hW hX hH => ?_)
  have hX0 := hX
  have hs : xx_same w h0 h0 := xx_same.rf
  obtain ⟨tl, te, cap, m9, f9, tn, nm9, c9, mo9, D9, hq⟩ := hH
  show AW G (aw_rm 603 0 0) yX0_goClimb cX0_goClimb 8 none (aw_N G (xx_Po G w h0 none (sp_gl s n due c p)) 0 0) 0 0 h0 0 [(0, .ref (w.1 0)), (1, .int (nI (n))), (2, .int (nI ((0)))), (3, .int (nI (c))), (4, .int (nI (p))), (5, .int (nI (due))), (6, .int (nI (b)))] []
  have y1 : (p < due ∨ (mm_n s 52 = n ∧ mm_n s 70 ≤ c)) → sp_gl s n due c p = s := fun z => if_pos z
  have y2 : ¬ (p < due ∨ (mm_n s 52 = n ∧ mm_n s 70 ≤ c)) → sp_gl s n due c p = mm_setV (mm_setN (mm_setN s 70 c) 52 n) 51 (xx_cpy (mm_setN (mm_setN s 70 c) 52 n) n) := fun z => if_neg z
  refine aw_iload_n dX0_goClimb_0 rfl ?_
  refine aw_if_neN (tgt := 53) dX0_goClimb_1 (by decide) (by omega) (fun c_1 => by exfalso; omega) (fun c_1 => ?_)
  refine aw_iload dX0_goClimb_4 rfl ?_
  refine aw_iload dX0_goClimb_6 rfl ?_
  refine aw_icmp_ltN (tgt := 27) dX0_goClimb_8 (by decide) (by omega) (by omega) (fun c_8 => ?_) (fun c_8 => ?_)
  · refine aw_vreturn dX0_goClimb_27 rfl ?_
    first
      | exact ⟨rfl, hX.eqv (y1 (by omega)).symm, hs⟩
      | exact ⟨rfl, hX.eqv (y2 (by omega)).symm, hs⟩
  · refine aw_aload_n dX0_goClimb_11 rfl ?_
    refine aw_get dX0_goClimb_12 fX0_132 rfl (hX.1 0 (by decide)) (by rfl) ?_
    refine aw_iload_n dX0_goClimb_15 rfl ?_
    refine aw_icmp_neN (tgt := 28) dX0_goClimb_16 (by decide) (by omega) (by omega) (fun c_16 => ?_) (fun c_16 => ?_)
    · refine aw_aload_n dX0_goClimb_28 rfl ?_
      refine aw_iload_n dX0_goClimb_29 rfl ?_
      refine xx_put0 (k := 70) hW hX hs dX0_goClimb_30 (pX0_239 _) rfl rfl (by decide) (by decide) (by decide) rfl (fun h hX hs => ?_)
      refine aw_aload_n dX0_goClimb_33 rfl ?_
      refine aw_iload_n dX0_goClimb_34 rfl ?_
      refine xx_put0 (k := 52) hW hX hs dX0_goClimb_35 (pX0_132 _) rfl rfl (by decide) (by decide) (by decide) rfl (fun h hX hs => ?_)
      refine aw_aload_n dX0_goClimb_38 rfl ?_
      refine aw_get dX0_goClimb_39 fX0_64 rfl (hX.1 0 (by decide)) (by rfl) ?_
      refine aw_iconst (v := nI 0) dX0_goClimb_42 rfl ?_
      refine aw_aload_n dX0_goClimb_43 rfl ?_
      refine aw_get dX0_goClimb_44 fX0_60 rfl (hX.1 0 (by decide)) (by rfl) ?_
      refine aw_iconst (v := nI 0) dX0_goClimb_47 rfl ?_
      refine aw_iload_n dX0_goClimb_48 rfl ?_
      refine xx_cpL dX0_goClimb_49 q1039 hW hX hs hn8 (Nat.le_of_ble_eq_true rfl) (Nat.le_of_ble_eq_true rfl) (by exact Nat.le_of_ble_eq_true rfl) (fun h hX hs => ?_)
      refine aw_vreturn dX0_goClimb_52 rfl ?_
      first
        | exact ⟨rfl, hX.eqv (y1 (by omega)).symm, hs⟩
        | exact ⟨rfl, hX.eqv (y2 (by omega)).symm, hs⟩
    · refine aw_iload_n dX0_goClimb_19 rfl ?_
      refine aw_aload_n dX0_goClimb_20 rfl ?_
      refine aw_get dX0_goClimb_21 fX0_239 rfl (hX.1 0 (by decide)) (by rfl) ?_
      refine aw_icmp_ltN (tgt := 28) dX0_goClimb_24 (by decide) (by omega) (by omega) (fun c_24 => ?_) (fun c_24 => ?_)
      · refine aw_aload_n dX0_goClimb_28 rfl ?_
        refine aw_iload_n dX0_goClimb_29 rfl ?_
        refine xx_put0 (k := 70) hW hX hs dX0_goClimb_30 (pX0_239 _) rfl rfl (by decide) (by decide) (by decide) rfl (fun h hX hs => ?_)
        refine aw_aload_n dX0_goClimb_33 rfl ?_
        refine aw_iload_n dX0_goClimb_34 rfl ?_
        refine xx_put0 (k := 52) hW hX hs dX0_goClimb_35 (pX0_132 _) rfl rfl (by decide) (by decide) (by decide) rfl (fun h hX hs => ?_)
        refine aw_aload_n dX0_goClimb_38 rfl ?_
        refine aw_get dX0_goClimb_39 fX0_64 rfl (hX.1 0 (by decide)) (by rfl) ?_
        refine aw_iconst (v := nI 0) dX0_goClimb_42 rfl ?_
        refine aw_aload_n dX0_goClimb_43 rfl ?_
        refine aw_get dX0_goClimb_44 fX0_60 rfl (hX.1 0 (by decide)) (by rfl) ?_
        refine aw_iconst (v := nI 0) dX0_goClimb_47 rfl ?_
        refine aw_iload_n dX0_goClimb_48 rfl ?_
        refine xx_cpL dX0_goClimb_49 q1039 hW hX hs hn8 (Nat.le_of_ble_eq_true rfl) (Nat.le_of_ble_eq_true rfl) (by exact Nat.le_of_ble_eq_true rfl) (fun h hX hs => ?_)
        refine aw_vreturn dX0_goClimb_52 rfl ?_
        first
          | exact ⟨rfl, hX.eqv (y1 (by omega)).symm, hs⟩
          | exact ⟨rfl, hX.eqv (y2 (by omega)).symm, hs⟩
      · refine aw_vreturn dX0_goClimb_27 rfl ?_
        first
          | exact ⟨rfl, hX.eqv (y1 (by omega)).symm, hs⟩
          | exact ⟨rfl, hX.eqv (y2 (by omega)).symm, hs⟩
set_option maxHeartbeats 4000000 in
theorem xo_gcS {s : mm_S} {H : sp_H} {u : Nat} {A : Nat → Nat} {f n l c p due b : Nat} (hOK : sp_okH H) (h602 : 602 ≤ f) (hl : l + 1 ≤ n) (hn8 : n ≤ 8) (hc : c + 20 * (l + 1) < 100000000) (hp : p ≤ 9999) (hd : due < 2147483648) (hbb : b ≤ 40) (hI : sp_gI A s) (ih : ∀ (c p b : Nat) (s : mm_S), c + 20 * l < 100000000 → p ≤ 9999 → b ≤ 40 → sp_gI A s → xx_Met yX0_goClimb cX0_goClimb 8 none f 0 0 (fun w => [.ref (w.1 0), .int (nI n), .int (nI l), .int (nI c), .int (nI p), .int (nI due), .int (nI b)]) s H u none (sp_gc H A n due l c p b s)) : xx_Met yX0_goClimb cX0_goClimb 8 none (f+1) 0 0 (fun w => [.ref (w.1 0), .int (nI (n)), .int (nI ((l+1))), .int (nI (c)), .int (nI (p)), .int (nI (due)), .int (nI (b))]) s H u none (sp_gc H A n due (l + 1) c p b s) := by
  refine xx_Met.of (by decide +kernel) (fun _ => Nat.le_of_ble_eq_true rfl) (fun G w h0 hW hX hH => ?_)
  have hX0 := hX
  have hs : xx_same w h0 h0 := xx_same.rf
  obtain ⟨tl, te, cap, m9, f9, tn, nm9, c9, mo9, D9, hq⟩ := hH
  show AW G (aw_rm (f+1) 0 0) yX0_goClimb cX0_goClimb 8 none (aw_N G (xx_Po G w h0 none (sp_gc H A n due (l + 1) c p b s)) 0 0) 0 0 h0 0 [(0, .ref (w.1 0)), (1, .int (nI (n))), (2, .int (nI ((l+1)))), (3, .int (nI (c))), (4, .int (nI (p))), (5, .int (nI (due))), (6, .int (nI (b)))] []
  have hs1 : 1 ≤ sp_hs H := hOK.1.1; have hs20 : sp_hs H ≤ 20 := hOK.1.2; have hn : sp_hn H ≤ 8 := hOK.2.1; have hlv : ∀ t, t < 8 → sp_lv H t ≤ 20 := fun t ht => (hOK.2.2.1 t ht).1; have hsg : ∀ t, t < 8 → sp_sg8 H t ≤ 40 := fun t ht => (hOK.2.2.1 t ht).2.1; have hhv : ∀ t, t < 8 → sp_hv H t ≤ 9 := fun t ht => (hOK.2.2.1 t ht).2.2.1; have how : ∀ t, t < 8 → sp_ow H t ≤ 999 := fun t ht => (hOK.2.2.1 t ht).2.2.2.1; have hfl : ∀ t, t < 8 → sp_fl H t ≤ 100 := fun t ht => (hOK.2.2.1 t ht).2.2.2.2
  obtain ⟨F, hF⟩ : ∃ F : Nat → mm_S → mm_S, F = fun k s => sp_gc H A n due l (c + k) (min 9999 (p + sp_cnt H (aw_u A 24 c) k 0 0)) (b - k) (mm_setA s 72 (aw_u (mm_a s 72) (n - (l + 1)) k)) := ⟨_, rfl⟩
  have fin : sp_gc H A n due (l + 1) c p b s = sp_it F (min (sp_hs H) b) s := by rw [hF]; rfl
  rw [fin]
  have SI : ∀ k, k ≤ 20 → sp_gI A (sp_it F k s) := fun k hk => sp_it_P (K := 20) (P := fun s => sp_gI A s) (fun k x k1 k2 hx => by rw [hF]; exact sp_gc_I hs20 hn8 _ _ _ _ _ (by omega) hx) k s hk hI
  have loop : ∀ (d k : Nat) (h : aw_H), min (sp_hs H) b - k = d → k ≤ min (sp_hs H) b → XC G w h (sp_it F k s) → xx_same w h0 h → AW G (aw_rm (f+1) 0 0) yX0_goClimb cX0_goClimb 8 none (aw_N G (xx_Po G w h0 none (sp_it F (min (sp_hs H) b) s)) 0 0) 0 0 (h) 56 [(0, .ref (w.1 0)), (1, .int (nI n)), (2, .int (nI (l + 1))), (3, .int (nI c)), (4, .int (nI p)), (5, .int (nI due)), (6, .int (nI b)), (7, .int (nI (k + 1)))] [] := by
    intro d
    induction d using Nat.strongRecOn with
    | _ d ihd =>
      intro k h hd9 hk hX hs
      by_cases hk9 : k < min (sp_hs H) b
      · have e45 : mm_a (mm_setA (sp_it F k s) 72 (aw_u (mm_a (sp_it F k s) 72) (n - (l + 1)) (k + 1))) 45 = A := (SI k (by omega)).1
        have cb : sp_cnt H (aw_u A 24 c) (k + 1) 0 0 ≤ 999 := sp_cnt_le
        have ccn := (xh_cnt (s := mm_setA (sp_it F k s) 72 (aw_u (mm_a (sp_it F k s) 72) (n - (l + 1)) (k + 1))) (H := H) (u := u) (i := 0) (a := k + 1) (b := 0) (n := 0) (k := c) (by decide) (by omega)).eqv (r' := some (.int (nI (sp_cnt H (aw_u A 24 c) (k + 1) 0 0)))) (by rw [show 45 + 0 = 45 from rfl, e45]) rfl
        have cal := (ih (c + (k + 1)) (min 9999 (p + sp_cnt H (aw_u A 24 c) (k + 1) 0 0)) (b - (k + 1)) _ (by omega) (by omega) (by omega) (show sp_gI A (mm_setA (sp_it F k s) 72 (aw_u (mm_a (sp_it F k s) 72) (n - (l + 1)) (k + 1))) from SI k (by omega))).eqv rfl (show _ = sp_it F (k + 1) s by rw [hF]; rfl)
        refine aw_iload dX0_goClimb_56 rfl ?_
        refine aw_aload_n dX0_goClimb_58 rfl ?_
        refine aw_get dX0_goClimb_59 fX0_19 rfl (hX.1 0 (by decide)) (by rfl) ?_
        refine aw_get dX0_goClimb_62 fX0_208 rfl (hq.mv hs hX0).1 (by rfl) ?_
        refine aw_iload dX0_goClimb_65 rfl ?_
        refine aw_mminN dX0_goClimb_67 q951 (by omega) (by omega) (Nat.le_of_ble_eq_true rfl) (Nat.le_of_ble_eq_true rfl) (Nat.le_of_ble_eq_true rfl) ?_
        refine aw_icmp_gtN (tgt := 133) dX0_goClimb_70 (by decide) (by omega) (by omega) (fun c_70 => by exfalso; omega) (fun c_70 => ?_)
        refine aw_aload_n dX0_goClimb_73 rfl ?_
        refine aw_get dX0_goClimb_74 fX0_64 rfl (hX.1 0 (by decide)) (by rfl) ?_
        refine aw_iload_n dX0_goClimb_77 rfl ?_
        refine aw_iload_n dX0_goClimb_78 rfl ?_
        refine aw_isubN dX0_goClimb_79 (by omega) ?_
        refine aw_iload dX0_goClimb_80 rfl ?_
        refine xx_stA (c := 12) hW hX hs dX0_goClimb_82 rfl (by omega) (fun h hX hs => ?_)
        refine aw_aload_n dX0_goClimb_83 rfl ?_
        refine aw_iload_n dX0_goClimb_84 rfl ?_
        refine aw_iload_n dX0_goClimb_85 rfl ?_
        refine aw_iconst (v := nI 1) dX0_goClimb_86 rfl ?_
        refine aw_isubN dX0_goClimb_87 (by omega) ?_
        refine aw_iload_n dX0_goClimb_88 rfl ?_
        refine aw_iload dX0_goClimb_89 rfl ?_
        refine aw_iaddN dX0_goClimb_91 ?_
        refine aw_sipush (v := nI 9999) dX0_goClimb_92 rfl ?_
        refine aw_iload dX0_goClimb_95 rfl ?_
        refine aw_aload_n dX0_goClimb_97 rfl ?_
        refine aw_get dX0_goClimb_98 fX0_19 rfl (hX.1 0 (by decide)) (by rfl) ?_
        refine aw_aload_n dX0_goClimb_101 rfl ?_
        refine aw_get dX0_goClimb_102 fX0_28 rfl (hX.1 0 (by decide)) (by rfl) ?_
        refine aw_iload dX0_goClimb_105 rfl ?_
        refine aw_iconst (v := nI 0) dX0_goClimb_107 rfl ?_
        refine aw_iconst (v := nI 0) dX0_goClimb_108 rfl ?_
        refine aw_iload_n dX0_goClimb_109 rfl ?_
        refine xx_call0 dX0_goClimb_110 sX0_220 rfl hW hX (hq.mv hs hX0).xh hs ccn rfl (hq.mv hs hX0).1 rfl rfl ⟨by show 602 + 1 ≤ f + 1; omega, by show _ ≤ 64 * (f + 1); omega⟩ (by exact Nat.le_of_ble_eq_true rfl) (fun h hX hs => ?_)
        try simp only [mm_n_N, mm_n_A, mm_n_V, mm_n_Fp, mm_n_W, mm_n_Nm, mm_a_N, mm_a_A, mm_a_V, mm_a_Fp, mm_a_W, mm_a_Nm, mm_v_N, mm_v_A, mm_v_V, mm_fp_N, mm_fp_A, mm_fp_Fp, mm_w_N, mm_w_W, Nat.reduceEqDiff, reduceIte, if_true, if_false, mm_H_45, mm_H_46, mm_H_47, mm_H_50, mm_H_53, mm_H_54, mm_H_55, mm_H_56, mm_H_57, mm_H_58, mm_H_66, mm_H_67, mm_H_68, eq_self]
        refine aw_iaddN dX0_goClimb_113 ?_
        refine aw_mminN dX0_goClimb_114 q951 (by omega) (by omega) (Nat.le_of_ble_eq_true rfl) (Nat.le_of_ble_eq_true rfl) (Nat.le_of_ble_eq_true rfl) ?_
        refine aw_iload dX0_goClimb_117 rfl ?_
        refine aw_iload dX0_goClimb_119 rfl ?_
        refine aw_iload dX0_goClimb_121 rfl ?_
        refine aw_isubN dX0_goClimb_123 (by omega) ?_
        rw [Nat.add_sub_cancel]
        refine xx_call0 dX0_goClimb_124 sX0_248 rfl hW hX (hq.mv hs hX0).xh hs cal rfl (hX.1 0 (by decide)) rfl rfl ⟨Nat.le_refl _, by show _ ≤ 64 * (f + 1); omega⟩ (by exact Nat.le_of_ble_eq_true rfl) (fun h hX hs => ?_)
        refine aw_iincN (b := 1) dX0_goClimb_127 rfl rfl (by decide) rfl rfl ?_
        refine aw_goto (tgt := 56) dX0_goClimb_130 (by decide) ?_
        exact ihd (min (sp_hs H) b - (k + 1)) (by omega) (k + 1) h rfl (by omega) hX hs
      · obtain rfl : k = min (sp_hs H) b := by omega
        refine aw_iload dX0_goClimb_56 rfl ?_
        refine aw_aload_n dX0_goClimb_58 rfl ?_
        refine aw_get dX0_goClimb_59 fX0_19 rfl (hX.1 0 (by decide)) (by rfl) ?_
        refine aw_get dX0_goClimb_62 fX0_208 rfl (hq.mv hs hX0).1 (by rfl) ?_
        refine aw_iload dX0_goClimb_65 rfl ?_
        refine aw_mminN dX0_goClimb_67 q951 (by omega) (by omega) (Nat.le_of_ble_eq_true rfl) (Nat.le_of_ble_eq_true rfl) (Nat.le_of_ble_eq_true rfl) ?_
        refine aw_icmp_gtN (tgt := 133) dX0_goClimb_70 (by decide) (by omega) (by omega) (fun c_70 => ?_) (fun c_70 => by exfalso; omega)
        refine aw_vreturn dX0_goClimb_133 rfl ?_
        exact ⟨rfl, hX, hs⟩
  refine aw_iload_n dX0_goClimb_0 rfl ?_
  refine aw_if_neN (tgt := 53) dX0_goClimb_1 (by decide) (by omega) (fun c_1 => ?_) (fun c_1 => by exfalso; omega)
  refine aw_iconst (v := nI 1) dX0_goClimb_53 rfl ?_
  refine aw_istore dX0_goClimb_54 (by decide) rfl rfl ?_
  exact loop _ 0 h0 rfl (Nat.zero_le _) hX hs
theorem xo_gc {H : sp_H} {u : Nat} {A : Nat → Nat} {n due : Nat} (hOK : sp_okH H) (hn8 : n ≤ 8) (hd : due < 2147483648) : ∀ (l c p b : Nat) (s : mm_S), l ≤ n → c + 20 * l < 100000000 → p ≤ 9999 → b ≤ 40 → sp_gI A s → xx_Met yX0_goClimb cX0_goClimb 8 none (603 + l) 0 0 (fun w => [.ref (w.1 0), .int (nI n), .int (nI l), .int (nI c), .int (nI p), .int (nI due), .int (nI b)]) s H u none (sp_gc H A n due l c p b s) := by
  intro l
  induction l with
  | zero => intro c p b s _ hc hp hb hI; exact xo_gc0 hn8 (by omega) (by omega) hd (Nat.lt_trans hI.2.1 (by decide)) (Nat.lt_of_le_of_lt hI.2.2 (by decide))
  | succ l ih =>
    intro c p b s hl hc hp hb hI
    exact xo_gcS (f := 603 + l) hOK (by omega) hl hn8 hc hp hd hb hI (fun c p b s q1 q2 q3 q4 => ih c p b s (by omega) q1 q2 q3 q4)

