set_option maxRecDepth 100000
/-! the model: gifts, ladder, team, odds -/
theorem sp_fst_some {p : Nat → Bool} {n k : Nat} (h : sp_fst p n = k + 1) : k < n ∧ p k = true := by
  induction n with
  | zero => cases h
  | succ n ih =>
    unfold sp_fst at h
    by_cases e : sp_fst p n ≠ 0
    · rw [if_pos e] at h
      have := ih h
      exact ⟨by omega, this.2⟩
    · rw [if_neg e] at h
      by_cases e2 : p n = true
      · rw [if_pos e2] at h
        obtain rfl : n = k := by omega
        exact ⟨by omega, e2⟩
      · rw [if_neg e2] at h
        cases h
theorem sp_sum_lt {f g : Nat → Nat} {n b : Nat} (hb : b < n) (h : ∀ i, i < n → f i ≤ g i) (h2 : f b < g b) : sp_sum f n < sp_sum g n := by
  induction n with
  | zero => omega
  | succ n ih =>
    show sp_sum f n + f n < sp_sum g n + g n
    by_cases e : b = n
    · subst e
      have h3 : ∀ m, m ≤ b → sp_sum f m ≤ sp_sum g m := by
        intro m
        induction m with
        | zero => intro _; exact Nat.le_refl _
        | succ m ihm => intro hm; exact Nat.add_le_add (ihm (by omega)) (h m (by omega))
      have := h3 b (Nat.le_refl _)
      omega
    · have := ih (by omega) (fun i hi => h i (by omega))
      have := h n (by omega)
      omega
/-- what a gift does to a state -/
theorem sp_gA_ok {H : sp_H} {A : Nat → Nat} {N g b : Nat} (hn : sp_hn H ≤ 8) (hA : sp_okA N A) (hg : sp_gvr H A = g + 1) (hb : sp_tkr H A = b + 1) : sp_okA N (sp_gA H A) ∧ sp_sum (sp_lack H (sp_gA H A)) (sp_hn H) < sp_sum (sp_lack H A) (sp_hn H) := by
  obtain ⟨g1, g2⟩ := sp_fst_some hg
  obtain ⟨b1, b2⟩ := sp_fst_some hb
  have g2 := of_decide_eq_true g2
  have b2 := of_decide_eq_true b2
  have gb : g ≠ b := fun e => by
    subst e
    unfold sp_lack at b2
    omega
  obtain ⟨y, hy⟩ : ∃ y, y = sp_gift H A := ⟨_, rfl⟩
  have ey : y = min (A (8 + g) - sp_due H A g) (min (sp_lack H A b) (9999 - A (8 + b))) := by rw [hy]; unfold sp_gift; rw [hg, hb]; rfl
  have eA : sp_gA H A = aw_u (aw_u A (8 + g) (A (8 + g) - y)) (8 + b) (A (8 + b) + y) := by unfold sp_gA; rw [hg, hb, hy]; rfl
  obtain ⟨a1, a2, a3, a4, a5⟩ := hA
  have low : ∀ j, (j < 8 ∨ 16 ≤ j) → sp_gA H A j = A j := fun j hj => by rw [eA, aw_u_n (by omega), aw_u_n (by omega)]
  have mid : ∀ t, t < 8 → sp_gA H A (8 + t) = if t = b then A (8 + b) + y else if t = g then A (8 + g) - y else A (8 + t) := fun t ht => by
    rw [eA]
    unfold aw_u
    by_cases e : t = b
    · rw [if_pos (by omega), if_pos e]
    · rw [if_neg (by omega), if_neg e]
      by_cases e2 : t = g
      · rw [if_pos (by omega), if_pos e2]
      · rw [if_neg (by omega), if_neg e2]
  refine ⟨⟨fun t ht => ⟨?_, ?_, ?_⟩, ?_, ?_, ?_, ?_⟩, ?_⟩
  · rw [low t (Or.inl ht)]; exact (a1 t ht).1
  · rw [mid t ht]
    have := (a1 t ht).2.1
    have := (a1 b (by omega)).2.1
    have := (a1 g (by omega)).2.1
    split
    · omega
    · split <;> omega
  · rw [low _ (by omega)]; exact (a1 t ht).2.2
  · rw [low _ (by omega)]; exact a2
  · rw [low _ (by omega)]; exact a3
  · rw [low _ (by omega)]; exact a4
  · rw [low _ (by omega)]; exact a5
  · have du : ∀ t, sp_due H (sp_gA H A) t = sp_due H A t := fun t => by unfold sp_due; rw [low _ (by omega)]
    refine sp_sum_lt b1 (fun t ht => ?_) ?_
    · unfold sp_lack
      rw [du, mid t (by omega)]
      split
      · rename_i e; rw [e]; omega
      · split
        · rename_i e; rw [e]; omega
        · exact Nat.le_refl _
    · have b3 : 0 < sp_due H A b - A (8 + b) := b2.1
      have g3 : sp_due H A g < A (8 + g) := g2
      have e9 : sp_lack H A b = sp_due H A b - A (8 + b) := rfl
      show sp_due H (sp_gA H A) b - sp_gA H A (8 + b) < sp_due H A b - A (8 + b)
      rw [du, mid b (by omega), if_pos rfl]
      omega
theorem sp_gfs_s (H : sp_H) (f : Nat) (A : Nat → Nat) : sp_gfs H (f + 1) A = if sp_gvr H A ≠ 0 ∧ sp_tkr H A ≠ 0 then ((sp_gfs H f (sp_gA H A)).1, (sp_gfs H f (sp_gA H A)).2.1 + 1, (sp_gfs H f (sp_gA H A)).2.2 + sp_gift H A) else (A, 0, 0) := rfl
theorem sp_gfs_0 {H : sp_H} {f : Nat} {A : Nat → Nat} (h : ¬ (sp_gvr H A ≠ 0 ∧ sp_tkr H A ≠ 0)) : sp_gfs H f A = (A, 0, 0) := by
  cases f with
  | zero => rfl
  | succ f => rw [sp_gfs_s, if_neg h]
set_option maxHeartbeats 4000000 in
theorem mo_gifts {s : mm_S} {q : Int32} {N : Nat} (hH : sp_okH (mm_H s)) (hA : sp_okA N (mm_a s 45)) (hN : N ≤ 10000000) : mm_Op yX5_gifts cX5_gifts 7 (some .int) 3 [.int (q)] s (some (.int (op_gifts (mm_H s) (mm_a s 45) q))) (s) := by
  refine mm_Op.of (by decide +kernel) (fun _ => Nat.le_of_ble_eq_true rfl) (fun G w h0 hW hR => ?_)
  have hs : mm_same w h0 h0 := mm_same.rf
  show AW G (aw_rm 3 0 0) yX5_gifts cX5_gifts 7 (some .int) (aw_N G (mm_PoC G w h0 (some (.int (op_gifts (mm_H s) (mm_a s 45) q))) (s)) 0 0) 0 0 h0 0 [(0, .ref w.1), (1, .int (q))] []
  have hs1 : 1 ≤ mm_n s 41 := hH.1.1; have hs20 : mm_n s 41 ≤ 20 := hH.1.2; have hn : mm_n s 42 ≤ 8 := hH.2.1; have hlv : ∀ t, t < 8 → mm_a s 32 t ≤ 20 := fun t ht => (hH.2.2.1 t ht).1; have hsg : ∀ t, t < 8 → mm_a s 33 t ≤ 40 := fun t ht => (hH.2.2.1 t ht).2.1; have hhv : ∀ t, t < 8 → mm_a s 34 t ≤ 9 := fun t ht => (hH.2.2.1 t ht).2.2.1; have how : ∀ t, t < 8 → mm_a s 35 t ≤ 999 := fun t ht => (hH.2.2.1 t ht).2.2.2.1; have hfl : ∀ t, t < 8 → mm_a s 36 t ≤ 100 := fun t ht => (hH.2.2.1 t ht).2.2.2.2; have hF0 : sp_fok (mm_steps s 0) := hH.2.2.2.1; have hF1 : sp_fok (mm_steps s 1) := hH.2.2.2.2; have h42 : sp_hn (mm_H s) = mm_n s 42 := rfl; have h41 : sp_hs (mm_H s) = mm_n s 41 := rfl
  have no : ¬ (0 ≤ q.toInt ∧ q.toInt ≤ 2) → op_gifts (mm_H s) (mm_a s 45) q = -1 := fun z => by rw [op_gifts, aw_if0 z]
  have last : ∀ (B : Nat → Nat) (n9 a9 : Nat), 0 ≤ q.toInt → q.toInt ≤ 2 → sp_okA N B → sp_gfs (mm_H s) (sp_sum (sp_lack (mm_H s) (mm_a s 45)) (mm_n s 42)) (mm_a s 45) = (B, n9, a9) → ∀ (m k : Nat) (h : aw_H), mm_n s 42 - k = m → k ≤ mm_n s 42 → mm_R G w h (mm_setA s 46 B) → mm_same w h0 h → AW G (aw_rm 3 0 0) yX5_gifts cX5_gifts 7 (some .int) (aw_N G (mm_PoC G w h0 (some (.int (op_gifts (mm_H s) (mm_a s 45) q))) (s)) 0 0) 0 0 h 165 [(0, .ref w.1), (1, .int q), (2, .int (nI n9)), (3, .int (nI a9)), (4, .int (nI (sp_sum (sp_lack (mm_H s) B) k))), (5, .int (nI k))] [] := by
    intro B n9 a9 q1 q2 hB eG m
    induction m using Nat.strongRecOn with
    | _ m ih =>
      intro k h hm hk hR hs
      have eop : op_gifts (mm_H s) (mm_a s 45) q = if q.toInt = 0 then nI n9 else if q.toInt = 1 then nI a9 else nI (sp_sum (sp_lack (mm_H s) B) (mm_n s 42)) := by
        rw [op_gifts, aw_if1 ⟨q1, q2⟩, h42, eG]
      by_cases hk9 : k < mm_n s 42
      · obtain ⟨g1, g2, g3⟩ := sp_due_lt hH hB (by omega) (t := k) (by omega)
        refine aw_iload dX5_gifts_165 rfl ?_
        refine aw_aload_n dX5_gifts_167 rfl ?_
        refine aw_get dX5_gifts_168 fX5_350 rfl hR.1 (by rfl) ?_
        try simp only [mm_n_N, mm_n_A, mm_n_V, mm_n_Fp, mm_n_W, mm_n_Nm, mm_a_N, mm_a_A, mm_a_V, mm_a_Fp, mm_a_W, mm_a_Nm, mm_v_N, mm_v_A, mm_v_V, mm_fp_N, mm_fp_A, mm_fp_Fp, mm_w_N, mm_w_W, Nat.reduceEqDiff, reduceIte, if_true, if_false, mm_H_45, mm_H_46, mm_H_47, mm_H_50, mm_H_53, mm_H_54, mm_H_55, mm_H_56, mm_H_57, mm_H_58, mm_H_66, mm_H_67, mm_H_68]
        refine aw_icmp_geN (tgt := 191) dX5_gifts_171 (by decide) (by omega) (by omega) (fun c_171 => by exfalso; omega) (fun c_171 => ?_)
        refine aw_iload dX5_gifts_174 rfl ?_
        refine aw_aload_n dX5_gifts_176 rfl ?_
        refine aw_iload dX5_gifts_177 rfl ?_
        refine mm_call dX5_gifts_179 sX5_397 rfl hW hR hs (mm_lackOf (s := mm_setA s 46 B) (by omega) g1 g2) rfl rfl ⟨Nat.le_of_ble_eq_true rfl, Nat.le_of_ble_eq_true rfl⟩ (Nat.le_of_ble_eq_true rfl) (fun h hR hs => ?_)
        try simp only [mm_n_N, mm_n_A, mm_n_V, mm_n_Fp, mm_n_W, mm_n_Nm, mm_a_N, mm_a_A, mm_a_V, mm_a_Fp, mm_a_W, mm_a_Nm, mm_v_N, mm_v_A, mm_v_V, mm_fp_N, mm_fp_A, mm_fp_Fp, mm_w_N, mm_w_W, Nat.reduceEqDiff, reduceIte, if_true, if_false, mm_H_45, mm_H_46, mm_H_47, mm_H_50, mm_H_53, mm_H_54, mm_H_55, mm_H_56, mm_H_57, mm_H_58, mm_H_66, mm_H_67, mm_H_68]
        refine aw_iaddN dX5_gifts_182 ?_
        refine aw_istore dX5_gifts_183 (by decide) rfl rfl ?_
        refine aw_iincN (b := 1) dX5_gifts_185 rfl rfl (by decide) rfl rfl ?_
        refine aw_goto (tgt := 165) dX5_gifts_188 (by decide) ?_
        exact ih (mm_n s 42 - (k + 1)) (by omega) (k + 1) h rfl (by omega) hR hs
      · obtain rfl : k = mm_n s 42 := by omega
        refine aw_iload dX5_gifts_165 rfl ?_
        refine aw_aload_n dX5_gifts_167 rfl ?_
        refine aw_get dX5_gifts_168 fX5_350 rfl hR.1 (by rfl) ?_
        try simp only [mm_n_N, mm_n_A, mm_n_V, mm_n_Fp, mm_n_W, mm_n_Nm, mm_a_N, mm_a_A, mm_a_V, mm_a_Fp, mm_a_W, mm_a_Nm, mm_v_N, mm_v_A, mm_v_V, mm_fp_N, mm_fp_A, mm_fp_Fp, mm_w_N, mm_w_W, Nat.reduceEqDiff, reduceIte, if_true, if_false, mm_H_45, mm_H_46, mm_H_47, mm_H_50, mm_H_53, mm_H_54, mm_H_55, mm_H_56, mm_H_57, mm_H_58, mm_H_66, mm_H_67, mm_H_68]
        refine aw_icmp_geN (tgt := 191) dX5_gifts_171 (by decide) (by omega) (by omega) (fun c_171 => ?_) (fun c_171 => by exfalso; omega)
        refine aw_iload_n dX5_gifts_191 rfl ?_
        refine aw_if_ne (tgt := 199) dX5_gifts_192 (by decide) (fun c_192 => ?_) (fun c_192 => ?_)
        · refine aw_iload_n dX5_gifts_199 rfl ?_
          refine aw_iconst (v := nI 1) dX5_gifts_200 rfl ?_
          refine aw_icmp_ne (tgt := 208) dX5_gifts_201 (by decide) (fun c_201 => ?_) (fun c_201 => ?_)
          · refine aw_iload dX5_gifts_208 rfl ?_
            refine aw_ireturn dX5_gifts_210 rfl ?_
            refine ⟨?_, _, mm_core.A rfl mm_core.rf, hR, hs⟩
            rw [eop]
            first
              | (rw [c_192]; rfl)
              | (rw [if_neg (show ¬ q.toInt = 0 from fun z => c_192 (Int32.toInt_inj.mp z)), c_201]; rfl)
              | (rw [if_neg (show ¬ q.toInt = 0 from fun z => c_192 (Int32.toInt_inj.mp z)), if_neg (show ¬ q.toInt = 1 from fun z => c_201 (Int32.toInt_inj.mp z))])
          · refine aw_iload_n dX5_gifts_204 rfl ?_
            refine aw_goto (tgt := 210) dX5_gifts_205 (by decide) ?_
            refine aw_ireturn dX5_gifts_210 rfl ?_
            refine ⟨?_, _, mm_core.A rfl mm_core.rf, hR, hs⟩
            rw [eop]
            first
              | (rw [c_192]; rfl)
              | (rw [if_neg (show ¬ q.toInt = 0 from fun z => c_192 (Int32.toInt_inj.mp z)), c_201]; rfl)
              | (rw [if_neg (show ¬ q.toInt = 0 from fun z => c_192 (Int32.toInt_inj.mp z)), if_neg (show ¬ q.toInt = 1 from fun z => c_201 (Int32.toInt_inj.mp z))])
        · refine aw_iload_n dX5_gifts_195 rfl ?_
          refine aw_goto (tgt := 210) dX5_gifts_196 (by decide) ?_
          refine aw_ireturn dX5_gifts_210 rfl ?_
          refine ⟨?_, _, mm_core.A rfl mm_core.rf, hR, hs⟩
          rw [eop]
          first
            | (rw [c_192]; rfl)
            | (rw [if_neg (show ¬ q.toInt = 0 from fun z => c_192 (Int32.toInt_inj.mp z)), c_201]; rfl)
            | (rw [if_neg (show ¬ q.toInt = 0 from fun z => c_192 (Int32.toInt_inj.mp z)), if_neg (show ¬ q.toInt = 1 from fun z => c_201 (Int32.toInt_inj.mp z))])
  have loop : ∀ (f : Nat) (B : Nat → Nat) (n a : Nat) (h : aw_H), 0 ≤ q.toInt → q.toInt ≤ 2 → sp_sum (sp_lack (mm_H s) B) (mm_n s 42) ≤ f → sp_okA N B → sp_gfs (mm_H s) (sp_sum (sp_lack (mm_H s) (mm_a s 45)) (mm_n s 42)) (mm_a s 45) = ((sp_gfs (mm_H s) f B).1, n + (sp_gfs (mm_H s) f B).2.1, a + (sp_gfs (mm_H s) f B).2.2) → mm_R G w h (mm_setA s 46 B) → mm_same w h0 h → AW G (aw_rm 3 0 0) yX5_gifts cX5_gifts 7 (some .int) (aw_N G (mm_PoC G w h0 (some (.int (op_gifts (mm_H s) (mm_a s 45) q))) (s)) 0 0) 0 0 h 19 [(0, .ref w.1), (1, .int q), (2, .int (nI n)), (3, .int (nI a))] [] := by
    intro f
    induction f using Nat.strongRecOn with
    | _ f ih =>
      intro B n a h q1 q2 hf hB eG hR hs
      have out : ¬ (sp_gvr (mm_H s) B ≠ 0 ∧ sp_tkr (mm_H s) B ≠ 0) → ∀ h : aw_H, mm_R G w h (mm_setA s 46 B) → mm_same w h0 h → AW G (aw_rm 3 0 0) yX5_gifts cX5_gifts 7 (some .int) (aw_N G (mm_PoC G w h0 (some (.int (op_gifts (mm_H s) (mm_a s 45) q))) (s)) 0 0) 0 0 h 159 [(0, .ref w.1), (1, .int q), (2, .int (nI n)), (3, .int (nI a))] [] := by
        intro hz h hR hs
        rw [sp_gfs_0 (f := f) hz] at eG
        refine aw_iconst (v := nI 0) dX5_gifts_159 rfl ?_
        refine aw_istore dX5_gifts_160 (by decide) rfl rfl ?_
        refine aw_iconst (v := nI 0) dX5_gifts_162 rfl ?_
        refine aw_istore dX5_gifts_163 (by decide) rfl rfl ?_
        exact last B n a q1 q2 hB eG _ 0 h rfl (Nat.zero_le _) hR hs
      have neg1 : (-1 : Int32) < 0 := by decide
      have cgv := mm_giver (s := mm_setA s 46 B) (N := N) hH hB (by omega)
      have ctk := mm_taker (s := mm_setA s 46 B) (N := N) hH hB (by omega)
      simp only [mm_n_N, mm_n_A, mm_n_V, mm_n_Fp, mm_n_W, mm_n_Nm, mm_a_N, mm_a_A, mm_a_V, mm_a_Fp, mm_a_W, mm_a_Nm, mm_v_N, mm_v_A, mm_v_V, mm_fp_N, mm_fp_A, mm_fp_Fp, mm_w_N, mm_w_W, Nat.reduceEqDiff, reduceIte, if_true, if_false, mm_H_45, mm_H_46, mm_H_47, mm_H_50, mm_H_53, mm_H_54, mm_H_55, mm_H_56, mm_H_57, mm_H_58, mm_H_66, mm_H_67, mm_H_68] at cgv ctk
      by_cases hg0 : sp_gvr (mm_H s) B = 0
      · rw [hg0, sp_cv0] at cgv
        refine aw_aload_n dX5_gifts_19 rfl ?_
        refine mm_call dX5_gifts_20 sX5_448 rfl hW hR hs cgv rfl rfl ⟨Nat.le_of_ble_eq_true rfl, Nat.le_of_ble_eq_true rfl⟩ (Nat.le_of_ble_eq_true rfl) (fun h hR hs => ?_)
        try simp only [mm_n_N, mm_n_A, mm_n_V, mm_n_Fp, mm_n_W, mm_n_Nm, mm_a_N, mm_a_A, mm_a_V, mm_a_Fp, mm_a_W, mm_a_Nm, mm_v_N, mm_v_A, mm_v_V, mm_fp_N, mm_fp_A, mm_fp_Fp, mm_w_N, mm_w_W, Nat.reduceEqDiff, reduceIte, if_true, if_false, mm_H_45, mm_H_46, mm_H_47, mm_H_50, mm_H_53, mm_H_54, mm_H_55, mm_H_56, mm_H_57, mm_H_58, mm_H_66, mm_H_67, mm_H_68]
        refine aw_if_lt (tgt := 159) dX5_gifts_23 (by decide) (fun c_23 => ?_) (fun c_23 => by exfalso; exact c_23 neg1)
        exact out (fun z => z.1 hg0) h hR hs
      · obtain ⟨g, hg⟩ : ∃ g, sp_gvr (mm_H s) B = g + 1 := ⟨sp_gvr (mm_H s) B - 1, by omega⟩
        have hg9 := (sp_fst_some hg).1
        have hg8 : g < 8 := by omega
        rw [hg, sp_cv_s] at cgv
        by_cases hb0 : sp_tkr (mm_H s) B = 0
        · rw [hb0, sp_cv0] at ctk
          refine aw_aload_n dX5_gifts_19 rfl ?_
          refine mm_call dX5_gifts_20 sX5_448 rfl hW hR hs cgv rfl rfl ⟨Nat.le_of_ble_eq_true rfl, Nat.le_of_ble_eq_true rfl⟩ (Nat.le_of_ble_eq_true rfl) (fun h hR hs => ?_)
          try simp only [mm_n_N, mm_n_A, mm_n_V, mm_n_Fp, mm_n_W, mm_n_Nm, mm_a_N, mm_a_A, mm_a_V, mm_a_Fp, mm_a_W, mm_a_Nm, mm_v_N, mm_v_A, mm_v_V, mm_fp_N, mm_fp_A, mm_fp_Fp, mm_w_N, mm_w_W, Nat.reduceEqDiff, reduceIte, if_true, if_false, mm_H_45, mm_H_46, mm_H_47, mm_H_50, mm_H_53, mm_H_54, mm_H_55, mm_H_56, mm_H_57, mm_H_58, mm_H_66, mm_H_67, mm_H_68]
          refine aw_if_ltN (tgt := 159) dX5_gifts_23 (by decide) (by omega) ?_
          refine aw_aload_n dX5_gifts_26 rfl ?_
          refine mm_call dX5_gifts_27 sX5_451 rfl hW hR hs ctk rfl rfl ⟨Nat.le_of_ble_eq_true rfl, Nat.le_of_ble_eq_true rfl⟩ (Nat.le_of_ble_eq_true rfl) (fun h hR hs => ?_)
          try simp only [mm_n_N, mm_n_A, mm_n_V, mm_n_Fp, mm_n_W, mm_n_Nm, mm_a_N, mm_a_A, mm_a_V, mm_a_Fp, mm_a_W, mm_a_Nm, mm_v_N, mm_v_A, mm_v_V, mm_fp_N, mm_fp_A, mm_fp_Fp, mm_w_N, mm_w_W, Nat.reduceEqDiff, reduceIte, if_true, if_false, mm_H_45, mm_H_46, mm_H_47, mm_H_50, mm_H_53, mm_H_54, mm_H_55, mm_H_56, mm_H_57, mm_H_58, mm_H_66, mm_H_67, mm_H_68]
          refine aw_if_lt (tgt := 159) dX5_gifts_30 (by decide) (fun c_30 => ?_) (fun c_30 => by exfalso; exact c_30 neg1)
          exact out (fun z => z.2 hb0) h hR hs
        · obtain ⟨b, hb⟩ : ∃ b, sp_tkr (mm_H s) B = b + 1 := ⟨sp_tkr (mm_H s) B - 1, by omega⟩
          have hb9 := (sp_fst_some hb).1
          have hb8 : b < 8 := by omega
          rw [hb, sp_cv_s] at ctk
          obtain ⟨k1, k2⟩ := sp_gA_ok hn hB hg hb
          obtain ⟨f', rfl⟩ : ∃ f', f = f' + 1 := ⟨f - 1, by rw [h42] at k2; omega⟩
          obtain ⟨y, hy⟩ : ∃ y, y = sp_gift (mm_H s) B := ⟨_, rfl⟩
          have ey : y = min (B (8 + g) - sp_due (mm_H s) B g) (min (sp_lack (mm_H s) B b) (9999 - B (8 + b))) := by rw [hy]; unfold sp_gift; rw [hg, hb]; rfl
          have eA : sp_gA (mm_H s) B = aw_u (aw_u B (8 + g) (B (8 + g) - y)) (8 + b) (B (8 + b) + y) := by unfold sp_gA; rw [hg, hb, hy]; rfl
          have gb : g ≠ b := fun e => by
            subst e
            have g2 := of_decide_eq_true (sp_fst_some hg).2
            have b2 := of_decide_eq_true (sp_fst_some hb).2
            unfold sp_lack at b2
            omega
          have g2 := of_decide_eq_true (sp_fst_some hg).2
          rw [sp_gfs_s, if_pos ⟨hg0, hb0⟩] at eG
          have c1 := (hB.1 g hg8).2.1
          have c2 := (hB.1 b hb8).2.1
          obtain ⟨d1, d2, d3⟩ := sp_due_lt hH hB (by omega) hb8
          obtain ⟨d4, d5, d6⟩ := sp_due_lt hH hB (by omega) hg8
          have clk := mm_lackOf (s := mm_setA s 46 B) (t := b) hb8 d1 d2
          have cdu := mm_dueOf (s := mm_setA s 46 B) (t := g) hg8
          simp only [mm_n_N, mm_n_A, mm_n_V, mm_n_Fp, mm_n_W, mm_n_Nm, mm_a_N, mm_a_A, mm_a_V, mm_a_Fp, mm_a_W, mm_a_Nm, mm_v_N, mm_v_A, mm_v_V, mm_fp_N, mm_fp_A, mm_fp_Fp, mm_w_N, mm_w_W, Nat.reduceEqDiff, reduceIte, if_true, if_false, mm_H_45, mm_H_46, mm_H_47, mm_H_50, mm_H_53, mm_H_54, mm_H_55, mm_H_56, mm_H_57, mm_H_58, mm_H_66, mm_H_67, mm_H_68] at clk cdu
          have next : ∀ (y' : Nat) (h : aw_H), y' = y → mm_R G w h (mm_setA s 46 B) → mm_same w h0 h → AW G (aw_rm 3 0 0) yX5_gifts cX5_gifts 7 (some .int) (aw_N G (mm_PoC G w h0 (some (.int (op_gifts (mm_H s) (mm_a s 45) q))) (s)) 0 0) 0 0 h 118 [(0, .ref w.1), (1, .int q), (2, .int (nI n)), (3, .int (nI a)), (4, .int (nI g)), (5, .int (nI b)), (6, .int (nI y'))] [] := by
            intro y' h e hR hs
            subst e
            refine aw_aload_n dX5_gifts_118 rfl ?_
            refine aw_get dX5_gifts_119 fX5_88 rfl hR.1 (by rfl) ?_
            refine aw_bipush (v := nI 8) dX5_gifts_122 rfl ?_
            refine aw_iload dX5_gifts_124 rfl ?_
            refine aw_iaddN dX5_gifts_126 ?_
            refine aw_dup2 dX5_gifts_127 rfl rfl ?_
            refine aw_ialdN dX5_gifts_128 (hR.2.1 46 28 rfl) (by omega) (by decide) ?_
            try simp only [mm_n_N, mm_n_A, mm_n_V, mm_n_Fp, mm_n_W, mm_n_Nm, mm_a_N, mm_a_A, mm_a_V, mm_a_Fp, mm_a_W, mm_a_Nm, mm_v_N, mm_v_A, mm_v_V, mm_fp_N, mm_fp_A, mm_fp_Fp, mm_w_N, mm_w_W, Nat.reduceEqDiff, reduceIte, if_true, if_false, mm_H_45, mm_H_46, mm_H_47, mm_H_50, mm_H_53, mm_H_54, mm_H_55, mm_H_56, mm_H_57, mm_H_58, mm_H_66, mm_H_67, mm_H_68]
            refine aw_iload dX5_gifts_129 rfl ?_
            refine aw_isubN dX5_gifts_131 (by omega) ?_
            refine mm_iast (k := 46) rfl hW hR hs dX5_gifts_132 (by omega) (by decide) (fun h hR hs => ?_)
            have hR := mm_AU hR
            refine aw_aload_n dX5_gifts_133 rfl ?_
            refine aw_get dX5_gifts_134 fX5_88 rfl hR.1 (by rfl) ?_
            refine aw_bipush (v := nI 8) dX5_gifts_137 rfl ?_
            refine aw_iload dX5_gifts_139 rfl ?_
            refine aw_iaddN dX5_gifts_141 ?_
            refine aw_dup2 dX5_gifts_142 rfl rfl ?_
            refine aw_ialdN dX5_gifts_143 (hR.2.1 46 28 rfl) (by omega) (by decide) ?_
            try simp only [mm_n_N, mm_n_A, mm_n_V, mm_n_Fp, mm_n_W, mm_n_Nm, mm_a_N, mm_a_A, mm_a_V, mm_a_Fp, mm_a_W, mm_a_Nm, mm_v_N, mm_v_A, mm_v_V, mm_fp_N, mm_fp_A, mm_fp_Fp, mm_w_N, mm_w_W, Nat.reduceEqDiff, reduceIte, if_true, if_false, mm_H_45, mm_H_46, mm_H_47, mm_H_50, mm_H_53, mm_H_54, mm_H_55, mm_H_56, mm_H_57, mm_H_58, mm_H_66, mm_H_67, mm_H_68]
            refine aw_iload dX5_gifts_144 rfl ?_
            refine aw_iaddN dX5_gifts_146 ?_
            refine mm_iast (k := 46) rfl hW hR hs dX5_gifts_147 (by omega) (by decide) (fun h hR hs => ?_)
            have hR := mm_AU hR
            refine aw_iincN (b := 1) dX5_gifts_148 rfl rfl (by decide) rfl rfl ?_
            refine aw_iload_n dX5_gifts_151 rfl ?_
            refine aw_iload dX5_gifts_152 rfl ?_
            refine aw_iaddN dX5_gifts_154 ?_
            refine aw_istore_n dX5_gifts_155 (by decide) rfl rfl ?_
            refine aw_goto (tgt := 19) dX5_gifts_156 (by decide) ?_
            refine AW_dr (ih f' (by omega) _ (n + 1) (a + y') h q1 q2 (by rw [h42] at k2; omega) k1 ?_ (mm_eq hR ?_) hs)
            · rw [eG, hy]
              dsimp only
              congr 2 <;> omega
            · rw [eA, aw_u_n (by omega)]
          refine aw_aload_n dX5_gifts_19 rfl ?_
          refine mm_call dX5_gifts_20 sX5_448 rfl hW hR hs cgv rfl rfl ⟨Nat.le_of_ble_eq_true rfl, Nat.le_of_ble_eq_true rfl⟩ (Nat.le_of_ble_eq_true rfl) (fun h hR hs => ?_)
          try simp only [mm_n_N, mm_n_A, mm_n_V, mm_n_Fp, mm_n_W, mm_n_Nm, mm_a_N, mm_a_A, mm_a_V, mm_a_Fp, mm_a_W, mm_a_Nm, mm_v_N, mm_v_A, mm_v_V, mm_fp_N, mm_fp_A, mm_fp_Fp, mm_w_N, mm_w_W, Nat.reduceEqDiff, reduceIte, if_true, if_false, mm_H_45, mm_H_46, mm_H_47, mm_H_50, mm_H_53, mm_H_54, mm_H_55, mm_H_56, mm_H_57, mm_H_58, mm_H_66, mm_H_67, mm_H_68]
          refine aw_if_ltN (tgt := 159) dX5_gifts_23 (by decide) (by omega) ?_
          refine aw_aload_n dX5_gifts_26 rfl ?_
          refine mm_call dX5_gifts_27 sX5_451 rfl hW hR hs ctk rfl rfl ⟨Nat.le_of_ble_eq_true rfl, Nat.le_of_ble_eq_true rfl⟩ (Nat.le_of_ble_eq_true rfl) (fun h hR hs => ?_)
          try simp only [mm_n_N, mm_n_A, mm_n_V, mm_n_Fp, mm_n_W, mm_n_Nm, mm_a_N, mm_a_A, mm_a_V, mm_a_Fp, mm_a_W, mm_a_Nm, mm_v_N, mm_v_A, mm_v_V, mm_fp_N, mm_fp_A, mm_fp_Fp, mm_w_N, mm_w_W, Nat.reduceEqDiff, reduceIte, if_true, if_false, mm_H_45, mm_H_46, mm_H_47, mm_H_50, mm_H_53, mm_H_54, mm_H_55, mm_H_56, mm_H_57, mm_H_58, mm_H_66, mm_H_67, mm_H_68]
          refine aw_if_ltN (tgt := 159) dX5_gifts_30 (by decide) (by omega) ?_
          refine aw_aload_n dX5_gifts_33 rfl ?_
          refine mm_call dX5_gifts_34 sX5_448 rfl hW hR hs cgv rfl rfl ⟨Nat.le_of_ble_eq_true rfl, Nat.le_of_ble_eq_true rfl⟩ (Nat.le_of_ble_eq_true rfl) (fun h hR hs => ?_)
          try simp only [mm_n_N, mm_n_A, mm_n_V, mm_n_Fp, mm_n_W, mm_n_Nm, mm_a_N, mm_a_A, mm_a_V, mm_a_Fp, mm_a_W, mm_a_Nm, mm_v_N, mm_v_A, mm_v_V, mm_fp_N, mm_fp_A, mm_fp_Fp, mm_w_N, mm_w_W, Nat.reduceEqDiff, reduceIte, if_true, if_false, mm_H_45, mm_H_46, mm_H_47, mm_H_50, mm_H_53, mm_H_54, mm_H_55, mm_H_56, mm_H_57, mm_H_58, mm_H_66, mm_H_67, mm_H_68]
          refine aw_istore dX5_gifts_37 (by decide) rfl rfl ?_
          refine aw_aload_n dX5_gifts_39 rfl ?_
          refine mm_call dX5_gifts_40 sX5_451 rfl hW hR hs ctk rfl rfl ⟨Nat.le_of_ble_eq_true rfl, Nat.le_of_ble_eq_true rfl⟩ (Nat.le_of_ble_eq_true rfl) (fun h hR hs => ?_)
          try simp only [mm_n_N, mm_n_A, mm_n_V, mm_n_Fp, mm_n_W, mm_n_Nm, mm_a_N, mm_a_A, mm_a_V, mm_a_Fp, mm_a_W, mm_a_Nm, mm_v_N, mm_v_A, mm_v_V, mm_fp_N, mm_fp_A, mm_fp_Fp, mm_w_N, mm_w_W, Nat.reduceEqDiff, reduceIte, if_true, if_false, mm_H_45, mm_H_46, mm_H_47, mm_H_50, mm_H_53, mm_H_54, mm_H_55, mm_H_56, mm_H_57, mm_H_58, mm_H_66, mm_H_67, mm_H_68]
          refine aw_istore dX5_gifts_43 (by decide) rfl rfl ?_
          refine aw_aload_n dX5_gifts_45 rfl ?_
          refine aw_get dX5_gifts_46 fX5_88 rfl hR.1 (by rfl) ?_
          refine aw_bipush (v := nI 8) dX5_gifts_49 rfl ?_
          refine aw_iload dX5_gifts_51 rfl ?_
          refine aw_iaddN dX5_gifts_53 ?_
          refine aw_ialdN dX5_gifts_54 (hR.2.1 46 28 rfl) (by omega) (by decide) ?_
          try simp only [mm_n_N, mm_n_A, mm_n_V, mm_n_Fp, mm_n_W, mm_n_Nm, mm_a_N, mm_a_A, mm_a_V, mm_a_Fp, mm_a_W, mm_a_Nm, mm_v_N, mm_v_A, mm_v_V, mm_fp_N, mm_fp_A, mm_fp_Fp, mm_w_N, mm_w_W, Nat.reduceEqDiff, reduceIte, if_true, if_false, mm_H_45, mm_H_46, mm_H_47, mm_H_50, mm_H_53, mm_H_54, mm_H_55, mm_H_56, mm_H_57, mm_H_58, mm_H_66, mm_H_67, mm_H_68]
          refine aw_aload_n dX5_gifts_55 rfl ?_
          refine aw_iload dX5_gifts_56 rfl ?_
          refine mm_call dX5_gifts_58 sX5_372 rfl hW hR hs cdu rfl rfl ⟨Nat.le_of_ble_eq_true rfl, Nat.le_of_ble_eq_true rfl⟩ (Nat.le_of_ble_eq_true rfl) (fun h hR hs => ?_)
          try simp only [mm_n_N, mm_n_A, mm_n_V, mm_n_Fp, mm_n_W, mm_n_Nm, mm_a_N, mm_a_A, mm_a_V, mm_a_Fp, mm_a_W, mm_a_Nm, mm_v_N, mm_v_A, mm_v_V, mm_fp_N, mm_fp_A, mm_fp_Fp, mm_w_N, mm_w_W, Nat.reduceEqDiff, reduceIte, if_true, if_false, mm_H_45, mm_H_46, mm_H_47, mm_H_50, mm_H_53, mm_H_54, mm_H_55, mm_H_56, mm_H_57, mm_H_58, mm_H_66, mm_H_67, mm_H_68]
          refine aw_isubN dX5_gifts_61 (by omega) ?_
          refine aw_istore dX5_gifts_62 (by decide) rfl rfl ?_
          refine aw_aload_n dX5_gifts_64 rfl ?_
          refine aw_iload dX5_gifts_65 rfl ?_
          refine mm_call dX5_gifts_67 sX5_397 rfl hW hR hs clk rfl rfl ⟨Nat.le_of_ble_eq_true rfl, Nat.le_of_ble_eq_true rfl⟩ (Nat.le_of_ble_eq_true rfl) (fun h hR hs => ?_)
          try simp only [mm_n_N, mm_n_A, mm_n_V, mm_n_Fp, mm_n_W, mm_n_Nm, mm_a_N, mm_a_A, mm_a_V, mm_a_Fp, mm_a_W, mm_a_Nm, mm_v_N, mm_v_A, mm_v_V, mm_fp_N, mm_fp_A, mm_fp_Fp, mm_w_N, mm_w_W, Nat.reduceEqDiff, reduceIte, if_true, if_false, mm_H_45, mm_H_46, mm_H_47, mm_H_50, mm_H_53, mm_H_54, mm_H_55, mm_H_56, mm_H_57, mm_H_58, mm_H_66, mm_H_67, mm_H_68]
          refine aw_iload dX5_gifts_70 rfl ?_
          refine aw_icmp_geN (tgt := 83) dX5_gifts_72 (by decide) (by omega) (by omega) (fun c_72 => ?_) (fun c_72 => ?_)
          · refine aw_sipush (v := nI 9999) dX5_gifts_83 rfl ?_
            refine aw_aload_n dX5_gifts_86 rfl ?_
            refine aw_get dX5_gifts_87 fX5_88 rfl hR.1 (by rfl) ?_
            refine aw_bipush (v := nI 8) dX5_gifts_90 rfl ?_
            refine aw_iload dX5_gifts_92 rfl ?_
            refine aw_iaddN dX5_gifts_94 ?_
            refine aw_ialdN dX5_gifts_95 (hR.2.1 46 28 rfl) (by omega) (by decide) ?_
            try simp only [mm_n_N, mm_n_A, mm_n_V, mm_n_Fp, mm_n_W, mm_n_Nm, mm_a_N, mm_a_A, mm_a_V, mm_a_Fp, mm_a_W, mm_a_Nm, mm_v_N, mm_v_A, mm_v_V, mm_fp_N, mm_fp_A, mm_fp_Fp, mm_w_N, mm_w_W, Nat.reduceEqDiff, reduceIte, if_true, if_false, mm_H_45, mm_H_46, mm_H_47, mm_H_50, mm_H_53, mm_H_54, mm_H_55, mm_H_56, mm_H_57, mm_H_58, mm_H_66, mm_H_67, mm_H_68]
            refine aw_isubN dX5_gifts_96 (by omega) ?_
            refine aw_iload dX5_gifts_97 rfl ?_
            refine aw_icmp_geN (tgt := 118) dX5_gifts_99 (by decide) (by omega) (by omega) (fun c_99 => ?_) (fun c_99 => ?_)
            · exact next _ h (by omega) hR hs
            · refine aw_sipush (v := nI 9999) dX5_gifts_102 rfl ?_
              refine aw_aload_n dX5_gifts_105 rfl ?_
              refine aw_get dX5_gifts_106 fX5_88 rfl hR.1 (by rfl) ?_
              refine aw_bipush (v := nI 8) dX5_gifts_109 rfl ?_
              refine aw_iload dX5_gifts_111 rfl ?_
              refine aw_iaddN dX5_gifts_113 ?_
              refine aw_ialdN dX5_gifts_114 (hR.2.1 46 28 rfl) (by omega) (by decide) ?_
              try simp only [mm_n_N, mm_n_A, mm_n_V, mm_n_Fp, mm_n_W, mm_n_Nm, mm_a_N, mm_a_A, mm_a_V, mm_a_Fp, mm_a_W, mm_a_Nm, mm_v_N, mm_v_A, mm_v_V, mm_fp_N, mm_fp_A, mm_fp_Fp, mm_w_N, mm_w_W, Nat.reduceEqDiff, reduceIte, if_true, if_false, mm_H_45, mm_H_46, mm_H_47, mm_H_50, mm_H_53, mm_H_54, mm_H_55, mm_H_56, mm_H_57, mm_H_58, mm_H_66, mm_H_67, mm_H_68]
              refine aw_isubN dX5_gifts_115 (by omega) ?_
              refine aw_istore dX5_gifts_116 (by decide) rfl rfl ?_
              exact next _ h (by omega) hR hs
          · refine aw_aload_n dX5_gifts_75 rfl ?_
            refine aw_iload dX5_gifts_76 rfl ?_
            refine mm_call dX5_gifts_78 sX5_397 rfl hW hR hs clk rfl rfl ⟨Nat.le_of_ble_eq_true rfl, Nat.le_of_ble_eq_true rfl⟩ (Nat.le_of_ble_eq_true rfl) (fun h hR hs => ?_)
            try simp only [mm_n_N, mm_n_A, mm_n_V, mm_n_Fp, mm_n_W, mm_n_Nm, mm_a_N, mm_a_A, mm_a_V, mm_a_Fp, mm_a_W, mm_a_Nm, mm_v_N, mm_v_A, mm_v_V, mm_fp_N, mm_fp_A, mm_fp_Fp, mm_w_N, mm_w_W, Nat.reduceEqDiff, reduceIte, if_true, if_false, mm_H_45, mm_H_46, mm_H_47, mm_H_50, mm_H_53, mm_H_54, mm_H_55, mm_H_56, mm_H_57, mm_H_58, mm_H_66, mm_H_67, mm_H_68]
            refine aw_istore dX5_gifts_81 (by decide) rfl rfl ?_
            refine aw_sipush (v := nI 9999) dX5_gifts_83 rfl ?_
            refine aw_aload_n dX5_gifts_86 rfl ?_
            refine aw_get dX5_gifts_87 fX5_88 rfl hR.1 (by rfl) ?_
            refine aw_bipush (v := nI 8) dX5_gifts_90 rfl ?_
            refine aw_iload dX5_gifts_92 rfl ?_
            refine aw_iaddN dX5_gifts_94 ?_
            refine aw_ialdN dX5_gifts_95 (hR.2.1 46 28 rfl) (by omega) (by decide) ?_
            try simp only [mm_n_N, mm_n_A, mm_n_V, mm_n_Fp, mm_n_W, mm_n_Nm, mm_a_N, mm_a_A, mm_a_V, mm_a_Fp, mm_a_W, mm_a_Nm, mm_v_N, mm_v_A, mm_v_V, mm_fp_N, mm_fp_A, mm_fp_Fp, mm_w_N, mm_w_W, Nat.reduceEqDiff, reduceIte, if_true, if_false, mm_H_45, mm_H_46, mm_H_47, mm_H_50, mm_H_53, mm_H_54, mm_H_55, mm_H_56, mm_H_57, mm_H_58, mm_H_66, mm_H_67, mm_H_68]
            refine aw_isubN dX5_gifts_96 (by omega) ?_
            refine aw_iload dX5_gifts_97 rfl ?_
            refine aw_icmp_geN (tgt := 118) dX5_gifts_99 (by decide) (by omega) (by omega) (fun c_99 => ?_) (fun c_99 => ?_)
            · exact next _ h (by omega) hR hs
            · refine aw_sipush (v := nI 9999) dX5_gifts_102 rfl ?_
              refine aw_aload_n dX5_gifts_105 rfl ?_
              refine aw_get dX5_gifts_106 fX5_88 rfl hR.1 (by rfl) ?_
              refine aw_bipush (v := nI 8) dX5_gifts_109 rfl ?_
              refine aw_iload dX5_gifts_111 rfl ?_
              refine aw_iaddN dX5_gifts_113 ?_
              refine aw_ialdN dX5_gifts_114 (hR.2.1 46 28 rfl) (by omega) (by decide) ?_
              try simp only [mm_n_N, mm_n_A, mm_n_V, mm_n_Fp, mm_n_W, mm_n_Nm, mm_a_N, mm_a_A, mm_a_V, mm_a_Fp, mm_a_W, mm_a_Nm, mm_v_N, mm_v_A, mm_v_V, mm_fp_N, mm_fp_A, mm_fp_Fp, mm_w_N, mm_w_W, Nat.reduceEqDiff, reduceIte, if_true, if_false, mm_H_45, mm_H_46, mm_H_47, mm_H_50, mm_H_53, mm_H_54, mm_H_55, mm_H_56, mm_H_57, mm_H_58, mm_H_66, mm_H_67, mm_H_68]
              refine aw_isubN dX5_gifts_115 (by omega) ?_
              refine aw_istore dX5_gifts_116 (by decide) rfl rfl ?_
              exact next _ h (by omega) hR hs
  refine aw_iload_n dX5_gifts_0 rfl ?_
  refine aw_iconst (v := nI 0) dX5_gifts_1 rfl ?_
  refine aw_iconst (v := nI 2) dX5_gifts_2 rfl ?_
  refine aw_callP (r := _) dX5_gifts_3 sX5_368 rfl mp_isIn rfl rfl ⟨Nat.le_of_ble_eq_true rfl, Nat.le_of_ble_eq_true rfl⟩ (Nat.le_of_ble_eq_true rfl) ?_
  refine aw_if_neB (tgt := 11) dX5_gifts_6 (by decide) (fun c_6 => ?_) (fun c_6 => ?_)
  · refine aw_aload_n dX5_gifts_11 rfl ?_
    refine mm_call dX5_gifts_12 sX5_394 rfl hW hR hs (mm_load) rfl rfl ⟨Nat.le_of_ble_eq_true rfl, Nat.le_of_ble_eq_true rfl⟩ (Nat.le_of_ble_eq_true rfl) (fun h hR hs => ?_)
    refine aw_iconst (v := nI 0) dX5_gifts_15 rfl ?_
    refine aw_istore_n dX5_gifts_16 (by decide) rfl rfl ?_
    refine aw_iconst (v := nI 0) dX5_gifts_17 rfl ?_
    refine aw_istore_n dX5_gifts_18 (by decide) rfl rfl ?_
    exact loop _ (mm_a s 45) 0 0 h c_6.1 c_6.2 (Nat.le_refl _) hA (by rw [Nat.zero_add, Nat.zero_add]) hR hs
  · refine aw_iconst (v := -1) dX5_gifts_9 rfl ?_
    refine aw_ireturn dX5_gifts_10 rfl ?_
    exact ⟨by rw [no c_6], _, mm_core.rf, hR, hs⟩

