set_option maxRecDepth 100000
/-! the model: ladder, team, odds -/
/-- the greatest of f 1 .. f n -/
def sp_lmx (f : Nat → Nat) : Nat → Nat
  | 0 => 0
  | k + 1 => if sp_lmx f k < f (k + 1) then f (k + 1) else sp_lmx f k
/-- of the breath b: by what is spent, from b down, i entries -/
def sp_lT (H : sp_H) (A : Nat → Nat) (b : Nat) : Nat → (Nat → Nat)
  | 0 => fun _ => 0
  | i + 1 => aw_u (sp_lT H A b i) (b - i) (sp_lmx (fun k => sp_cnt H (aw_u A 24 (A 24 + (b - i))) k 0 0 + sp_lT H A b i (b - i + k)) (min (sp_hs H) i))
noncomputable def op_ladder (H : sp_H) (A : Nat → Nat) (t : Int32) : Int32 := aw_if (sp_isT H t) (nI (sp_lT H A (A t.toNatClampNeg) (A t.toNatClampNeg + 1) 0)) (-1)
theorem sp_lmx_le {f : Nat → Nat} {b : Nat} : ∀ n, (∀ k, k ≤ n → f k ≤ b) → sp_lmx f n ≤ b := by
  intro n
  induction n with
  | zero => intro _; exact Nat.zero_le _
  | succ n ih =>
    intro h
    unfold sp_lmx
    split
    · exact h _ (by omega)
    · exact ih (fun k hk => h k (by omega))
theorem sp_lT_le {H : sp_H} {A : Nat → Nat} {b : Nat} : ∀ i j, sp_lT H A b i j ≤ 999 * i := by
  intro i
  induction i with
  | zero => intro j; exact Nat.zero_le _
  | succ i ih =>
    intro j
    show aw_u _ _ _ j ≤ _
    unfold aw_u
    split
    · refine sp_lmx_le _ (fun k hk => ?_)
      have := ih (b - i + k)
      have := @sp_cnt_le H (fun x => if x = 24 then A 24 + (b - i) else A x) k 0 0
      omega
    · have := ih j
      omega
def mm_bh (s : mm_S) (x b : Nat) (T : Nat → Nat) : Nat → Nat := fun j => if x ≤ j ∧ j ≤ b then T j else mm_a s 58 j
set_option maxHeartbeats 4000000 in
theorem mo_ladder {s : mm_S} {t : Int32} {N : Nat} (hH : sp_okH (mm_H s)) (hA : sp_okA N (mm_a s 45)) (hN : N ≤ 10000000) : mm_Op yX5_ladder cX5_ladder 6 (some .int) 4 [.int (t)] s (some (.int (op_ladder (mm_H s) (mm_a s 45) t))) (s) := by
  refine mm_Op.of (by decide +kernel) (fun _ => Nat.le_of_ble_eq_true rfl) (fun G w h0 hW hR => ?_)
  have hs : mm_same w h0 h0 := mm_same.rf
  show AW G (aw_rm 4 0 0) yX5_ladder cX5_ladder 6 (some .int) (aw_N G (mm_PoC G w h0 (some (.int (op_ladder (mm_H s) (mm_a s 45) t))) (s)) 0 0) 0 0 h0 0 [(0, .ref w.1), (1, .int (t))] []
  have hs1 : 1 ≤ mm_n s 41 := hH.1.1; have hs20 : mm_n s 41 ≤ 20 := hH.1.2; have hn : mm_n s 42 ≤ 8 := hH.2.1; have hlv : ∀ t, t < 8 → mm_a s 32 t ≤ 20 := fun t ht => (hH.2.2.1 t ht).1; have hsg : ∀ t, t < 8 → mm_a s 33 t ≤ 40 := fun t ht => (hH.2.2.1 t ht).2.1; have hhv : ∀ t, t < 8 → mm_a s 34 t ≤ 9 := fun t ht => (hH.2.2.1 t ht).2.2.1; have how : ∀ t, t < 8 → mm_a s 35 t ≤ 999 := fun t ht => (hH.2.2.1 t ht).2.2.2.1; have hfl : ∀ t, t < 8 → mm_a s 36 t ≤ 100 := fun t ht => (hH.2.2.1 t ht).2.2.2.2; have hF0 : sp_fok (mm_steps s 0) := hH.2.2.2.1; have hF1 : sp_fok (mm_steps s 1) := hH.2.2.2.2; have h42 : sp_hn (mm_H s) = mm_n s 42 := rfl; have h41 : sp_hs (mm_H s) = mm_n s 41 := rfl
  have e8 : ∀ b i j, sp_lT (mm_H s) (mm_a s 45) b i j ≤ 999 * i := fun b i j => sp_lT_le i j
  have inner : ∀ (t' b x i : Nat) (B T : Nat → Nat), b ≤ 40 → i ≤ b → x = b - i → T = sp_lT (mm_H s) (mm_a s 45) b i → B = aw_u (mm_a s 45) 24 (mm_a s 45 24 + x) → (∀ (C : Nat → Nat) (h : aw_H), mm_R G w h (mm_setA (mm_setA s 46 B) 58 C) → (∀ j, x ≤ j → j ≤ b → C j = sp_lT (mm_H s) (mm_a s 45) b (i + 1) j) → mm_same w h0 h → AW G (aw_rm 4 0 0) yX5_ladder cX5_ladder 6 (some .int) (aw_N G (mm_PoC G w h0 (some (.int (op_ladder (mm_H s) (mm_a s 45) t))) (s)) 0 0) 0 0 h 115 [(0, .ref w.1), (1, .int (nI t')), (2, .int (nI b)), (3, .int (nI x))] []) → ∀ (m k : Nat) (C : Nat → Nat) (h : aw_H), mm_n s 41 + 1 - k = m → 1 ≤ k → k ≤ min (mm_n s 41) i + 1 → C x = sp_lmx (fun k => sp_cnt (mm_H s) B k 0 0 + T (x + k)) (k - 1) → (∀ j, x < j → j ≤ b → C j = T j) → mm_R G w h (mm_setA (mm_setA s 46 B) 58 C) → mm_same w h0 h → AW G (aw_rm 4 0 0) yX5_ladder cX5_ladder 6 (some .int) (aw_N G (mm_PoC G w h0 (some (.int (op_ladder (mm_H s) (mm_a s 45) t))) (s)) 0 0) 0 0 h 53 [(0, .ref w.1), (1, .int (nI t')), (2, .int (nI b)), (3, .int (nI x)), (4, .int (nI k))] [] := by
    intro t' b x i B T hb hi ex eT eB hgo m
    induction m using Nat.strongRecOn with
    | _ m ih =>
      intro k C h hm hk1 hk2 hC hC2 hR hs
      have q1 : ∀ j, T j ≤ 999 * i := fun j => by rw [eT]; exact e8 b i j
      have q2 : ∀ a, sp_cnt (mm_H s) B a 0 0 ≤ 999 := fun a => sp_cnt_le
      have q3 : ∀ n, sp_lmx (fun k => sp_cnt (mm_H s) B k 0 0 + T (x + k)) n ≤ 50000 := fun n => sp_lmx_le n (fun k hk => by have := q1 (x + k); have := q2 k; omega)
      have q4 := q3 (k - 1)
      have eS : sp_lmx (fun k => sp_cnt (mm_H s) B k 0 0 + T (x + k)) k = if sp_lmx (fun k => sp_cnt (mm_H s) B k 0 0 + T (x + k)) (k - 1) < sp_cnt (mm_H s) B k 0 0 + T (x + k) then sp_cnt (mm_H s) B k 0 0 + T (x + k) else sp_lmx (fun k => sp_cnt (mm_H s) B k 0 0 + T (x + k)) (k - 1) := by
        obtain ⟨k', rfl⟩ : ∃ k', k = k' + 1 := ⟨k - 1, by omega⟩
        rfl
      have ccn := mm_countOf (s := mm_setA (mm_setA s 46 B) 58 C) (a := k) (c := 0) (nt := 0) (by omega) hF0
      simp only [mm_n_N, mm_n_A, mm_n_V, mm_n_Fp, mm_n_W, mm_n_Nm, mm_a_N, mm_a_A, mm_a_V, mm_a_Fp, mm_a_W, mm_a_Nm, mm_v_N, mm_v_A, mm_v_V, mm_fp_N, mm_fp_A, mm_fp_Fp, mm_w_N, mm_w_W, Nat.reduceEqDiff, reduceIte, if_true, if_false, mm_H_45, mm_H_46, mm_H_47, mm_H_50, mm_H_53, mm_H_54, mm_H_55, mm_H_56, mm_H_57, mm_H_58, mm_H_66, mm_H_67, mm_H_68] at ccn
      have ccn : mm_Met yX5_countOf cX5_countOf 4 (some .int) 3 [.int (nI k), .int (sp_cv 0), .int (nI 0)] (mm_setA (mm_setA s 46 B) 58 C) (some (.int (nI (sp_cnt (mm_H s) B k 0 0)))) (mm_setA (mm_setA s 46 B) 58 C) := ccn
      have next : ∀ (z : Int32) (C' : Nat → Nat) (h : aw_H), k ≤ min (mm_n s 41) i → C' x = sp_lmx (fun k => sp_cnt (mm_H s) B k 0 0 + T (x + k)) k → (∀ j, x < j → j ≤ b → C' j = T j) → mm_R G w h (mm_setA (mm_setA s 46 B) 58 C') → mm_same w h0 h → AW G (aw_rm 4 0 0) yX5_ladder cX5_ladder 6 (some .int) (aw_N G (mm_PoC G w h0 (some (.int (op_ladder (mm_H s) (mm_a s 45) t))) (s)) 0 0) 0 0 h 109 [(0, .ref w.1), (1, .int (nI t')), (2, .int (nI b)), (3, .int (nI x)), (4, .int (nI k)), (5, .int z)] [] := by
        intro z C' h hk3 h1 h2 hR hs
        refine aw_iincN (b := 1) dX5_ladder_109 rfl rfl (by decide) rfl rfl ?_
        refine aw_goto (tgt := 53) dX5_ladder_112 (by decide) ?_
        exact AW_dr (ih (mm_n s 41 + 1 - (k + 1)) (by omega) (k + 1) C' h rfl (by omega) (by omega) h1 h2 hR hs)
      have fin : ¬ k ≤ min (mm_n s 41) i → AW G (aw_rm 4 0 0) yX5_ladder cX5_ladder 6 (some .int) (aw_N G (mm_PoC G w h0 (some (.int (op_ladder (mm_H s) (mm_a s 45) t))) (s)) 0 0) 0 0 h 115 [(0, .ref w.1), (1, .int (nI t')), (2, .int (nI b)), (3, .int (nI x)), (4, .int (nI k))] [] := fun hk3 => by
        refine AW_dr (hgo C h hR (fun j j1 j2 => ?_) hs)
        show _ = aw_u _ _ _ j
        by_cases e : j = x
        · rw [e, hC, show k - 1 = min (mm_n s 41) i by omega, ← eT, ← ex, aw_u_s, ← eB, h41]
        · rw [hC2 j (by omega) j2, aw_u_n (by omega), eT]
      by_cases hk3 : k ≤ min (mm_n s 41) i
      · have hk4 : T (x + k) = C (x + k) := (hC2 _ (by omega) (by omega)).symm
        have q5 := q1 (x + k)
        have q6 := q2 k
        refine aw_iload dX5_ladder_53 rfl ?_
        refine aw_aload_n dX5_ladder_55 rfl ?_
        refine aw_get dX5_ladder_56 fX5_82 rfl hR.1 (by rfl) ?_
        try simp only [mm_n_N, mm_n_A, mm_n_V, mm_n_Fp, mm_n_W, mm_n_Nm, mm_a_N, mm_a_A, mm_a_V, mm_a_Fp, mm_a_W, mm_a_Nm, mm_v_N, mm_v_A, mm_v_V, mm_fp_N, mm_fp_A, mm_fp_Fp, mm_w_N, mm_w_W, Nat.reduceEqDiff, reduceIte, if_true, if_false, mm_H_45, mm_H_46, mm_H_47, mm_H_50, mm_H_53, mm_H_54, mm_H_55, mm_H_56, mm_H_57, mm_H_58, mm_H_66, mm_H_67, mm_H_68]
        refine aw_icmp_gtN (tgt := 115) dX5_ladder_59 (by decide) (by omega) (by omega) (fun c_59 => by exfalso; omega) (fun c_59 => ?_)
        refine aw_iload_n dX5_ladder_62 rfl ?_
        refine aw_iload dX5_ladder_63 rfl ?_
        refine aw_iaddN dX5_ladder_65 ?_
        refine aw_iload_n dX5_ladder_66 rfl ?_
        refine aw_icmp_gtN (tgt := 115) dX5_ladder_67 (by decide) (by omega) (by omega) (fun c_67 => by exfalso; omega) (fun c_67 => ?_)
        refine aw_aload_n dX5_ladder_70 rfl ?_
        refine aw_iload dX5_ladder_71 rfl ?_
        refine aw_iconst (v := -1) dX5_ladder_73 rfl ?_
        refine aw_iconst (v := nI 0) dX5_ladder_74 rfl ?_
        refine mm_call dX5_ladder_75 sX5_404 rfl hW hR hs ccn rfl rfl ⟨Nat.le_of_ble_eq_true rfl, Nat.le_of_ble_eq_true rfl⟩ (Nat.le_of_ble_eq_true rfl) (fun h hR hs => ?_)
        try simp only [mm_n_N, mm_n_A, mm_n_V, mm_n_Fp, mm_n_W, mm_n_Nm, mm_a_N, mm_a_A, mm_a_V, mm_a_Fp, mm_a_W, mm_a_Nm, mm_v_N, mm_v_A, mm_v_V, mm_fp_N, mm_fp_A, mm_fp_Fp, mm_w_N, mm_w_W, Nat.reduceEqDiff, reduceIte, if_true, if_false, mm_H_45, mm_H_46, mm_H_47, mm_H_50, mm_H_53, mm_H_54, mm_H_55, mm_H_56, mm_H_57, mm_H_58, mm_H_66, mm_H_67, mm_H_68]
        refine aw_aload_n dX5_ladder_78 rfl ?_
        refine aw_get dX5_ladder_79 fX5_115 rfl hR.1 (by rfl) ?_
        refine aw_iload_n dX5_ladder_82 rfl ?_
        refine aw_iload dX5_ladder_83 rfl ?_
        refine aw_iaddN dX5_ladder_85 ?_
        refine aw_ialdN dX5_ladder_86 (hR.2.1 58 41 rfl) (by omega) (by decide) ?_
        try simp only [mm_n_N, mm_n_A, mm_n_V, mm_n_Fp, mm_n_W, mm_n_Nm, mm_a_N, mm_a_A, mm_a_V, mm_a_Fp, mm_a_W, mm_a_Nm, mm_v_N, mm_v_A, mm_v_V, mm_fp_N, mm_fp_A, mm_fp_Fp, mm_w_N, mm_w_W, Nat.reduceEqDiff, reduceIte, if_true, if_false, mm_H_45, mm_H_46, mm_H_47, mm_H_50, mm_H_53, mm_H_54, mm_H_55, mm_H_56, mm_H_57, mm_H_58, mm_H_66, mm_H_67, mm_H_68]
        refine aw_iaddN dX5_ladder_87 ?_
        refine aw_istore dX5_ladder_88 (by decide) rfl rfl ?_
        refine aw_iload dX5_ladder_90 rfl ?_
        refine aw_aload_n dX5_ladder_92 rfl ?_
        refine aw_get dX5_ladder_93 fX5_115 rfl hR.1 (by rfl) ?_
        refine aw_iload_n dX5_ladder_96 rfl ?_
        refine aw_ialdN dX5_ladder_97 (hR.2.1 58 41 rfl) (by omega) (by decide) ?_
        try simp only [mm_n_N, mm_n_A, mm_n_V, mm_n_Fp, mm_n_W, mm_n_Nm, mm_a_N, mm_a_A, mm_a_V, mm_a_Fp, mm_a_W, mm_a_Nm, mm_v_N, mm_v_A, mm_v_V, mm_fp_N, mm_fp_A, mm_fp_Fp, mm_w_N, mm_w_W, Nat.reduceEqDiff, reduceIte, if_true, if_false, mm_H_45, mm_H_46, mm_H_47, mm_H_50, mm_H_53, mm_H_54, mm_H_55, mm_H_56, mm_H_57, mm_H_58, mm_H_66, mm_H_67, mm_H_68]
        refine aw_icmp_leN (tgt := 109) dX5_ladder_98 (by decide) (by omega) (by omega) (fun c_98 => ?_) (fun c_98 => ?_)
        · first
            | (refine next _ _ h hk3 ?_ (fun j j1 j2 => ?_) hR hs
               · rw [aw_u_s, eS, if_pos (by omega), hk4]
               · rw [aw_u_n (by omega), hC2 j j1 j2])
            | exact next _ C h hk3 (by rw [eS, if_neg (by omega), hC]) hC2 hR hs
        · refine aw_aload_n dX5_ladder_101 rfl ?_
          refine aw_get dX5_ladder_102 fX5_115 rfl hR.1 (by rfl) ?_
          refine aw_iload_n dX5_ladder_105 rfl ?_
          refine aw_iload dX5_ladder_106 rfl ?_
          refine mm_iast (k := 58) rfl hW hR hs dX5_ladder_108 (by omega) (by decide) (fun h hR hs => ?_)
          have hR := mm_AU hR
          first
            | (refine next _ _ h hk3 ?_ (fun j j1 j2 => ?_) hR hs
               · rw [aw_u_s, eS, if_pos (by omega), hk4]
               · rw [aw_u_n (by omega), hC2 j j1 j2])
            | exact next _ C h hk3 (by rw [eS, if_neg (by omega), hC]) hC2 hR hs
      ·
        refine aw_iload dX5_ladder_53 rfl ?_
        refine aw_aload_n dX5_ladder_55 rfl ?_
        refine aw_get dX5_ladder_56 fX5_82 rfl hR.1 (by rfl) ?_
        try simp only [mm_n_N, mm_n_A, mm_n_V, mm_n_Fp, mm_n_W, mm_n_Nm, mm_a_N, mm_a_A, mm_a_V, mm_a_Fp, mm_a_W, mm_a_Nm, mm_v_N, mm_v_A, mm_v_V, mm_fp_N, mm_fp_A, mm_fp_Fp, mm_w_N, mm_w_W, Nat.reduceEqDiff, reduceIte, if_true, if_false, mm_H_45, mm_H_46, mm_H_47, mm_H_50, mm_H_53, mm_H_54, mm_H_55, mm_H_56, mm_H_57, mm_H_58, mm_H_66, mm_H_67, mm_H_68]
        refine aw_icmp_gtN (tgt := 115) dX5_ladder_59 (by decide) (by omega) (by omega) (fun c_59 => ?_) (fun c_59 => ?_)
        · exact fin hk3
        · refine aw_iload_n dX5_ladder_62 rfl ?_
          refine aw_iload dX5_ladder_63 rfl ?_
          refine aw_iaddN dX5_ladder_65 ?_
          refine aw_iload_n dX5_ladder_66 rfl ?_
          refine aw_icmp_gtN (tgt := 115) dX5_ladder_67 (by decide) (by omega) (by omega) (fun c_67 => ?_) (fun c_67 => by exfalso; omega)
          exact fin hk3
  have outer : ∀ (t' b : Nat), op_ladder (mm_H s) (mm_a s 45) t = nI (sp_lT (mm_H s) (mm_a s 45) b (b + 1) 0) → b ≤ 40 → ∀ (m i : Nat) (B C : Nat → Nat) (h : aw_H), b - i = m → i ≤ b → (∀ j, j ≠ 24 → B j = mm_a s 45 j) → (∀ j, b - i < j → j ≤ b → C j = sp_lT (mm_H s) (mm_a s 45) b i j) → mm_R G w h (mm_setA (mm_setA s 46 B) 58 C) → mm_same w h0 h → AW G (aw_rm 4 0 0) yX5_ladder cX5_ladder 6 (some .int) (aw_N G (mm_PoC G w h0 (some (.int (op_ladder (mm_H s) (mm_a s 45) t))) (s)) 0 0) 0 0 h 27 [(0, .ref w.1), (1, .int (nI t')), (2, .int (nI b)), (3, .int (nI (b - i)))] [] := by
    intro t' b fin hb m
    induction m using Nat.strongRecOn with
    | _ m ih =>
      intro i B C h hm hi hB hC hR hs
      have hB2 : aw_u B 24 (mm_a s 45 24 + (b - i)) = aw_u (mm_a s 45) 24 (mm_a s 45 24 + (b - i)) := by
        funext j
        unfold aw_u
        by_cases e : j = 24
        · rw [if_pos e, if_pos e]
        · rw [if_neg e, if_neg e, hB j e]
      have next : ∀ (C : Nat → Nat) (h : aw_H), mm_R G w h (mm_setA (mm_setA s 46 (aw_u (mm_a s 45) 24 (mm_a s 45 24 + (b - i)))) 58 C) → (∀ j, b - i ≤ j → j ≤ b → C j = sp_lT (mm_H s) (mm_a s 45) b (i + 1) j) → mm_same w h0 h → AW G (aw_rm 4 0 0) yX5_ladder cX5_ladder 6 (some .int) (aw_N G (mm_PoC G w h0 (some (.int (op_ladder (mm_H s) (mm_a s 45) t))) (s)) 0 0) 0 0 h 115 [(0, .ref w.1), (1, .int (nI t')), (2, .int (nI b)), (3, .int (nI (b - i)))] [] := by
        intro C h hR hC hs
        by_cases hi9 : i < b
        · have eq : b - i - 1 = b - (i + 1) := by omega
          refine aw_iincM dX5_ladder_115 rfl (by omega) (by decide) rfl rfl ?_
          refine aw_goto (tgt := 23) dX5_ladder_118 (by decide) ?_
          refine aw_iload_n dX5_ladder_23 rfl ?_
          rw [eq]
          refine aw_if_ltN (tgt := 121) dX5_ladder_24 (by decide) (by omega) ?_
          exact ih (b - (i + 1)) (by omega) (i + 1) _ C h rfl (by omega) (fun j hj => aw_u_n hj) (fun j j1 j2 => hC j (by omega) j2) hR hs
        · obtain rfl : i = b := by omega
          refine aw_iinc (v := -1) dX5_ladder_115 rfl rfl (by decide) rfl rfl ?_
          refine aw_goto (tgt := 23) dX5_ladder_118 (by decide) ?_
          refine aw_iload_n dX5_ladder_23 rfl ?_
          refine aw_if_lt (tgt := 121) dX5_ladder_24 (by decide) (fun c_24 => ?_) (fun c_24 => by exfalso; exfalso; exact c_24 (by rw [Nat.sub_self]; decide))
          refine aw_aload_n dX5_ladder_121 rfl ?_
          refine aw_get dX5_ladder_122 fX5_115 rfl hR.1 (by rfl) ?_
          refine aw_iconst (v := nI 0) dX5_ladder_125 rfl ?_
          refine aw_ialdN dX5_ladder_126 (hR.2.1 58 41 rfl) (by omega) (by decide) ?_
          refine aw_ireturn dX5_ladder_127 rfl ?_
          refine ⟨?_, _, mm_core.A rfl (mm_core.A rfl mm_core.rf), hR, hs⟩
          rw [fin, ← hC 0 (by omega) (by omega)]
          rfl
      refine aw_aload_n dX5_ladder_27 rfl ?_
      refine aw_get dX5_ladder_28 fX5_88 rfl hR.1 (by rfl) ?_
      refine aw_bipush (v := nI 24) dX5_ladder_31 rfl ?_
      refine aw_aload_n dX5_ladder_33 rfl ?_
      refine aw_get dX5_ladder_34 fX5_85 rfl hR.1 (by rfl) ?_
      refine aw_bipush (v := nI 24) dX5_ladder_37 rfl ?_
      refine aw_ialdN dX5_ladder_39 (hR.2.1 45 28 rfl) (by omega) (by decide) ?_
      try simp only [mm_n_N, mm_n_A, mm_n_V, mm_n_Fp, mm_n_W, mm_n_Nm, mm_a_N, mm_a_A, mm_a_V, mm_a_Fp, mm_a_W, mm_a_Nm, mm_v_N, mm_v_A, mm_v_V, mm_fp_N, mm_fp_A, mm_fp_Fp, mm_w_N, mm_w_W, Nat.reduceEqDiff, reduceIte, if_true, if_false, mm_H_45, mm_H_46, mm_H_47, mm_H_50, mm_H_53, mm_H_54, mm_H_55, mm_H_56, mm_H_57, mm_H_58, mm_H_66, mm_H_67, mm_H_68]
      refine aw_iload_n dX5_ladder_40 rfl ?_
      refine aw_iaddN dX5_ladder_41 ?_
      refine mm_iast (k := 46) rfl hW hR hs dX5_ladder_42 (by omega) (by decide) (fun h hR hs => ?_)
      have hR := mm_eq hR (show _ = mm_setA (mm_setA s 46 (aw_u (mm_a s 45) 24 (mm_a s 45 24 + (b - i)))) 58 C by rw [← hB2, mm_A_cm (k := 58) (j := 46) (by decide), mm_A_A]; rfl)
      refine aw_aload_n dX5_ladder_43 rfl ?_
      refine aw_get dX5_ladder_44 fX5_115 rfl hR.1 (by rfl) ?_
      refine aw_iload_n dX5_ladder_47 rfl ?_
      refine aw_iconst (v := nI 0) dX5_ladder_48 rfl ?_
      refine mm_iast (k := 58) rfl hW hR hs dX5_ladder_49 (by omega) (by decide) (fun h hR hs => ?_)
      have hR := mm_AU hR
      refine aw_iconst (v := nI 1) dX5_ladder_50 rfl ?_
      refine aw_istore dX5_ladder_51 (by decide) rfl rfl ?_
      refine inner t' b (b - i) i _ _ hb hi rfl rfl rfl next _ 1 _ h rfl (Nat.le_refl _) (by omega) ?_ (fun j j1 j2 => ?_) hR hs
      · rw [aw_u_s]; rfl
      · rw [aw_u_n (by omega), hC j j1 j2]
  refine aw_aload_n dX5_ladder_0 rfl ?_
  refine aw_iload_n dX5_ladder_1 rfl ?_
  refine mm_call dX5_ladder_2 sX5_382 rfl hW hR hs (mm_isTenant hn) rfl rfl ⟨Nat.le_of_ble_eq_true rfl, Nat.le_of_ble_eq_true rfl⟩ (Nat.le_of_ble_eq_true rfl) (fun h hR hs => ?_)
  refine aw_if_neB (tgt := 10) dX5_ladder_5 (by decide) (fun c_5 => ?_) (fun c_5 => ?_)
  · obtain ⟨t', ht, et, t1, t2⟩ := aw_ofN c_5.1
    have ht9 : t' < mm_n s 42 := by have := c_5.2; omega
    have ht8 : t' < 8 := by omega
    have hb9 := (hA.1 t' ht8).1
    refine AW_ls (show _ = [(0, .ref w.1), (1, .int (nI t'))] by rw [← et]) ?_
    refine aw_aload_n dX5_ladder_10 rfl ?_
    refine mm_call dX5_ladder_11 sX5_394 rfl hW hR hs (mm_load) rfl rfl ⟨Nat.le_of_ble_eq_true rfl, Nat.le_of_ble_eq_true rfl⟩ (Nat.le_of_ble_eq_true rfl) (fun h hR hs => ?_)
    refine aw_aload_n dX5_ladder_14 rfl ?_
    refine aw_get dX5_ladder_15 fX5_88 rfl hR.1 (by rfl) ?_
    refine aw_iload_n dX5_ladder_18 rfl ?_
    refine aw_ialdN dX5_ladder_19 (hR.2.1 46 28 rfl) (by omega) (by decide) ?_
    try simp only [mm_n_N, mm_n_A, mm_n_V, mm_n_Fp, mm_n_W, mm_n_Nm, mm_a_N, mm_a_A, mm_a_V, mm_a_Fp, mm_a_W, mm_a_Nm, mm_v_N, mm_v_A, mm_v_V, mm_fp_N, mm_fp_A, mm_fp_Fp, mm_w_N, mm_w_W, Nat.reduceEqDiff, reduceIte, if_true, if_false, mm_H_45, mm_H_46, mm_H_47, mm_H_50, mm_H_53, mm_H_54, mm_H_55, mm_H_56, mm_H_57, mm_H_58, mm_H_66, mm_H_67, mm_H_68]
    refine aw_istore_n dX5_ladder_20 (by decide) rfl rfl ?_
    refine aw_iload_n dX5_ladder_21 rfl ?_
    refine aw_istore_n dX5_ladder_22 (by decide) rfl rfl ?_
    refine aw_iload_n dX5_ladder_23 rfl ?_
    refine aw_if_ltN (tgt := 121) dX5_ladder_24 (by decide) (by omega) ?_
    exact outer t' (mm_a s 45 t') (by rw [op_ladder, aw_if1 (show sp_isT (mm_H s) t from c_5), t2]) hb9 _ 0 _ (mm_a s 58) h rfl (Nat.zero_le _) (fun j hj => rfl) (fun j j1 j2 => by omega) (mm_eq hR (mm_A_id (fun _ => rfl)).symm) hs
  · refine aw_iconst (v := -1) dX5_ladder_8 rfl ?_
    refine aw_ireturn dX5_ladder_9 rfl ?_
    exact ⟨by rw [op_ladder, aw_if0 (show ¬ sp_isT (mm_H s) t from c_5)], _, mm_core.rf, hR, hs⟩

