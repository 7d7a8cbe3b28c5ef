set_option maxRecDepth 100000
/-! the model: the fewest climbs -/
def sp_dig (S n code j : Nat) : Nat := 1 + code / S ^ (n - 1 - j) % S
/-- n climbs of storeys by row -/
def sp_rws (H : sp_H) (A : Nat → Nat) (t : Nat) (R : Nat → Nat) : Nat → (Nat → Nat)
  | 0 => A
  | k + 1 => sp_climb H (sp_rws H A t R k) t (R k) 0 (sp_cnt H (sp_rws H A t R k) (R k) 0 0)
def sp_pok (H : sp_H) (A : Nat → Nat) (t n code : Nat) : Bool := decide (sp_sum (sp_dig (sp_hs H) n code) n ≤ A t) && decide (sp_lack H (sp_rws H A t (sp_dig (sp_hs H) n code) n) t = 0)
/-- rows of n climbs tried: the first best, one more; how many storeys it has -/
def sp_fw (H : sp_H) (A : Nat → Nat) (t n : Nat) : Nat → Nat × Nat
  | 0 => (0, 1000000)
  | c + 1 => if sp_pok H A t n c = true ∧ sp_sum (sp_dig (sp_hs H) n c) n < (sp_fw H A t n c).2 then (c + 1, sp_sum (sp_dig (sp_hs H) n c) n) else sp_fw H A t n c
theorem sp_fw_le {H : sp_H} {A : Nat → Nat} {t n : Nat} : ∀ c, (sp_fw H A t n c).1 ≤ c ∧ (sp_fw H A t n c).2 ≤ 1000000 ∧ ((sp_fw H A t n c).1 = 0 ↔ (sp_fw H A t n c).2 = 1000000) := by
  intro c
  induction c with
  | zero => exact ⟨Nat.le_refl _, Nat.le_refl _, ⟨fun _ => rfl, fun _ => rfl⟩⟩
  | succ c ih =>
    unfold sp_fw
    split
    · rename_i h
      refine ⟨Nat.le_refl _, ?_, ?_⟩
      · dsimp only; omega
      · dsimp only; omega
    · exact ⟨by omega, ih.2⟩
def sp_fwn (H : sp_H) (A : Nat → Nat) (t : Nat) : Nat := sp_fst (fun n => decide ((sp_fw H A t n (sp_hs H ^ n)).1 ≠ 0)) 5
noncomputable def op_fewest (H : sp_H) (A : Nat → Nat) (t : Int32) : Int32 := aw_if (sp_isT H t) (sp_cv (sp_fwn H A t.toNatClampNeg)) (-1)
def mm_fwS (s : mm_S) (t : Nat) : mm_S := if sp_fwn (mm_H s) (mm_a s 45) t = 0 then mm_setN s 52 0 else mm_setN (mm_setV s 51 (fun j => if j < sp_fwn (mm_H s) (mm_a s 45) t - 1 then nI (sp_dig (mm_n s 41) (sp_fwn (mm_H s) (mm_a s 45) t - 1) ((sp_fw (mm_H s) (mm_a s 45) t (sp_fwn (mm_H s) (mm_a s 45) t - 1) (mm_n s 41 ^ (sp_fwn (mm_H s) (mm_a s 45) t - 1))).1 - 1) j) else mm_v s 51 j)) 52 (sp_fwn (mm_H s) (mm_a s 45) t - 1)
noncomputable def op_fewestS (s : mm_S) (t : Int32) : mm_S := aw_if (sp_isT (mm_H s) t) (mm_fwS s t.toNatClampNeg) (mm_setN s 52 0)
theorem sp_dig_b {S n c j : Nat} (hS : 1 ≤ S) : 1 ≤ sp_dig S n c j ∧ sp_dig S n c j ≤ S := by
  unfold sp_dig
  have := Nat.mod_lt (c / S ^ (n - 1 - j)) (y := S) (by omega)
  omega
/-- climbs by a row keep the state in bounds -/
theorem sp_rws_ok {H : sp_H} {A : Nat → Nat} {t N : Nat} {R : Nat → Nat} (ht : t < 8) (hR : ∀ j, R j ≤ 20) (hA : sp_okA N A) : ∀ k, sp_okA (N + 20 * k) (sp_rws H A t R k) := by
  intro k
  induction k with
  | zero => exact hA
  | succ k ih => exact (sp_climb_ok ht (hR k) ih).mono (by omega)
theorem sp_rws_b {H : sp_H} {A : Nat → Nat} {t : Nat} {R : Nat → Nat} : ∀ k, sp_rws H A t R k t = A t - sp_sum R k := by
  intro k
  induction k with
  | zero => rfl
  | succ k ih =>
    show (if t = t then sp_rws H A t R k t - R k * sp_brc H 0 else _) = A t - (sp_sum R k + R k)
    rw [if_pos rfl, ih, show sp_brc H 0 = 1 from rfl]
    omega
def mm_pbR (s : mm_S) (n code : Nat) : Nat → Nat := fun j => if j < n then sp_dig (mm_n s 41) n code j else mm_a s 50 j
def mm_pbS (s : mm_S) (t n code : Nat) : mm_S := if sp_sum (sp_dig (mm_n s 41) n code) n ≤ mm_a s 45 t then mm_setA (mm_setA s 50 (mm_pbR s n code)) 46 (sp_rws (mm_H s) (mm_a s 45) t (sp_dig (mm_n s 41) n code) n) else mm_setA s 50 (mm_pbR s n code)
def op_pb (H : sp_H) (A : Nat → Nat) (t n code : Nat) : Int32 := if sp_pok H A t n code = true then nI (sp_sum (sp_dig (sp_hs H) n code) n) else -1
set_option maxHeartbeats 4000000 in
theorem mm_paidBy {s : mm_S} {t n code N : Nat} (hH : sp_okH (mm_H s)) (hA : sp_okA N (mm_a s 45)) (hN : N ≤ 10000000) (ht : t < 8) (hn4 : n ≤ 4) (hc : code < 2147483648) : mm_Met yX5_paidBy cX5_paidBy 7 (some .int) 4 [.int (nI (t)), .int (nI (n)), .int (nI (code))] s (some (.int (op_pb (mm_H s) (mm_a s 45) t n code))) (mm_pbS s t n code) := by
  refine mm_Met.of (by decide +kernel) (fun _ => Nat.le_of_ble_eq_true rfl) (fun G w h0 hW hR => ?_)
  have hs : mm_same w h0 h0 := mm_same.rf
  show AW G (aw_rm 4 0 0) yX5_paidBy cX5_paidBy 7 (some .int) (aw_N G (mm_Po G w h0 (some (.int (op_pb (mm_H s) (mm_a s 45) t n code))) (mm_pbS s t n code)) 0 0) 0 0 h0 0 [(0, .ref w.1), (1, .int (nI (t))), (2, .int (nI (n))), (3, .int (nI (code)))] []
  have hs1 : 1 ≤ mm_n s 41 := hH.1.1; have hs20 : mm_n s 41 ≤ 20 := hH.1.2; have hn : mm_n s 42 ≤ 8 := hH.2.1; have hlv : ∀ t, t < 8 → mm_a s 32 t ≤ 20 := fun t ht => (hH.2.2.1 t ht).1; have hsg : ∀ t, t < 8 → mm_a s 33 t ≤ 40 := fun t ht => (hH.2.2.1 t ht).2.1; have hhv : ∀ t, t < 8 → mm_a s 34 t ≤ 9 := fun t ht => (hH.2.2.1 t ht).2.2.1; have how : ∀ t, t < 8 → mm_a s 35 t ≤ 999 := fun t ht => (hH.2.2.1 t ht).2.2.2.1; have hfl : ∀ t, t < 8 → mm_a s 36 t ≤ 100 := fun t ht => (hH.2.2.1 t ht).2.2.2.2; have hF0 : sp_fok (mm_steps s 0) := hH.2.2.2.1; have hF1 : sp_fok (mm_steps s 1) := hH.2.2.2.2; have h42 : sp_hn (mm_H s) = mm_n s 42 := rfl; have h41 : sp_hs (mm_H s) = mm_n s 41 := rfl
  have dg : ∀ j, 1 ≤ sp_dig (mm_n s 41) n code j ∧ sp_dig (mm_n s 41) n code j ≤ mm_n s 41 := fun j => sp_dig_b hs1
  obtain ⟨f, hf⟩ : ∃ f, f = sp_dig (mm_n s 41) n code := ⟨_, rfl⟩
  have ePok : sp_pok (mm_H s) (mm_a s 45) t n code = (decide (sp_sum f n ≤ mm_a s 45 t) && decide (sp_lack (mm_H s) (sp_rws (mm_H s) (mm_a s 45) t f n) t = 0)) := by rw [hf]; rfl
  rw [← hf] at dg
  have sb : ∀ k, sp_sum f k ≤ 20 * k := fun k => sp_sum_b (fun i => by have := dg i; omega) k
  have r79 : ∀ (z : Int32) (m k : Nat) (h : aw_H), n - k = m → k ≤ n → sp_sum f n ≤ mm_a s 45 t → mm_R G w h (mm_setA (mm_setA s 50 (mm_pbR s n code)) 46 (sp_rws (mm_H s) (mm_a s 45) t f k)) → mm_same w h0 h → AW G (aw_rm 4 0 0) yX5_paidBy cX5_paidBy 7 (some .int) (aw_N G (mm_Po G w h0 (some (.int (op_pb (mm_H s) (mm_a s 45) t n code))) (mm_pbS s t n code)) 0 0) 0 0 h 79 [(0, .ref w.1), (1, .int (nI t)), (2, .int (nI n)), (3, .int (nI code)), (4, .int z), (5, .int (nI (sp_sum f n))), (6, .int (nI k))] [] := by
    intro z m
    induction m using Nat.strongRecOn with
    | _ m ih =>
      intro k h hm hk hall hR hs
      have okA := sp_rws_ok (H := mm_H s) (A := mm_a s 45) (R := f) ht (fun j => by have := dg j; omega) hA k
      have mono : ∀ i, i ≤ n → sp_sum f i ≤ sp_sum f n := by
        have e : ∀ d i, sp_sum f i ≤ sp_sum f (i + d) := by
          intro d
          induction d with
          | zero => intro i; exact Nat.le_refl _
          | succ d ih => intro i; exact Nat.le_trans (ih i) (Nat.le_add_right _ _)
        intro i hi
        have := e (n - i) i
        rw [show i + (n - i) = n by omega] at this
        exact this
      by_cases hk9 : k < n
      · have eR : mm_pbR s n code k = f k := by unfold mm_pbR; rw [if_pos hk9, hf]
        have dk := dg k
        have b1 := mono (k + 1) (by omega)
        have b2 : sp_sum f (k + 1) = sp_sum f k + f k := rfl
        have b3 := @sp_rws_b (mm_H s) (mm_a s 45) t f k
        have b4 := (okA.1 t ht).2.1
        have ccn := mm_countOf (s := mm_setA (mm_setA s 50 (mm_pbR s n code)) 46 (sp_rws (mm_H s) (mm_a s 45) t f k)) (a := f k) (c := 0) (nt := 0) (by omega) hF0
        have ccn : mm_Met _ _ _ _ _ _ (mm_setA (mm_setA s 50 (mm_pbR s n code)) 46 (sp_rws (mm_H s) (mm_a s 45) t f k)) (some (.int (nI (sp_cnt (mm_H s) (sp_rws (mm_H s) (mm_a s 45) t f k) (f k) 0 0)))) (mm_setA (mm_setA s 50 (mm_pbR s n code)) 46 (sp_rws (mm_H s) (mm_a s 45) t f k)) := ccn
        have cl := @sp_cnt_le (mm_H s) (sp_rws (mm_H s) (mm_a s 45) t f k) (f k) 0 0
        have e1 : sp_brc (mm_H s) 0 = 1 := rfl
        refine aw_iload dX5_paidBy_79 rfl ?_
        refine aw_iload_n dX5_paidBy_81 rfl ?_
        refine aw_icmp_geN (tgt := 117) dX5_paidBy_82 (by decide) (by omega) (by omega) (fun c_82 => by exfalso; omega) (fun c_82 => ?_)
        refine aw_aload_n dX5_paidBy_85 rfl ?_
        refine aw_iload_n dX5_paidBy_86 rfl ?_
        refine aw_aload_n dX5_paidBy_87 rfl ?_
        refine aw_get dX5_paidBy_88 fX5_94 rfl hR.1 (by rfl) ?_
        refine aw_iload dX5_paidBy_91 rfl ?_
        refine aw_ialdN dX5_paidBy_93 (hR.2.1 50 8 rfl) (by omega) (by decide) ?_
        try simp only [mm_n_N, mm_n_A, mm_n_V, mm_n_Fp, mm_n_W, mm_n_Nm, mm_a_N, mm_a_A, mm_a_V, mm_a_Fp, mm_a_W, mm_a_Nm, mm_v_N, mm_v_A, mm_v_V, mm_fp_N, mm_fp_A, mm_fp_Fp, mm_w_N, mm_w_W, Nat.reduceEqDiff, reduceIte, if_true, if_false, mm_H_45, mm_H_46, mm_H_47, mm_H_50, mm_H_53, mm_H_54, mm_H_55, mm_H_56, mm_H_57, mm_H_58, mm_H_66, mm_H_67, mm_H_68]
        rw [eR]
        refine aw_iconst (v := -1) dX5_paidBy_94 rfl ?_
        refine aw_aload_n dX5_paidBy_95 rfl ?_
        refine aw_aload_n dX5_paidBy_96 rfl ?_
        refine aw_get dX5_paidBy_97 fX5_94 rfl hR.1 (by rfl) ?_
        refine aw_iload dX5_paidBy_100 rfl ?_
        refine aw_ialdN dX5_paidBy_102 (hR.2.1 50 8 rfl) (by omega) (by decide) ?_
        try simp only [mm_n_N, mm_n_A, mm_n_V, mm_n_Fp, mm_n_W, mm_n_Nm, mm_a_N, mm_a_A, mm_a_V, mm_a_Fp, mm_a_W, mm_a_Nm, mm_v_N, mm_v_A, mm_v_V, mm_fp_N, mm_fp_A, mm_fp_Fp, mm_w_N, mm_w_W, Nat.reduceEqDiff, reduceIte, if_true, if_false, mm_H_45, mm_H_46, mm_H_47, mm_H_50, mm_H_53, mm_H_54, mm_H_55, mm_H_56, mm_H_57, mm_H_58, mm_H_66, mm_H_67, mm_H_68]
        rw [eR]
        refine aw_iconst (v := -1) dX5_paidBy_103 rfl ?_
        refine aw_iconst (v := nI 0) dX5_paidBy_104 rfl ?_
        refine mm_call dX5_paidBy_105 sX5_404 rfl hW hR hs ccn rfl rfl ⟨Nat.le_of_ble_eq_true rfl, Nat.le_of_ble_eq_true rfl⟩ (Nat.le_of_ble_eq_true rfl) (fun h hR hs => ?_)
        try simp only [mm_n_N, mm_n_A, mm_n_V, mm_n_Fp, mm_n_W, mm_n_Nm, mm_a_N, mm_a_A, mm_a_V, mm_a_Fp, mm_a_W, mm_a_Nm, mm_v_N, mm_v_A, mm_v_V, mm_fp_N, mm_fp_A, mm_fp_Fp, mm_w_N, mm_w_W, Nat.reduceEqDiff, reduceIte, if_true, if_false, mm_H_45, mm_H_46, mm_H_47, mm_H_50, mm_H_53, mm_H_54, mm_H_55, mm_H_56, mm_H_57, mm_H_58, mm_H_66, mm_H_67, mm_H_68]
        refine mm_call dX5_paidBy_108 sX5_410 rfl hW hR hs (mm_goClimb (s := mm_setA (mm_setA s 50 (mm_pbR s n code)) 46 (sp_rws (mm_H s) (mm_a s 45) t f k)) (c := 0) ht (by omega) hhv (by show f k * sp_brc (mm_H s) 0 ≤ sp_rws (mm_H s) (mm_a s 45) t f k t; rw [e1, b3]; omega) (by show sp_rws (mm_H s) (mm_a s 45) t f k (8 + t) + sp_cnt (mm_H s) (sp_rws (mm_H s) (mm_a s 45) t f k) (f k) 0 0 < _; omega)) rfl rfl ⟨Nat.le_of_ble_eq_true rfl, Nat.le_of_ble_eq_true rfl⟩ (Nat.le_of_ble_eq_true rfl) (fun h hR hs => ?_)
        refine aw_iincN (b := 1) dX5_paidBy_111 rfl rfl (by decide) rfl rfl ?_
        refine aw_goto (tgt := 79) dX5_paidBy_114 (by decide) ?_
        exact ih (n - (k + 1)) (by omega) (k + 1) h rfl (by omega) hall (mm_eq hR (mm_A_A _ _ _ _)) hs
      · obtain rfl : k = n := by omega
        obtain ⟨g1, g2, g3⟩ := sp_due_lt hH okA (by omega) ht
        have clk := mm_lackOf (s := mm_setA (mm_setA s 50 (mm_pbR s k code)) 46 (sp_rws (mm_H s) (mm_a s 45) t f k)) ht g1 g2
        have clk : mm_Met _ _ _ _ _ _ (mm_setA (mm_setA s 50 (mm_pbR s k code)) 46 (sp_rws (mm_H s) (mm_a s 45) t f k)) (some (.int (nI (sp_lack (mm_H s) (sp_rws (mm_H s) (mm_a s 45) t f k) t)))) (mm_setA (mm_setA s 50 (mm_pbR s k code)) 46 (sp_rws (mm_H s) (mm_a s 45) t f k)) := clk
        have eS : mm_pbS s t k code = mm_setA (mm_setA s 50 (mm_pbR s k code)) 46 (sp_rws (mm_H s) (mm_a s 45) t f k) := by unfold mm_pbS; rw [← hf, if_pos hall]
        refine aw_iload dX5_paidBy_79 rfl ?_
        refine aw_iload_n dX5_paidBy_81 rfl ?_
        refine aw_icmp_geN (tgt := 117) dX5_paidBy_82 (by decide) (by omega) (by omega) (fun c_82 => ?_) (fun c_82 => by exfalso; omega)
        refine aw_aload_n dX5_paidBy_117 rfl ?_
        refine aw_iload_n dX5_paidBy_118 rfl ?_
        refine mm_call dX5_paidBy_119 sX5_397 rfl hW hR hs (mm_lackOf (by first | omega | assumption | exact aw_t_lt) (by first | omega | assumption | exact aw_t_lt) (by first | omega | assumption | exact aw_t_lt)) rfl rfl ⟨Nat.le_of_ble_eq_true rfl, Nat.le_of_ble_eq_true rfl⟩ (Nat.le_of_ble_eq_true rfl) (fun h hR hs => ?_)
        try simp only [mm_n_N, mm_n_A, mm_n_V, mm_n_Fp, mm_n_W, mm_n_Nm, mm_a_N, mm_a_A, mm_a_V, mm_a_Fp, mm_a_W, mm_a_Nm, mm_v_N, mm_v_A, mm_v_V, mm_fp_N, mm_fp_A, mm_fp_Fp, mm_w_N, mm_w_W, Nat.reduceEqDiff, reduceIte, if_true, if_false, mm_H_45, mm_H_46, mm_H_47, mm_H_50, mm_H_53, mm_H_54, mm_H_55, mm_H_56, mm_H_57, mm_H_58, mm_H_66, mm_H_67, mm_H_68]
        refine aw_if_neN (tgt := 130) dX5_paidBy_122 (by decide) (by omega) (fun c_122 => ?_) (fun c_122 => ?_)
        · refine aw_iconst (v := -1) dX5_paidBy_130 rfl ?_
          refine aw_ireturn dX5_paidBy_131 rfl ?_
          refine ⟨?_, mm_eq hR eS.symm, hs⟩
          unfold op_pb
          rw [ePok, decide_eq_true hall, Bool.true_and]
          first
            | (rw [decide_eq_true c_122, if_pos rfl]; rw [hf]; rfl)
            | (rw [decide_eq_false c_122]; rfl)
        · refine aw_iload dX5_paidBy_125 rfl ?_
          refine aw_goto (tgt := 131) dX5_paidBy_127 (by decide) ?_
          refine aw_ireturn dX5_paidBy_131 rfl ?_
          refine ⟨?_, mm_eq hR eS.symm, hs⟩
          unfold op_pb
          rw [ePok, decide_eq_true hall, Bool.true_and]
          first
            | (rw [decide_eq_true c_122, if_pos rfl]; rw [hf]; rfl)
            | (rw [decide_eq_false c_122]; rfl)
  have r11 : ∀ (k a : Nat) (h : aw_H), k ≤ n → a + sp_sum f k = sp_sum f n → mm_R G w h (mm_setA s 50 (fun j => if k ≤ j ∧ j < n then f j else mm_a s 50 j)) → mm_same w h0 h → AW G (aw_rm 4 0 0) yX5_paidBy cX5_paidBy 7 (some .int) (aw_N G (mm_Po G w h0 (some (.int (op_pb (mm_H s) (mm_a s 45) t n code))) (mm_pbS s t n code)) 0 0) 0 0 h 11 [(0, .ref w.1), (1, .int (nI t)), (2, .int (nI n)), (3, .int (nI code)), (4, .int (nI (code / mm_n s 41 ^ (n - k)))), (5, .int (nI a)), (6, .int (sp_cv k))] [] := by
    intro k
    induction k with
    | zero =>
      intro a h hk ha hR hs
      have ea : a = sp_sum f n := by rw [← ha]; exact (Nat.add_zero a).symm
      have hR := mm_eq hR (show _ = mm_setA s 50 (mm_pbR s n code) by
        unfold mm_pbR
        rw [← hf]
        congr 1
        funext j
        by_cases e : j < n
        · rw [if_pos ⟨Nat.zero_le _, e⟩, if_pos e]
        · rw [if_neg (by omega), if_neg e])
      have s1 := sb n
      have b1 := (hA.1 t ht).1
      rw [ea]
      refine aw_iload dX5_paidBy_11 rfl ?_
      refine aw_if_lt (tgt := 59) dX5_paidBy_13 (by decide) (fun c_13 => ?_) (fun c_13 => by exfalso; exact absurd (by decide) c_13)
      refine aw_iload dX5_paidBy_59 rfl ?_
      refine aw_aload_n dX5_paidBy_61 rfl ?_
      refine aw_get dX5_paidBy_62 fX5_85 rfl hR.1 (by rfl) ?_
      refine aw_iload_n dX5_paidBy_65 rfl ?_
      refine aw_ialdN dX5_paidBy_66 (hR.2.1 45 28 rfl) (by omega) (by decide) ?_
      try simp only [mm_n_N, mm_n_A, mm_n_V, mm_n_Fp, mm_n_W, mm_n_Nm, mm_a_N, mm_a_A, mm_a_V, mm_a_Fp, mm_a_W, mm_a_Nm, mm_v_N, mm_v_A, mm_v_V, mm_fp_N, mm_fp_A, mm_fp_Fp, mm_w_N, mm_w_W, Nat.reduceEqDiff, reduceIte, if_true, if_false, mm_H_45, mm_H_46, mm_H_47, mm_H_50, mm_H_53, mm_H_54, mm_H_55, mm_H_56, mm_H_57, mm_H_58, mm_H_66, mm_H_67, mm_H_68]
      refine aw_icmp_leN (tgt := 72) dX5_paidBy_67 (by decide) (by omega) (by omega) (fun c_67 => ?_) (fun c_67 => ?_)
      · refine aw_aload_n dX5_paidBy_72 rfl ?_
        refine mm_call dX5_paidBy_73 sX5_394 rfl hW hR hs (mm_load) rfl rfl ⟨Nat.le_of_ble_eq_true rfl, Nat.le_of_ble_eq_true rfl⟩ (Nat.le_of_ble_eq_true rfl) (fun h hR hs => ?_)
        refine aw_iconst (v := nI 0) dX5_paidBy_76 rfl ?_
        refine aw_istore dX5_paidBy_77 (by decide) rfl rfl ?_
        exact r79 _ _ 0 h rfl (Nat.zero_le _) c_67 (mm_eq hR rfl) hs
      · refine aw_iconst (v := -1) dX5_paidBy_70 rfl ?_
        refine aw_ireturn dX5_paidBy_71 rfl ?_
        refine ⟨?_, mm_eq hR (by unfold mm_pbS; rw [← hf, if_neg c_67]), hs⟩
        unfold op_pb
        rw [ePok, decide_eq_false c_67]
        rfl
    | succ k ih =>
      intro a h hk ha hR hs
      have dk := dg k
      have ep : sp_sum f (k + 1) = sp_sum f k + f k := rfl
      have ed : f k = 1 + code / mm_n s 41 ^ (n - (k + 1)) % mm_n s 41 := by rw [hf, sp_dig, show n - 1 - k = n - (k + 1) by omega]
      have er : code / mm_n s 41 ^ (n - (k + 1)) / mm_n s 41 = code / mm_n s 41 ^ (n - k) := by rw [Nat.div_div_eq_div_mul, ← Nat.pow_succ, show (n - (k + 1)).succ = n - k by omega]
      have cl : code / mm_n s 41 ^ (n - (k + 1)) ≤ code := Nat.div_le_self _ _
      rw [sp_cv_s]
      refine aw_iload dX5_paidBy_11 rfl ?_
      refine aw_if_ltN (tgt := 59) dX5_paidBy_13 (by decide) (by omega) ?_
      refine aw_aload_n dX5_paidBy_16 rfl ?_
      refine aw_get dX5_paidBy_17 fX5_94 rfl hR.1 (by rfl) ?_
      refine aw_iload dX5_paidBy_20 rfl ?_
      refine aw_iconst (v := nI 1) dX5_paidBy_22 rfl ?_
      refine aw_iload dX5_paidBy_23 rfl ?_
      refine aw_aload_n dX5_paidBy_25 rfl ?_
      refine aw_get dX5_paidBy_26 fX5_82 rfl hR.1 (by rfl) ?_
      try simp only [mm_n_N, mm_n_A, mm_n_V, mm_n_Fp, mm_n_W, mm_n_Nm, mm_a_N, mm_a_A, mm_a_V, mm_a_Fp, mm_a_W, mm_a_Nm, mm_v_N, mm_v_A, mm_v_V, mm_fp_N, mm_fp_A, mm_fp_Fp, mm_w_N, mm_w_W, Nat.reduceEqDiff, reduceIte, if_true, if_false, mm_H_45, mm_H_46, mm_H_47, mm_H_50, mm_H_53, mm_H_54, mm_H_55, mm_H_56, mm_H_57, mm_H_58, mm_H_66, mm_H_67, mm_H_68]
      refine aw_iremN dX5_paidBy_29 (by omega) (by omega) (by omega) ?_
      refine aw_iaddN dX5_paidBy_30 ?_
      rw [← ed]
      refine mm_iast (k := 50) rfl hW hR hs dX5_paidBy_31 (by omega) (by decide) (fun h hR hs => ?_)
      have hR := mm_eq (mm_AU hR) (show _ = mm_setA s 50 (fun j => if k ≤ j ∧ j < n then f j else mm_a s 50 j) by
      congr 1
      funext j
      unfold aw_u
      dsimp only
      by_cases e : j = k
      · rw [if_pos e, if_pos (by omega), e]
      · rw [if_neg e]
        by_cases e2 : k ≤ j ∧ j < n
        · rw [if_pos e2, if_pos (by omega)]
        · rw [if_neg e2, if_neg (by omega)])
      refine aw_iload dX5_paidBy_32 rfl ?_
      refine aw_aload_n dX5_paidBy_34 rfl ?_
      refine aw_get dX5_paidBy_35 fX5_82 rfl hR.1 (by rfl) ?_
      try simp only [mm_n_N, mm_n_A, mm_n_V, mm_n_Fp, mm_n_W, mm_n_Nm, mm_a_N, mm_a_A, mm_a_V, mm_a_Fp, mm_a_W, mm_a_Nm, mm_v_N, mm_v_A, mm_v_V, mm_fp_N, mm_fp_A, mm_fp_Fp, mm_w_N, mm_w_W, Nat.reduceEqDiff, reduceIte, if_true, if_false, mm_H_45, mm_H_46, mm_H_47, mm_H_50, mm_H_53, mm_H_54, mm_H_55, mm_H_56, mm_H_57, mm_H_58, mm_H_66, mm_H_67, mm_H_68]
      refine aw_idivN dX5_paidBy_38 (by omega) (by omega) (by omega) ?_
      refine aw_istore dX5_paidBy_39 (by decide) rfl rfl ?_
      refine aw_iload dX5_paidBy_41 rfl ?_
      refine aw_aload_n dX5_paidBy_43 rfl ?_
      refine aw_get dX5_paidBy_44 fX5_94 rfl hR.1 (by rfl) ?_
      refine aw_iload dX5_paidBy_47 rfl ?_
      refine aw_ialdN dX5_paidBy_49 (hR.2.1 50 8 rfl) (by omega) (by decide) ?_
      try simp only [mm_n_N, mm_n_A, mm_n_V, mm_n_Fp, mm_n_W, mm_n_Nm, mm_a_N, mm_a_A, mm_a_V, mm_a_Fp, mm_a_W, mm_a_Nm, mm_v_N, mm_v_A, mm_v_V, mm_fp_N, mm_fp_A, mm_fp_Fp, mm_w_N, mm_w_W, Nat.reduceEqDiff, reduceIte, if_true, if_false, mm_H_45, mm_H_46, mm_H_47, mm_H_50, mm_H_53, mm_H_54, mm_H_55, mm_H_56, mm_H_57, mm_H_58, mm_H_66, mm_H_67, mm_H_68]
      refine aw_iaddN dX5_paidBy_50 ?_
      refine aw_istore dX5_paidBy_51 (by decide) rfl rfl ?_
      refine aw_iinc (v := -1) dX5_paidBy_53 rfl rfl (by decide) rfl rfl ?_
      refine aw_goto (tgt := 11) dX5_paidBy_56 (by decide) ?_
      refine AW_ls ?_ (ih (a + f k) h (by omega) (by omega) hR hs)
      rw [← er, aw_cvd]
      have e9 : (if k ≤ k ∧ k < n then f k else mm_a s 50 k) = f k := if_pos ⟨Nat.le_refl _, by omega⟩
      try rw [e9]
      rfl
  refine aw_iload_n dX5_paidBy_0 rfl ?_
  refine aw_istore dX5_paidBy_1 (by decide) rfl rfl ?_
  refine aw_iconst (v := nI 0) dX5_paidBy_3 rfl ?_
  refine aw_istore dX5_paidBy_4 (by decide) rfl rfl ?_
  refine aw_iload_n dX5_paidBy_6 rfl ?_
  refine aw_iconst (v := nI 1) dX5_paidBy_7 rfl ?_
  refine aw_isub dX5_paidBy_8 ?_
  rw [aw_cvs]
  refine aw_istore dX5_paidBy_9 (by decide) rfl rfl ?_
  refine AW_ls ?_ (r11 n 0 h0 (Nat.le_refl _) (Nat.zero_add _) (mm_eq hR (mm_A_id (fun j => if_neg (by omega))).symm) hs)
  rw [Nat.sub_self, Nat.pow_zero, Nat.div_one]
  rfl
theorem mm_pb50 {s : mm_S} {t n c j : Nat} (hj : j < n) : mm_a (mm_pbS s t n c) 50 j = sp_dig (mm_n s 41) n c j := by
  unfold mm_pbS
  split
  · show mm_pbR s n c j = _
    unfold mm_pbR
    rw [if_pos hj]
  · show mm_pbR s n c j = _
    unfold mm_pbR
    rw [if_pos hj]
theorem mm_pb_core {s : mm_S} {t n c : Nat} : mm_core s (mm_pbS s t n c) := by
  unfold mm_pbS
  split
  · exact mm_core.A rfl (mm_core.A rfl mm_core.rf)
  · exact mm_core.A rfl mm_core.rf
/-- lain none, lies by L -/
def mm_fT (s : mm_S) (L : Nat → Int32) : mm_S := mm_setN (mm_setV s 51 L) 52 0
theorem aw_u_cpV {α : Type} {f g : Nat → α} {k : Nat} : aw_u (fun j => if j < k then f j else g j) k (f k) = fun j => if j < k + 1 then f j else g j := by
  funext j
  unfold aw_u
  dsimp only
  by_cases e : j = k
  · rw [if_pos e, if_pos (by omega), e]
  · rw [if_neg e]
    by_cases e2 : j < k
    · rw [if_pos e2, if_pos (by omega)]
    · rw [if_neg e2, if_neg (by omega)]
theorem mm_fT_51 {s s2 : mm_S} {L : Nat → Int32} (h : mm_core (mm_fT s L) s2) : mm_v s2 51 = L := (h.2.2.2 51 rfl).symm
theorem mm_fT_u {s s2 : mm_S} {L : Nat → Int32} {k : Nat} {x : Int32} (h : mm_core (mm_fT s L) s2) : mm_core (mm_fT s (aw_u L k x)) (mm_setV s2 51 (aw_u (mm_v s2 51) k x)) := by
  rw [mm_fT_51 h]
  refine ⟨fun k hk => h.1 k hk, h.2.1, h.2.2.1, fun j hj => ?_⟩
  have e : ∀ L, mm_v (mm_fT s L) j = if j = 51 then L else mm_v s j := fun _ => rfl
  have h5 := h.2.2.2 j hj
  rw [e] at h5
  rw [mm_v_V, e]
  by_cases z : j = 51
  · rw [if_pos z, if_pos z]
  · rw [if_neg z, if_neg z]
    rw [if_neg z] at h5
    exact h5
def mm_fL (s : mm_S) (t n c : Nat) : Nat → Int32 := fun j => if j < n ∧ (sp_fw (mm_H s) (mm_a s 45) t n c).1 ≠ 0 then nI (sp_dig (mm_n s 41) n ((sp_fw (mm_H s) (mm_a s 45) t n c).1 - 1) j) else mm_v s 51 j
set_option maxHeartbeats 4000000 in
theorem mo_fewest {s : mm_S} {t : Int32} {N : Nat} (hH : sp_okH (mm_H s)) (hA : sp_okA N (mm_a s 45)) (hN : N ≤ 10000000) : mm_Op yX5_fewest cX5_fewest 7 (some .int) 5 [.int (t)] s (some (.int (op_fewest (mm_H s) (mm_a s 45) t))) (op_fewestS s t) := by
  refine mm_Op.of (by decide +kernel) (fun _ => Nat.le_of_ble_eq_true rfl) (fun G w h0 hW hR => ?_)
  have hs : mm_same w h0 h0 := mm_same.rf
  show AW G (aw_rm 5 0 0) yX5_fewest cX5_fewest 7 (some .int) (aw_N G (mm_PoC G w h0 (some (.int (op_fewest (mm_H s) (mm_a s 45) t))) (op_fewestS s t)) 0 0) 0 0 h0 0 [(0, .ref w.1), (1, .int (t))] []
  have hs1 : 1 ≤ mm_n s 41 := hH.1.1; have hs20 : mm_n s 41 ≤ 20 := hH.1.2; have hn : mm_n s 42 ≤ 8 := hH.2.1; have hlv : ∀ t, t < 8 → mm_a s 32 t ≤ 20 := fun t ht => (hH.2.2.1 t ht).1; have hsg : ∀ t, t < 8 → mm_a s 33 t ≤ 40 := fun t ht => (hH.2.2.1 t ht).2.1; have hhv : ∀ t, t < 8 → mm_a s 34 t ≤ 9 := fun t ht => (hH.2.2.1 t ht).2.2.1; have how : ∀ t, t < 8 → mm_a s 35 t ≤ 999 := fun t ht => (hH.2.2.1 t ht).2.2.2.1; have hfl : ∀ t, t < 8 → mm_a s 36 t ≤ 100 := fun t ht => (hH.2.2.1 t ht).2.2.2.2; have hF0 : sp_fok (mm_steps s 0) := hH.2.2.2.1; have hF1 : sp_fok (mm_steps s 1) := hH.2.2.2.2; have h42 : sp_hn (mm_H s) = mm_n s 42 := rfl; have h41 : sp_hs (mm_H s) = mm_n s 41 := rfl
  have pw : ∀ n, n ≤ 4 → mm_n s 41 ^ n ≤ 160000 := fun n h4 => by
    have h1 : mm_n s 41 ^ n ≤ 20 ^ n := Nat.pow_le_pow_left hs20 n
    have h2 : 20 ^ n ≤ 20 ^ 4 := Nat.pow_le_pow_right (by decide) h4
    omega
  have r72 : ∀ (t' n c a : Nat) (x : Int32) (L : Nat → Int32), n ≤ 4 → (∀ (s2 : mm_S) (h : aw_H), mm_core (mm_fT s (fun j => if j < n then nI (sp_dig (mm_n s 41) n c j) else L j)) s2 → mm_R G w h s2 → mm_same w h0 h → AW G (aw_rm 5 0 0) yX5_fewest cX5_fewest 7 (some .int) (aw_N G (mm_PoC G w h0 (some (.int (op_fewest (mm_H s) (mm_a s 45) t))) (op_fewestS s t)) 0 0) 0 0 h 98 [(0, .ref w.1), (1, .int (nI t')), (2, .int (nI n)), (3, .int (nI a)), (4, .int (nI c))] []) → ∀ (m k : Nat) (s2 : mm_S) (h : aw_H), n - k = m → k ≤ n → mm_core (mm_fT s (fun j => if j < k then nI (sp_dig (mm_n s 41) n c j) else L j)) s2 → (∀ j, j < n → mm_a s2 50 j = sp_dig (mm_n s 41) n c j) → mm_R G w h s2 → mm_same w h0 h → AW G (aw_rm 5 0 0) yX5_fewest cX5_fewest 7 (some .int) (aw_N G (mm_PoC G w h0 (some (.int (op_fewest (mm_H s) (mm_a s 45) t))) (op_fewestS s t)) 0 0) 0 0 h 72 [(0, .ref w.1), (1, .int (nI t')), (2, .int (nI n)), (3, .int (nI a)), (4, .int (nI c)), (5, .int x), (6, .int (nI k))] [] := by
    intro t' n c a x L hn4 hgo m
    induction m using Nat.strongRecOn with
    | _ m ih =>
      intro k s2 h hm hk hC hrow hR hs
      by_cases hk9 : k < n
      · have er := hrow k hk9
        refine aw_iload dX5_fewest_72 rfl ?_
        refine aw_iload_n dX5_fewest_74 rfl ?_
        refine aw_icmp_geN (tgt := 98) dX5_fewest_75 (by decide) (by omega) (by omega) (fun c_75 => by exfalso; omega) (fun c_75 => ?_)
        refine aw_aload_n dX5_fewest_78 rfl ?_
        refine aw_get dX5_fewest_79 fX5_97 rfl hR.1 (by rfl) ?_
        refine aw_iload dX5_fewest_82 rfl ?_
        refine aw_aload_n dX5_fewest_84 rfl ?_
        refine aw_get dX5_fewest_85 fX5_94 rfl hR.1 (by rfl) ?_
        refine aw_iload dX5_fewest_88 rfl ?_
        refine aw_ialdN dX5_fewest_90 (hR.2.1 50 8 rfl) (by omega) (by decide) ?_
        refine mm_vast (k := 51) rfl hW hR hs dX5_fewest_91 (by omega) (by decide) (fun h hR hs => ?_)
        refine aw_iincN (b := 1) dX5_fewest_92 rfl rfl (by decide) rfl rfl ?_
        refine aw_goto (tgt := 72) dX5_fewest_95 (by decide) ?_
        refine ih (n - (k + 1)) (by omega) (k + 1) (mm_setV s2 51 (aw_u (mm_v s2 51) k (nI (mm_a s2 50 k)))) h rfl (by omega) ?_ (fun j hj => hrow j hj) hR hs
        rw [er, ← aw_u_cpV (f := fun j => nI (sp_dig (mm_n s 41) n c j)) (g := L)]
        exact mm_fT_u hC
      · obtain rfl : k = n := by omega
        refine aw_iload dX5_fewest_72 rfl ?_
        refine aw_iload_n dX5_fewest_74 rfl ?_
        refine aw_icmp_geN (tgt := 98) dX5_fewest_75 (by decide) (by omega) (by omega) (fun c_75 => ?_) (fun c_75 => by exfalso; omega)
        exact AW_dr (hgo s2 h hC hR hs)
  have r29 : ∀ (t' n : Nat), t' < 8 → n ≤ 4 → (∀ (s2 : mm_S) (h : aw_H), mm_core (mm_fT s (mm_fL s t' n (mm_n s 41 ^ n))) s2 → mm_R G w h s2 → mm_same w h0 h → AW G (aw_rm 5 0 0) yX5_fewest cX5_fewest 7 (some .int) (aw_N G (mm_PoC G w h0 (some (.int (op_fewest (mm_H s) (mm_a s 45) t))) (op_fewestS s t)) 0 0) 0 0 h 104 [(0, .ref w.1), (1, .int (nI t')), (2, .int (nI n)), (3, .int (nI (sp_fw (mm_H s) (mm_a s 45) t' n (mm_n s 41 ^ n)).2))] []) → ∀ (m c : Nat) (s2 : mm_S) (h : aw_H), mm_n s 41 ^ n - c = m → c ≤ mm_n s 41 ^ n → mm_core (mm_fT s (mm_fL s t' n c)) s2 → mm_R G w h s2 → mm_same w h0 h → AW G (aw_rm 5 0 0) yX5_fewest cX5_fewest 7 (some .int) (aw_N G (mm_PoC G w h0 (some (.int (op_fewest (mm_H s) (mm_a s 45) t))) (op_fewestS s t)) 0 0) 0 0 h 29 [(0, .ref w.1), (1, .int (nI t')), (2, .int (nI n)), (3, .int (nI (sp_fw (mm_H s) (mm_a s 45) t' n c).2)), (4, .int (nI c))] [] := by
    intro t' n ht hn4 hgo m
    induction m using Nat.strongRecOn with
    | _ m ih =>
      intro c s2 h hm hc hC hR hs
      have p9 := pw n hn4
      have f9 := @sp_fw_le (mm_H s) (mm_a s 45) t' n c
      have e41 : mm_n s2 41 = mm_n s 41 := (hC.1 41 rfl).symm
      have e45 : mm_a s2 45 = mm_a s 45 := (hC.2.2.1 45 rfl).symm
      have eH : mm_H s2 = mm_H s := hC.H.symm
      have eS : sp_fw (mm_H s) (mm_a s 45) t' n (c + 1) = if sp_pok (mm_H s) (mm_a s 45) t' n c = true ∧ sp_sum (sp_dig (mm_n s 41) n c) n < (sp_fw (mm_H s) (mm_a s 45) t' n c).2 then (c + 1, sp_sum (sp_dig (mm_n s 41) n c) n) else sp_fw (mm_H s) (mm_a s 45) t' n c := rfl
      have cpb := mm_paidBy (s := s2) (t := t') (n := n) (code := c) (N := N) (by rw [eH]; exact hH) (by rw [e45]; exact hA) hN ht hn4 (by omega)
      rw [eH, e45] at cpb
      have sl : sp_sum (sp_dig (mm_n s 41) n c) n ≤ 20 * n := sp_sum_b (fun i => by have := @sp_dig_b (mm_n s 41) n c i hs1; omega) n
      have next : ∀ (a : Nat) (s2 : mm_S) (h : aw_H), c < mm_n s 41 ^ n → a = (sp_fw (mm_H s) (mm_a s 45) t' n (c + 1)).2 → mm_core (mm_fT s (mm_fL s t' n (c + 1))) s2 → mm_R G w h s2 → mm_same w h0 h → AW G (aw_rm 5 0 0) yX5_fewest cX5_fewest 7 (some .int) (aw_N G (mm_PoC G w h0 (some (.int (op_fewest (mm_H s) (mm_a s 45) t))) (op_fewestS s t)) 0 0) 0 0 h 98 [(0, .ref w.1), (1, .int (nI t')), (2, .int (nI n)), (3, .int (nI a)), (4, .int (nI c))] [] := by
        intro a s2 h hc9 ea hC hR hs
        rw [ea]
        refine aw_iincN (b := 1) dX5_fewest_98 rfl rfl (by decide) rfl rfl ?_
        refine aw_goto (tgt := 29) dX5_fewest_101 (by decide) ?_
        exact ih (mm_n s 41 ^ n - (c + 1)) (by omega) (c + 1) s2 h rfl (by omega) hC hR hs
      have skip : ∀ (h : aw_H), c < mm_n s 41 ^ n → ¬ (sp_pok (mm_H s) (mm_a s 45) t' n c = true ∧ sp_sum (sp_dig (mm_n s 41) n c) n < (sp_fw (mm_H s) (mm_a s 45) t' n c).2) → mm_R G w h (mm_pbS s2 t' n c) → mm_same w h0 h → AW G (aw_rm 5 0 0) yX5_fewest cX5_fewest 7 (some .int) (aw_N G (mm_PoC G w h0 (some (.int (op_fewest (mm_H s) (mm_a s 45) t))) (op_fewestS s t)) 0 0) 0 0 h 98 [(0, .ref w.1), (1, .int (nI t')), (2, .int (nI n)), (3, .int (nI (sp_fw (mm_H s) (mm_a s 45) t' n c).2)), (4, .int (nI c))] [] := by
        intro h hc9 hz hR hs
        refine next _ _ h hc9 (by rw [eS, if_neg hz]) ?_ hR hs
        have eL : mm_fL s t' n (c + 1) = mm_fL s t' n c := by
          funext j
          unfold mm_fL
          rw [eS, if_neg hz]
        rw [eL]
        exact hC.tr mm_pb_core
      by_cases hc9 : c < mm_n s 41 ^ n
      · by_cases hp : sp_pok (mm_H s) (mm_a s 45) t' n c = true
        · have eo : op_pb (mm_H s) (mm_a s 45) t' n c = nI (sp_sum (sp_dig (mm_n s 41) n c) n) := if_pos hp
          rw [eo] at cpb
          refine aw_iload dX5_fewest_29 rfl ?_
          refine aw_aload_n dX5_fewest_31 rfl ?_
          refine aw_get dX5_fewest_32 fX5_82 rfl hR.1 (by rfl) ?_
          rw [e41]
          refine aw_iload_n dX5_fewest_35 rfl ?_
          refine aw_callP (r := _) dX5_fewest_36 sX5_424 rfl (mp_power (by first | omega | assumption | exact aw_t_lt)) rfl rfl ⟨Nat.le_of_ble_eq_true rfl, Nat.le_of_ble_eq_true rfl⟩ (Nat.le_of_ble_eq_true rfl) ?_
          refine aw_icmp_geN (tgt := 104) dX5_fewest_39 (by decide) (by omega) (by omega) (fun c_39 => by exfalso; omega) (fun c_39 => ?_)
          refine aw_aload_n dX5_fewest_42 rfl ?_
          refine aw_iload_n dX5_fewest_43 rfl ?_
          refine aw_iload_n dX5_fewest_44 rfl ?_
          refine aw_iload dX5_fewest_45 rfl ?_
          refine mm_call dX5_fewest_47 sX5_427 rfl hW hR hs cpb rfl rfl ⟨Nat.le_of_ble_eq_true rfl, Nat.le_of_ble_eq_true rfl⟩ (Nat.le_of_ble_eq_true rfl) (fun h hR hs => ?_)
          refine aw_istore dX5_fewest_50 (by decide) rfl rfl ?_
          refine aw_iload dX5_fewest_52 rfl ?_
          refine aw_if_ltN (tgt := 98) dX5_fewest_54 (by decide) (by omega) ?_
          refine aw_iload dX5_fewest_57 rfl ?_
          refine aw_iload_n dX5_fewest_59 rfl ?_
          refine aw_icmp_ltN (tgt := 66) dX5_fewest_60 (by decide) (by omega) (by omega) (fun c_60 => ?_) (fun c_60 => ?_)
          · refine aw_iload dX5_fewest_66 rfl ?_
            refine aw_istore_n dX5_fewest_68 (by decide) rfl rfl ?_
            refine aw_iconst (v := nI 0) dX5_fewest_69 rfl ?_
            refine aw_istore dX5_fewest_70 (by decide) rfl rfl ?_
            refine r72 t' n c _ _ (mm_fL s t' n c) hn4 (fun s2 h hC hR hs => next _ s2 h hc9 ?_ ?_ hR hs) _ 0 _ h rfl (Nat.zero_le _) ?_ (fun j hj => by rw [mm_pb50 hj, e41]) hR hs
            · rw [eS, if_pos ⟨hp, by omega⟩]
            · have eL : mm_fL s t' n (c + 1) = fun j => if j < n then nI (sp_dig (mm_n s 41) n c j) else mm_fL s t' n c j := by
                funext j
                have eS2 : sp_fw (mm_H s) (mm_a s 45) t' n (c + 1) = (c + 1, sp_sum (sp_dig (mm_n s 41) n c) n) := by rw [eS, if_pos ⟨hp, by omega⟩]
                unfold mm_fL
                rw [eS2]
                by_cases e : j < n
                · rw [if_pos ⟨e, by omega⟩, if_pos e, Nat.add_sub_cancel]
                · rw [if_neg (fun z => e z.1), if_neg e, if_neg (fun z => e z.1)]
              rw [eL]
              exact hC
            · refine mm_core.tr ?_ (hC.tr mm_pb_core)
              refine ⟨fun _ _ => rfl, rfl, fun _ _ => rfl, fun j hj => ?_⟩
              rfl
          · refine aw_goto (tgt := 98) dX5_fewest_63 (by decide) ?_
            exact AW_dr (skip h hc9 (fun z => by have := z.2; omega) hR hs)
        · have eo : op_pb (mm_H s) (mm_a s 45) t' n c = -1 := if_neg hp
          rw [eo] at cpb
          refine aw_iload dX5_fewest_29 rfl ?_
          refine aw_aload_n dX5_fewest_31 rfl ?_
          refine aw_get dX5_fewest_32 fX5_82 rfl hR.1 (by rfl) ?_
          rw [e41]
          refine aw_iload_n dX5_fewest_35 rfl ?_
          refine aw_callP (r := _) dX5_fewest_36 sX5_424 rfl (mp_power (by first | omega | assumption | exact aw_t_lt)) rfl rfl ⟨Nat.le_of_ble_eq_true rfl, Nat.le_of_ble_eq_true rfl⟩ (Nat.le_of_ble_eq_true rfl) ?_
          refine aw_icmp_geN (tgt := 104) dX5_fewest_39 (by decide) (by omega) (by omega) (fun c_39 => by exfalso; omega) (fun c_39 => ?_)
          refine aw_aload_n dX5_fewest_42 rfl ?_
          refine aw_iload_n dX5_fewest_43 rfl ?_
          refine aw_iload_n dX5_fewest_44 rfl ?_
          refine aw_iload dX5_fewest_45 rfl ?_
          refine mm_call dX5_fewest_47 sX5_427 rfl hW hR hs cpb rfl rfl ⟨Nat.le_of_ble_eq_true rfl, Nat.le_of_ble_eq_true rfl⟩ (Nat.le_of_ble_eq_true rfl) (fun h hR hs => ?_)
          refine aw_istore dX5_fewest_50 (by decide) rfl rfl ?_
          refine aw_iload dX5_fewest_52 rfl ?_
          refine aw_if_lt (tgt := 98) dX5_fewest_54 (by decide) (fun c_54 => ?_) (fun c_54 => by exfalso; exact absurd (by decide) c_54)
          exact AW_dr (skip h hc9 (fun z => hp z.1) hR hs)
      · obtain rfl : c = mm_n s 41 ^ n := by omega
        refine aw_iload dX5_fewest_29 rfl ?_
        refine aw_aload_n dX5_fewest_31 rfl ?_
        refine aw_get dX5_fewest_32 fX5_82 rfl hR.1 (by rfl) ?_
        rw [e41]
        refine aw_iload_n dX5_fewest_35 rfl ?_
        refine aw_callP (r := _) dX5_fewest_36 sX5_424 rfl (mp_power (by first | omega | assumption | exact aw_t_lt)) rfl rfl ⟨Nat.le_of_ble_eq_true rfl, Nat.le_of_ble_eq_true rfl⟩ (Nat.le_of_ble_eq_true rfl) ?_
        refine aw_icmp_geN (tgt := 104) dX5_fewest_39 (by decide) (by omega) (by omega) (fun c_39 => ?_) (fun c_39 => by exfalso; omega)
        exact AW_dr (hgo s2 h hC hR hs)
  have r17 : ∀ (t' : Nat), t' < 8 → t.toNatClampNeg = t' → sp_isT (mm_H s) t → ∀ (m n : Nat) (s2 : mm_S) (h : aw_H), 5 - n = m → n ≤ 5 → (∀ k, k < n → decide ((sp_fw (mm_H s) (mm_a s 45) t' k (mm_n s 41 ^ k)).1 ≠ 0) = false) → mm_core (mm_fT s (mm_v s 51)) s2 → mm_R G w h s2 → mm_same w h0 h → AW G (aw_rm 5 0 0) yX5_fewest cX5_fewest 7 (some .int) (aw_N G (mm_PoC G w h0 (some (.int (op_fewest (mm_H s) (mm_a s 45) t))) (op_fewestS s t)) 0 0) 0 0 h 17 [(0, .ref w.1), (1, .int (nI t')), (2, .int (nI n))] [] := by
    intro t' ht et hT m
    induction m using Nat.strongRecOn with
    | _ m ih =>
      intro n s2 h hm hn5 hno hC hR hs
      have f0 : mm_fL s t' n 0 = mm_v s 51 := by
        funext j
        unfold mm_fL
        rw [if_neg (fun z => z.2 rfl)]
      by_cases hn9 : n ≤ 4
      · have f9 := @sp_fw_le (mm_H s) (mm_a s 45) t' n (mm_n s 41 ^ n)
        have p9 := pw n hn9
        have aft : ∀ (s2 : mm_S) (h : aw_H), mm_core (mm_fT s (mm_fL s t' n (mm_n s 41 ^ n))) s2 → mm_R G w h s2 → mm_same w h0 h → AW G (aw_rm 5 0 0) yX5_fewest cX5_fewest 7 (some .int) (aw_N G (mm_PoC G w h0 (some (.int (op_fewest (mm_H s) (mm_a s 45) t))) (op_fewestS s t)) 0 0) 0 0 h 104 [(0, .ref w.1), (1, .int (nI t')), (2, .int (nI n)), (3, .int (nI (sp_fw (mm_H s) (mm_a s 45) t' n (mm_n s 41 ^ n)).2))] [] := by
          intro s2 h hC hR hs
          by_cases z : (sp_fw (mm_H s) (mm_a s 45) t' n (mm_n s 41 ^ n)).1 = 0
          · have fL : mm_fL s t' n (mm_n s 41 ^ n) = mm_v s 51 := by
              funext j
              unfold mm_fL
              rw [if_neg (fun y => y.2 z)]
            rw [fL] at hC
            refine aw_iload_n dX5_fewest_104 rfl ?_
            refine aw_ldcw (v := nI 1000000) dX5_fewest_105 q1808 ?_
            refine aw_icmp_neN (tgt := 114) dX5_fewest_108 (by decide) (by omega) (by omega) (fun c_108 => by exfalso; omega) (fun c_108 => ?_)
            refine aw_goto (tgt := 121) dX5_fewest_111 (by decide) ?_
            refine aw_iincN (b := 1) dX5_fewest_121 rfl rfl (by decide) rfl rfl ?_
            refine aw_goto (tgt := 17) dX5_fewest_124 (by decide) ?_
            exact AW_dr (ih (5 - (n + 1)) (by omega) (n + 1) s2 h rfl (by omega) (fun k hk => by
            by_cases e : k = n
            · rw [e]; exact decide_eq_false (fun y => y z)
            · exact hno k (by omega)) hC hR hs)
          · have ef : sp_fwn (mm_H s) (mm_a s 45) t' = n + 1 := sp_fst_yes (by omega) hno (decide_eq_true z)
            refine aw_iload_n dX5_fewest_104 rfl ?_
            refine aw_ldcw (v := nI 1000000) dX5_fewest_105 q1808 ?_
            refine aw_icmp_neN (tgt := 114) dX5_fewest_108 (by decide) (by omega) (by omega) (fun c_108 => ?_) (fun c_108 => by exfalso; omega)
            refine aw_aload_n dX5_fewest_114 rfl ?_
            refine aw_iload_n dX5_fewest_115 rfl ?_
            refine mm_putN (k := 52) hW hR hs dX5_fewest_116 (pX5_365 _) rfl rfl (mm_F_set52 _ _ _) (by decide) (fun h hR hs => ?_)
            refine aw_iload_n dX5_fewest_119 rfl ?_
            refine aw_ireturn dX5_fewest_120 rfl ?_
            refine ⟨by rw [op_fewest, aw_if1 hT, et, ef, sp_cv_s], _, ?_, hR, hs⟩
            rw [op_fewestS, aw_if1 hT, et]
            unfold mm_fwS
            rw [ef, if_neg (by omega), Nat.add_sub_cancel]
            have fL : mm_fL s t' n (mm_n s 41 ^ n) = fun j => if j < n then nI (sp_dig (mm_n s 41) n ((sp_fw (mm_H s) (mm_a s 45) t' n (mm_n s 41 ^ n)).1 - 1) j) else mm_v s 51 j := by
              funext j
              unfold mm_fL
              by_cases e : j < n
              · rw [if_pos ⟨e, z⟩, if_pos e]
              · rw [if_neg (fun y => e y.1), if_neg e]
            rw [← fL]
            have e := mm_core.NN (k := 52) (v := n) hC
            unfold mm_fT at e
            rw [mm_N_N] at e
            exact e
        refine aw_iload_n dX5_fewest_17 rfl ?_
        refine aw_iconst (v := nI 4) dX5_fewest_18 rfl ?_
        refine aw_icmp_gtN (tgt := 127) dX5_fewest_19 (by decide) (by omega) (by omega) (fun c_19 => by exfalso; omega) (fun c_19 => ?_)
        refine aw_ldcw (v := nI 1000000) dX5_fewest_22 q1808 ?_
        refine aw_istore_n dX5_fewest_25 (by decide) rfl rfl ?_
        refine aw_iconst (v := nI 0) dX5_fewest_26 rfl ?_
        refine aw_istore dX5_fewest_27 (by decide) rfl rfl ?_
        exact r29 t' n ht hn9 aft _ 0 s2 h rfl (Nat.zero_le _) (by rw [f0]; exact hC) hR hs
      · have ef : sp_fwn (mm_H s) (mm_a s 45) t' = 0 := sp_fst_no (fun k hk => hno k (by omega))
        refine aw_iload_n dX5_fewest_17 rfl ?_
        refine aw_iconst (v := nI 4) dX5_fewest_18 rfl ?_
        refine aw_icmp_gtN (tgt := 127) dX5_fewest_19 (by decide) (by omega) (by omega) (fun c_19 => ?_) (fun c_19 => by exfalso; omega)
        refine aw_iconst (v := -1) dX5_fewest_127 rfl ?_
        refine aw_ireturn dX5_fewest_128 rfl ?_
        refine ⟨by rw [op_fewest, aw_if1 hT, et, ef]; rfl, _, ?_, hR, hs⟩
        rw [op_fewestS, aw_if1 hT, et]
        unfold mm_fwS
        rw [if_pos ef]
        refine mm_core.tr ?_ hC
        unfold mm_fT
        rw [mm_V_id (fun _ => rfl)]
        exact mm_core.rf
  have hn2 : mm_n (mm_setN s 52 0) 42 ≤ 8 := hn
  refine aw_aload_n dX5_fewest_0 rfl ?_
  refine aw_iconst (v := nI 0) dX5_fewest_1 rfl ?_
  refine mm_putN (k := 52) hW hR hs dX5_fewest_2 (pX5_365 _) rfl rfl (mm_F_set52 _ _ _) (by decide) (fun h hR hs => ?_)
  refine aw_aload_n dX5_fewest_5 rfl ?_
  refine aw_iload_n dX5_fewest_6 rfl ?_
  refine mm_call dX5_fewest_7 sX5_382 rfl hW hR hs (mm_isTenant hn2) rfl rfl ⟨Nat.le_of_ble_eq_true rfl, Nat.le_of_ble_eq_true rfl⟩ (Nat.le_of_ble_eq_true rfl) (fun h hR hs => ?_)
  try simp only [mm_n_N, mm_n_A, mm_n_V, mm_n_Fp, mm_n_W, mm_n_Nm, mm_a_N, mm_a_A, mm_a_V, mm_a_Fp, mm_a_W, mm_a_Nm, mm_v_N, mm_v_A, mm_v_V, mm_fp_N, mm_fp_A, mm_fp_Fp, mm_w_N, mm_w_W, Nat.reduceEqDiff, reduceIte, if_true, if_false, mm_H_45, mm_H_46, mm_H_47, mm_H_50, mm_H_53, mm_H_54, mm_H_55, mm_H_56, mm_H_57, mm_H_58, mm_H_66, mm_H_67, mm_H_68]
  refine aw_if_neB (tgt := 15) dX5_fewest_10 (by decide) (fun c_10 => ?_) (fun c_10 => ?_)
  · have c_10 : sp_isT (mm_H s) t := c_10
    obtain ⟨t', ht, et, t1, t2⟩ := aw_ofN c_10.1
    have ht9 : t' < mm_n s 42 := by have := c_10.2; omega
    refine AW_ls (show _ = [(0, .ref w.1), (1, .int (nI t'))] by rw [← et]) ?_
    refine aw_iconst (v := nI 0) dX5_fewest_15 rfl ?_
    refine aw_istore_n dX5_fewest_16 (by decide) rfl rfl ?_
    refine r17 t' (by omega) t2 c_10 _ 0 _ h rfl (Nat.zero_le _) (fun k hk => by omega) ?_ hR hs
    unfold mm_fT
    rw [mm_V_id (fun _ => rfl)]
    exact mm_core.rf
  · refine aw_iconst (v := -1) dX5_fewest_13 rfl ?_
    refine aw_ireturn dX5_fewest_14 rfl ?_
    exact ⟨by rw [op_fewest, aw_if0 (show ¬ sp_isT (mm_H s) t from c_10)], _, by rw [op_fewestS, aw_if0 (show ¬ sp_isT (mm_H s) t from c_10)]; exact mm_core.rf, hR, hs⟩

