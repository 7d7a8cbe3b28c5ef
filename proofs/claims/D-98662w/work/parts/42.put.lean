set_option maxRecDepth 100000
/-! the model: who does it; care, proxy, toil -/
theorem sp_deq {v v' : Nat} : (sp_e1 v' = sp_e1 v ∧ sp_e2 v' = sp_e2 v) ↔ v' = v := by
  unfold sp_e1 sp_e2
  omega
/-- the first who does it for t in a best way, z do something already: one more -/
def sp_pf (n : Nat) (cd : Nat → Nat → Bool) (w : Nat → Nat) (t z : Nat) : Nat := sp_fst (fun b => cd t b && decide (z / 2 ^ b % 2 = 0) && decide (sp_dv n cd w (n - (t + 1)) (z ||| 2 ^ b) + w t = sp_dv n cd w (n - t) z)) n
def sp_pz (n : Nat) (cd : Nat → Nat → Bool) (w : Nat → Nat) : Nat → Nat
  | 0 => 0
  | t + 1 => if sp_pf n cd w t (sp_pz n cd w t) = 0 then sp_pz n cd w t else sp_pz n cd w t ||| 2 ^ (sp_pf n cd w t (sp_pz n cd w t) - 1)
def sp_pl (n : Nat) (cd : Nat → Nat → Bool) (w : Nat → Nat) (t : Nat) : Int32 := sp_cv (sp_pf n cd w t (sp_pz n cd w t))
def mm_cd (s : mm_S) (t b : Nat) : Bool := decide (mm_a s 56 (8 * t + b) ≠ 0)
def mm_wp (s : mm_S) (t : Nat) : Nat := 1000 - mm_a s 55 t
theorem mm_dpV_e (s : mm_S) : mm_dpV s = sp_dv (mm_n s 42) (mm_cd s) (mm_wp s) := rfl
theorem sp_fst_le {p : Nat → Bool} : ∀ n, sp_fst p n ≤ n := by
  intro n
  induction n with
  | zero => exact Nat.le_refl _
  | succ n ih =>
    unfold sp_fst
    split
    · omega
    · split <;> omega
theorem sp_pz_lt {n : Nat} {cd : Nat → Nat → Bool} {w : Nat → Nat} (hn : n ≤ 8) : ∀ t, sp_pz n cd w t < 256 := by
  intro t
  induction t with
  | zero => exact (by decide : 0 < 256)
  | succ t ih =>
    unfold sp_pz
    split
    · exact ih
    · rename_i e
      have : sp_pf n cd w t (sp_pz n cd w t) ≤ n := sp_fst_le _
      exact sp_or8 ih (by omega)
theorem aw_u_u {α : Type} {f : Nat → α} {k : Nat} {x z : α} : aw_u (aw_u f k x) k z = aw_u f k z := by
  funext j
  unfold aw_u
  split <;> rfl
theorem mm_VU {G : aw_G} {w : mm_Wd} {h : aw_H} {s : mm_S} {k j : Nat} {v : Int32} {L : Nat → Int32} (hR : mm_R G w h (mm_setV (mm_setV s k L) k (aw_u (mm_v (mm_setV s k L) k) j v))) : mm_R G w h (mm_setV s k (aw_u L j v)) := mm_eq hR (by rw [mm_V_V, mm_v_V, if_pos rfl])
theorem mm_V_id {s : mm_S} {k : Nat} {f : Nat → Int32} (h : ∀ j, f j = mm_v s k j) : mm_setV s k f = s := by
  rw [show f = mm_v s k from funext h]
  unfold mm_setV mm_v
  obtain ⟨a, b, c, d, e, f⟩ := s
  dsimp only
  congr 5
  funext j
  unfold aw_u
  split
  · rename_i h; rw [h]
  · rfl
def mm_pL (s : mm_S) (t : Nat) : Nat → Int32 := fun j => if j < t then sp_pl (mm_n s 42) (mm_cd s) (mm_wp s) j else mm_v s 51 j
def mm_putS (s : mm_S) : mm_S := mm_setN (mm_setV s 51 (mm_pL s (mm_n s 42))) 52 (mm_n s 42)
theorem aw_cvd (t : Nat) : sp_cv t = nI t + -1 := by cases t with | zero => rfl | succ t => rw [sp_cv_s, pk_m1]
set_option maxHeartbeats 4000000 in
theorem mm_putDoers {s : mm_S} (hn : mm_n s 42 ≤ 8) (hc : ∀ t b, t < mm_n s 42 → b < mm_n s 42 → mm_a s 56 (8 * t + b) < 2) (hp : ∀ t, t < mm_n s 42 → mm_a s 55 t ≤ 20) (hT : ∀ j, j < 256 * (mm_n s 42 + 1) → mm_a s 53 j = sp_e1 (mm_dpT s j) ∧ mm_a s 54 j = sp_e2 (mm_dpT s j)) : mm_Met yX5_putDoers cX5_putDoers 5 none 0 [] s none (mm_putS s) := by
  refine mm_Met.of (by decide +kernel) (fun _ => Nat.le_of_ble_eq_true rfl) (fun G w h0 hW hR => ?_)
  have hs : mm_same w h0 h0 := mm_same.rf
  show AW G (aw_rm 0 0 0) yX5_putDoers cX5_putDoers 5 none (aw_N G (mm_Po G w h0 none (mm_putS s)) 0 0) 0 0 h0 0 [(0, .ref w.1)] []
  have VP : ∀ r z, r ≤ mm_n s 42 → sp_dP (mm_dpV s r z) r := fun r z hr => sp_dv_P (p := mm_a s 55) hp r z hr hn
  have by26 : ∀ (t z : Nat) (L : Nat → Int32), t < mm_n s 42 → z < 256 → (∀ (h : aw_H), mm_R G w h (mm_setV s 51 (aw_u L t (sp_cv (sp_pf (mm_n s 42) (mm_cd s) (mm_wp s) t z)))) → mm_same w h0 h → AW G (aw_rm 0 0 0) yX5_putDoers cX5_putDoers 5 none (aw_N G (mm_Po G w h0 none (mm_putS s)) 0 0) 0 0 h 137 [(0, .ref w.1), (1, .int (nI z)), (2, .int (nI t))] []) → ∀ (c g : Nat) (h : aw_H), c ≤ mm_n s 42 → (g = 0 ∧ (∀ b, c ≤ b → b < mm_n s 42 → (mm_cd s t b && decide (z / 2 ^ b % 2 = 0) && decide (mm_dpV s (mm_n s 42 - (t + 1)) (z ||| 2 ^ b) + mm_wp s t = mm_dpV s (mm_n s 42 - t) z)) = false) ∨ (c < g ∧ g ≤ mm_n s 42 ∧ (mm_cd s t (g - 1) && decide (z / 2 ^ (g - 1) % 2 = 0) && decide (mm_dpV s (mm_n s 42 - (t + 1)) (z ||| 2 ^ (g - 1)) + mm_wp s t = mm_dpV s (mm_n s 42 - t) z)) = true ∧ (∀ b, c ≤ b → b < g - 1 → (mm_cd s t b && decide (z / 2 ^ b % 2 = 0) && decide (mm_dpV s (mm_n s 42 - (t + 1)) (z ||| 2 ^ b) + mm_wp s t = mm_dpV s (mm_n s 42 - t) z)) = false))) → mm_R G w h (mm_setV s 51 (aw_u L t (sp_cv g))) → mm_same w h0 h → AW G (aw_rm 0 0 0) yX5_putDoers cX5_putDoers 5 none (aw_N G (mm_Po G w h0 none (mm_putS s)) 0 0) 0 0 h 26 [(0, .ref w.1), (1, .int (nI z)), (2, .int (nI t)), (3, .int (sp_cv c))] [] := by
    intro t z L ht hz hgo c
    induction c with
    | zero =>
      intro g h hc0 hI hR hs
      have eg : sp_pf (mm_n s 42) (mm_cd s) (mm_wp s) t z = g := by
        rcases hI with ⟨e, q⟩ | ⟨q1, q2, q3, q4⟩
        · rw [e]; exact sp_fst_no (fun b hb => q b (Nat.zero_le _) hb)
        · rw [show g = g - 1 + 1 by omega]
          exact sp_fst_yes (by omega) (fun b hb => q4 b (Nat.zero_le _) hb) q3
      rw [← eg] at hR
      refine aw_iload_n dX5_putDoers_26 rfl ?_
      refine aw_if_lt (tgt := 137) dX5_putDoers_27 (by decide) (fun c_27 => ?_) (fun c_27 => by exfalso; exact absurd c_27 (by decide))
      exact AW_dr (hgo h hR hs)
    | succ b ih =>
      intro g h hb hI hR hs
      rw [sp_cv_s]
      obtain ⟨o, ho⟩ : ∃ o, o = z ||| 2 ^ b := ⟨_, rfl⟩
      have ho8 : o < 256 := by rw [ho]; exact sp_or8 hz (by omega)
      have p2 := sp_2p (k := b) (by omega)
      have dv : z / 2 ^ b ≤ z := Nat.div_le_self _ _
      have md := Nat.mod_lt (z / 2 ^ b) (y := 2) (by decide)
      obtain ⟨u, hu⟩ : ∃ u, u = mm_dpV s (mm_n s 42 - (t + 1)) o := ⟨_, rfl⟩
      obtain ⟨v, hv⟩ : ∃ v, v = mm_dpV s (mm_n s 42 - t) z := ⟨_, rfl⟩
      obtain ⟨f1, f2⟩ := hT (256 * (t + 1) + o) (by omega)
      obtain ⟨f3, f4⟩ := hT (256 * t + z) (by omega)
      rw [mm_dpT_at ho8, ← hu] at f1 f2
      rw [mm_dpT_at hz, ← hv] at f3 f4
      have huP : sp_dP u (mm_n s 42 - (t + 1)) := by rw [hu]; exact VP _ _ (by omega)
      have hvP : sp_dP v (mm_n s 42 - t) := by rw [hv]; exact VP _ _ (by omega)
      obtain ⟨u1, u2, u3⟩ := sp_dP_up huP (by omega) (hp t (by omega))
      have hp9 := hp t (by omega)
      have hc9 := hc t b (by omega) (by omega)
      have eq := @sp_deq v (u + (1000 - mm_a s 55 t))
      rw [u2, u3] at eq
      have hv1 := hvP.1
      have hv2 := hvP.2
      have hu1 := huP.1
      have hu2 := huP.2
      have next : ∀ (g : Nat) (h : aw_H), (g = 0 ∧ (∀ b', b ≤ b' → b' < mm_n s 42 → (mm_cd s t b' && decide (z / 2 ^ b' % 2 = 0) && decide (mm_dpV s (mm_n s 42 - (t + 1)) (z ||| 2 ^ b') + mm_wp s t = mm_dpV s (mm_n s 42 - t) z)) = false) ∨ (b < g ∧ g ≤ mm_n s 42 ∧ (mm_cd s t (g - 1) && decide (z / 2 ^ (g - 1) % 2 = 0) && decide (mm_dpV s (mm_n s 42 - (t + 1)) (z ||| 2 ^ (g - 1)) + mm_wp s t = mm_dpV s (mm_n s 42 - t) z)) = true ∧ (∀ b', b ≤ b' → b' < g - 1 → (mm_cd s t b' && decide (z / 2 ^ b' % 2 = 0) && decide (mm_dpV s (mm_n s 42 - (t + 1)) (z ||| 2 ^ b') + mm_wp s t = mm_dpV s (mm_n s 42 - t) z)) = false))) → mm_R G w h (mm_setV s 51 (aw_u L t (sp_cv g))) → mm_same w h0 h → AW G (aw_rm 0 0 0) yX5_putDoers cX5_putDoers 5 none (aw_N G (mm_Po G w h0 none (mm_putS s)) 0 0) 0 0 h 131 [(0, .ref w.1), (1, .int (nI z)), (2, .int (nI t)), (3, .int (nI b))] [] := by
        intro g h hI hR hs
        refine aw_iinc (v := -1) dX5_putDoers_131 rfl rfl (by decide) rfl rfl ?_
        refine aw_goto (tgt := 26) dX5_putDoers_134 (by decide) ?_
        refine AW_ls ?_ (ih g h (by omega) hI hR hs)
        rw [aw_cvd]
        rfl
      have skip : ¬ (mm_a s 56 (8 * t + b) ≠ 0 ∧ z / 2 ^ b % 2 = 0 ∧ u + (1000 - mm_a s 55 t) = v) → AW G (aw_rm 0 0 0) yX5_putDoers cX5_putDoers 5 none (aw_N G (mm_Po G w h0 none (mm_putS s)) 0 0) 0 0 h 131 [(0, .ref w.1), (1, .int (nI z)), (2, .int (nI t)), (3, .int (nI b))] [] := fun y => by
        have ef : (mm_cd s t b && decide (z / 2 ^ b % 2 = 0) && decide (mm_dpV s (mm_n s 42 - (t + 1)) (z ||| 2 ^ b) + mm_wp s t = mm_dpV s (mm_n s 42 - t) z)) = false := by
          rw [← ho, ← hu, ← hv]
          unfold mm_cd mm_wp
          rw [← Bool.not_eq_true, Bool.and_eq_true, Bool.and_eq_true, decide_eq_true_iff, decide_eq_true_iff, decide_eq_true_iff]
          exact fun x => y ⟨x.1.1, x.1.2, x.2⟩
        refine next g h ?_ hR hs
        rcases hI with ⟨e, q⟩ | ⟨q1, q2, q3, q4⟩
        · refine Or.inl ⟨e, fun b' h1 h2 => ?_⟩
          by_cases e : b' = b
          · rw [e]; exact ef
          · exact q b' (by omega) h2
        · refine Or.inr ⟨by omega, q2, q3, fun b' h1 h2 => ?_⟩
          by_cases e : b' = b
          · rw [e]; exact ef
          · exact q4 b' (by omega) h2
      refine aw_iload_n dX5_putDoers_26 rfl ?_
      refine aw_if_ltN (tgt := 137) dX5_putDoers_27 (by decide) (by omega) ?_
      refine aw_aload_n dX5_putDoers_30 rfl ?_
      refine aw_get dX5_putDoers_31 fX5_109 rfl hR.1 (by rfl) ?_
      refine aw_bipush (v := nI 8) dX5_putDoers_34 rfl ?_
      refine aw_iload_n dX5_putDoers_36 rfl ?_
      refine aw_imulN dX5_putDoers_37 ?_
      refine aw_iload_n dX5_putDoers_38 rfl ?_
      refine aw_iaddN dX5_putDoers_39 ?_
      refine aw_zaldN dX5_putDoers_40 (hR.2.2.1 56 64 rfl) (by omega) (by decide) ?_
      try simp only [mm_n_N, mm_n_A, mm_n_V, mm_n_Fp, mm_n_W, mm_n_Nm, mm_a_N, mm_a_A, mm_a_V, mm_a_Fp, mm_a_W, mm_a_Nm, mm_v_N, mm_v_A, mm_v_V, mm_fp_N, mm_fp_A, mm_fp_Fp, mm_w_N, mm_w_W, Nat.reduceEqDiff, reduceIte, if_true, if_false, mm_H_45, mm_H_46, mm_H_47, mm_H_50, mm_H_53, mm_H_54, mm_H_55, mm_H_56, mm_H_57, mm_H_58, mm_H_66, mm_H_67, mm_H_68]
      refine aw_if_eqN (tgt := 131) dX5_putDoers_41 (by decide) (by omega) (fun c_41 => ?_) (fun c_41 => ?_)
      · first
          | exact skip (fun y => by omega)
          | exact AW_dr (skip (fun y => by omega))
          | (refine AW_dr (next (b + 1) h (Or.inr ⟨by omega, by omega, ?_, fun b' h1 h2 => by omega⟩) (mm_eq hR (by rw [aw_u_u, sp_cv_s])) hs)
             rw [Nat.add_sub_cancel, ← ho, ← hu, ← hv]
             unfold mm_cd mm_wp
             rw [Bool.and_eq_true, Bool.and_eq_true, decide_eq_true_iff, decide_eq_true_iff, decide_eq_true_iff]
             exact ⟨⟨c_41, by omega⟩, eq.mp ⟨c_92, c_121⟩⟩)
      · refine aw_iload_n dX5_putDoers_44 rfl ?_
        refine aw_iload_n dX5_putDoers_45 rfl ?_
        refine aw_ishrN dX5_putDoers_46 (by omega) (by omega) ?_
        refine aw_iconst (v := nI 1) dX5_putDoers_47 rfl ?_
        refine aw_iandN dX5_putDoers_48 ?_
        refine aw_iconst (v := nI 1) dX5_putDoers_49 rfl ?_
        rw [Nat.and_one_is_mod]
        refine aw_icmp_neN (tgt := 56) dX5_putDoers_50 (by decide) (by omega) (by omega) (fun c_50 => ?_) (fun c_50 => ?_)
        · refine aw_sipush (v := nI 256) dX5_putDoers_56 rfl ?_
          refine aw_iload_n dX5_putDoers_59 rfl ?_
          refine aw_iconst (v := nI 1) dX5_putDoers_60 rfl ?_
          refine aw_iaddN dX5_putDoers_61 ?_
          refine aw_imulN dX5_putDoers_62 ?_
          refine aw_iload_n dX5_putDoers_63 rfl ?_
          refine aw_iconst (v := nI 1) dX5_putDoers_64 rfl ?_
          refine aw_iload_n dX5_putDoers_65 rfl ?_
          refine aw_ishlN dX5_putDoers_66 (by omega) (by omega) ?_
          refine aw_iorN dX5_putDoers_67 ?_
          refine aw_iaddN dX5_putDoers_68 ?_
          rw [show 1 * 2 ^ b = 2 ^ b from Nat.one_mul _, ← ho]
          refine aw_istore dX5_putDoers_69 (by decide) rfl rfl ?_
          refine aw_aload_n dX5_putDoers_71 rfl ?_
          refine aw_get dX5_putDoers_72 fX5_100 rfl hR.1 (by rfl) ?_
          refine aw_iload dX5_putDoers_75 rfl ?_
          refine aw_ialdN dX5_putDoers_77 (hR.2.1 53 2304 rfl) (by omega) (by decide) ?_
          try simp only [mm_n_N, mm_n_A, mm_n_V, mm_n_Fp, mm_n_W, mm_n_Nm, mm_a_N, mm_a_A, mm_a_V, mm_a_Fp, mm_a_W, mm_a_Nm, mm_v_N, mm_v_A, mm_v_V, mm_fp_N, mm_fp_A, mm_fp_Fp, mm_w_N, mm_w_W, Nat.reduceEqDiff, reduceIte, if_true, if_false, mm_H_45, mm_H_46, mm_H_47, mm_H_50, mm_H_53, mm_H_54, mm_H_55, mm_H_56, mm_H_57, mm_H_58, mm_H_66, mm_H_67, mm_H_68]
          refine aw_iconst (v := nI 1) dX5_putDoers_78 rfl ?_
          refine aw_iaddN dX5_putDoers_79 ?_
          refine aw_aload_n dX5_putDoers_80 rfl ?_
          refine aw_get dX5_putDoers_81 fX5_100 rfl hR.1 (by rfl) ?_
          refine aw_sipush (v := nI 256) dX5_putDoers_84 rfl ?_
          refine aw_iload_n dX5_putDoers_87 rfl ?_
          refine aw_imulN dX5_putDoers_88 ?_
          refine aw_iload_n dX5_putDoers_89 rfl ?_
          refine aw_iaddN dX5_putDoers_90 ?_
          refine aw_ialdN dX5_putDoers_91 (hR.2.1 53 2304 rfl) (by omega) (by decide) ?_
          try simp only [mm_n_N, mm_n_A, mm_n_V, mm_n_Fp, mm_n_W, mm_n_Nm, mm_a_N, mm_a_A, mm_a_V, mm_a_Fp, mm_a_W, mm_a_Nm, mm_v_N, mm_v_A, mm_v_V, mm_fp_N, mm_fp_A, mm_fp_Fp, mm_w_N, mm_w_W, Nat.reduceEqDiff, reduceIte, if_true, if_false, mm_H_45, mm_H_46, mm_H_47, mm_H_50, mm_H_53, mm_H_54, mm_H_55, mm_H_56, mm_H_57, mm_H_58, mm_H_66, mm_H_67, mm_H_68]
          rw [f1, f3]
          refine aw_icmp_neN (tgt := 131) dX5_putDoers_92 (by decide) (by omega) (by omega) (fun c_92 => ?_) (fun c_92 => ?_)
          · first
              | exact skip (fun y => by omega)
              | exact AW_dr (skip (fun y => by omega))
              | (refine AW_dr (next (b + 1) h (Or.inr ⟨by omega, by omega, ?_, fun b' h1 h2 => by omega⟩) (mm_eq hR (by rw [aw_u_u, sp_cv_s])) hs)
                 rw [Nat.add_sub_cancel, ← ho, ← hu, ← hv]
                 unfold mm_cd mm_wp
                 rw [Bool.and_eq_true, Bool.and_eq_true, decide_eq_true_iff, decide_eq_true_iff, decide_eq_true_iff]
                 exact ⟨⟨c_41, by omega⟩, eq.mp ⟨c_92, c_121⟩⟩)
          · refine aw_aload_n dX5_putDoers_95 rfl ?_
            refine aw_get dX5_putDoers_96 fX5_103 rfl hR.1 (by rfl) ?_
            refine aw_iload dX5_putDoers_99 rfl ?_
            refine aw_ialdN dX5_putDoers_101 (hR.2.1 54 2304 rfl) (by omega) (by decide) ?_
            try simp only [mm_n_N, mm_n_A, mm_n_V, mm_n_Fp, mm_n_W, mm_n_Nm, mm_a_N, mm_a_A, mm_a_V, mm_a_Fp, mm_a_W, mm_a_Nm, mm_v_N, mm_v_A, mm_v_V, mm_fp_N, mm_fp_A, mm_fp_Fp, mm_w_N, mm_w_W, Nat.reduceEqDiff, reduceIte, if_true, if_false, mm_H_45, mm_H_46, mm_H_47, mm_H_50, mm_H_53, mm_H_54, mm_H_55, mm_H_56, mm_H_57, mm_H_58, mm_H_66, mm_H_67, mm_H_68]
            refine aw_aload_n dX5_putDoers_102 rfl ?_
            refine aw_get dX5_putDoers_103 fX5_106 rfl hR.1 (by rfl) ?_
            refine aw_iload_n dX5_putDoers_106 rfl ?_
            refine aw_ialdN dX5_putDoers_107 (hR.2.1 55 8 rfl) (by omega) (by decide) ?_
            try simp only [mm_n_N, mm_n_A, mm_n_V, mm_n_Fp, mm_n_W, mm_n_Nm, mm_a_N, mm_a_A, mm_a_V, mm_a_Fp, mm_a_W, mm_a_Nm, mm_v_N, mm_v_A, mm_v_V, mm_fp_N, mm_fp_A, mm_fp_Fp, mm_w_N, mm_w_W, Nat.reduceEqDiff, reduceIte, if_true, if_false, mm_H_45, mm_H_46, mm_H_47, mm_H_50, mm_H_53, mm_H_54, mm_H_55, mm_H_56, mm_H_57, mm_H_58, mm_H_66, mm_H_67, mm_H_68]
            refine aw_iaddN dX5_putDoers_108 ?_
            refine aw_aload_n dX5_putDoers_109 rfl ?_
            refine aw_get dX5_putDoers_110 fX5_103 rfl hR.1 (by rfl) ?_
            refine aw_sipush (v := nI 256) dX5_putDoers_113 rfl ?_
            refine aw_iload_n dX5_putDoers_116 rfl ?_
            refine aw_imulN dX5_putDoers_117 ?_
            refine aw_iload_n dX5_putDoers_118 rfl ?_
            refine aw_iaddN dX5_putDoers_119 ?_
            refine aw_ialdN dX5_putDoers_120 (hR.2.1 54 2304 rfl) (by omega) (by decide) ?_
            try simp only [mm_n_N, mm_n_A, mm_n_V, mm_n_Fp, mm_n_W, mm_n_Nm, mm_a_N, mm_a_A, mm_a_V, mm_a_Fp, mm_a_W, mm_a_Nm, mm_v_N, mm_v_A, mm_v_V, mm_fp_N, mm_fp_A, mm_fp_Fp, mm_w_N, mm_w_W, Nat.reduceEqDiff, reduceIte, if_true, if_false, mm_H_45, mm_H_46, mm_H_47, mm_H_50, mm_H_53, mm_H_54, mm_H_55, mm_H_56, mm_H_57, mm_H_58, mm_H_66, mm_H_67, mm_H_68]
            rw [f2, f4]
            refine aw_icmp_neN (tgt := 131) dX5_putDoers_121 (by decide) (by omega) (by omega) (fun c_121 => ?_) (fun c_121 => ?_)
            · first
                | exact skip (fun y => by omega)
                | exact AW_dr (skip (fun y => by omega))
                | (refine AW_dr (next (b + 1) h (Or.inr ⟨by omega, by omega, ?_, fun b' h1 h2 => by omega⟩) (mm_eq hR (by rw [aw_u_u, sp_cv_s])) hs)
                   rw [Nat.add_sub_cancel, ← ho, ← hu, ← hv]
                   unfold mm_cd mm_wp
                   rw [Bool.and_eq_true, Bool.and_eq_true, decide_eq_true_iff, decide_eq_true_iff, decide_eq_true_iff]
                   exact ⟨⟨c_41, by omega⟩, eq.mp ⟨c_92, c_121⟩⟩)
            · refine aw_aload_n dX5_putDoers_124 rfl ?_
              refine aw_get dX5_putDoers_125 fX5_97 rfl hR.1 (by rfl) ?_
              refine aw_iload_n dX5_putDoers_128 rfl ?_
              refine aw_iload_n dX5_putDoers_129 rfl ?_
              refine mm_vast (k := 51) rfl hW hR hs dX5_putDoers_130 (by omega) (by decide) (fun h hR hs => ?_)
              have hR := mm_VU hR
              first
                | exact skip (fun y => by omega)
                | exact AW_dr (skip (fun y => by omega))
                | (refine AW_dr (next (b + 1) h (Or.inr ⟨by omega, by omega, ?_, fun b' h1 h2 => by omega⟩) (mm_eq hR (by rw [aw_u_u, sp_cv_s])) hs)
                   rw [Nat.add_sub_cancel, ← ho, ← hu, ← hv]
                   unfold mm_cd mm_wp
                   rw [Bool.and_eq_true, Bool.and_eq_true, decide_eq_true_iff, decide_eq_true_iff, decide_eq_true_iff]
                   exact ⟨⟨c_41, by omega⟩, eq.mp ⟨c_92, c_121⟩⟩)
        · refine aw_goto (tgt := 131) dX5_putDoers_53 (by decide) ?_
          first
            | exact skip (fun y => by omega)
            | exact AW_dr (skip (fun y => by omega))
            | (refine AW_dr (next (b + 1) h (Or.inr ⟨by omega, by omega, ?_, fun b' h1 h2 => by omega⟩) (mm_eq hR (by rw [aw_u_u, sp_cv_s])) hs)
               rw [Nat.add_sub_cancel, ← ho, ← hu, ← hv]
               unfold mm_cd mm_wp
               rw [Bool.and_eq_true, Bool.and_eq_true, decide_eq_true_iff, decide_eq_true_iff, decide_eq_true_iff]
               exact ⟨⟨c_41, by omega⟩, eq.mp ⟨c_92, c_121⟩⟩)
  have row4 : ∀ (m t : Nat) (h : aw_H), mm_n s 42 - t = m → t ≤ mm_n s 42 → mm_R G w h (mm_setV s 51 (mm_pL s t)) → mm_same w h0 h → AW G (aw_rm 0 0 0) yX5_putDoers cX5_putDoers 5 none (aw_N G (mm_Po G w h0 none (mm_putS s)) 0 0) 0 0 h 4 [(0, .ref w.1), (1, .int (nI (sp_pz (mm_n s 42) (mm_cd s) (mm_wp s) t))), (2, .int (nI t))] [] := by
    intro m
    induction m using Nat.strongRecOn with
    | _ m ih =>
      intro t h hm ht hR hs
      obtain ⟨z, hz⟩ : ∃ z, z = sp_pz (mm_n s 42) (mm_cd s) (mm_wp s) t := ⟨_, rfl⟩
      have hz8 : z < 256 := by rw [hz]; exact sp_pz_lt hn t
      rw [← hz]
      by_cases ht9 : t < mm_n s 42
      · obtain ⟨g, hg⟩ : ∃ g, g = sp_pf (mm_n s 42) (mm_cd s) (mm_wp s) t z := ⟨_, rfl⟩
        have hg8 : g ≤ mm_n s 42 := by rw [hg]; exact sp_fst_le _
        have eL : ∀ x, x = sp_cv g → aw_u (mm_pL s t) t x = mm_pL s (t + 1) := fun x hx => by
          funext j
          unfold mm_pL aw_u
          dsimp only
          by_cases e : j = t
          · rw [if_pos e, if_pos (by omega), hx, hg, hz, e]; rfl
          · rw [if_neg e]
            by_cases e2 : j < t
            · rw [if_pos e2, if_pos (by omega)]
            · rw [if_neg e2, if_neg (by omega)]
        have eZ : sp_pz (mm_n s 42) (mm_cd s) (mm_wp s) (t + 1) = if g = 0 then z else z ||| 2 ^ (g - 1) := by rw [hg, hz]; rfl
        have eT : mm_pL s (t + 1) t = sp_cv g := by rw [← eL _ rfl, aw_u_s]
        have next : ∀ (z' : Nat) (h : aw_H), z' = sp_pz (mm_n s 42) (mm_cd s) (mm_wp s) (t + 1) → mm_R G w h (mm_setV s 51 (mm_pL s (t + 1))) → mm_same w h0 h → AW G (aw_rm 0 0 0) yX5_putDoers cX5_putDoers 5 none (aw_N G (mm_Po G w h0 none (mm_putS s)) 0 0) 0 0 h 157 [(0, .ref w.1), (1, .int (nI z')), (2, .int (nI t))] [] := by
          intro z' h ez hR hs
          rw [ez]
          refine aw_iincN (b := 1) dX5_putDoers_157 rfl rfl (by decide) rfl rfl ?_
          refine aw_goto (tgt := 4) dX5_putDoers_160 (by decide) ?_
          exact ih (mm_n s 42 - (t + 1)) (by omega) (t + 1) h rfl (by omega) hR hs
        have aft : ∀ (h : aw_H), mm_R G w h (mm_setV s 51 (aw_u (mm_pL s t) t (sp_cv (sp_pf (mm_n s 42) (mm_cd s) (mm_wp s) t z)))) → mm_same w h0 h → AW G (aw_rm 0 0 0) yX5_putDoers cX5_putDoers 5 none (aw_N G (mm_Po G w h0 none (mm_putS s)) 0 0) 0 0 h 137 [(0, .ref w.1), (1, .int (nI z)), (2, .int (nI t))] [] := by
          intro h hR hs
          have hR := mm_eq hR (show _ = mm_setV s 51 (mm_pL s (t + 1)) by rw [← hg, eL _ rfl])
          rcases (show g = 0 ∨ ∃ b, g = b + 1 from by cases g with | zero => exact Or.inl rfl | succ b => exact Or.inr ⟨b, rfl⟩) with e | ⟨b, e⟩
          · rw [e] at eT eZ
            refine aw_aload_n dX5_putDoers_137 rfl ?_
            refine aw_get dX5_putDoers_138 fX5_97 rfl hR.1 (by rfl) ?_
            refine aw_iload_n dX5_putDoers_141 rfl ?_
            refine aw_ialdN dX5_putDoers_142 (hR.2.2.2.1 51 8 rfl) (by omega) (by decide) ?_
            try simp only [mm_n_N, mm_n_A, mm_n_V, mm_n_Fp, mm_n_W, mm_n_Nm, mm_a_N, mm_a_A, mm_a_V, mm_a_Fp, mm_a_W, mm_a_Nm, mm_v_N, mm_v_A, mm_v_V, mm_fp_N, mm_fp_A, mm_fp_Fp, mm_w_N, mm_w_W, Nat.reduceEqDiff, reduceIte, if_true, if_false, mm_H_45, mm_H_46, mm_H_47, mm_H_50, mm_H_53, mm_H_54, mm_H_55, mm_H_56, mm_H_57, mm_H_58, mm_H_66, mm_H_67, mm_H_68]
            rw [eT]
            refine aw_if_lt (tgt := 157) dX5_putDoers_143 (by decide) (fun c_143 => ?_) (fun c_143 => by exfalso; exact absurd (by decide) c_143)
            refine next _ h ?_ hR hs
            rw [eZ]
            rfl
          · rw [e, sp_cv_s] at eT
            rw [e, if_neg (by omega), Nat.add_sub_cancel] at eZ
            have p2 := sp_2p (k := b) (by omega)
            refine aw_aload_n dX5_putDoers_137 rfl ?_
            refine aw_get dX5_putDoers_138 fX5_97 rfl hR.1 (by rfl) ?_
            refine aw_iload_n dX5_putDoers_141 rfl ?_
            refine aw_ialdN dX5_putDoers_142 (hR.2.2.2.1 51 8 rfl) (by omega) (by decide) ?_
            try simp only [mm_n_N, mm_n_A, mm_n_V, mm_n_Fp, mm_n_W, mm_n_Nm, mm_a_N, mm_a_A, mm_a_V, mm_a_Fp, mm_a_W, mm_a_Nm, mm_v_N, mm_v_A, mm_v_V, mm_fp_N, mm_fp_A, mm_fp_Fp, mm_w_N, mm_w_W, Nat.reduceEqDiff, reduceIte, if_true, if_false, mm_H_45, mm_H_46, mm_H_47, mm_H_50, mm_H_53, mm_H_54, mm_H_55, mm_H_56, mm_H_57, mm_H_58, mm_H_66, mm_H_67, mm_H_68]
            rw [eT]
            refine aw_if_ltN (tgt := 157) dX5_putDoers_143 (by decide) (by omega) ?_
            refine aw_iload_n dX5_putDoers_146 rfl ?_
            refine aw_iconst (v := nI 1) dX5_putDoers_147 rfl ?_
            refine aw_aload_n dX5_putDoers_148 rfl ?_
            refine aw_get dX5_putDoers_149 fX5_97 rfl hR.1 (by rfl) ?_
            refine aw_iload_n dX5_putDoers_152 rfl ?_
            refine aw_ialdN dX5_putDoers_153 (hR.2.2.2.1 51 8 rfl) (by omega) (by decide) ?_
            try simp only [mm_n_N, mm_n_A, mm_n_V, mm_n_Fp, mm_n_W, mm_n_Nm, mm_a_N, mm_a_A, mm_a_V, mm_a_Fp, mm_a_W, mm_a_Nm, mm_v_N, mm_v_A, mm_v_V, mm_fp_N, mm_fp_A, mm_fp_Fp, mm_w_N, mm_w_W, Nat.reduceEqDiff, reduceIte, if_true, if_false, mm_H_45, mm_H_46, mm_H_47, mm_H_50, mm_H_53, mm_H_54, mm_H_55, mm_H_56, mm_H_57, mm_H_58, mm_H_66, mm_H_67, mm_H_68]
            rw [eT]
            refine aw_ishlN dX5_putDoers_154 (by omega) (by omega) ?_
            refine aw_iorN dX5_putDoers_155 ?_
            refine aw_istore_n dX5_putDoers_156 (by decide) rfl rfl ?_
            refine next _ h ?_ hR hs
            rw [eZ, Nat.one_mul]
        refine aw_iload_n dX5_putDoers_4 rfl ?_
        refine aw_aload_n dX5_putDoers_5 rfl ?_
        refine aw_get dX5_putDoers_6 fX5_350 rfl hR.1 (by rfl) ?_
        try simp only [mm_n_N, mm_n_A, mm_n_V, mm_n_Fp, mm_n_W, mm_n_Nm, mm_a_N, mm_a_A, mm_a_V, mm_a_Fp, mm_a_W, mm_a_Nm, mm_v_N, mm_v_A, mm_v_V, mm_fp_N, mm_fp_A, mm_fp_Fp, mm_w_N, mm_w_W, Nat.reduceEqDiff, reduceIte, if_true, if_false, mm_H_45, mm_H_46, mm_H_47, mm_H_50, mm_H_53, mm_H_54, mm_H_55, mm_H_56, mm_H_57, mm_H_58, mm_H_66, mm_H_67, mm_H_68]
        refine aw_icmp_geN (tgt := 163) dX5_putDoers_9 (by decide) (by omega) (by omega) (fun c_9 => by exfalso; omega) (fun c_9 => ?_)
        refine aw_aload_n dX5_putDoers_12 rfl ?_
        refine aw_get dX5_putDoers_13 fX5_97 rfl hR.1 (by rfl) ?_
        refine aw_iload_n dX5_putDoers_16 rfl ?_
        refine aw_iconst (v := -1) dX5_putDoers_17 rfl ?_
        refine mm_vast (k := 51) rfl hW hR hs dX5_putDoers_18 (by omega) (by decide) (fun h hR hs => ?_)
        have hR := mm_VU hR
        refine aw_aload_n dX5_putDoers_19 rfl ?_
        refine aw_get dX5_putDoers_20 fX5_350 rfl hR.1 (by rfl) ?_
        try simp only [mm_n_N, mm_n_A, mm_n_V, mm_n_Fp, mm_n_W, mm_n_Nm, mm_a_N, mm_a_A, mm_a_V, mm_a_Fp, mm_a_W, mm_a_Nm, mm_v_N, mm_v_A, mm_v_V, mm_fp_N, mm_fp_A, mm_fp_Fp, mm_w_N, mm_w_W, Nat.reduceEqDiff, reduceIte, if_true, if_false, mm_H_45, mm_H_46, mm_H_47, mm_H_50, mm_H_53, mm_H_54, mm_H_55, mm_H_56, mm_H_57, mm_H_58, mm_H_66, mm_H_67, mm_H_68]
        refine aw_iconst (v := nI 1) dX5_putDoers_23 rfl ?_
        refine aw_isub dX5_putDoers_24 ?_
        refine aw_istore_n dX5_putDoers_25 (by decide) rfl rfl ?_
        refine AW_ls ?_ (by26 t z (mm_pL s t) ht9 hz8 aft (mm_n s 42) 0 h (Nat.le_refl _) (Or.inl ⟨rfl, fun b h1 h2 => by omega⟩) (mm_eq hR rfl) hs)
        rw [← aw_cvs]
        rfl
      · obtain rfl : t = mm_n s 42 := by omega
        refine aw_iload_n dX5_putDoers_4 rfl ?_
        refine aw_aload_n dX5_putDoers_5 rfl ?_
        refine aw_get dX5_putDoers_6 fX5_350 rfl hR.1 (by rfl) ?_
        try simp only [mm_n_N, mm_n_A, mm_n_V, mm_n_Fp, mm_n_W, mm_n_Nm, mm_a_N, mm_a_A, mm_a_V, mm_a_Fp, mm_a_W, mm_a_Nm, mm_v_N, mm_v_A, mm_v_V, mm_fp_N, mm_fp_A, mm_fp_Fp, mm_w_N, mm_w_W, Nat.reduceEqDiff, reduceIte, if_true, if_false, mm_H_45, mm_H_46, mm_H_47, mm_H_50, mm_H_53, mm_H_54, mm_H_55, mm_H_56, mm_H_57, mm_H_58, mm_H_66, mm_H_67, mm_H_68]
        refine aw_icmp_geN (tgt := 163) dX5_putDoers_9 (by decide) (by omega) (by omega) (fun c_9 => ?_) (fun c_9 => by exfalso; omega)
        refine aw_aload_n dX5_putDoers_163 rfl ?_
        refine aw_aload_n dX5_putDoers_164 rfl ?_
        refine aw_get dX5_putDoers_165 fX5_350 rfl hR.1 (by rfl) ?_
        try simp only [mm_n_N, mm_n_A, mm_n_V, mm_n_Fp, mm_n_W, mm_n_Nm, mm_a_N, mm_a_A, mm_a_V, mm_a_Fp, mm_a_W, mm_a_Nm, mm_v_N, mm_v_A, mm_v_V, mm_fp_N, mm_fp_A, mm_fp_Fp, mm_w_N, mm_w_W, Nat.reduceEqDiff, reduceIte, if_true, if_false, mm_H_45, mm_H_46, mm_H_47, mm_H_50, mm_H_53, mm_H_54, mm_H_55, mm_H_56, mm_H_57, mm_H_58, mm_H_66, mm_H_67, mm_H_68]
        refine mm_putN (k := 52) hW hR hs dX5_putDoers_168 (pX5_365 _) rfl rfl (mm_F_set52 _ _ _) (by decide) (fun h hR hs => ?_)
        refine aw_vreturn dX5_putDoers_171 rfl ?_
        exact ⟨rfl, hR, hs⟩
  refine aw_iconst (v := nI 0) dX5_putDoers_0 rfl ?_
  refine aw_istore_n dX5_putDoers_1 (by decide) rfl rfl ?_
  refine aw_iconst (v := nI 0) dX5_putDoers_2 rfl ?_
  refine aw_istore_n dX5_putDoers_3 (by decide) rfl rfl ?_
  exact row4 _ 0 h0 rfl (Nat.zero_le _) (mm_eq hR (mm_V_id (fun j => by unfold mm_pL; rw [if_neg (by omega)])).symm) hs

