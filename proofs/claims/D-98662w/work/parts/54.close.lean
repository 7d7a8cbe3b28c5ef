set_option maxRecDepth 100000
/-! the model: signs that are done -/
def sp_dp (f : Nat → Nat) : Nat → Nat
  | 0 => 0
  | k + 1 => sp_dp f k + (if f k = 20 ∨ f k = 21 then 1 else 0)
/-- what is open: a form, its signs, how deep; room for steps -/
def mm_clI (s : mm_S) : Prop := mm_n s 20 < 2 ∧ mm_n s 21 ≤ 160 ∧ (∀ j, j < mm_n s 21 → sp_osg (mm_a s 17 j)) ∧ mm_n s 25 = sp_dp (mm_a s 17) (mm_n s 21) ∧ mm_a s 13 (mm_n s 20) + mm_n s 21 ≤ 320
def mm_cl1 (s : mm_S) (c : Nat) : mm_S := if mm_a s 17 c = 21 then mm_setN (mm_addS (mm_setN s 21 c) 2 0) 25 (mm_n s 25 - 1) else mm_addS (mm_setN s 21 c) 3 (mm_a s 17 c)
def mm_cl (v : Nat) : Nat → mm_S → mm_S
  | 0, s => s
  | c + 1, s => if mm_a s 17 c ≠ 20 ∧ v ≤ sp_tight (mm_a s 17 c) then mm_cl v c (mm_cl1 s c) else s
theorem mm_add_13 {s : mm_S} {x v : Nat} : mm_a (mm_addS s x v) 13 (mm_n s 20) = mm_a s 13 (mm_n s 20) + 1 := by
  show aw_u (mm_a s 13) (mm_n s 20) (mm_a s 13 (mm_n s 20) + 1) (mm_n s 20) = _
  rw [aw_u_s]
/-- what stays -/
def mm_fr (r s : mm_S) : Prop := (∀ j, j ≠ 21 → j ≠ 25 → mm_n r j = mm_n s j) ∧ (∀ k, k ≠ 11 → k ≠ 12 → k ≠ 13 → mm_a r k = mm_a s k) ∧ r.2.1 = s.2.1 ∧ r.2.2.1 = s.2.2.1 ∧ r.2.2.2.2 = s.2.2.2.2
theorem mm_fr.rf {s : mm_S} : mm_fr s s := ⟨fun _ _ _ => rfl, fun _ _ _ _ => rfl, rfl, rfl, rfl⟩
theorem mm_fr.tr {r s t : mm_S} (a : mm_fr r s) (b : mm_fr s t) : mm_fr r t := ⟨fun j h1 h2 => (a.1 j h1 h2).trans (b.1 j h1 h2), fun k h1 h2 h3 => (a.2.1 k h1 h2 h3).trans (b.2.1 k h1 h2 h3), a.2.2.1.trans b.2.2.1, a.2.2.2.1.trans b.2.2.2.1, a.2.2.2.2.trans b.2.2.2.2⟩
theorem mm_add_fr {s : mm_S} {x v : Nat} : (∀ j, mm_n (mm_addS s x v) j = mm_n s j) ∧ (∀ k, k ≠ 11 → k ≠ 12 → k ≠ 13 → mm_a (mm_addS s x v) k = mm_a s k) ∧ (mm_addS s x v).2.1 = s.2.1 ∧ (mm_addS s x v).2.2.1 = s.2.2.1 ∧ (mm_addS s x v).2.2.2.2 = s.2.2.2.2 := by
  refine ⟨fun _ => rfl, fun k h1 h2 h3 => ?_, rfl, rfl, rfl⟩
  funext j
  unfold mm_addS
  rw [mm_a_A, if_neg h3, mm_a_A, if_neg h2, mm_a_A, if_neg h1]
theorem mm_cl1_fr {s : mm_S} {c : Nat} : mm_fr (mm_cl1 s c) s := by
  unfold mm_cl1
  split
  · obtain ⟨a1, a2, a3, a4, a5⟩ := mm_add_fr (s := mm_setN s 21 c) (x := 2) (v := 0)
    refine ⟨fun j h1 h2 => ?_, fun k h1 h2 h3 => a2 k h1 h2 h3, a3, a4, a5⟩
    rw [mm_n_N, if_neg h2, a1, mm_n_N, if_neg h1]
  · obtain ⟨a1, a2, a3, a4, a5⟩ := mm_add_fr (s := mm_setN s 21 c) (x := 3) (v := mm_a s 17 c)
    refine ⟨fun j h1 h2 => ?_, fun k h1 h2 h3 => a2 k h1 h2 h3, a3, a4, a5⟩
    rw [a1, mm_n_N, if_neg h1]
theorem mm_cl1_I {s : mm_S} {c : Nat} (hI : mm_clI s) (hc : mm_n s 21 = c + 1) (h20 : mm_a s 17 c ≠ 20) : mm_clI (mm_cl1 s c) ∧ mm_n (mm_cl1 s c) 21 = c ∧ mm_a (mm_cl1 s c) 13 (mm_n s 20) = mm_a s 13 (mm_n s 20) + 1 := by
  obtain ⟨i1, i2, i3, i4, i5⟩ := hI
  have e20 : mm_n (mm_cl1 s c) 20 = mm_n s 20 := mm_cl1_fr.1 20 (by decide) (by decide)
  have e17 : mm_a (mm_cl1 s c) 17 = mm_a s 17 := mm_cl1_fr.2.1 17 (by decide) (by decide) (by decide)
  have e21 : mm_n (mm_cl1 s c) 21 = c := by
    unfold mm_cl1
    split <;> rfl
  have e13 : mm_a (mm_cl1 s c) 13 (mm_n s 20) = mm_a s 13 (mm_n s 20) + 1 := by
    unfold mm_cl1
    split
    · exact mm_add_13 (s := mm_setN s 21 c)
    · exact mm_add_13 (s := mm_setN s 21 c)
  have e25 : mm_n (mm_cl1 s c) 25 = if mm_a s 17 c = 21 then mm_n s 25 - 1 else mm_n s 25 := by
    unfold mm_cl1
    split <;> rfl
  have d1 : sp_dp (mm_a s 17) (c + 1) = sp_dp (mm_a s 17) c + (if mm_a s 17 c = 20 ∨ mm_a s 17 c = 21 then 1 else 0) := rfl
  rw [hc] at i4
  refine ⟨⟨by rw [e20]; exact i1, by omega, fun j hj => by rw [e17]; exact i3 j (by omega), ?_, by rw [e20, e13, e21]; omega⟩, e21, e13⟩
  rw [e25, e21, e17]
  by_cases z : mm_a s 17 c = 21
  · rw [if_pos z]
    rw [if_pos (Or.inr z)] at d1
    omega
  · rw [if_neg z]
    rw [if_neg (by omega)] at d1
    omega
/-- what closing leaves -/
theorem mm_cl_P {v : Nat} : ∀ (c : Nat) (s : mm_S), mm_n s 21 = c → mm_clI s → mm_clI (mm_cl v c s) ∧ mm_n (mm_cl v c s) 21 ≤ c ∧ mm_a (mm_cl v c s) 13 (mm_n s 20) + mm_n (mm_cl v c s) 21 = mm_a s 13 (mm_n s 20) + c ∧ mm_fr (mm_cl v c s) s ∧ (mm_n (mm_cl v c s) 21 = 0 ∨ mm_a s 17 (mm_n (mm_cl v c s) 21 - 1) = 20 ∨ sp_tight (mm_a s 17 (mm_n (mm_cl v c s) 21 - 1)) < v) := by
  intro c
  induction c with
  | zero => intro s hc hI; exact ⟨hI, by show mm_n s 21 ≤ 0; omega, by show mm_a s 13 (mm_n s 20) + mm_n s 21 = _; omega, mm_fr.rf, Or.inl hc⟩
  | succ c ih =>
    intro s hc hI
    by_cases z : mm_a s 17 c ≠ 20 ∧ v ≤ sp_tight (mm_a s 17 c)
    · have e : mm_cl v (c + 1) s = mm_cl v c (mm_cl1 s c) := if_pos z
      obtain ⟨j1, j2, j3⟩ := mm_cl1_I hI hc z.1
      obtain ⟨k1, k2, k3, k4, k5⟩ := ih (mm_cl1 s c) j2 j1
      have e20 : mm_n (mm_cl1 s c) 20 = mm_n s 20 := mm_cl1_fr.1 20 (by decide) (by decide)
      have e17 : mm_a (mm_cl1 s c) 17 = mm_a s 17 := mm_cl1_fr.2.1 17 (by decide) (by decide) (by decide)
      rw [e20, j3] at k3
      rw [e17] at k5
      rw [e]
      exact ⟨k1, by omega, by omega, k4.tr mm_cl1_fr, k5⟩
    · have e : mm_cl v (c + 1) s = s := if_neg z
      rw [e]
      refine ⟨hI, by omega, by omega, mm_fr.rf, Or.inr ?_⟩
      rw [hc, Nat.add_sub_cancel]
      omega
set_option maxHeartbeats 4000000 in
theorem mm_close {s : mm_S} {v : Nat} (hI : mm_clI s) (hv : v ≤ 6) : mm_Met yX5_close cX5_close 2 none 1 [.int (nI (v))] s none (mm_cl v (mm_n s 21) s) := by
  refine mm_Met.of (by decide +kernel) (fun _ => Nat.le_of_ble_eq_true rfl) (fun G w h0 hW hR => ?_)
  have hs : mm_same w h0 h0 := mm_same.rf
  show AW G (aw_rm 1 0 0) yX5_close cX5_close 2 none (aw_N G (mm_Po G w h0 none (mm_cl v (mm_n s 21) s)) 0 0) 0 0 h0 0 [(0, .ref w.1), (1, .int (nI (v)))] []
  have loop : ∀ (c : Nat) (s1 : mm_S) (h : aw_H), mm_n s1 21 = c → mm_clI s1 → mm_cl v c s1 = mm_cl v (mm_n s 21) s → mm_R G w h s1 → mm_same w h0 h → AW G (aw_rm 1 0 0) yX5_close cX5_close 2 none (aw_N G (mm_Po G w h0 none (mm_cl v (mm_n s 21) s)) 0 0) 0 0 h 0 [(0, .ref w.1), (1, .int (nI v))] [] := by
    intro c
    induction c with
    | zero =>
      intro s1 h hc hI eq hR hs
      refine aw_aload_n dX5_close_0 rfl ?_
      refine aw_get dX5_close_1 fX5_254 rfl hR.1 (by rfl) ?_
      refine aw_if_leN (tgt := 101) dX5_close_4 (by decide) (by omega) (fun c_4 => ?_) (fun c_4 => by exfalso; omega)
      refine aw_vreturn dX5_close_101 rfl ?_
      exact ⟨rfl, mm_eq hR eq, hs⟩
    | succ c ih =>
      intro s1 h hc hI eq hR hs
      obtain ⟨i1, i2, i3, i4, i5⟩ := hI
      have o1 : sp_osg (mm_a s1 17 (mm_n s1 21 - 1)) := i3 _ (by omega)
      have o2 := sp_osg_lt o1
      have o3 := sp_tight_le (mm_a s1 17 (mm_n s1 21 - 1))
      have ec : mm_n s1 21 - 1 = c := by omega
      have d1 : sp_dp (mm_a s1 17) (c + 1) = sp_dp (mm_a s1 17) c + (if mm_a s1 17 c = 20 ∨ mm_a s1 17 c = 21 then 1 else 0) := rfl
      have go : ∀ h, (mm_a s1 17 c ≠ 20 ∧ v ≤ sp_tight (mm_a s1 17 c)) → mm_R G w h (mm_cl1 s1 c) → mm_same w h0 h → AW G (aw_rm 1 0 0) yX5_close cX5_close 2 none (aw_N G (mm_Po G w h0 none (mm_cl v (mm_n s 21) s)) 0 0) 0 0 h 0 [(0, .ref w.1), (1, .int (nI v))] [] := fun h z hR hs => ih (mm_cl1 s1 c) h (mm_cl1_I ⟨i1, i2, i3, i4, i5⟩ hc z.1).2.1 (mm_cl1_I ⟨i1, i2, i3, i4, i5⟩ hc z.1).1 (by rw [← eq]; exact (if_pos z).symm) hR hs
      have ot : ∀ h, ¬ (mm_a s1 17 c ≠ 20 ∧ v ≤ sp_tight (mm_a s1 17 c)) → mm_R G w h s1 → mm_same w h0 h → AW G (aw_rm 1 0 0) yX5_close cX5_close 2 none (aw_N G (mm_Po G w h0 none (mm_cl v (mm_n s 21) s)) 0 0) 0 0 h 101 [(0, .ref w.1), (1, .int (nI v))] [] := by
        intro h z hR hs
        refine aw_vreturn dX5_close_101 rfl ?_
        exact ⟨rfl, mm_eq hR (by rw [← eq]; exact (if_neg z).symm), hs⟩
      rw [ec] at o1 o2 o3
      refine aw_aload_n dX5_close_0 rfl ?_
      refine aw_get dX5_close_1 fX5_254 rfl hR.1 (by rfl) ?_
      refine aw_if_leN (tgt := 101) dX5_close_4 (by decide) (by omega) (fun c_4 => by exfalso; omega) (fun c_4 => ?_)
      refine aw_aload_n dX5_close_7 rfl ?_
      refine aw_get dX5_close_8 fX5_39 rfl hR.1 (by rfl) ?_
      refine aw_aload_n dX5_close_11 rfl ?_
      refine aw_get dX5_close_12 fX5_254 rfl hR.1 (by rfl) ?_
      refine aw_iconst (v := nI 1) dX5_close_15 rfl ?_
      refine aw_isubN dX5_close_16 (by omega) ?_
      rw [ec]
      refine aw_ialdN dX5_close_17 (hR.2.1 17 160 rfl) (by omega) (by decide) ?_
      refine aw_bipush (v := nI 20) dX5_close_18 rfl ?_
      refine aw_icmp_eqN (tgt := 101) dX5_close_20 (by decide) (by omega) (by omega) (fun c_20 => ?_) (fun c_20 => ?_)
      · exact ot h (by omega) hR hs
      · refine aw_aload_n dX5_close_23 rfl ?_
        refine aw_get dX5_close_24 fX5_39 rfl hR.1 (by rfl) ?_
        refine aw_aload_n dX5_close_27 rfl ?_
        refine aw_get dX5_close_28 fX5_254 rfl hR.1 (by rfl) ?_
        refine aw_iconst (v := nI 1) dX5_close_31 rfl ?_
        refine aw_isubN dX5_close_32 (by omega) ?_
        rw [ec]
        refine aw_ialdN dX5_close_33 (hR.2.1 17 160 rfl) (by omega) (by decide) ?_
        refine aw_callP (r := _) dX5_close_34 sX5_257 rfl (mp_tight o1) rfl rfl ⟨Nat.le_of_ble_eq_true rfl, Nat.le_of_ble_eq_true rfl⟩ (Nat.le_of_ble_eq_true rfl) ?_
        refine aw_iload_n dX5_close_37 rfl ?_
        refine aw_icmp_ltN (tgt := 101) dX5_close_38 (by decide) (by omega) (by omega) (fun c_38 => ?_) (fun c_38 => ?_)
        · exact ot h (by omega) hR hs
        · refine aw_aload_n dX5_close_41 rfl ?_
          refine aw_dup dX5_close_42 rfl ?_
          refine aw_get dX5_close_43 fX5_254 rfl hR.1 (by rfl) ?_
          refine aw_iconst (v := nI 1) dX5_close_46 rfl ?_
          refine aw_isubN dX5_close_47 (by omega) ?_
          rw [ec]
          refine mm_putN (k := 21) hW hR hs dX5_close_48 (pX5_254 _) rfl rfl (mm_F_set21 _ _ _) (by decide) (fun h hR hs => ?_)
          refine aw_aload_n dX5_close_51 rfl ?_
          refine aw_get dX5_close_52 fX5_39 rfl hR.1 (by rfl) ?_
          refine aw_aload_n dX5_close_55 rfl ?_
          refine aw_get dX5_close_56 fX5_254 rfl hR.1 (by rfl) ?_
          try simp only [mm_n_N, mm_n_A, mm_n_V, mm_n_Fp, mm_n_W, mm_n_Nm, mm_a_N, mm_a_A, mm_a_V, mm_a_Fp, mm_a_W, mm_a_Nm, mm_v_N, mm_v_A, mm_v_V, mm_fp_N, mm_fp_A, mm_fp_Fp, mm_w_N, mm_w_W, Nat.reduceEqDiff, reduceIte, if_true, if_false, mm_H_45, mm_H_46, mm_H_47, mm_H_50, mm_H_53, mm_H_54, mm_H_55, mm_H_56, mm_H_57, mm_H_58, mm_H_66, mm_H_67, mm_H_68]
          refine aw_ialdN dX5_close_59 (hR.2.1 17 160 rfl) (by omega) (by decide) ?_
          try simp only [mm_n_N, mm_n_A, mm_n_V, mm_n_Fp, mm_n_W, mm_n_Nm, mm_a_N, mm_a_A, mm_a_V, mm_a_Fp, mm_a_W, mm_a_Nm, mm_v_N, mm_v_A, mm_v_V, mm_fp_N, mm_fp_A, mm_fp_Fp, mm_w_N, mm_w_W, Nat.reduceEqDiff, reduceIte, if_true, if_false, mm_H_45, mm_H_46, mm_H_47, mm_H_50, mm_H_53, mm_H_54, mm_H_55, mm_H_56, mm_H_57, mm_H_58, mm_H_66, mm_H_67, mm_H_68]
          refine aw_bipush (v := nI 21) dX5_close_60 rfl ?_
          refine aw_icmp_neN (tgt := 84) dX5_close_62 (by decide) (by omega) (by omega) (fun c_62 => ?_) (fun c_62 => ?_)
          · refine aw_aload_n dX5_close_84 rfl ?_
            refine aw_iconst (v := nI 3) dX5_close_85 rfl ?_
            refine aw_aload_n dX5_close_86 rfl ?_
            refine aw_get dX5_close_87 fX5_39 rfl hR.1 (by rfl) ?_
            refine aw_aload_n dX5_close_90 rfl ?_
            refine aw_get dX5_close_91 fX5_254 rfl hR.1 (by rfl) ?_
            try simp only [mm_n_N, mm_n_A, mm_n_V, mm_n_Fp, mm_n_W, mm_n_Nm, mm_a_N, mm_a_A, mm_a_V, mm_a_Fp, mm_a_W, mm_a_Nm, mm_v_N, mm_v_A, mm_v_V, mm_fp_N, mm_fp_A, mm_fp_Fp, mm_w_N, mm_w_W, Nat.reduceEqDiff, reduceIte, if_true, if_false, mm_H_45, mm_H_46, mm_H_47, mm_H_50, mm_H_53, mm_H_54, mm_H_55, mm_H_56, mm_H_57, mm_H_58, mm_H_66, mm_H_67, mm_H_68]
            refine aw_ialdN dX5_close_94 (hR.2.1 17 160 rfl) (by omega) (by decide) ?_
            try simp only [mm_n_N, mm_n_A, mm_n_V, mm_n_Fp, mm_n_W, mm_n_Nm, mm_a_N, mm_a_A, mm_a_V, mm_a_Fp, mm_a_W, mm_a_Nm, mm_v_N, mm_v_A, mm_v_V, mm_fp_N, mm_fp_A, mm_fp_Fp, mm_w_N, mm_w_W, Nat.reduceEqDiff, reduceIte, if_true, if_false, mm_H_45, mm_H_46, mm_H_47, mm_H_50, mm_H_53, mm_H_54, mm_H_55, mm_H_56, mm_H_57, mm_H_58, mm_H_66, mm_H_67, mm_H_68]
            refine mm_call dX5_close_95 sX5_260 rfl hW hR hs (mm_add (s := mm_setN s1 21 c) i1 (by show mm_a s1 13 (mm_n s1 20) < 320; omega)) rfl rfl ⟨Nat.le_of_ble_eq_true rfl, Nat.le_of_ble_eq_true rfl⟩ (Nat.le_of_ble_eq_true rfl) (fun h hR hs => ?_)
            refine aw_goto (tgt := 0) dX5_close_98 (by decide) ?_
            refine go h (by omega) (mm_eq hR ?_) hs
            unfold mm_cl1
            first
              | (rw [if_pos (by omega)]; done)
              | (rw [if_neg (by omega)]; done)
              | (rw [if_pos (by omega)]; rfl)
              | (rw [if_neg (by omega)]; rfl)
          · refine aw_aload_n dX5_close_65 rfl ?_
            refine aw_iconst (v := nI 2) dX5_close_66 rfl ?_
            refine aw_iconst (v := nI 0) dX5_close_67 rfl ?_
            refine mm_call dX5_close_68 sX5_260 rfl hW hR hs (mm_add (s := mm_setN s1 21 c) i1 (by show mm_a s1 13 (mm_n s1 20) < 320; omega)) rfl rfl ⟨Nat.le_of_ble_eq_true rfl, Nat.le_of_ble_eq_true rfl⟩ (Nat.le_of_ble_eq_true rfl) (fun h hR hs => ?_)
            refine aw_aload_n dX5_close_71 rfl ?_
            refine aw_dup dX5_close_72 rfl ?_
            refine aw_get dX5_close_73 fX5_264 rfl hR.1 (by rfl) ?_
            try simp only [mm_n_N, mm_n_A, mm_n_V, mm_n_Fp, mm_n_W, mm_n_Nm, mm_a_N, mm_a_A, mm_a_V, mm_a_Fp, mm_a_W, mm_a_Nm, mm_v_N, mm_v_A, mm_v_V, mm_fp_N, mm_fp_A, mm_fp_Fp, mm_w_N, mm_w_W, Nat.reduceEqDiff, reduceIte, if_true, if_false, mm_H_45, mm_H_46, mm_H_47, mm_H_50, mm_H_53, mm_H_54, mm_H_55, mm_H_56, mm_H_57, mm_H_58, mm_H_66, mm_H_67, mm_H_68]
            rw [show mm_n (mm_addS (mm_setN s1 21 c) 2 0) 25 = mm_n s1 25 from rfl]
            refine aw_iconst (v := nI 1) dX5_close_76 rfl ?_
            refine aw_isubN dX5_close_77 (by (have y : mm_a s1 17 c = 20 ∨ mm_a s1 17 c = 21 := by omega); rw [if_pos y] at d1; rw [hc] at i4; omega) ?_
            refine mm_putN (k := 25) hW hR hs dX5_close_78 (pX5_264 _) rfl rfl (mm_F_set25 _ _ _) (by decide) (fun h hR hs => ?_)
            refine aw_goto (tgt := 0) dX5_close_81 (by decide) ?_
            refine go h (by omega) (mm_eq hR ?_) hs
            unfold mm_cl1
            first
              | (rw [if_pos (by omega)]; done)
              | (rw [if_neg (by omega)]; done)
              | (rw [if_pos (by omega)]; rfl)
              | (rw [if_neg (by omega)]; rfl)
  exact loop (mm_n s 21) s h0 rfl hI rfl hR hs

