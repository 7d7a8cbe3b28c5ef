set_option maxRecDepth 100000
/-! the model: who does something for whom -/
def sp_e1 (v : Nat) : Nat := (v + 999) / 1000
def sp_e2 (v : Nat) : Nat := 1000 * ((v + 999) / 1000) - v
/-- the best, the first k doers tried -/
def sp_dk (cd : Nat → Bool) (w : Nat) (nx : Nat → Nat) (z : Nat) : Nat → Nat
  | 0 => nx z
  | k + 1 => if cd k = true ∧ z / 2 ^ k % 2 = 0 ∧ sp_dk cd w nx z k < nx (z ||| 2 ^ k) + w then nx (z ||| 2 ^ k) + w else sp_dk cd w nx z k
/-- the best for the last r of n, z do something already -/
def sp_dv (n : Nat) (cd : Nat → Nat → Bool) (w : Nat → Nat) : Nat → Nat → Nat
  | 0, _ => 0
  | r + 1, z => sp_dk (cd (n - (r + 1))) (w (n - (r + 1))) (sp_dv n cd w r) z n
def sp_dP (v r : Nat) : Prop := sp_e1 v ≤ r ∧ sp_e2 v ≤ 20 * sp_e1 v
theorem sp_dP_up {v r p : Nat} (h : sp_dP v r) (hr : r ≤ 7) (hp : p ≤ 20) : sp_dP (v + (1000 - p)) (r + 1) ∧ sp_e1 (v + (1000 - p)) = sp_e1 v + 1 ∧ sp_e2 (v + (1000 - p)) = sp_e2 v + p := by
  unfold sp_dP sp_e1 sp_e2 at *
  omega
theorem sp_dP_mo {v r : Nat} (h : sp_dP v r) : sp_dP v (r + 1) := ⟨by have := h.1; omega, h.2⟩
theorem sp_dk_P {cd : Nat → Bool} {p : Nat} {nx : Nat → Nat} {z r : Nat} (h : ∀ z, sp_dP (nx z) r) (hr : r ≤ 7) (hp : p ≤ 20) : ∀ k, sp_dP (sp_dk cd (1000 - p) nx z k) (r + 1) := by
  intro k
  induction k with
  | zero => exact sp_dP_mo (h z)
  | succ k ih =>
    unfold sp_dk
    split
    · exact (sp_dP_up (h _) hr hp).1
    · exact ih
theorem sp_dv_P {n : Nat} {cd : Nat → Nat → Bool} {p : Nat → Nat} (hp : ∀ t, t < n → p t ≤ 20) : ∀ r z, r ≤ n → n ≤ 8 → sp_dP (sp_dv n cd (fun t => 1000 - p t) r z) r := by
  intro r
  induction r with
  | zero => intro z _ _; exact (show sp_dP 0 0 from ⟨by decide, by decide⟩)
  | succ r ih => intro z hr hn; exact sp_dk_P (fun z => ih z (by omega) hn) (by omega) (hp _ (by omega)) _
theorem sp_dmore {v v' : Nat} : (sp_e1 v < sp_e1 v' ∨ (sp_e1 v' = sp_e1 v ∧ sp_e2 v' < sp_e2 v)) ↔ v < v' := by
  unfold sp_e1 sp_e2
  omega
theorem aw_cvs (n : Nat) : nI n - nI 1 = sp_cv n := by
  cases n with
  | zero => rfl
  | succ n => rw [sp_cv_s, pk_sub (by omega), Nat.add_sub_cancel]
def mm_dpV (s : mm_S) : Nat → Nat → Nat := sp_dv (mm_n s 42) (fun t b => decide (mm_a s 56 (8 * t + b) ≠ 0)) (fun t => 1000 - mm_a s 55 t)
def mm_dpT (s : mm_S) (j : Nat) : Nat := mm_dpV s (mm_n s 42 - j / 256) (j % 256)
def mm_dpM (s : mm_S) : Nat → Nat := fun j => if j < 256 * (mm_n s 42 + 1) then sp_e1 (mm_dpT s j) else mm_a s 53 j
def mm_dpC (s : mm_S) : Nat → Nat := fun j => if j < 256 * (mm_n s 42 + 1) then sp_e2 (mm_dpT s j) else mm_a s 54 j
def mm_dpS (s : mm_S) : mm_S := mm_setA (mm_setA s 53 (mm_dpM s)) 54 (mm_dpC s)
def mm_dpF (s : mm_S) (t x : Nat) (M C : Nat → Nat) : Prop := (∀ j, (256 * (t + 1) ≤ j ∧ j < 256 * (mm_n s 42 + 1)) ∨ (256 * t ≤ j ∧ j < 256 * t + x) → M j = sp_e1 (mm_dpT s j) ∧ C j = sp_e2 (mm_dpT s j)) ∧ ∀ j, j < 256 * t ∨ 256 * (mm_n s 42 + 1) ≤ j → M j = mm_a s 53 j ∧ C j = mm_a s 54 j
theorem mm_dp53 {s : mm_S} {M C : Nat → Nat} {j v : Nat} : mm_setA (mm_setA (mm_setA s 53 M) 54 C) 53 (aw_u (mm_a (mm_setA (mm_setA s 53 M) 54 C) 53) j v) = mm_setA (mm_setA s 53 (aw_u M j v)) 54 C := by
  rw [mm_A_cm (k := 54) (j := 53) (by decide), mm_A_A]
  rfl
theorem mm_dp54 {s : mm_S} {M C : Nat → Nat} {j v : Nat} : mm_setA (mm_setA (mm_setA s 53 M) 54 C) 54 (aw_u (mm_a (mm_setA (mm_setA s 53 M) 54 C) 54) j v) = mm_setA (mm_setA s 53 M) 54 (aw_u C j v) := by
  rw [mm_A_A]
  rfl
theorem mm_dpF_s {s : mm_S} {t x : Nat} {M C : Nat → Nat} (h : mm_dpF s t x M C) (h1 : M (256 * t + x) = sp_e1 (mm_dpT s (256 * t + x))) (h2 : C (256 * t + x) = sp_e2 (mm_dpT s (256 * t + x))) : mm_dpF s t (x + 1) M C := by
  refine ⟨fun j hj => ?_, h.2⟩
  by_cases e : j = 256 * t + x
  · rw [e]; exact ⟨h1, h2⟩
  · exact h.1 j (by omega)
theorem mm_dpF_u {s : mm_S} {t x u v : Nat} {M C : Nat → Nat} (hx : x < 256) (ht : t ≤ mm_n s 42) (h : mm_dpF s t x M C) : mm_dpF s t x (aw_u M (256 * t + x) u) (aw_u C (256 * t + x) v) := by
  refine ⟨fun j hj => ?_, fun j hj => ?_⟩
  · rw [aw_u_n (by omega), aw_u_n (by omega)]; exact h.1 j hj
  · rw [aw_u_n (by omega), aw_u_n (by omega)]; exact h.2 j hj
theorem mm_dpF_r {s : mm_S} {t : Nat} {M C : Nat → Nat} (ht : t + 1 ≤ mm_n s 42) (h : mm_dpF s (t + 1) 256 M C) : mm_dpF s t 0 M C :=
  ⟨fun j hj => h.1 j (by omega), fun j hj => h.2 j (by omega)⟩
theorem mm_dpF_0 {s : mm_S} {M C : Nat → Nat} (h : mm_dpF s 0 256 M C) : mm_setA (mm_setA s 53 M) 54 C = mm_dpS s := by
  have e1 : M = mm_dpM s := by
    funext j
    unfold mm_dpM
    split
    · exact (h.1 j (by omega)).1
    · exact (h.2 j (by omega)).1
  have e2 : C = mm_dpC s := by
    funext j
    unfold mm_dpC
    split
    · exact (h.1 j (by omega)).2
    · exact (h.2 j (by omega)).2
  rw [e1, e2]
  rfl
theorem mm_dpT_at {s : mm_S} {t x : Nat} (hx : x < 256) : mm_dpT s (256 * t + x) = mm_dpV s (mm_n s 42 - t) x := by
  unfold mm_dpT
  rw [show (256 * t + x) / 256 = t by omega, show (256 * t + x) % 256 = x by omega]
theorem sp_or8 {x k : Nat} (hx : x < 256) (hk : k < 8) : x ||| 2 ^ k < 256 := Nat.or_lt_two_pow (n := 8) hx (Nat.pow_lt_pow_right (by decide) hk)
set_option maxHeartbeats 4000000 in
theorem mm_layDoers {s : mm_S} (hn : mm_n s 42 ≤ 8) (hc : ∀ t b, t < mm_n s 42 → b < mm_n s 42 → mm_a s 56 (8 * t + b) < 2) (hp : ∀ t, t < mm_n s 42 → mm_a s 55 t ≤ 20) : mm_Met yX5_layDoers cX5_layDoers 6 none 1 [] s none (mm_dpS s) := by
  refine mm_Met.of (by decide +kernel) (fun _ => Nat.le_of_ble_eq_true rfl) (fun G w h0 hW hR => ?_)
  have hs : mm_same w h0 h0 := mm_same.rf
  show AW G (aw_rm 1 0 0) yX5_layDoers cX5_layDoers 6 none (aw_N G (mm_Po G w h0 none (mm_dpS s)) 0 0) 0 0 h0 0 [(0, .ref w.1)] []
  have VP : ∀ r z, r ≤ mm_n s 42 → sp_dP (mm_dpV s r z) r := fun r z hr => sp_dv_P (p := mm_a s 55) hp r z hr hn
  have by110 : ∀ (t x : Nat), t < mm_n s 42 → x < 256 → (∀ (M C : Nat → Nat) (h : aw_H), mm_dpF s t (x + 1) M C → mm_R G w h (mm_setA (mm_setA s 53 M) 54 C) → mm_same w h0 h → AW G (aw_rm 1 0 0) yX5_layDoers cX5_layDoers 6 none (aw_N G (mm_Po G w h0 none (mm_dpS s)) 0 0) 0 0 h 248 [(0, .ref w.1), (1, .int (nI t)), (2, .int (nI x))] []) → ∀ (m k : Nat) (M C : Nat → Nat) (h : aw_H), mm_n s 42 - k = m → k ≤ mm_n s 42 → mm_dpF s t x M C → M (256 * t + x) = sp_e1 (sp_dk (fun b => decide (mm_a s 56 (8 * t + b) ≠ 0)) (1000 - mm_a s 55 t) (mm_dpV s (mm_n s 42 - (t + 1))) x k) → C (256 * t + x) = sp_e2 (sp_dk (fun b => decide (mm_a s 56 (8 * t + b) ≠ 0)) (1000 - mm_a s 55 t) (mm_dpV s (mm_n s 42 - (t + 1))) x k) → mm_R G w h (mm_setA (mm_setA s 53 M) 54 C) → mm_same w h0 h → AW G (aw_rm 1 0 0) yX5_layDoers cX5_layDoers 6 none (aw_N G (mm_Po G w h0 none (mm_dpS s)) 0 0) 0 0 h 110 [(0, .ref w.1), (1, .int (nI t)), (2, .int (nI x)), (3, .int (nI (256 * t + x))), (4, .int (nI k))] [] := by
    intro t x ht hx hgo m
    have er : mm_n s 42 - t = mm_n s 42 - (t + 1) + 1 := by omega
    have eV : mm_dpV s (mm_n s 42 - t) x = sp_dk (fun b => decide (mm_a s 56 (8 * t + b) ≠ 0)) (1000 - mm_a s 55 t) (mm_dpV s (mm_n s 42 - (t + 1))) x (mm_n s 42) := by
      rw [er]
      show sp_dk _ _ _ _ _ = _
      rw [show mm_n s 42 - (mm_n s 42 - (t + 1) + 1) = t by omega]
      rfl
    induction m using Nat.strongRecOn with
    | _ m ih =>
      intro k M C h hm hk hF hM hC hR hs
      obtain ⟨v, hv⟩ : ∃ v, v = sp_dk (fun b => decide (mm_a s 56 (8 * t + b) ≠ 0)) (1000 - mm_a s 55 t) (mm_dpV s (mm_n s 42 - (t + 1))) x k := ⟨_, rfl⟩
      have hvP : sp_dP v (mm_n s 42 - (t + 1) + 1) := by rw [hv]; exact sp_dk_P (fun z => VP _ z (by omega)) (by omega) (hp t (by omega)) k
      rw [← hv] at hM hC
      by_cases hk9 : k < mm_n s 42
      · obtain ⟨o, ho⟩ : ∃ o, o = x ||| 2 ^ k := ⟨_, rfl⟩
        have ho8 : o < 256 := by rw [ho]; exact sp_or8 hx (by omega)
        have p2 := sp_2p (k := k) (by omega)
        have dv : x / 2 ^ k ≤ x := Nat.div_le_self _ _
        have md := Nat.mod_lt (x / 2 ^ k) (y := 2) (by decide)
        have eS : sp_dk (fun b => decide (mm_a s 56 (8 * t + b) ≠ 0)) (1000 - mm_a s 55 t) (mm_dpV s (mm_n s 42 - (t + 1))) x (k + 1) = if decide (mm_a s 56 (8 * t + k) ≠ 0) = true ∧ x / 2 ^ k % 2 = 0 ∧ v < mm_dpV s (mm_n s 42 - (t + 1)) o + (1000 - mm_a s 55 t) then mm_dpV s (mm_n s 42 - (t + 1)) o + (1000 - mm_a s 55 t) else v := by rw [hv, ho]; rfl
        obtain ⟨u, hu⟩ : ∃ u, u = mm_dpV s (mm_n s 42 - (t + 1)) o := ⟨_, rfl⟩
        rw [← hu] at eS
        obtain ⟨f1, f2⟩ := hF.1 (256 * (t + 1) + o) (Or.inl ⟨by omega, by omega⟩)
        rw [mm_dpT_at ho8, ← hu] at f1 f2
        have huP : sp_dP u (mm_n s 42 - (t + 1)) := by rw [hu]; exact VP _ _ (by omega)
        obtain ⟨u1, u2, u3⟩ := sp_dP_up huP (by omega) (hp t (by omega))
        have hp9 := hp t (by omega)
        have hc9 := hc t k (by omega) (by omega)
        have more := @sp_dmore v (u + (1000 - mm_a s 55 t))
        rw [u2, u3] at more
        have hv1 := hvP.1
        have hv2 := hvP.2
        have hu1 := huP.1
        have hu2 := huP.2
        have next : ∀ (M C : Nat → Nat) (h : aw_H), mm_dpF s t x M C → M (256 * t + x) = sp_e1 (sp_dk (fun b => decide (mm_a s 56 (8 * t + b) ≠ 0)) (1000 - mm_a s 55 t) (mm_dpV s (mm_n s 42 - (t + 1))) x (k + 1)) → C (256 * t + x) = sp_e2 (sp_dk (fun b => decide (mm_a s 56 (8 * t + b) ≠ 0)) (1000 - mm_a s 55 t) (mm_dpV s (mm_n s 42 - (t + 1))) x (k + 1)) → mm_R G w h (mm_setA (mm_setA s 53 M) 54 C) → mm_same w h0 h → AW G (aw_rm 1 0 0) yX5_layDoers cX5_layDoers 6 none (aw_N G (mm_Po G w h0 none (mm_dpS s)) 0 0) 0 0 h 242 [(0, .ref w.1), (1, .int (nI t)), (2, .int (nI x)), (3, .int (nI (256 * t + x))), (4, .int (nI k))] [] := by
          intro M C h hF hM hC hR hs
          refine aw_iincN (b := 1) dX5_layDoers_242 rfl rfl (by decide) rfl rfl ?_
          refine aw_goto (tgt := 110) dX5_layDoers_245 (by decide) ?_
          exact ih (mm_n s 42 - (k + 1)) (by omega) (k + 1) M C h rfl (by omega) hF hM hC hR hs
        have skip : ¬ (mm_a s 56 (8 * t + k) ≠ 0 ∧ x / 2 ^ k % 2 = 0 ∧ v < u + (1000 - mm_a s 55 t)) → AW G (aw_rm 1 0 0) yX5_layDoers cX5_layDoers 6 none (aw_N G (mm_Po G w h0 none (mm_dpS s)) 0 0) 0 0 h 242 [(0, .ref w.1), (1, .int (nI t)), (2, .int (nI x)), (3, .int (nI (256 * t + x))), (4, .int (nI k))] [] := fun z => by
          have eS2 := eS
          rw [if_neg (fun y => z ⟨of_decide_eq_true y.1, y.2⟩)] at eS2
          exact next M C h hF (by rw [eS2]; exact hM) (by rw [eS2]; exact hC) hR hs
        refine aw_iload dX5_layDoers_110 rfl ?_
        refine aw_aload_n dX5_layDoers_112 rfl ?_
        refine aw_get dX5_layDoers_113 fX5_350 rfl hR.1 (by rfl) ?_
        try simp only [mm_n_N, mm_n_A, mm_n_V, mm_n_Fp, mm_n_W, mm_n_Nm, mm_a_N, mm_a_A, mm_a_V, mm_a_Fp, mm_a_W, mm_a_Nm, mm_v_N, mm_v_A, mm_v_V, mm_fp_N, mm_fp_A, mm_fp_Fp, mm_w_N, mm_w_W, Nat.reduceEqDiff, reduceIte, if_true, if_false, mm_H_45, mm_H_46, mm_H_47, mm_H_50, mm_H_53, mm_H_54, mm_H_55, mm_H_56, mm_H_57, mm_H_58, mm_H_66, mm_H_67, mm_H_68]
        refine aw_icmp_geN (tgt := 248) dX5_layDoers_116 (by decide) (by omega) (by omega) (fun c_116 => by exfalso; omega) (fun c_116 => ?_)
        refine aw_aload_n dX5_layDoers_119 rfl ?_
        refine aw_get dX5_layDoers_120 fX5_109 rfl hR.1 (by rfl) ?_
        refine aw_bipush (v := nI 8) dX5_layDoers_123 rfl ?_
        refine aw_iload_n dX5_layDoers_125 rfl ?_
        refine aw_imulN dX5_layDoers_126 ?_
        refine aw_iload dX5_layDoers_127 rfl ?_
        refine aw_iaddN dX5_layDoers_129 ?_
        refine aw_zaldN dX5_layDoers_130 (hR.2.2.1 56 64 rfl) (by omega) (by decide) ?_
        try simp only [mm_n_N, mm_n_A, mm_n_V, mm_n_Fp, mm_n_W, mm_n_Nm, mm_a_N, mm_a_A, mm_a_V, mm_a_Fp, mm_a_W, mm_a_Nm, mm_v_N, mm_v_A, mm_v_V, mm_fp_N, mm_fp_A, mm_fp_Fp, mm_w_N, mm_w_W, Nat.reduceEqDiff, reduceIte, if_true, if_false, mm_H_45, mm_H_46, mm_H_47, mm_H_50, mm_H_53, mm_H_54, mm_H_55, mm_H_56, mm_H_57, mm_H_58, mm_H_66, mm_H_67, mm_H_68]
        refine aw_if_eqN (tgt := 242) dX5_layDoers_131 (by decide) (by omega) (fun c_131 => ?_) (fun c_131 => ?_)
        · first
            | exact skip (fun z => by omega)
            | exact AW_dr (skip (fun z => by omega))
            | (have eS2 := eS
               rw [if_pos ⟨decide_eq_true c_131, by omega, more.mp c_201⟩] at eS2
               refine AW_dr (next _ _ h (mm_dpF_u hx (by omega) hF) ?_ ?_ hR hs)
               · rw [aw_u_s, f1, eS2, u2]
               · rw [aw_u_s, f2, eS2, u3])
        · refine aw_iload_n dX5_layDoers_134 rfl ?_
          refine aw_iload dX5_layDoers_135 rfl ?_
          refine aw_ishrN dX5_layDoers_137 (by omega) (by omega) ?_
          refine aw_iconst (v := nI 1) dX5_layDoers_138 rfl ?_
          refine aw_iandN dX5_layDoers_139 ?_
          refine aw_iconst (v := nI 1) dX5_layDoers_140 rfl ?_
          rw [Nat.and_one_is_mod]
          refine aw_icmp_neN (tgt := 147) dX5_layDoers_141 (by decide) (by omega) (by omega) (fun c_141 => ?_) (fun c_141 => ?_)
          · refine aw_sipush (v := nI 256) dX5_layDoers_147 rfl ?_
            refine aw_iload_n dX5_layDoers_150 rfl ?_
            refine aw_iconst (v := nI 1) dX5_layDoers_151 rfl ?_
            refine aw_iaddN dX5_layDoers_152 ?_
            refine aw_imulN dX5_layDoers_153 ?_
            refine aw_iload_n dX5_layDoers_154 rfl ?_
            refine aw_iconst (v := nI 1) dX5_layDoers_155 rfl ?_
            refine aw_iload dX5_layDoers_156 rfl ?_
            refine aw_ishlN dX5_layDoers_158 (by omega) (by omega) ?_
            refine aw_iorN dX5_layDoers_159 ?_
            refine aw_iaddN dX5_layDoers_160 ?_
            rw [show 1 * 2 ^ k = 2 ^ k from Nat.one_mul _, ← ho]
            refine aw_istore dX5_layDoers_161 (by decide) rfl rfl ?_
            refine aw_aload_n dX5_layDoers_163 rfl ?_
            refine aw_get dX5_layDoers_164 fX5_100 rfl hR.1 (by rfl) ?_
            refine aw_iload dX5_layDoers_167 rfl ?_
            refine aw_ialdN dX5_layDoers_169 (hR.2.1 53 2304 rfl) (by omega) (by decide) ?_
            try simp only [mm_n_N, mm_n_A, mm_n_V, mm_n_Fp, mm_n_W, mm_n_Nm, mm_a_N, mm_a_A, mm_a_V, mm_a_Fp, mm_a_W, mm_a_Nm, mm_v_N, mm_v_A, mm_v_V, mm_fp_N, mm_fp_A, mm_fp_Fp, mm_w_N, mm_w_W, Nat.reduceEqDiff, reduceIte, if_true, if_false, mm_H_45, mm_H_46, mm_H_47, mm_H_50, mm_H_53, mm_H_54, mm_H_55, mm_H_56, mm_H_57, mm_H_58, mm_H_66, mm_H_67, mm_H_68]
            refine aw_iconst (v := nI 1) dX5_layDoers_170 rfl ?_
            refine aw_iaddN dX5_layDoers_171 ?_
            refine aw_aload_n dX5_layDoers_172 rfl ?_
            refine aw_get dX5_layDoers_173 fX5_103 rfl hR.1 (by rfl) ?_
            refine aw_iload dX5_layDoers_176 rfl ?_
            refine aw_ialdN dX5_layDoers_178 (hR.2.1 54 2304 rfl) (by omega) (by decide) ?_
            try simp only [mm_n_N, mm_n_A, mm_n_V, mm_n_Fp, mm_n_W, mm_n_Nm, mm_a_N, mm_a_A, mm_a_V, mm_a_Fp, mm_a_W, mm_a_Nm, mm_v_N, mm_v_A, mm_v_V, mm_fp_N, mm_fp_A, mm_fp_Fp, mm_w_N, mm_w_W, Nat.reduceEqDiff, reduceIte, if_true, if_false, mm_H_45, mm_H_46, mm_H_47, mm_H_50, mm_H_53, mm_H_54, mm_H_55, mm_H_56, mm_H_57, mm_H_58, mm_H_66, mm_H_67, mm_H_68]
            refine aw_aload_n dX5_layDoers_179 rfl ?_
            refine aw_get dX5_layDoers_180 fX5_106 rfl hR.1 (by rfl) ?_
            refine aw_iload_n dX5_layDoers_183 rfl ?_
            refine aw_ialdN dX5_layDoers_184 (hR.2.1 55 8 rfl) (by omega) (by decide) ?_
            try simp only [mm_n_N, mm_n_A, mm_n_V, mm_n_Fp, mm_n_W, mm_n_Nm, mm_a_N, mm_a_A, mm_a_V, mm_a_Fp, mm_a_W, mm_a_Nm, mm_v_N, mm_v_A, mm_v_V, mm_fp_N, mm_fp_A, mm_fp_Fp, mm_w_N, mm_w_W, Nat.reduceEqDiff, reduceIte, if_true, if_false, mm_H_45, mm_H_46, mm_H_47, mm_H_50, mm_H_53, mm_H_54, mm_H_55, mm_H_56, mm_H_57, mm_H_58, mm_H_66, mm_H_67, mm_H_68]
            refine aw_iaddN dX5_layDoers_185 ?_
            refine aw_aload_n dX5_layDoers_186 rfl ?_
            refine aw_get dX5_layDoers_187 fX5_100 rfl hR.1 (by rfl) ?_
            refine aw_iload_n dX5_layDoers_190 rfl ?_
            refine aw_ialdN dX5_layDoers_191 (hR.2.1 53 2304 rfl) (by omega) (by decide) ?_
            try simp only [mm_n_N, mm_n_A, mm_n_V, mm_n_Fp, mm_n_W, mm_n_Nm, mm_a_N, mm_a_A, mm_a_V, mm_a_Fp, mm_a_W, mm_a_Nm, mm_v_N, mm_v_A, mm_v_V, mm_fp_N, mm_fp_A, mm_fp_Fp, mm_w_N, mm_w_W, Nat.reduceEqDiff, reduceIte, if_true, if_false, mm_H_45, mm_H_46, mm_H_47, mm_H_50, mm_H_53, mm_H_54, mm_H_55, mm_H_56, mm_H_57, mm_H_58, mm_H_66, mm_H_67, mm_H_68]
            refine aw_aload_n dX5_layDoers_192 rfl ?_
            refine aw_get dX5_layDoers_193 fX5_103 rfl hR.1 (by rfl) ?_
            refine aw_iload_n dX5_layDoers_196 rfl ?_
            refine aw_ialdN dX5_layDoers_197 (hR.2.1 54 2304 rfl) (by omega) (by decide) ?_
            try simp only [mm_n_N, mm_n_A, mm_n_V, mm_n_Fp, mm_n_W, mm_n_Nm, mm_a_N, mm_a_A, mm_a_V, mm_a_Fp, mm_a_W, mm_a_Nm, mm_v_N, mm_v_A, mm_v_V, mm_fp_N, mm_fp_A, mm_fp_Fp, mm_w_N, mm_w_W, Nat.reduceEqDiff, reduceIte, if_true, if_false, mm_H_45, mm_H_46, mm_H_47, mm_H_50, mm_H_53, mm_H_54, mm_H_55, mm_H_56, mm_H_57, mm_H_58, mm_H_66, mm_H_67, mm_H_68]
            refine aw_callP (r := _) dX5_layDoers_198 sX5_433 rfl (mp_isMore (by omega) (by omega) (by omega) (by omega)) rfl rfl ⟨Nat.le_of_ble_eq_true rfl, Nat.le_of_ble_eq_true rfl⟩ (Nat.le_of_ble_eq_true rfl) ?_
            rw [f1, f2, hM, hC]
            refine aw_if_neB (tgt := 207) dX5_layDoers_201 (by decide) (fun c_201 => ?_) (fun c_201 => ?_)
            · refine aw_aload_n dX5_layDoers_207 rfl ?_
              refine aw_get dX5_layDoers_208 fX5_100 rfl hR.1 (by rfl) ?_
              refine aw_iload_n dX5_layDoers_211 rfl ?_
              refine aw_aload_n dX5_layDoers_212 rfl ?_
              refine aw_get dX5_layDoers_213 fX5_100 rfl hR.1 (by rfl) ?_
              refine aw_iload dX5_layDoers_216 rfl ?_
              refine aw_ialdN dX5_layDoers_218 (hR.2.1 53 2304 rfl) (by omega) (by decide) ?_
              try simp only [mm_n_N, mm_n_A, mm_n_V, mm_n_Fp, mm_n_W, mm_n_Nm, mm_a_N, mm_a_A, mm_a_V, mm_a_Fp, mm_a_W, mm_a_Nm, mm_v_N, mm_v_A, mm_v_V, mm_fp_N, mm_fp_A, mm_fp_Fp, mm_w_N, mm_w_W, Nat.reduceEqDiff, reduceIte, if_true, if_false, mm_H_45, mm_H_46, mm_H_47, mm_H_50, mm_H_53, mm_H_54, mm_H_55, mm_H_56, mm_H_57, mm_H_58, mm_H_66, mm_H_67, mm_H_68]
              refine aw_iconst (v := nI 1) dX5_layDoers_219 rfl ?_
              refine aw_iaddN dX5_layDoers_220 ?_
              refine mm_iast (k := 53) rfl hW hR hs dX5_layDoers_221 (by omega) (by decide) (fun h hR hs => ?_)
              have hR := mm_eq hR mm_dp53
              refine aw_aload_n dX5_layDoers_222 rfl ?_
              refine aw_get dX5_layDoers_223 fX5_103 rfl hR.1 (by rfl) ?_
              refine aw_iload_n dX5_layDoers_226 rfl ?_
              refine aw_aload_n dX5_layDoers_227 rfl ?_
              refine aw_get dX5_layDoers_228 fX5_103 rfl hR.1 (by rfl) ?_
              refine aw_iload dX5_layDoers_231 rfl ?_
              refine aw_ialdN dX5_layDoers_233 (hR.2.1 54 2304 rfl) (by omega) (by decide) ?_
              try simp only [mm_n_N, mm_n_A, mm_n_V, mm_n_Fp, mm_n_W, mm_n_Nm, mm_a_N, mm_a_A, mm_a_V, mm_a_Fp, mm_a_W, mm_a_Nm, mm_v_N, mm_v_A, mm_v_V, mm_fp_N, mm_fp_A, mm_fp_Fp, mm_w_N, mm_w_W, Nat.reduceEqDiff, reduceIte, if_true, if_false, mm_H_45, mm_H_46, mm_H_47, mm_H_50, mm_H_53, mm_H_54, mm_H_55, mm_H_56, mm_H_57, mm_H_58, mm_H_66, mm_H_67, mm_H_68]
              refine aw_aload_n dX5_layDoers_234 rfl ?_
              refine aw_get dX5_layDoers_235 fX5_106 rfl hR.1 (by rfl) ?_
              refine aw_iload_n dX5_layDoers_238 rfl ?_
              refine aw_ialdN dX5_layDoers_239 (hR.2.1 55 8 rfl) (by omega) (by decide) ?_
              try simp only [mm_n_N, mm_n_A, mm_n_V, mm_n_Fp, mm_n_W, mm_n_Nm, mm_a_N, mm_a_A, mm_a_V, mm_a_Fp, mm_a_W, mm_a_Nm, mm_v_N, mm_v_A, mm_v_V, mm_fp_N, mm_fp_A, mm_fp_Fp, mm_w_N, mm_w_W, Nat.reduceEqDiff, reduceIte, if_true, if_false, mm_H_45, mm_H_46, mm_H_47, mm_H_50, mm_H_53, mm_H_54, mm_H_55, mm_H_56, mm_H_57, mm_H_58, mm_H_66, mm_H_67, mm_H_68]
              refine aw_iaddN dX5_layDoers_240 ?_
              refine mm_iast (k := 54) rfl hW hR hs dX5_layDoers_241 (by omega) (by decide) (fun h hR hs => ?_)
              have hR := mm_eq hR mm_dp54
              first
                | exact skip (fun z => by omega)
                | exact AW_dr (skip (fun z => by omega))
                | (have eS2 := eS
                   rw [if_pos ⟨decide_eq_true c_131, by omega, more.mp c_201⟩] at eS2
                   refine AW_dr (next _ _ h (mm_dpF_u hx (by omega) hF) ?_ ?_ hR hs)
                   · rw [aw_u_s, f1, eS2, u2]
                   · rw [aw_u_s, f2, eS2, u3])
            · refine aw_goto (tgt := 242) dX5_layDoers_204 (by decide) ?_
              first
                | exact skip (fun z => by omega)
                | exact AW_dr (skip (fun z => by omega))
                | (have eS2 := eS
                   rw [if_pos ⟨decide_eq_true c_131, by omega, more.mp c_201⟩] at eS2
                   refine AW_dr (next _ _ h (mm_dpF_u hx (by omega) hF) ?_ ?_ hR hs)
                   · rw [aw_u_s, f1, eS2, u2]
                   · rw [aw_u_s, f2, eS2, u3])
          · refine aw_goto (tgt := 242) dX5_layDoers_144 (by decide) ?_
            first
              | exact skip (fun z => by omega)
              | exact AW_dr (skip (fun z => by omega))
              | (have eS2 := eS
                 rw [if_pos ⟨decide_eq_true c_131, by omega, more.mp c_201⟩] at eS2
                 refine AW_dr (next _ _ h (mm_dpF_u hx (by omega) hF) ?_ ?_ hR hs)
                 · rw [aw_u_s, f1, eS2, u2]
                 · rw [aw_u_s, f2, eS2, u3])
      · obtain rfl : k = mm_n s 42 := by omega
        refine aw_iload dX5_layDoers_110 rfl ?_
        refine aw_aload_n dX5_layDoers_112 rfl ?_
        refine aw_get dX5_layDoers_113 fX5_350 rfl hR.1 (by rfl) ?_
        try simp only [mm_n_N, mm_n_A, mm_n_V, mm_n_Fp, mm_n_W, mm_n_Nm, mm_a_N, mm_a_A, mm_a_V, mm_a_Fp, mm_a_W, mm_a_Nm, mm_v_N, mm_v_A, mm_v_V, mm_fp_N, mm_fp_A, mm_fp_Fp, mm_w_N, mm_w_W, Nat.reduceEqDiff, reduceIte, if_true, if_false, mm_H_45, mm_H_46, mm_H_47, mm_H_50, mm_H_53, mm_H_54, mm_H_55, mm_H_56, mm_H_57, mm_H_58, mm_H_66, mm_H_67, mm_H_68]
        refine aw_icmp_geN (tgt := 248) dX5_layDoers_116 (by decide) (by omega) (by omega) (fun c_116 => ?_) (fun c_116 => by exfalso; omega)
        exact AW_dr (hgo M C h (mm_dpF_s hF (by rw [mm_dpT_at hx, eV, ← hv]; exact hM) (by rw [mm_dpT_at hx, eV, ← hv]; exact hC)) hR hs)
  have set60 : ∀ (t : Nat), t < mm_n s 42 → (∀ (M C : Nat → Nat) (h : aw_H), mm_dpF s t 256 M C → mm_R G w h (mm_setA (mm_setA s 53 M) 54 C) → mm_same w h0 h → AW G (aw_rm 1 0 0) yX5_layDoers cX5_layDoers 6 none (aw_N G (mm_Po G w h0 none (mm_dpS s)) 0 0) 0 0 h 254 [(0, .ref w.1), (1, .int (nI t))] []) → ∀ (m x : Nat) (M C : Nat → Nat) (h : aw_H), 256 - x = m → x ≤ 256 → mm_dpF s t x M C → mm_R G w h (mm_setA (mm_setA s 53 M) 54 C) → mm_same w h0 h → AW G (aw_rm 1 0 0) yX5_layDoers cX5_layDoers 6 none (aw_N G (mm_Po G w h0 none (mm_dpS s)) 0 0) 0 0 h 60 [(0, .ref w.1), (1, .int (nI t)), (2, .int (nI x))] [] := by
    intro t ht hgo m
    induction m using Nat.strongRecOn with
    | _ m ih =>
      intro x M C h hm hx hF hR hs
      have next : ∀ (M C : Nat → Nat) (h : aw_H), x < 256 → mm_dpF s t (x + 1) M C → mm_R G w h (mm_setA (mm_setA s 53 M) 54 C) → mm_same w h0 h → AW G (aw_rm 1 0 0) yX5_layDoers cX5_layDoers 6 none (aw_N G (mm_Po G w h0 none (mm_dpS s)) 0 0) 0 0 h 248 [(0, .ref w.1), (1, .int (nI t)), (2, .int (nI x))] [] := by
        intro M C h hx2 hF hR hs
        refine aw_iincN (b := 1) dX5_layDoers_248 rfl rfl (by decide) rfl rfl ?_
        refine aw_goto (tgt := 60) dX5_layDoers_251 (by decide) ?_
        exact ih (256 - (x + 1)) (by omega) (x + 1) M C h rfl (by omega) hF hR hs
      by_cases hx9 : x < 256
      · obtain ⟨f1, f2⟩ := hF.1 (256 * t + x + 256) (Or.inl ⟨by omega, by omega⟩)
        rw [show 256 * t + x + 256 = 256 * (t + 1) + x by omega, mm_dpT_at hx9] at f1 f2
        refine aw_iload_n dX5_layDoers_60 rfl ?_
        refine aw_sipush (v := nI 256) dX5_layDoers_61 rfl ?_
        refine aw_icmp_geN (tgt := 254) dX5_layDoers_64 (by decide) (by omega) (by omega) (fun c_64 => by exfalso; omega) (fun c_64 => ?_)
        refine aw_sipush (v := nI 256) dX5_layDoers_67 rfl ?_
        refine aw_iload_n dX5_layDoers_70 rfl ?_
        refine aw_imulN dX5_layDoers_71 ?_
        refine aw_iload_n dX5_layDoers_72 rfl ?_
        refine aw_iaddN dX5_layDoers_73 ?_
        refine aw_istore_n dX5_layDoers_74 (by decide) rfl rfl ?_
        refine aw_aload_n dX5_layDoers_75 rfl ?_
        refine aw_get dX5_layDoers_76 fX5_100 rfl hR.1 (by rfl) ?_
        refine aw_iload_n dX5_layDoers_79 rfl ?_
        refine aw_aload_n dX5_layDoers_80 rfl ?_
        refine aw_get dX5_layDoers_81 fX5_100 rfl hR.1 (by rfl) ?_
        refine aw_iload_n dX5_layDoers_84 rfl ?_
        refine aw_sipush (v := nI 256) dX5_layDoers_85 rfl ?_
        refine aw_iaddN dX5_layDoers_88 ?_
        refine aw_ialdN dX5_layDoers_89 (hR.2.1 53 2304 rfl) (by omega) (by decide) ?_
        try simp only [mm_n_N, mm_n_A, mm_n_V, mm_n_Fp, mm_n_W, mm_n_Nm, mm_a_N, mm_a_A, mm_a_V, mm_a_Fp, mm_a_W, mm_a_Nm, mm_v_N, mm_v_A, mm_v_V, mm_fp_N, mm_fp_A, mm_fp_Fp, mm_w_N, mm_w_W, Nat.reduceEqDiff, reduceIte, if_true, if_false, mm_H_45, mm_H_46, mm_H_47, mm_H_50, mm_H_53, mm_H_54, mm_H_55, mm_H_56, mm_H_57, mm_H_58, mm_H_66, mm_H_67, mm_H_68]
        refine mm_iast (k := 53) rfl hW hR hs dX5_layDoers_90 (by omega) (by decide) (fun h hR hs => ?_)
        have hR := mm_eq hR mm_dp53
        refine aw_aload_n dX5_layDoers_91 rfl ?_
        refine aw_get dX5_layDoers_92 fX5_103 rfl hR.1 (by rfl) ?_
        refine aw_iload_n dX5_layDoers_95 rfl ?_
        refine aw_aload_n dX5_layDoers_96 rfl ?_
        refine aw_get dX5_layDoers_97 fX5_103 rfl hR.1 (by rfl) ?_
        refine aw_iload_n dX5_layDoers_100 rfl ?_
        refine aw_sipush (v := nI 256) dX5_layDoers_101 rfl ?_
        refine aw_iaddN dX5_layDoers_104 ?_
        refine aw_ialdN dX5_layDoers_105 (hR.2.1 54 2304 rfl) (by omega) (by decide) ?_
        try simp only [mm_n_N, mm_n_A, mm_n_V, mm_n_Fp, mm_n_W, mm_n_Nm, mm_a_N, mm_a_A, mm_a_V, mm_a_Fp, mm_a_W, mm_a_Nm, mm_v_N, mm_v_A, mm_v_V, mm_fp_N, mm_fp_A, mm_fp_Fp, mm_w_N, mm_w_W, Nat.reduceEqDiff, reduceIte, if_true, if_false, mm_H_45, mm_H_46, mm_H_47, mm_H_50, mm_H_53, mm_H_54, mm_H_55, mm_H_56, mm_H_57, mm_H_58, mm_H_66, mm_H_67, mm_H_68]
        refine mm_iast (k := 54) rfl hW hR hs dX5_layDoers_106 (by omega) (by decide) (fun h hR hs => ?_)
        have hR := mm_eq hR mm_dp54
        refine aw_iconst (v := nI 0) dX5_layDoers_107 rfl ?_
        refine aw_istore dX5_layDoers_108 (by decide) rfl rfl ?_
        refine by110 t x ht hx9 (fun M C h => next M C h hx9) _ 0 _ _ h rfl (Nat.zero_le _) (mm_dpF_u hx9 (by omega) hF) ?_ ?_ hR hs
        · rw [aw_u_s, show 256 * t + x + 256 = 256 * (t + 1) + x by omega, f1]; rfl
        · rw [aw_u_s, show 256 * t + x + 256 = 256 * (t + 1) + x by omega, f2]; rfl
      · obtain rfl : x = 256 := by omega
        refine aw_iload_n dX5_layDoers_60 rfl ?_
        refine aw_sipush (v := nI 256) dX5_layDoers_61 rfl ?_
        refine aw_icmp_geN (tgt := 254) dX5_layDoers_64 (by decide) (by omega) (by omega) (fun c_64 => ?_) (fun c_64 => by exfalso; omega)
        exact AW_dr (hgo M C h hF hR hs)
  have row54 : ∀ (c : Nat) (M C : Nat → Nat) (h : aw_H), c ≤ mm_n s 42 → mm_dpF s c 256 M C → mm_R G w h (mm_setA (mm_setA s 53 M) 54 C) → mm_same w h0 h → AW G (aw_rm 1 0 0) yX5_layDoers cX5_layDoers 6 none (aw_N G (mm_Po G w h0 none (mm_dpS s)) 0 0) 0 0 h 54 [(0, .ref w.1), (1, .int (sp_cv c))] [] := by
    intro c
    induction c with
    | zero =>
      intro M C h hc hF hR hs
      refine aw_iload_n dX5_layDoers_54 rfl ?_
      refine aw_if_lt (tgt := 260) dX5_layDoers_55 (by decide) (fun c_55 => ?_) (fun c_55 => by exfalso; exact absurd c_55 (by decide))
      refine aw_vreturn dX5_layDoers_260 rfl ?_
      exact ⟨rfl, mm_eq hR (mm_dpF_0 hF), hs⟩
    | succ t ih =>
      intro M C h hc hF hR hs
      have next : ∀ (M C : Nat → Nat) (h : aw_H), mm_dpF s t 256 M C → mm_R G w h (mm_setA (mm_setA s 53 M) 54 C) → mm_same w h0 h → AW G (aw_rm 1 0 0) yX5_layDoers cX5_layDoers 6 none (aw_N G (mm_Po G w h0 none (mm_dpS s)) 0 0) 0 0 h 254 [(0, .ref w.1), (1, .int (nI t))] [] := by
        intro M C h hF hR hs
        refine aw_iinc (v := -1) dX5_layDoers_254 rfl rfl (by decide) rfl rfl ?_
        refine aw_goto (tgt := 54) dX5_layDoers_257 (by decide) ?_
        refine AW_ls ?_ (ih M C h (by omega) hF hR hs)
        rw [show sp_cv t = nI t + -1 from by cases t with | zero => rfl | succ t => rw [sp_cv_s, pk_m1]]
        rfl
      rw [sp_cv_s]
      refine aw_iload_n dX5_layDoers_54 rfl ?_
      refine aw_if_ltN (tgt := 260) dX5_layDoers_55 (by decide) (by omega) ?_
      refine aw_iconst (v := nI 0) dX5_layDoers_58 rfl ?_
      refine aw_istore_n dX5_layDoers_59 (by decide) rfl rfl ?_
      exact set60 t (by omega) next _ 0 M C h rfl (Nat.zero_le _) (mm_dpF_r (by omega) hF) hR hs
  have fill : ∀ (m x : Nat) (M C : Nat → Nat) (h : aw_H), 256 - x = m → x ≤ 256 → mm_dpF s (mm_n s 42) x M C → mm_R G w h (mm_setA (mm_setA s 53 M) 54 C) → mm_same w h0 h → AW G (aw_rm 1 0 0) yX5_layDoers cX5_layDoers 6 none (aw_N G (mm_Po G w h0 none (mm_dpS s)) 0 0) 0 0 h 2 [(0, .ref w.1), (1, .int (nI x))] [] := by
    intro m
    induction m using Nat.strongRecOn with
    | _ m ih =>
      intro x M C h hm hx hF hR hs
      have t0 : ∀ x, x < 256 → mm_dpT s (256 * mm_n s 42 + x) = 0 := fun x hx => by
        rw [mm_dpT_at hx, Nat.sub_self]
        rfl
      refine aw_iload_n dX5_layDoers_2 rfl ?_
      refine aw_sipush (v := nI 256) dX5_layDoers_3 rfl ?_
      refine aw_icmp_geN (tgt := 47) dX5_layDoers_6 (by decide) (by omega) (by omega) (fun c_6 => ?_) (fun c_6 => ?_)
      · refine aw_aload_n dX5_layDoers_47 rfl ?_
        refine aw_get dX5_layDoers_48 fX5_350 rfl hR.1 (by rfl) ?_
        try simp only [mm_n_N, mm_n_A, mm_n_V, mm_n_Fp, mm_n_W, mm_n_Nm, mm_a_N, mm_a_A, mm_a_V, mm_a_Fp, mm_a_W, mm_a_Nm, mm_v_N, mm_v_A, mm_v_V, mm_fp_N, mm_fp_A, mm_fp_Fp, mm_w_N, mm_w_W, Nat.reduceEqDiff, reduceIte, if_true, if_false, mm_H_45, mm_H_46, mm_H_47, mm_H_50, mm_H_53, mm_H_54, mm_H_55, mm_H_56, mm_H_57, mm_H_58, mm_H_66, mm_H_67, mm_H_68]
        refine aw_iconst (v := nI 1) dX5_layDoers_51 rfl ?_
        refine aw_isub dX5_layDoers_52 ?_
        refine aw_istore_n dX5_layDoers_53 (by decide) rfl rfl ?_
        obtain rfl : x = 256 := by omega
        refine AW_ls ?_ (row54 _ M C h (Nat.le_refl _) hF hR hs)
        rw [← aw_cvs]
        rfl
      · refine aw_aload_n dX5_layDoers_9 rfl ?_
        refine aw_get dX5_layDoers_10 fX5_100 rfl hR.1 (by rfl) ?_
        refine aw_sipush (v := nI 256) dX5_layDoers_13 rfl ?_
        refine aw_aload_n dX5_layDoers_16 rfl ?_
        refine aw_get dX5_layDoers_17 fX5_350 rfl hR.1 (by rfl) ?_
        try simp only [mm_n_N, mm_n_A, mm_n_V, mm_n_Fp, mm_n_W, mm_n_Nm, mm_a_N, mm_a_A, mm_a_V, mm_a_Fp, mm_a_W, mm_a_Nm, mm_v_N, mm_v_A, mm_v_V, mm_fp_N, mm_fp_A, mm_fp_Fp, mm_w_N, mm_w_W, Nat.reduceEqDiff, reduceIte, if_true, if_false, mm_H_45, mm_H_46, mm_H_47, mm_H_50, mm_H_53, mm_H_54, mm_H_55, mm_H_56, mm_H_57, mm_H_58, mm_H_66, mm_H_67, mm_H_68]
        refine aw_imulN dX5_layDoers_20 ?_
        refine aw_iload_n dX5_layDoers_21 rfl ?_
        refine aw_iaddN dX5_layDoers_22 ?_
        refine aw_iconst (v := nI 0) dX5_layDoers_23 rfl ?_
        refine mm_iast (k := 53) rfl hW hR hs dX5_layDoers_24 (by omega) (by decide) (fun h hR hs => ?_)
        have hR := mm_eq hR mm_dp53
        refine aw_aload_n dX5_layDoers_25 rfl ?_
        refine aw_get dX5_layDoers_26 fX5_103 rfl hR.1 (by rfl) ?_
        refine aw_sipush (v := nI 256) dX5_layDoers_29 rfl ?_
        refine aw_aload_n dX5_layDoers_32 rfl ?_
        refine aw_get dX5_layDoers_33 fX5_350 rfl hR.1 (by rfl) ?_
        try simp only [mm_n_N, mm_n_A, mm_n_V, mm_n_Fp, mm_n_W, mm_n_Nm, mm_a_N, mm_a_A, mm_a_V, mm_a_Fp, mm_a_W, mm_a_Nm, mm_v_N, mm_v_A, mm_v_V, mm_fp_N, mm_fp_A, mm_fp_Fp, mm_w_N, mm_w_W, Nat.reduceEqDiff, reduceIte, if_true, if_false, mm_H_45, mm_H_46, mm_H_47, mm_H_50, mm_H_53, mm_H_54, mm_H_55, mm_H_56, mm_H_57, mm_H_58, mm_H_66, mm_H_67, mm_H_68]
        refine aw_imulN dX5_layDoers_36 ?_
        refine aw_iload_n dX5_layDoers_37 rfl ?_
        refine aw_iaddN dX5_layDoers_38 ?_
        refine aw_iconst (v := nI 0) dX5_layDoers_39 rfl ?_
        refine mm_iast (k := 54) rfl hW hR hs dX5_layDoers_40 (by omega) (by decide) (fun h hR hs => ?_)
        have hR := mm_eq hR mm_dp54
        refine aw_iincN (b := 1) dX5_layDoers_41 rfl rfl (by decide) rfl rfl ?_
        refine aw_goto (tgt := 2) dX5_layDoers_44 (by decide) ?_
        refine ih (256 - (x + 1)) (by omega) (x + 1) _ _ h rfl (by omega) (mm_dpF_s (mm_dpF_u (by omega) (Nat.le_refl _) hF) ?_ ?_) hR hs
        · rw [aw_u_s, t0 x (by omega)]; rfl
        · rw [aw_u_s, t0 x (by omega)]; rfl
  refine aw_iconst (v := nI 0) dX5_layDoers_0 rfl ?_
  refine aw_istore_n dX5_layDoers_1 (by decide) rfl rfl ?_
  refine fill _ 0 (mm_a s 53) (mm_a s 54) h0 rfl (Nat.zero_le _) ⟨fun j hj => by omega, fun j hj => ⟨rfl, rfl⟩⟩ (mm_eq hR ?_) hs
  rw [mm_A_self]
  exact (mm_A_self s 54).symm

