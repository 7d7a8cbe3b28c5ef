set_option maxRecDepth 100000
/-! the model: care, proxy, toil -/
theorem sp_dk_c {cd cd' : Nat → Bool} {w w' : Nat} {nx nx' : Nat → Nat} {z n : Nat} (h1 : ∀ b, b < n → cd b = cd' b) (h2 : w = w') (h3 : ∀ z, nx z = nx' z) : ∀ k, k ≤ n → sp_dk cd w nx z k = sp_dk cd' w' nx' z k := by
  intro k
  induction k with
  | zero => intro _; exact h3 z
  | succ k ih =>
    intro hk
    unfold sp_dk
    rw [ih (by omega), h1 k (by omega), h2, h3]
theorem sp_dv_c {n : Nat} {cd cd' : Nat → Nat → Bool} {w w' : Nat → Nat} (h1 : ∀ t b, t < n → b < n → cd t b = cd' t b) (h2 : ∀ t, t < n → w t = w' t) : ∀ r z, r ≤ n → sp_dv n cd w r z = sp_dv n cd' w' r z := by
  intro r
  induction r with
  | zero => intro z _; rfl
  | succ r ih =>
    intro z hr
    exact sp_dk_c (fun b hb => h1 _ b (by omega) hb) (h2 _ (by omega)) (fun z => ih z (by omega)) n (Nat.le_refl _)
theorem sp_fst_c {p q : Nat → Bool} : ∀ n, (∀ b, b < n → p b = q b) → sp_fst p n = sp_fst q n := by
  intro n
  induction n with
  | zero => intro _; rfl
  | succ n ih =>
    intro h
    unfold sp_fst
    rw [ih (fun b hb => h b (by omega)), h n (by omega)]
theorem sp_pf_c {n : Nat} {cd cd' : Nat → Nat → Bool} {w w' : Nat → Nat} (h1 : ∀ t b, t < n → b < n → cd t b = cd' t b) (h2 : ∀ t, t < n → w t = w' t) (t z : Nat) (ht : t < n) : sp_pf n cd w t z = sp_pf n cd' w' t z := by
  unfold sp_pf
  refine sp_fst_c n (fun b hb => ?_)
  rw [h1 t b ht hb, sp_dv_c h1 h2 _ _ (by omega), sp_dv_c h1 h2 _ z (by omega), h2 t ht]
theorem sp_pz_c {n : Nat} {cd cd' : Nat → Nat → Bool} {w w' : Nat → Nat} (h1 : ∀ t b, t < n → b < n → cd t b = cd' t b) (h2 : ∀ t, t < n → w t = w' t) : ∀ t, t ≤ n → sp_pz n cd w t = sp_pz n cd' w' t := by
  intro t
  induction t with
  | zero => intro _; rfl
  | succ t ih =>
    intro ht
    unfold sp_pz
    rw [ih (by omega), sp_pf_c h1 h2 t _ (by omega)]
theorem sp_pl_c {n : Nat} {cd cd' : Nat → Nat → Bool} {w w' : Nat → Nat} (h1 : ∀ t b, t < n → b < n → cd t b = cd' t b) (h2 : ∀ t, t < n → w t = w' t) (t : Nat) (ht : t < n) : sp_pl n cd w t = sp_pl n cd' w' t := by
  unfold sp_pl
  rw [sp_pz_c h1 h2 t (by omega), sp_pf_c h1 h2 t _ ht]
/-- could, row by row -/
def mm_D (s : mm_S) (cd : Nat → Nat → Bool) (t k : Nat) : Nat → Nat := fun j => if j % 8 < mm_n s 42 ∧ (j / 8 < t ∨ j / 8 = t ∧ j % 8 < k) then (if cd (j / 8) (j % 8) = true then 1 else 0) else mm_a s 56 j
def mm_P (s : mm_S) (pr : Nat → Nat) (t : Nat) : Nat → Nat := fun j => if j < t then pr j else mm_a s 55 j
def mm_prS (s : mm_S) (cd : Nat → Nat → Bool) (pr : Nat → Nat) (tp t k : Nat) : mm_S := mm_setA (mm_setA (mm_setA s 46 (mm_a s 45)) 55 (mm_P s pr tp)) 56 (mm_D s cd t k)
theorem mm_D_u {s : mm_S} {cd : Nat → Nat → Bool} {t k v : Nat} (hk : k < mm_n s 42) (hn : mm_n s 42 ≤ 8) (hv : v = if cd t k = true then 1 else 0) : aw_u (mm_D s cd t k) (8 * t + k) v = mm_D s cd t (k + 1) := by
  funext j
  unfold mm_D aw_u
  dsimp only
  by_cases e : j = 8 * t + k
  · have e3 : j % 8 < mm_n s 42 ∧ (j / 8 < t ∨ j / 8 = t ∧ j % 8 < k + 1) := by omega
    rw [if_pos e, if_pos e3, hv, e, show (8 * t + k) / 8 = t by omega, show (8 * t + k) % 8 = k by omega]
  · rw [if_neg e]
    by_cases e2 : j % 8 < mm_n s 42 ∧ (j / 8 < t ∨ j / 8 = t ∧ j % 8 < k)
    · have e3 : j % 8 < mm_n s 42 ∧ (j / 8 < t ∨ j / 8 = t ∧ j % 8 < k + 1) := by omega
      rw [if_pos e2, if_pos e3]
    · have e3 : ¬ (j % 8 < mm_n s 42 ∧ (j / 8 < t ∨ j / 8 = t ∧ j % 8 < k + 1)) := by omega
      rw [if_neg e2, if_neg e3]
theorem mm_D_r {s : mm_S} {cd : Nat → Nat → Bool} {t : Nat} : mm_D s cd t (mm_n s 42) = mm_D s cd (t + 1) 0 := by
  funext j
  unfold mm_D
  by_cases e2 : j % 8 < mm_n s 42 ∧ (j / 8 < t ∨ j / 8 = t ∧ j % 8 < mm_n s 42)
  · have e3 : j % 8 < mm_n s 42 ∧ (j / 8 < t + 1 ∨ j / 8 = t + 1 ∧ j % 8 < 0) := by omega
    rw [if_pos e2, if_pos e3]
  · have e3 : ¬ (j % 8 < mm_n s 42 ∧ (j / 8 < t + 1 ∨ j / 8 = t + 1 ∧ j % 8 < 0)) := by omega
    rw [if_neg e2, if_neg e3]
theorem mm_D_0 {s : mm_S} {cd : Nat → Nat → Bool} : mm_D s cd 0 0 = mm_a s 56 := by
  funext j
  unfold mm_D
  rw [if_neg (by omega)]
theorem mm_D_at {s : mm_S} {cd : Nat → Nat → Bool} {t b : Nat} (hn : mm_n s 42 ≤ 8) (ht : t < mm_n s 42) (hb : b < mm_n s 42) : mm_D s cd (mm_n s 42) 0 (8 * t + b) = if cd t b = true then 1 else 0 := by
  unfold mm_D
  rw [if_pos (by omega), show (8 * t + b) / 8 = t by omega, show (8 * t + b) % 8 = b by omega]
theorem mm_pr55 {s : mm_S} {B M C : Nat → Nat} {j v : Nat} : mm_setA (mm_setA (mm_setA (mm_setA s 46 B) 55 M) 56 C) 55 (aw_u (mm_a (mm_setA (mm_setA (mm_setA s 46 B) 55 M) 56 C) 55) j v) = mm_setA (mm_setA (mm_setA s 46 B) 55 (aw_u M j v)) 56 C := by
  rw [mm_A_cm (k := 56) (j := 55) (by decide), mm_A_A]
  rfl
theorem mm_P_u {s : mm_S} {pr : Nat → Nat} {t v : Nat} (hv : v = pr t) : aw_u (mm_P s pr t) t v = mm_P s pr (t + 1) := by rw [hv]; exact aw_u_cp
def mm_lyS (s : mm_S) (cd : Nat → Nat → Bool) (w : Nat → Nat) : mm_S := mm_setN (mm_setV s 51 (fun j => if j < mm_n s 42 then sp_pl (mm_n s 42) cd w j else mm_v s 51 j)) 52 (mm_n s 42)
theorem mm_core.VV {s t : mm_S} {k : Nat} {f : Nat → Int32} (h : mm_core s t) : mm_core (mm_setV s k f) (mm_setV t k f) := ⟨h.1, h.2.1, h.2.2.1, fun j hj => by rw [mm_v_V, mm_v_V]; split; rfl; exact h.2.2.2 j hj⟩
/-- all that could be is laid -/
def mm_prF (s : mm_S) (cd : Nat → Nat → Bool) (pr : Nat → Nat) : mm_S := mm_prS s cd pr (mm_n s 42) (mm_n s 42) 0
theorem mm_prF_cd {s : mm_S} {cd : Nat → Nat → Bool} {pr : Nat → Nat} (hn : mm_n s 42 ≤ 8) (t b : Nat) (ht : t < mm_n s 42) (hb : b < mm_n s 42) : mm_cd (mm_prF s cd pr) t b = cd t b := by
  unfold mm_cd
  rw [show mm_a (mm_prF s cd pr) 56 = mm_D s cd (mm_n s 42) 0 from rfl, mm_D_at hn ht hb]
  cases cd t b <;> rfl
theorem mm_prF_w {s : mm_S} {cd : Nat → Nat → Bool} {pr : Nat → Nat} (t : Nat) (ht : t < mm_n s 42) : mm_wp (mm_prF s cd pr) t = 1000 - pr t := by
  unfold mm_wp
  rw [show mm_a (mm_prF s cd pr) 55 = mm_P s pr (mm_n s 42) from rfl]
  unfold mm_P
  rw [if_pos ht]
theorem mm_prF_V {s : mm_S} {cd : Nat → Nat → Bool} {pr : Nat → Nat} (hn : mm_n s 42 ≤ 8) : mm_dpV (mm_prF s cd pr) (mm_n s 42) 0 = sp_dv (mm_n s 42) cd (fun t => 1000 - pr t) (mm_n s 42) 0 :=
  (show _ = sp_dv (mm_n s 42) (mm_cd (mm_prF s cd pr)) (mm_wp (mm_prF s cd pr)) (mm_n s 42) 0 from rfl).trans (sp_dv_c (fun t b ht hb => mm_prF_cd hn t b ht hb) (fun t ht => mm_prF_w t ht) _ _ (Nat.le_refl _))
theorem mm_prF_core {s : mm_S} {cd : Nat → Nat → Bool} {pr : Nat → Nat} : mm_core s (mm_dpS (mm_prF s cd pr)) := mm_core.A rfl (mm_core.A rfl (mm_core.A rfl (mm_core.A rfl (mm_core.A rfl mm_core.rf))))
theorem mm_put_core {s : mm_S} {cd : Nat → Nat → Bool} {pr : Nat → Nat} (hn : mm_n s 42 ≤ 8) : mm_core (mm_lyS s cd (fun t => 1000 - pr t)) (mm_putS (mm_dpS (mm_prF s cd pr))) := by
  have e : mm_pL (mm_dpS (mm_prF s cd pr)) (mm_n s 42) = fun j => if j < mm_n s 42 then sp_pl (mm_n s 42) cd (fun t => 1000 - pr t) j else mm_v s 51 j := by
    funext j
    unfold mm_pL
    by_cases h : j < mm_n s 42
    · rw [if_pos h, if_pos h]
      show sp_pl (mm_n s 42) (mm_cd (mm_prF s cd pr)) (mm_wp (mm_prF s cd pr)) j = _
      exact sp_pl_c (fun t b ht hb => mm_prF_cd hn t b ht hb) (fun t ht => mm_prF_w t ht) j h
    · rw [if_neg h, if_neg h]; rfl
  unfold mm_lyS mm_putS
  rw [show mm_n (mm_dpS (mm_prF s cd pr)) 42 = mm_n s 42 from rfl, e]
  exact mm_core.NN (mm_core.VV mm_prF_core)
theorem mm_prF_c2 {s : mm_S} {cd : Nat → Nat → Bool} {pr : Nat → Nat} (hn : mm_n s 42 ≤ 8) (t b : Nat) (ht : t < mm_n s 42) (hb : b < mm_n s 42) : mm_a (mm_prF s cd pr) 56 (8 * t + b) < 2 := by
  rw [show mm_a (mm_prF s cd pr) 56 = mm_D s cd (mm_n s 42) 0 from rfl, mm_D_at hn ht hb]
  split <;> decide
theorem mm_prF_p {s : mm_S} {cd : Nat → Nat → Bool} {pr : Nat → Nat} (h : ∀ t, pr t ≤ 20) (t : Nat) (ht : t < mm_n s 42) : mm_a (mm_prF s cd pr) 55 t ≤ 20 := by
  rw [show mm_a (mm_prF s cd pr) 55 = mm_P s pr (mm_n s 42) from rfl]
  unfold mm_P
  rw [if_pos ht]
  exact h t
theorem mm_dpS_T {s : mm_S} (j : Nat) (hj : j < 256 * (mm_n s 42 + 1)) : mm_a (mm_dpS s) 53 j = sp_e1 (mm_dpT (mm_dpS s) j) ∧ mm_a (mm_dpS s) 54 j = sp_e2 (mm_dpT (mm_dpS s) j) := by
  constructor
  · show mm_dpM s j = _
    unfold mm_dpM
    rw [if_pos hj]
    rfl
  · show mm_dpC s j = _
    unfold mm_dpC
    rw [if_pos hj]
    rfl
/-- who can care for whom -/
def sp_cdC (H : sp_H) (A : Nat → Nat) (t b : Nat) : Bool := decide (b ≠ t ∧ 0 < sp_lv H t ∧ sp_lv H t ≤ sp_carr H A b t)
def op_care (H : sp_H) (A : Nat → Nat) : Int32 := nI (sp_e1 (sp_dv (sp_hn H) (sp_cdC H A) (fun _ => 1000 - 0) (sp_hn H) 0))
def op_careS (s : mm_S) : mm_S := mm_lyS s (sp_cdC (mm_H s) (mm_a s 45)) (fun _ => 1000 - 0)
set_option maxHeartbeats 4000000 in
theorem mo_care {s : mm_S} {N : Nat} (hH : sp_okH (mm_H s)) (hA : sp_okA N (mm_a s 45)) : mm_Op yX5_care cX5_care 3 (some .int) 2 [] s (some (.int (op_care (mm_H s) (mm_a s 45)))) (op_careS s) := by
  refine mm_Op.of (by decide +kernel) (fun _ => Nat.le_of_ble_eq_true rfl) (fun G w h0 hW hR => ?_)
  have hs : mm_same w h0 h0 := mm_same.rf
  show AW G (aw_rm 2 0 0) yX5_care cX5_care 3 (some .int) (aw_N G (mm_PoC G w h0 (some (.int (op_care (mm_H s) (mm_a s 45)))) (op_careS s)) 0 0) 0 0 h0 0 [(0, .ref w.1)] []
  have hs1 : 1 ≤ mm_n s 41 := hH.1.1; have hs20 : mm_n s 41 ≤ 20 := hH.1.2; have hn : mm_n s 42 ≤ 8 := hH.2.1; have hlv : ∀ t, t < 8 → mm_a s 32 t ≤ 20 := fun t ht => (hH.2.2.1 t ht).1; have hsg : ∀ t, t < 8 → mm_a s 33 t ≤ 40 := fun t ht => (hH.2.2.1 t ht).2.1; have hhv : ∀ t, t < 8 → mm_a s 34 t ≤ 9 := fun t ht => (hH.2.2.1 t ht).2.2.1; have how : ∀ t, t < 8 → mm_a s 35 t ≤ 999 := fun t ht => (hH.2.2.1 t ht).2.2.2.1; have hfl : ∀ t, t < 8 → mm_a s 36 t ≤ 100 := fun t ht => (hH.2.2.1 t ht).2.2.2.2; have hF0 : sp_fok (mm_steps s 0) := hH.2.2.2.1; have hF1 : sp_fok (mm_steps s 1) := hH.2.2.2.2; have h42 : sp_hn (mm_H s) = mm_n s 42 := rfl; have h41 : sp_hs (mm_H s) = mm_n s 41 := rfl
  obtain ⟨cd, hcd⟩ : ∃ cd, cd = sp_cdC (mm_H s) (mm_a s 45) := ⟨_, rfl⟩
  obtain ⟨pr, hpr⟩ : ∃ pr : Nat → Nat, pr = fun _ => 0 := ⟨_, rfl⟩
  have in23 : ∀ (t : Nat), t < mm_n s 42 → (∀ (h : aw_H), mm_R G w h (mm_prS s cd pr (t + 1) (t + 1) 0) → mm_same w h0 h → AW G (aw_rm 2 0 0) yX5_care cX5_care 3 (some .int) (aw_N G (mm_PoC G w h0 (some (.int (op_care (mm_H s) (mm_a s 45)))) (op_careS s)) 0 0) 0 0 h 82 [(0, .ref w.1), (1, .int (nI t))] []) → ∀ (m k : Nat) (h : aw_H), mm_n s 42 - k = m → k ≤ mm_n s 42 → mm_R G w h (mm_prS s cd pr (t + 1) t k) → mm_same w h0 h → AW G (aw_rm 2 0 0) yX5_care cX5_care 3 (some .int) (aw_N G (mm_PoC G w h0 (some (.int (op_care (mm_H s) (mm_a s 45)))) (op_careS s)) 0 0) 0 0 h 23 [(0, .ref w.1), (1, .int (nI t)), (2, .int (nI k))] [] := by
    intro t ht hgo m
    induction m using Nat.strongRecOn with
    | _ m ih =>
      intro k h hm hk hR hs
      by_cases hk9 : k < mm_n s 42
      · have e32 := hlv t (by omega)
        have e41 : mm_n (mm_prS s cd pr (t + 1) t k) 41 = mm_n s 41 := rfl
        have ec := mm_carriesOf (s := mm_prS s cd pr (t + 1) t k) (t := k) (o := t) hH (by omega) (by omega) (hA.1 k (by omega)).1
        have ec : mm_Met _ _ _ _ _ _ (mm_prS s cd pr (t + 1) t k) (some (.int (nI (sp_carr (mm_H s) (mm_a s 45) k t)))) (mm_prS s cd pr (t + 1) t k) := ec
        have cb : sp_carr (mm_H s) (mm_a s 45) k t ≤ mm_n s 41 := Nat.min_le_left _ _
        have next : ∀ (v : Nat) (h : aw_H), v = (if cd t k = true then 1 else 0) → mm_R G w h (mm_prS s cd pr (t + 1) t k) → mm_same w h0 h → AW G (aw_rm 2 0 0) yX5_care cX5_care 3 (some .int) (aw_N G (mm_PoC G w h0 (some (.int (op_care (mm_H s) (mm_a s 45)))) (op_careS s)) 0 0) 0 0 h 75 [(0, .ref w.1), (1, .int (nI t)), (2, .int (nI k))] [.int (nI v), .int (nI (8 * t + k)), .ref (w.2 56)] := by
          intro v h ev hR hs
          have hv2 : v < 2 := by rw [ev]; split <;> decide
          refine mm_zast (k := 56) rfl hW hR hs dX5_care_75 (by omega) (by decide) (by omega) (fun h hR hs => ?_)
          have hR := mm_eq hR (show _ = mm_prS s cd pr (t + 1) t (k + 1) by unfold mm_prS; rw [mm_A_A, ← mm_D_u hk9 hn ev]; rfl)
          refine aw_iincN (b := 1) dX5_care_76 rfl rfl (by decide) rfl rfl ?_
          refine aw_goto (tgt := 23) dX5_care_79 (by decide) ?_
          exact ih (mm_n s 42 - (k + 1)) (by omega) (k + 1) h rfl (by omega) hR hs
        have ed : ∀ v : Nat, (k ≠ t ∧ 0 < mm_a s 32 t ∧ mm_a s 32 t ≤ sp_carr (mm_H s) (mm_a s 45) k t → v = 1) → (¬ (k ≠ t ∧ 0 < mm_a s 32 t ∧ mm_a s 32 t ≤ sp_carr (mm_H s) (mm_a s 45) k t) → v = 0) → v = if cd t k = true then 1 else 0 := fun v h1 h2 => by
          have ex : cd t k = decide (k ≠ t ∧ 0 < mm_a s 32 t ∧ mm_a s 32 t ≤ sp_carr (mm_H s) (mm_a s 45) k t) := by rw [hcd]; rfl
          rw [ex]
          by_cases z : k ≠ t ∧ 0 < mm_a s 32 t ∧ mm_a s 32 t ≤ sp_carr (mm_H s) (mm_a s 45) k t
          · rw [decide_eq_true z, h1 z]; rfl
          · rw [decide_eq_false z, h2 z]; rfl
        have e42 : mm_n (mm_prS s cd pr (t + 1) t k) 42 = mm_n s 42 := rfl
        have f32 : mm_a (mm_prS s cd pr (t + 1) t k) 32 t = mm_a s 32 t := rfl
        refine aw_iload_n dX5_care_23 rfl ?_
        refine aw_aload_n dX5_care_24 rfl ?_
        refine aw_get dX5_care_25 fX5_350 rfl hR.1 (by rfl) ?_
        refine aw_icmp_geN (tgt := 82) dX5_care_28 (by decide) (by omega) (by omega) (fun c_28 => by exfalso; omega) (fun c_28 => ?_)
        refine aw_aload_n dX5_care_31 rfl ?_
        refine aw_get dX5_care_32 fX5_109 rfl hR.1 (by rfl) ?_
        refine aw_bipush (v := nI 8) dX5_care_35 rfl ?_
        refine aw_iload_n dX5_care_37 rfl ?_
        refine aw_imulN dX5_care_38 ?_
        refine aw_iload_n dX5_care_39 rfl ?_
        refine aw_iaddN dX5_care_40 ?_
        refine aw_iload_n dX5_care_41 rfl ?_
        refine aw_iload_n dX5_care_42 rfl ?_
        refine aw_icmp_eqN (tgt := 74) dX5_care_43 (by decide) (by omega) (by omega) (fun c_43 => ?_) (fun c_43 => ?_)
        · refine aw_iconst (v := nI 0) dX5_care_74 rfl ?_
          first
            | exact next 1 h (ed _ (fun z => rfl) (fun z => by omega)) hR hs
            | exact next 0 h (ed _ (fun z => by omega) (fun z => rfl)) hR hs
        · refine aw_aload_n dX5_care_46 rfl ?_
          refine aw_get dX5_care_47 fX5_67 rfl hR.1 (by rfl) ?_
          refine aw_iload_n dX5_care_50 rfl ?_
          refine aw_ialdN dX5_care_51 (hR.2.1 32 8 rfl) (by omega) (by decide) ?_
          refine aw_if_leN (tgt := 74) dX5_care_52 (by decide) (by omega) (fun c_52 => ?_) (fun c_52 => ?_)
          · refine aw_iconst (v := nI 0) dX5_care_74 rfl ?_
            first
              | exact next 1 h (ed _ (fun z => rfl) (fun z => by omega)) hR hs
              | exact next 0 h (ed _ (fun z => by omega) (fun z => rfl)) hR hs
          · refine aw_aload_n dX5_care_55 rfl ?_
            refine aw_iload_n dX5_care_56 rfl ?_
            refine aw_iload_n dX5_care_57 rfl ?_
            refine mm_call dX5_care_58 sX5_430 rfl hW hR hs ec rfl rfl ⟨Nat.le_of_ble_eq_true rfl, Nat.le_of_ble_eq_true rfl⟩ (Nat.le_of_ble_eq_true rfl) (fun h hR hs => ?_)
            refine aw_aload_n dX5_care_61 rfl ?_
            refine aw_get dX5_care_62 fX5_67 rfl hR.1 (by rfl) ?_
            refine aw_iload_n dX5_care_65 rfl ?_
            refine aw_ialdN dX5_care_66 (hR.2.1 32 8 rfl) (by omega) (by decide) ?_
            refine aw_icmp_ltN (tgt := 74) dX5_care_67 (by decide) (by omega) (by omega) (fun c_67 => ?_) (fun c_67 => ?_)
            · refine aw_iconst (v := nI 0) dX5_care_74 rfl ?_
              first
                | exact next 1 h (ed _ (fun z => rfl) (fun z => by omega)) hR hs
                | exact next 0 h (ed _ (fun z => by omega) (fun z => rfl)) hR hs
            · refine aw_iconst (v := nI 1) dX5_care_70 rfl ?_
              refine aw_goto (tgt := 75) dX5_care_71 (by decide) ?_
              first
                | exact next 1 h (ed _ (fun z => rfl) (fun z => by omega)) hR hs
                | exact next 0 h (ed _ (fun z => by omega) (fun z => rfl)) hR hs
      · obtain rfl : k = mm_n s 42 := by omega
        have e42 : mm_n (mm_prS s cd pr (t + 1) t (mm_n s 42)) 42 = mm_n s 42 := rfl
        refine aw_iload_n dX5_care_23 rfl ?_
        refine aw_aload_n dX5_care_24 rfl ?_
        refine aw_get dX5_care_25 fX5_350 rfl hR.1 (by rfl) ?_
        refine aw_icmp_geN (tgt := 82) dX5_care_28 (by decide) (by omega) (by omega) (fun c_28 => ?_) (fun c_28 => by exfalso; omega)
        exact AW_dr (hgo h (mm_eq hR (by unfold mm_prS; rw [mm_D_r])) hs)
  have out6 : ∀ (m t : Nat) (h : aw_H), mm_n s 42 - t = m → t ≤ mm_n s 42 → mm_R G w h (mm_prS s cd pr t t 0) → mm_same w h0 h → AW G (aw_rm 2 0 0) yX5_care cX5_care 3 (some .int) (aw_N G (mm_PoC G w h0 (some (.int (op_care (mm_H s) (mm_a s 45)))) (op_careS s)) 0 0) 0 0 h 6 [(0, .ref w.1), (1, .int (nI t))] [] := by
    intro m
    induction m using Nat.strongRecOn with
    | _ m ih =>
      intro t h hm ht hR hs
      have e42 : mm_n (mm_prS s cd pr t t 0) 42 = mm_n s 42 := rfl
      have next : ∀ (h : aw_H), t < mm_n s 42 → mm_R G w h (mm_prS s cd pr (t + 1) (t + 1) 0) → mm_same w h0 h → AW G (aw_rm 2 0 0) yX5_care cX5_care 3 (some .int) (aw_N G (mm_PoC G w h0 (some (.int (op_care (mm_H s) (mm_a s 45)))) (op_careS s)) 0 0) 0 0 h 82 [(0, .ref w.1), (1, .int (nI t))] [] := by
        intro h ht2 hR hs
        refine aw_iincN (b := 1) dX5_care_82 rfl rfl (by decide) rfl rfl ?_
        refine aw_goto (tgt := 6) dX5_care_85 (by decide) ?_
        exact ih (mm_n s 42 - (t + 1)) (by omega) (t + 1) h rfl (by omega) hR hs
      by_cases ht9 : t < mm_n s 42
      ·
        refine aw_iload_n dX5_care_6 rfl ?_
        refine aw_aload_n dX5_care_7 rfl ?_
        refine aw_get dX5_care_8 fX5_350 rfl hR.1 (by rfl) ?_
        refine aw_icmp_geN (tgt := 88) dX5_care_11 (by decide) (by omega) (by omega) (fun c_11 => by exfalso; omega) (fun c_11 => ?_)
        refine aw_aload_n dX5_care_14 rfl ?_
        refine aw_get dX5_care_15 fX5_106 rfl hR.1 (by rfl) ?_
        refine aw_iload_n dX5_care_18 rfl ?_
        refine aw_iconst (v := nI 0) dX5_care_19 rfl ?_
        refine mm_iast (k := 55) rfl hW hR hs dX5_care_20 (by omega) (by decide) (fun h hR hs => ?_)
        have hR := mm_eq hR (show _ = mm_prS s cd pr (t + 1) t 0 by unfold mm_prS; rw [← mm_P_u (s := s) (pr := pr) (t := t) (v := 0) (by rw [hpr])]; exact mm_pr55)
        refine aw_iconst (v := nI 0) dX5_care_21 rfl ?_
        refine aw_istore_n dX5_care_22 (by decide) rfl rfl ?_
        exact in23 t ht9 (fun h => next h ht9) _ 0 h rfl (Nat.zero_le _) hR hs
      · obtain rfl : t = mm_n s 42 := by omega
        have hn3 : mm_n (mm_prF s cd pr) 42 ≤ 8 := hn
        have hp3 : ∀ t, t < mm_n s 42 → mm_a (mm_prF s cd pr) 55 t ≤ 20 := mm_prF_p (fun t => by rw [hpr]; exact Nat.zero_le _)
        have hR : mm_R G w h (mm_prF s cd pr) := hR
        have e43 : mm_n (mm_prF s cd pr) 42 = mm_n s 42 := rfl
        refine aw_iload_n dX5_care_6 rfl ?_
        refine aw_aload_n dX5_care_7 rfl ?_
        refine aw_get dX5_care_8 fX5_350 rfl hR.1 (by rfl) ?_
        refine aw_icmp_geN (tgt := 88) dX5_care_11 (by decide) (by omega) (by omega) (fun c_11 => ?_) (fun c_11 => by exfalso; omega)
        refine aw_aload_n dX5_care_88 rfl ?_
        refine mm_call dX5_care_89 sX5_436 rfl hW hR hs (mm_layDoers (s := mm_prF s cd pr) hn (mm_prF_c2 (s := s) (cd := cd) (pr := pr) hn) hp3) rfl rfl ⟨Nat.le_of_ble_eq_true rfl, Nat.le_of_ble_eq_true rfl⟩ (Nat.le_of_ble_eq_true rfl) (fun h hR hs => ?_)
        refine aw_aload_n dX5_care_92 rfl ?_
        refine mm_call dX5_care_93 sX5_439 rfl hW hR hs (mm_putDoers (s := mm_dpS (mm_prF s cd pr)) hn (mm_prF_c2 (s := s) (cd := cd) (pr := pr) hn) hp3 (mm_dpS_T (s := mm_prF s cd pr))) rfl rfl ⟨Nat.le_of_ble_eq_true rfl, Nat.le_of_ble_eq_true rfl⟩ (Nat.le_of_ble_eq_true rfl) (fun h hR hs => ?_)
        refine aw_aload_n dX5_care_96 rfl ?_
        refine aw_get dX5_care_97 fX5_100 rfl hR.1 (by rfl) ?_
        refine aw_iconst (v := nI 0) dX5_care_100 rfl ?_
        refine aw_ialdN dX5_care_101 (hR.2.1 53 2304 rfl) (by omega) (by decide) ?_
        try simp only [mm_n_N, mm_n_A, mm_n_V, mm_n_Fp, mm_n_W, mm_n_Nm, mm_a_N, mm_a_A, mm_a_V, mm_a_Fp, mm_a_W, mm_a_Nm, mm_v_N, mm_v_A, mm_v_V, mm_fp_N, mm_fp_A, mm_fp_Fp, mm_w_N, mm_w_W, Nat.reduceEqDiff, reduceIte, if_true, if_false, mm_H_45, mm_H_46, mm_H_47, mm_H_50, mm_H_53, mm_H_54, mm_H_55, mm_H_56, mm_H_57, mm_H_58, mm_H_66, mm_H_67, mm_H_68]
        refine aw_ireturn dX5_care_102 rfl ?_
        refine ⟨?_, _, ?_, hR, hs⟩
        · rw [op_care, ← hcd]
          have e9 := mm_prF_V (s := s) (cd := cd) (pr := pr) hn
          rw [hpr] at e9
          show some (Value.int (nI (mm_dpM (mm_prF s cd pr) 0))) = _
          unfold mm_dpM
          rw [if_pos (by omega)]
          show some (Value.int (nI (sp_e1 (mm_dpV (mm_prF s cd pr) (mm_n s 42) 0)))) = _
          rw [hpr, e9]
          rfl
        · rw [op_careS, ← hcd]
          have e9 := mm_put_core (s := s) (cd := cd) (pr := pr) hn
          rw [hpr] at e9 ⊢
          exact e9
  refine aw_aload_n dX5_care_0 rfl ?_
  refine mm_call dX5_care_1 sX5_394 rfl hW hR hs (mm_load) rfl rfl ⟨Nat.le_of_ble_eq_true rfl, Nat.le_of_ble_eq_true rfl⟩ (Nat.le_of_ble_eq_true rfl) (fun h hR hs => ?_)
  refine aw_iconst (v := nI 0) dX5_care_4 rfl ?_
  refine aw_istore_n dX5_care_5 (by decide) rfl rfl ?_
  refine out6 _ 0 _ rfl (Nat.zero_le _) (mm_eq hR ?_) hs
  unfold mm_prS
  rw [mm_D_0, mm_A_id (s := mm_setA s 46 (mm_a s 45)) (k := 55) (fun j => by unfold mm_P; rw [if_neg (by omega)]; rfl)]
  exact (mm_A_id (fun j => rfl)).symm

