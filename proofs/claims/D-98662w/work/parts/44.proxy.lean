set_option maxRecDepth 100000
/-! the model: proxy, toil -/
/-- the fewest storeys that pay for t, 0: none or nothing lacks -/
def sp_pk (H : sp_H) (A : Nat → Nat) (t : Nat) : Nat := if 0 < sp_lack H A t then sp_few (fun a => sp_cnt H A a 0 0) (sp_lack H A t) (sp_hs H) else 0
def sp_cdP (H : sp_H) (A : Nat → Nat) (t b : Nat) : Bool := decide (b ≠ t ∧ sp_pk H A t ≠ 0 ∧ sp_pk H A t ≤ A b)
def op_prx (H : sp_H) (A : Nat → Nat) : Nat := sp_dv (sp_hn H) (sp_cdP H A) (fun t => 1000 - sp_pk H A t) (sp_hn H) 0
def op_proxy (H : sp_H) (A : Nat → Nat) : Int32 := nI (sp_e1 (op_prx H A))
def op_toil (H : sp_H) (A : Nat → Nat) : Int32 := nI (sp_e2 (op_prx H A))
def op_proxyS (s : mm_S) : mm_S := mm_lyS s (sp_cdP (mm_H s) (mm_a s 45)) (fun t => 1000 - sp_pk (mm_H s) (mm_a s 45) t)
theorem sp_few_le {c : Nat → Nat} {d : Nat} : ∀ n, sp_few c d n ≤ n := by
  intro n
  induction n with
  | zero => exact Nat.le_refl _
  | succ n ih =>
    unfold sp_few
    split
    · omega
    · split <;> omega
theorem sp_pk_le {H : sp_H} {A : Nat → Nat} (h : sp_hs H ≤ 20) (t : Nat) : sp_pk H A t ≤ 20 := by
  unfold sp_pk
  split
  · exact Nat.le_trans (sp_few_le _) h
  · exact Nat.zero_le _
set_option maxHeartbeats 4000000 in
theorem mm_layProxy {s : mm_S} {N : Nat} (hH : sp_okH (mm_H s)) (hA : sp_okA N (mm_a s 45)) (hN : N ≤ 10000000) : mm_Met yX5_layProxy cX5_layProxy 4 none 5 [] s none (mm_dpS (mm_prF s (sp_cdP (mm_H s) (mm_a s 45)) (sp_pk (mm_H s) (mm_a s 45)))) := by
  refine mm_Met.of (by decide +kernel) (fun _ => Nat.le_of_ble_eq_true rfl) (fun G w h0 hW hR => ?_)
  have hs : mm_same w h0 h0 := mm_same.rf
  show AW G (aw_rm 5 0 0) yX5_layProxy cX5_layProxy 4 none (aw_N G (mm_Po G w h0 none (mm_dpS (mm_prF s (sp_cdP (mm_H s) (mm_a s 45)) (sp_pk (mm_H s) (mm_a s 45))))) 0 0) 0 0 h0 0 [(0, .ref w.1)] []
  have hs1 : 1 ≤ mm_n s 41 := hH.1.1; have hs20 : mm_n s 41 ≤ 20 := hH.1.2; have hn : mm_n s 42 ≤ 8 := hH.2.1; have hlv : ∀ t, t < 8 → mm_a s 32 t ≤ 20 := fun t ht => (hH.2.2.1 t ht).1; have hsg : ∀ t, t < 8 → mm_a s 33 t ≤ 40 := fun t ht => (hH.2.2.1 t ht).2.1; have hhv : ∀ t, t < 8 → mm_a s 34 t ≤ 9 := fun t ht => (hH.2.2.1 t ht).2.2.1; have how : ∀ t, t < 8 → mm_a s 35 t ≤ 999 := fun t ht => (hH.2.2.1 t ht).2.2.2.1; have hfl : ∀ t, t < 8 → mm_a s 36 t ≤ 100 := fun t ht => (hH.2.2.1 t ht).2.2.2.2; have hF0 : sp_fok (mm_steps s 0) := hH.2.2.2.1; have hF1 : sp_fok (mm_steps s 1) := hH.2.2.2.2; have h42 : sp_hn (mm_H s) = mm_n s 42 := rfl; have h41 : sp_hs (mm_H s) = mm_n s 41 := rfl
  obtain ⟨cd, hcd⟩ : ∃ cd, cd = sp_cdP (mm_H s) (mm_a s 45) := ⟨_, rfl⟩
  obtain ⟨pr, hpr⟩ : ∃ pr : Nat → Nat, pr = sp_pk (mm_H s) (mm_a s 45) := ⟨_, rfl⟩
  rw [← hcd, ← hpr]
  have pr20 : ∀ t, pr t ≤ 20 := fun t => by rw [hpr]; exact sp_pk_le hs20 t
  have in53 : ∀ (t : Nat), t < mm_n s 42 → (∀ (h : aw_H), mm_R G w h (mm_prS s cd pr (t + 1) (t + 1) 0) → mm_same w h0 h → AW G (aw_rm 5 0 0) yX5_layProxy cX5_layProxy 4 none (aw_N G (mm_Po G w h0 none (mm_dpS (mm_prF s cd pr))) 0 0) 0 0 h 102 [(0, .ref w.1), (1, .int (nI t))] []) → ∀ (m k : Nat) (h : aw_H), mm_n s 42 - k = m → k ≤ mm_n s 42 → mm_R G w h (mm_prS s cd pr (t + 1) t k) → mm_same w h0 h → AW G (aw_rm 5 0 0) yX5_layProxy cX5_layProxy 4 none (aw_N G (mm_Po G w h0 none (mm_dpS (mm_prF s cd pr))) 0 0) 0 0 h 53 [(0, .ref w.1), (1, .int (nI t)), (2, .int (sp_cz (pr t))), (3, .int (nI k))] [] := by
    intro t ht hgo m
    induction m using Nat.strongRecOn with
    | _ m ih =>
      intro k h hm hk hR hs
      have ep := pr20 t
      have next : ∀ (v : Nat) (h : aw_H), k < mm_n s 42 → v = (if cd t k = true then 1 else 0) → mm_R G w h (mm_prS s cd pr (t + 1) t k) → mm_same w h0 h → AW G (aw_rm 5 0 0) yX5_layProxy cX5_layProxy 4 none (aw_N G (mm_Po G w h0 none (mm_dpS (mm_prF s cd pr))) 0 0) 0 0 h 95 [(0, .ref w.1), (1, .int (nI t)), (2, .int (sp_cz (pr t))), (3, .int (nI k))] [.int (nI v), .int (nI (8 * t + k)), .ref (w.2 56)] := by
        intro v h hk9 ev hR hs
        have hv2 : v < 2 := by rw [ev]; split <;> decide
        refine mm_zast (k := 56) rfl hW hR hs dX5_layProxy_95 (by omega) (by decide) (by omega) (fun h hR hs => ?_)
        have hR := mm_eq hR (show _ = mm_prS s cd pr (t + 1) t (k + 1) by unfold mm_prS; rw [mm_A_A, ← mm_D_u hk9 hn ev]; rfl)
        refine aw_iincN (b := 1) dX5_layProxy_96 rfl rfl (by decide) rfl rfl ?_
        refine aw_goto (tgt := 53) dX5_layProxy_99 (by decide) ?_
        exact ih (mm_n s 42 - (k + 1)) (by omega) (k + 1) h rfl (by omega) hR hs
      have e42 : mm_n (mm_prS s cd pr (t + 1) t k) 42 = mm_n s 42 := rfl
      by_cases hk9 : k < mm_n s 42
      · have ed : ∀ v : Nat, (k ≠ t ∧ pr t ≠ 0 ∧ pr t ≤ mm_a s 45 k → v = 1) → (¬ (k ≠ t ∧ pr t ≠ 0 ∧ pr t ≤ mm_a s 45 k) → v = 0) → v = if cd t k = true then 1 else 0 := fun v h1 h2 => by
          have ex : cd t k = decide (k ≠ t ∧ pr t ≠ 0 ∧ pr t ≤ mm_a s 45 k) := by rw [hcd, hpr]; rfl
          rw [ex]
          by_cases z : k ≠ t ∧ pr t ≠ 0 ∧ pr t ≤ mm_a s 45 k
          · rw [decide_eq_true z, h1 z]; rfl
          · rw [decide_eq_false z, h2 z]; rfl
        have f46 : mm_a (mm_prS s cd pr (t + 1) t k) 46 k = mm_a s 45 k := rfl
        have hb := (hA.1 k (by omega)).1
        by_cases z : pr t = 0
        · have e2 : sp_cz (pr t) = -1 := by rw [z]; rfl
          rw [e2] at next ⊢
          refine aw_iload_n dX5_layProxy_53 rfl ?_
          refine aw_aload_n dX5_layProxy_54 rfl ?_
          refine aw_get dX5_layProxy_55 fX5_350 rfl hR.1 (by rfl) ?_
          refine aw_icmp_geN (tgt := 102) dX5_layProxy_58 (by decide) (by omega) (by omega) (fun c_58 => by exfalso; omega) (fun c_58 => ?_)
          refine aw_aload_n dX5_layProxy_61 rfl ?_
          refine aw_get dX5_layProxy_62 fX5_109 rfl hR.1 (by rfl) ?_
          refine aw_bipush (v := nI 8) dX5_layProxy_65 rfl ?_
          refine aw_iload_n dX5_layProxy_67 rfl ?_
          refine aw_imulN dX5_layProxy_68 ?_
          refine aw_iload_n dX5_layProxy_69 rfl ?_
          refine aw_iaddN dX5_layProxy_70 ?_
          refine aw_iload_n dX5_layProxy_71 rfl ?_
          refine aw_iload_n dX5_layProxy_72 rfl ?_
          refine aw_icmp_eqN (tgt := 94) dX5_layProxy_73 (by decide) (by omega) (by omega) (fun c_73 => ?_) (fun c_73 => ?_)
          · refine aw_iconst (v := nI 0) dX5_layProxy_94 rfl ?_
            exact next 0 h hk9 (ed _ (fun z => by omega) (fun z => rfl)) hR hs
          · refine aw_iload_n dX5_layProxy_76 rfl ?_
            refine aw_if_lt (tgt := 94) dX5_layProxy_77 (by decide) (fun c_77 => ?_) (fun c_77 => by exfalso; exact absurd (by decide) c_77)
            refine aw_iconst (v := nI 0) dX5_layProxy_94 rfl ?_
            exact next 0 h hk9 (ed _ (fun z => by omega) (fun z => rfl)) hR hs
        · have e2 : sp_cz (pr t) = nI (pr t) := by unfold sp_cz; rw [if_neg z]
          rw [e2] at next ⊢
          refine aw_iload_n dX5_layProxy_53 rfl ?_
          refine aw_aload_n dX5_layProxy_54 rfl ?_
          refine aw_get dX5_layProxy_55 fX5_350 rfl hR.1 (by rfl) ?_
          refine aw_icmp_geN (tgt := 102) dX5_layProxy_58 (by decide) (by omega) (by omega) (fun c_58 => by exfalso; omega) (fun c_58 => ?_)
          refine aw_aload_n dX5_layProxy_61 rfl ?_
          refine aw_get dX5_layProxy_62 fX5_109 rfl hR.1 (by rfl) ?_
          refine aw_bipush (v := nI 8) dX5_layProxy_65 rfl ?_
          refine aw_iload_n dX5_layProxy_67 rfl ?_
          refine aw_imulN dX5_layProxy_68 ?_
          refine aw_iload_n dX5_layProxy_69 rfl ?_
          refine aw_iaddN dX5_layProxy_70 ?_
          refine aw_iload_n dX5_layProxy_71 rfl ?_
          refine aw_iload_n dX5_layProxy_72 rfl ?_
          refine aw_icmp_eqN (tgt := 94) dX5_layProxy_73 (by decide) (by omega) (by omega) (fun c_73 => ?_) (fun c_73 => ?_)
          · refine aw_iconst (v := nI 0) dX5_layProxy_94 rfl ?_
            first
              | exact next 1 h hk9 (ed _ (fun z => rfl) (fun z => by omega)) hR hs
              | exact next 0 h hk9 (ed _ (fun z => by omega) (fun z => rfl)) hR hs
          · refine aw_iload_n dX5_layProxy_76 rfl ?_
            refine aw_if_ltN (tgt := 94) dX5_layProxy_77 (by decide) (by omega) ?_
            refine aw_aload_n dX5_layProxy_80 rfl ?_
            refine aw_get dX5_layProxy_81 fX5_88 rfl hR.1 (by rfl) ?_
            refine aw_iload_n dX5_layProxy_84 rfl ?_
            refine aw_ialdN dX5_layProxy_85 (hR.2.1 46 28 rfl) (by omega) (by decide) ?_
            refine aw_iload_n dX5_layProxy_86 rfl ?_
            refine aw_icmp_ltN (tgt := 94) dX5_layProxy_87 (by decide) (by omega) (by omega) (fun c_87 => ?_) (fun c_87 => ?_)
            · refine aw_iconst (v := nI 0) dX5_layProxy_94 rfl ?_
              first
                | exact next 1 h hk9 (ed _ (fun z => rfl) (fun z => by omega)) hR hs
                | exact next 0 h hk9 (ed _ (fun z => by omega) (fun z => rfl)) hR hs
            · refine aw_iconst (v := nI 1) dX5_layProxy_90 rfl ?_
              refine aw_goto (tgt := 95) dX5_layProxy_91 (by decide) ?_
              first
                | exact next 1 h hk9 (ed _ (fun z => rfl) (fun z => by omega)) hR hs
                | exact next 0 h hk9 (ed _ (fun z => by omega) (fun z => rfl)) hR hs
      · obtain rfl : k = mm_n s 42 := by omega
        refine aw_iload_n dX5_layProxy_53 rfl ?_
        refine aw_aload_n dX5_layProxy_54 rfl ?_
        refine aw_get dX5_layProxy_55 fX5_350 rfl hR.1 (by rfl) ?_
        refine aw_icmp_geN (tgt := 102) dX5_layProxy_58 (by decide) (by omega) (by omega) (fun c_58 => ?_) (fun c_58 => by exfalso; omega)
        exact AW_dr (hgo h (mm_eq hR (by unfold mm_prS; rw [mm_D_r])) hs)
  have out6 : ∀ (m t : Nat) (h : aw_H), mm_n s 42 - t = m → t ≤ mm_n s 42 → mm_R G w h (mm_prS s cd pr t t 0) → mm_same w h0 h → AW G (aw_rm 5 0 0) yX5_layProxy cX5_layProxy 4 none (aw_N G (mm_Po G w h0 none (mm_dpS (mm_prF s cd pr))) 0 0) 0 0 h 6 [(0, .ref w.1), (1, .int (nI t))] [] := by
    intro m
    induction m using Nat.strongRecOn with
    | _ m ih =>
      intro t h hm ht hR hs
      have e42 : mm_n (mm_prS s cd pr t t 0) 42 = mm_n s 42 := rfl
      have next : ∀ (h : aw_H), t < mm_n s 42 → mm_R G w h (mm_prS s cd pr (t + 1) (t + 1) 0) → mm_same w h0 h → AW G (aw_rm 5 0 0) yX5_layProxy cX5_layProxy 4 none (aw_N G (mm_Po G w h0 none (mm_dpS (mm_prF s cd pr))) 0 0) 0 0 h 102 [(0, .ref w.1), (1, .int (nI t))] [] := by
        intro h ht2 hR hs
        refine aw_iincN (b := 1) dX5_layProxy_102 rfl rfl (by decide) rfl rfl ?_
        refine aw_goto (tgt := 6) dX5_layProxy_105 (by decide) ?_
        exact ih (mm_n s 42 - (t + 1)) (by omega) (t + 1) h rfl (by omega) hR hs
      by_cases ht9 : t < mm_n s 42
      · obtain ⟨g1, g2, g3⟩ := sp_due_lt hH hA (by omega) (t := t) (by omega)
        have clk := mm_lackOf (s := mm_prS s cd pr t t 0) (t := t) (by omega) g1 g2
        have clk : mm_Met _ _ _ _ _ _ (mm_prS s cd pr t t 0) (some (.int (nI (sp_lack (mm_H s) (mm_a s 45) t)))) (mm_prS s cd pr t t 0) := clk
        have csf := mm_storeysFor (s := mm_prS s cd pr t t 0) (d := sp_lack (mm_H s) (mm_a s 45) t) hH g3
        have csf : mm_Met _ _ _ _ _ _ (mm_prS s cd pr t t 0) (some (.int (sp_cz (sp_few (fun a => sp_cnt (mm_H s) (mm_a s 45) a 0 0) (sp_lack (mm_H s) (mm_a s 45) t) (mm_n s 41))))) (mm_prS s cd pr t t 0) := csf
        have ep := pr20 t
        have ept : pr t = sp_pk (mm_H s) (mm_a s 45) t := by rw [hpr]
        have aft : ∀ (h : aw_H), mm_R G w h (mm_prS s cd pr t t 0) → mm_same w h0 h → AW G (aw_rm 5 0 0) yX5_layProxy cX5_layProxy 4 none (aw_N G (mm_Po G w h0 none (mm_dpS (mm_prF s cd pr))) 0 0) 0 0 h 35 [(0, .ref w.1), (1, .int (nI t))] [.int (sp_cz (pr t))] := by
          intro h hR hs
          by_cases z : pr t = 0
          · have e2 : sp_cz (pr t) = -1 := by rw [z]; rfl
            have in5 := in53 t ht9 (fun h => next h ht9) (mm_n s 42) 0
            rw [e2] at in5 ⊢
            refine aw_istore_n dX5_layProxy_35 (by decide) rfl rfl ?_
            refine aw_aload_n dX5_layProxy_36 rfl ?_
            refine aw_get dX5_layProxy_37 fX5_106 rfl hR.1 (by rfl) ?_
            refine aw_iload_n dX5_layProxy_40 rfl ?_
            refine aw_iload_n dX5_layProxy_41 rfl ?_
            refine aw_if_ge (tgt := 49) dX5_layProxy_42 (by decide) (fun c_42 => by exfalso; exact absurd c_42 (by decide)) (fun c_42 => ?_)
            refine aw_iconst (v := nI 0) dX5_layProxy_45 rfl ?_
            refine aw_goto (tgt := 50) dX5_layProxy_46 (by decide) ?_
            refine mm_iast (k := 55) rfl hW hR hs dX5_layProxy_50 (by omega) (by decide) (fun h hR hs => ?_)
            have hR := mm_eq hR (show _ = mm_prS s cd pr (t + 1) t 0 by unfold mm_prS; rw [← mm_P_u (s := s) (pr := pr) (t := t) (v := 0) z.symm]; exact mm_pr55)
            refine aw_iconst (v := nI 0) dX5_layProxy_51 rfl ?_
            refine aw_istore_n dX5_layProxy_52 (by decide) rfl rfl ?_
            exact in5 h rfl (Nat.zero_le _) hR hs
          · have e2 : sp_cz (pr t) = nI (pr t) := by unfold sp_cz; rw [if_neg z]
            have in5 := in53 t ht9 (fun h => next h ht9) (mm_n s 42) 0
            rw [e2] at in5 ⊢
            refine aw_istore_n dX5_layProxy_35 (by decide) rfl rfl ?_
            refine aw_aload_n dX5_layProxy_36 rfl ?_
            refine aw_get dX5_layProxy_37 fX5_106 rfl hR.1 (by rfl) ?_
            refine aw_iload_n dX5_layProxy_40 rfl ?_
            refine aw_iload_n dX5_layProxy_41 rfl ?_
            refine aw_if_geN (tgt := 49) dX5_layProxy_42 (by decide) (by omega) ?_
            refine aw_iload_n dX5_layProxy_49 rfl ?_
            refine mm_iast (k := 55) rfl hW hR hs dX5_layProxy_50 (by omega) (by decide) (fun h hR hs => ?_)
            have hR := mm_eq hR (show _ = mm_prS s cd pr (t + 1) t 0 by unfold mm_prS; rw [← mm_P_u (s := s) (pr := pr) (t := t) (v := pr t) rfl]; exact mm_pr55)
            refine aw_iconst (v := nI 0) dX5_layProxy_51 rfl ?_
            refine aw_istore_n dX5_layProxy_52 (by decide) rfl rfl ?_
            exact in5 h rfl (Nat.zero_le _) hR hs
        refine aw_iload_n dX5_layProxy_6 rfl ?_
        refine aw_aload_n dX5_layProxy_7 rfl ?_
        refine aw_get dX5_layProxy_8 fX5_350 rfl hR.1 (by rfl) ?_
        refine aw_icmp_geN (tgt := 108) dX5_layProxy_11 (by decide) (by omega) (by omega) (fun c_11 => by exfalso; omega) (fun c_11 => ?_)
        refine aw_aload_n dX5_layProxy_14 rfl ?_
        refine aw_iload_n dX5_layProxy_15 rfl ?_
        refine mm_call dX5_layProxy_16 sX5_397 rfl hW hR hs clk rfl rfl ⟨Nat.le_of_ble_eq_true rfl, Nat.le_of_ble_eq_true rfl⟩ (Nat.le_of_ble_eq_true rfl) (fun h hR hs => ?_)
        refine aw_if_leN (tgt := 34) dX5_layProxy_19 (by decide) (by omega) (fun c_19 => ?_) (fun c_19 => ?_)
        · refine aw_iconst (v := -1) dX5_layProxy_34 rfl ?_
          first
            | (refine AW_st ?_ (aft h hR hs); rw [ept, sp_pk, if_pos (by omega)]; rfl)
            | (refine AW_st ?_ (aft h hR hs); rw [ept, sp_pk, if_neg (by omega)]; rfl)
        · refine aw_aload_n dX5_layProxy_22 rfl ?_
          refine aw_aload_n dX5_layProxy_23 rfl ?_
          refine aw_iload_n dX5_layProxy_24 rfl ?_
          refine mm_call dX5_layProxy_25 sX5_397 rfl hW hR hs clk rfl rfl ⟨Nat.le_of_ble_eq_true rfl, Nat.le_of_ble_eq_true rfl⟩ (Nat.le_of_ble_eq_true rfl) (fun h hR hs => ?_)
          refine mm_call dX5_layProxy_28 sX5_442 rfl hW hR hs csf rfl rfl ⟨Nat.le_of_ble_eq_true rfl, Nat.le_of_ble_eq_true rfl⟩ (Nat.le_of_ble_eq_true rfl) (fun h hR hs => ?_)
          refine aw_goto (tgt := 35) dX5_layProxy_31 (by decide) ?_
          first
            | (refine AW_st ?_ (aft h hR hs); rw [ept, sp_pk, if_pos (by omega)]; rfl)
            | (refine AW_st ?_ (aft h hR hs); rw [ept, sp_pk, if_neg (by omega)]; rfl)
      · obtain rfl : t = mm_n s 42 := by omega
        have hR : mm_R G w h (mm_prF s cd pr) := hR
        have e43 : mm_n (mm_prF s cd pr) 42 = mm_n s 42 := rfl
        refine aw_iload_n dX5_layProxy_6 rfl ?_
        refine aw_aload_n dX5_layProxy_7 rfl ?_
        refine aw_get dX5_layProxy_8 fX5_350 rfl hR.1 (by rfl) ?_
        refine aw_icmp_geN (tgt := 108) dX5_layProxy_11 (by decide) (by omega) (by omega) (fun c_11 => ?_) (fun c_11 => by exfalso; omega)
        refine aw_aload_n dX5_layProxy_108 rfl ?_
        refine mm_call dX5_layProxy_109 sX5_436 rfl hW hR hs (mm_layDoers (s := mm_prF s cd pr) hn (mm_prF_c2 (s := s) (cd := cd) (pr := pr) hn) (mm_prF_p (s := s) (cd := cd) (pr := pr) pr20)) rfl rfl ⟨Nat.le_of_ble_eq_true rfl, Nat.le_of_ble_eq_true rfl⟩ (Nat.le_of_ble_eq_true rfl) (fun h hR hs => ?_)
        refine aw_vreturn dX5_layProxy_112 rfl ?_
        exact ⟨rfl, hR, hs⟩
  refine aw_aload_n dX5_layProxy_0 rfl ?_
  refine mm_call dX5_layProxy_1 sX5_394 rfl hW hR hs (mm_load) rfl rfl ⟨Nat.le_of_ble_eq_true rfl, Nat.le_of_ble_eq_true rfl⟩ (Nat.le_of_ble_eq_true rfl) (fun h hR hs => ?_)
  refine aw_iconst (v := nI 0) dX5_layProxy_4 rfl ?_
  refine aw_istore_n dX5_layProxy_5 (by decide) rfl rfl ?_
  refine out6 _ 0 _ rfl (Nat.zero_le _) (mm_eq hR ?_) hs
  unfold mm_prS
  rw [mm_D_0, mm_A_id (s := mm_setA s 46 (mm_a s 45)) (k := 55) (fun j => by unfold mm_P; rw [if_neg (by omega)]; rfl)]
  exact (mm_A_id (fun j => rfl)).symm
set_option maxHeartbeats 4000000 in
theorem mo_proxy {s : mm_S} {N : Nat} (hH : sp_okH (mm_H s)) (hA : sp_okA N (mm_a s 45)) (hN : N ≤ 10000000) : mm_Op yX5_proxy cX5_proxy 1 (some .int) 6 [] s (some (.int (op_proxy (mm_H s) (mm_a s 45)))) (op_proxyS s) := by
  refine mm_Op.of (by decide +kernel) (fun _ => Nat.le_of_ble_eq_true rfl) (fun G w h0 hW hR => ?_)
  have hs : mm_same w h0 h0 := mm_same.rf
  show AW G (aw_rm 6 0 0) yX5_proxy cX5_proxy 1 (some .int) (aw_N G (mm_PoC G w h0 (some (.int (op_proxy (mm_H s) (mm_a s 45)))) (op_proxyS s)) 0 0) 0 0 h0 0 [(0, .ref w.1)] []
  have hs1 : 1 ≤ mm_n s 41 := hH.1.1; have hs20 : mm_n s 41 ≤ 20 := hH.1.2; have hn : mm_n s 42 ≤ 8 := hH.2.1; have hlv : ∀ t, t < 8 → mm_a s 32 t ≤ 20 := fun t ht => (hH.2.2.1 t ht).1; have hsg : ∀ t, t < 8 → mm_a s 33 t ≤ 40 := fun t ht => (hH.2.2.1 t ht).2.1; have hhv : ∀ t, t < 8 → mm_a s 34 t ≤ 9 := fun t ht => (hH.2.2.1 t ht).2.2.1; have how : ∀ t, t < 8 → mm_a s 35 t ≤ 999 := fun t ht => (hH.2.2.1 t ht).2.2.2.1; have hfl : ∀ t, t < 8 → mm_a s 36 t ≤ 100 := fun t ht => (hH.2.2.1 t ht).2.2.2.2; have hF0 : sp_fok (mm_steps s 0) := hH.2.2.2.1; have hF1 : sp_fok (mm_steps s 1) := hH.2.2.2.2; have h42 : sp_hn (mm_H s) = mm_n s 42 := rfl; have h41 : sp_hs (mm_H s) = mm_n s 41 := rfl
  obtain ⟨cd, hcd⟩ : ∃ cd, cd = sp_cdP (mm_H s) (mm_a s 45) := ⟨_, rfl⟩
  obtain ⟨pr, hpr⟩ : ∃ pr : Nat → Nat, pr = sp_pk (mm_H s) (mm_a s 45) := ⟨_, rfl⟩
  have pr20 : ∀ t, pr t ≤ 20 := fun t => by rw [hpr]; exact sp_pk_le hs20 t
  have clp := mm_layProxy hH hA hN
  rw [← hcd, ← hpr] at clp
  refine aw_aload_n dX5_proxy_0 rfl ?_
  refine mm_call dX5_proxy_1 sX5_445 rfl hW hR hs clp rfl rfl ⟨Nat.le_of_ble_eq_true rfl, Nat.le_of_ble_eq_true rfl⟩ (Nat.le_of_ble_eq_true rfl) (fun h hR hs => ?_)
  refine aw_aload_n dX5_proxy_4 rfl ?_
  refine mm_call dX5_proxy_5 sX5_439 rfl hW hR hs (mm_putDoers (s := mm_dpS (mm_prF s cd pr)) hn (mm_prF_c2 (s := s) (cd := cd) (pr := pr) hn) (mm_prF_p (s := s) (cd := cd) (pr := pr) pr20) (mm_dpS_T (s := mm_prF s cd pr))) rfl rfl ⟨Nat.le_of_ble_eq_true rfl, Nat.le_of_ble_eq_true rfl⟩ (Nat.le_of_ble_eq_true rfl) (fun h hR hs => ?_)
  refine aw_aload_n dX5_proxy_8 rfl ?_
  refine aw_get dX5_proxy_9 fX5_100 rfl hR.1 (by rfl) ?_
  refine aw_iconst (v := nI 0) dX5_proxy_12 rfl ?_
  refine aw_ialdN dX5_proxy_13 (hR.2.1 53 2304 rfl) (by omega) (by decide) ?_
  try simp only [mm_n_N, mm_n_A, mm_n_V, mm_n_Fp, mm_n_W, mm_n_Nm, mm_a_N, mm_a_A, mm_a_V, mm_a_Fp, mm_a_W, mm_a_Nm, mm_v_N, mm_v_A, mm_v_V, mm_fp_N, mm_fp_A, mm_fp_Fp, mm_w_N, mm_w_W, Nat.reduceEqDiff, reduceIte, if_true, if_false, mm_H_45, mm_H_46, mm_H_47, mm_H_50, mm_H_53, mm_H_54, mm_H_55, mm_H_56, mm_H_57, mm_H_58, mm_H_66, mm_H_67, mm_H_68]
  refine aw_ireturn dX5_proxy_14 rfl ?_
  refine ⟨?_, _, ?_, hR, hs⟩
  · have e9 := mm_prF_V (s := s) (cd := cd) (pr := pr) hn
    show some (Value.int (nI (mm_dpM (mm_prF s cd pr) 0))) = _
    unfold mm_dpM
    rw [if_pos (by omega)]
    show some (Value.int (nI (sp_e1 (mm_dpV (mm_prF s cd pr) (mm_n s 42) 0)))) = _
    rw [e9, op_proxy, op_prx, hcd, hpr]
    rfl
  · have e9 := mm_put_core (s := s) (cd := cd) (pr := pr) hn
    rw [op_proxyS, ← hcd, ← hpr]
    exact e9
set_option maxHeartbeats 4000000 in
theorem mo_toil {s : mm_S} {N : Nat} (hH : sp_okH (mm_H s)) (hA : sp_okA N (mm_a s 45)) (hN : N ≤ 10000000) : mm_Op yX5_toil cX5_toil 1 (some .int) 6 [] s (some (.int (op_toil (mm_H s) (mm_a s 45)))) (s) := by
  refine mm_Op.of (by decide +kernel) (fun _ => Nat.le_of_ble_eq_true rfl) (fun G w h0 hW hR => ?_)
  have hs : mm_same w h0 h0 := mm_same.rf
  show AW G (aw_rm 6 0 0) yX5_toil cX5_toil 1 (some .int) (aw_N G (mm_PoC G w h0 (some (.int (op_toil (mm_H s) (mm_a s 45)))) (s)) 0 0) 0 0 h0 0 [(0, .ref w.1)] []
  have hs1 : 1 ≤ mm_n s 41 := hH.1.1; have hs20 : mm_n s 41 ≤ 20 := hH.1.2; have hn : mm_n s 42 ≤ 8 := hH.2.1; have hlv : ∀ t, t < 8 → mm_a s 32 t ≤ 20 := fun t ht => (hH.2.2.1 t ht).1; have hsg : ∀ t, t < 8 → mm_a s 33 t ≤ 40 := fun t ht => (hH.2.2.1 t ht).2.1; have hhv : ∀ t, t < 8 → mm_a s 34 t ≤ 9 := fun t ht => (hH.2.2.1 t ht).2.2.1; have how : ∀ t, t < 8 → mm_a s 35 t ≤ 999 := fun t ht => (hH.2.2.1 t ht).2.2.2.1; have hfl : ∀ t, t < 8 → mm_a s 36 t ≤ 100 := fun t ht => (hH.2.2.1 t ht).2.2.2.2; have hF0 : sp_fok (mm_steps s 0) := hH.2.2.2.1; have hF1 : sp_fok (mm_steps s 1) := hH.2.2.2.2; have h42 : sp_hn (mm_H s) = mm_n s 42 := rfl; have h41 : sp_hs (mm_H s) = mm_n s 41 := rfl
  obtain ⟨cd, hcd⟩ : ∃ cd, cd = sp_cdP (mm_H s) (mm_a s 45) := ⟨_, rfl⟩
  obtain ⟨pr, hpr⟩ : ∃ pr : Nat → Nat, pr = sp_pk (mm_H s) (mm_a s 45) := ⟨_, rfl⟩
  have clp := mm_layProxy hH hA hN
  rw [← hcd, ← hpr] at clp
  refine aw_aload_n dX5_toil_0 rfl ?_
  refine mm_call dX5_toil_1 sX5_445 rfl hW hR hs clp rfl rfl ⟨Nat.le_of_ble_eq_true rfl, Nat.le_of_ble_eq_true rfl⟩ (Nat.le_of_ble_eq_true rfl) (fun h hR hs => ?_)
  refine aw_aload_n dX5_toil_4 rfl ?_
  refine aw_get dX5_toil_5 fX5_103 rfl hR.1 (by rfl) ?_
  refine aw_iconst (v := nI 0) dX5_toil_8 rfl ?_
  refine aw_ialdN dX5_toil_9 (hR.2.1 54 2304 rfl) (by omega) (by decide) ?_
  try simp only [mm_n_N, mm_n_A, mm_n_V, mm_n_Fp, mm_n_W, mm_n_Nm, mm_a_N, mm_a_A, mm_a_V, mm_a_Fp, mm_a_W, mm_a_Nm, mm_v_N, mm_v_A, mm_v_V, mm_fp_N, mm_fp_A, mm_fp_Fp, mm_w_N, mm_w_W, Nat.reduceEqDiff, reduceIte, if_true, if_false, mm_H_45, mm_H_46, mm_H_47, mm_H_50, mm_H_53, mm_H_54, mm_H_55, mm_H_56, mm_H_57, mm_H_58, mm_H_66, mm_H_67, mm_H_68]
  refine aw_ireturn dX5_toil_10 rfl ?_
  refine ⟨?_, _, mm_prF_core (cd := cd) (pr := pr), hR, hs⟩
  have e9 := mm_prF_V (s := s) (cd := cd) (pr := pr) hn
  show some (Value.int (nI (mm_dpC (mm_prF s cd pr) 0))) = _
  unfold mm_dpC
  rw [if_pos (by omega)]
  show some (Value.int (nI (sp_e2 (mm_dpV (mm_prF s cd pr) (mm_n s 42) 0)))) = _
  rw [e9, op_toil, op_prx, hcd, hpr]
  rfl

