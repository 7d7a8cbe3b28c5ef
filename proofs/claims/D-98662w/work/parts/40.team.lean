set_option maxRecDepth 100000
/-! the model: team, odds -/
theorem sp_bits_le : ∀ n v, sp_bits n v ≤ n := by
  intro n
  induction n with
  | zero => intro v; exact Nat.le_refl _
  | succ n ih =>
    intro v
    unfold sp_bits
    have := ih v
    have := Nat.mod_lt (v / 2 ^ n) (y := 2) (by decide)
    omega
def sp_tsm (A : Nat → Nat) (k n : Nat) : Nat := sp_sum (fun t => if k / 2 ^ t % 2 = 1 then A t else 0) n
/-- the first of the smallest sets of tenants who climb a storeys together: one more -/
def sp_tm (H : sp_H) (A : Nat → Nat) (a : Nat) : Nat → Nat
  | 0 => 0
  | k + 1 => if a ≤ sp_tsm A k (sp_hn H) ∧ (sp_tm H A a k = 0 ∨ sp_bits 8 k < sp_bits 8 (sp_tm H A a k - 1)) then k + 1 else sp_tm H A a k
theorem sp_tm_le {H : sp_H} {A : Nat → Nat} {a : Nat} : ∀ n, sp_tm H A a n ≤ n := by
  intro n
  induction n with
  | zero => exact Nat.le_refl _
  | succ n ih =>
    unfold sp_tm
    split
    · exact Nat.le_refl _
    · omega
noncomputable def op_team (H : sp_H) (A : Nat → Nat) (a q : Int32) : Int32 := aw_if ((0 ≤ a.toInt ∧ a.toInt ≤ 400) ∧ (0 ≤ q.toInt ∧ q.toInt ≤ 1) ∧ sp_tm H A a.toNatClampNeg (2 ^ sp_hn H) ≠ 0) (if q.toInt = 0 then nI (sp_bits 8 (sp_tm H A a.toNatClampNeg (2 ^ sp_hn H) - 1)) else nI (sp_tm H A a.toNatClampNeg (2 ^ sp_hn H) - 1)) (-1)
set_option maxHeartbeats 4000000 in
theorem mo_team {s : mm_S} {a q : Int32} {N : Nat} (hH : sp_okH (mm_H s)) (hA : sp_okA N (mm_a s 45)) : mm_Op yX5_team cX5_team 7 (some .int) 2 [.int (a), .int (q)] s (some (.int (op_team (mm_H s) (mm_a s 45) a q))) (s) := by
  refine mm_Op.of (by decide +kernel) (fun _ => Nat.le_of_ble_eq_true rfl) (fun G w h0 hW hR => ?_)
  have hs : mm_same w h0 h0 := mm_same.rf
  show AW G (aw_rm 2 0 0) yX5_team cX5_team 7 (some .int) (aw_N G (mm_PoC G w h0 (some (.int (op_team (mm_H s) (mm_a s 45) a q))) (s)) 0 0) 0 0 h0 0 [(0, .ref w.1), (1, .int (a)), (2, .int (q))] []
  have hs1 : 1 ≤ mm_n s 41 := hH.1.1; have hs20 : mm_n s 41 ≤ 20 := hH.1.2; have hn : mm_n s 42 ≤ 8 := hH.2.1; have hlv : ∀ t, t < 8 → mm_a s 32 t ≤ 20 := fun t ht => (hH.2.2.1 t ht).1; have hsg : ∀ t, t < 8 → mm_a s 33 t ≤ 40 := fun t ht => (hH.2.2.1 t ht).2.1; have hhv : ∀ t, t < 8 → mm_a s 34 t ≤ 9 := fun t ht => (hH.2.2.1 t ht).2.2.1; have how : ∀ t, t < 8 → mm_a s 35 t ≤ 999 := fun t ht => (hH.2.2.1 t ht).2.2.2.1; have hfl : ∀ t, t < 8 → mm_a s 36 t ≤ 100 := fun t ht => (hH.2.2.1 t ht).2.2.2.2; have hF0 : sp_fok (mm_steps s 0) := hH.2.2.2.1; have hF1 : sp_fok (mm_steps s 1) := hH.2.2.2.2; have h42 : sp_hn (mm_H s) = mm_n s 42 := rfl; have h41 : sp_hs (mm_H s) = mm_n s 41 := rfl
  have p8 : 2 ^ mm_n s 42 ≤ 256 := Nat.pow_le_pow_right (by decide) hn (n := 2)
  have no : ¬ ((0 ≤ a.toInt ∧ a.toInt ≤ 400) ∧ (0 ≤ q.toInt ∧ q.toInt ≤ 1) ∧ sp_tm (mm_H s) (mm_a s 45) a.toNatClampNeg (2 ^ mm_n s 42) ≠ 0) → op_team (mm_H s) (mm_a s 45) a q = -1 := fun z => by rw [op_team, h42, aw_if0 z]
  have sb : ∀ k n, n ≤ 8 → sp_tsm (mm_a s 45) k n ≤ 40 * n := by
    intro k n
    induction n with
    | zero => intro _; exact Nat.zero_le _
    | succ n ih =>
      intro hn
      have := ih (by omega)
      have := (hA.1 n (by omega)).1
      show sp_tsm (mm_a s 45) k n + (if k / 2 ^ n % 2 = 1 then mm_a s 45 n else 0) ≤ _
      split <;> omega
  have sum : ∀ (a' : Nat) (p : Int32) (k : Nat), k < 256 → (∀ h : aw_H, mm_R G w h s → mm_same w h0 h → AW G (aw_rm 2 0 0) yX5_team cX5_team 7 (some .int) (aw_N G (mm_PoC G w h0 (some (.int (op_team (mm_H s) (mm_a s 45) a q))) (s)) 0 0) 0 0 h 86 [(0, .ref w.1), (1, .int (nI a')), (2, .int q), (3, .int p), (4, .int (nI k)), (5, .int (nI (sp_tsm (mm_a s 45) k (mm_n s 42))))] []) → ∀ (m t : Nat) (h : aw_H), mm_n s 42 - t = m → t ≤ mm_n s 42 → mm_R G w h s → mm_same w h0 h → AW G (aw_rm 2 0 0) yX5_team cX5_team 7 (some .int) (aw_N G (mm_PoC G w h0 (some (.int (op_team (mm_H s) (mm_a s 45) a q))) (s)) 0 0) 0 0 h 44 [(0, .ref w.1), (1, .int (nI a')), (2, .int q), (3, .int p), (4, .int (nI k)), (5, .int (nI (sp_tsm (mm_a s 45) k t))), (6, .int (nI t))] [] := by
    intro a' p k hk hgo m
    induction m using Nat.strongRecOn with
    | _ m ih =>
      intro t h hm ht hR hs
      have eS : sp_tsm (mm_a s 45) k (t + 1) = sp_tsm (mm_a s 45) k t + (if k / 2 ^ t % 2 = 1 then mm_a s 45 t else 0) := rfl
      have eD : k / 2 ^ t ≤ k := Nat.div_le_self _ _
      have next : ∀ (x : Nat) (h : aw_H), x = (if k / 2 ^ t % 2 = 1 then mm_a s 45 t else 0) → t < mm_n s 42 → mm_R G w h s → mm_same w h0 h → AW G (aw_rm 2 0 0) yX5_team cX5_team 7 (some .int) (aw_N G (mm_PoC G w h0 (some (.int (op_team (mm_H s) (mm_a s 45) a q))) (s)) 0 0) 0 0 h 77 [(0, .ref w.1), (1, .int (nI a')), (2, .int q), (3, .int p), (4, .int (nI k)), (5, .int (nI (sp_tsm (mm_a s 45) k t))), (6, .int (nI t))] [.int (nI x), .int (nI (sp_tsm (mm_a s 45) k t))] := by
        intro x h ex ht2 hR hs
        refine aw_iaddN dX5_team_77 ?_
        refine aw_istore dX5_team_78 (by decide) rfl rfl ?_
        refine aw_iincN (b := 1) dX5_team_80 rfl rfl (by decide) rfl rfl ?_
        refine aw_goto (tgt := 44) dX5_team_83 (by decide) ?_
        refine AW_ls ?_ (ih (mm_n s 42 - (t + 1)) (by omega) (t + 1) h rfl (by omega) hR hs)
        rw [eS, ← ex]
        rfl
      by_cases ht9 : t < mm_n s 42
      · have eM := Nat.mod_lt (k / 2 ^ t) (y := 2) (by decide)
        refine aw_iload dX5_team_44 rfl ?_
        refine aw_aload_n dX5_team_46 rfl ?_
        refine aw_get dX5_team_47 fX5_350 rfl hR.1 (by rfl) ?_
        refine aw_icmp_geN (tgt := 86) dX5_team_50 (by decide) (by omega) (by omega) (fun c_50 => by exfalso; omega) (fun c_50 => ?_)
        refine aw_iload dX5_team_53 rfl ?_
        refine aw_iload dX5_team_55 rfl ?_
        refine aw_iload dX5_team_57 rfl ?_
        refine aw_ishrN dX5_team_59 (by omega) (by omega) ?_
        refine aw_iconst (v := nI 1) dX5_team_60 rfl ?_
        refine aw_iandN dX5_team_61 ?_
        rw [Nat.and_one_is_mod]
        refine aw_iconst (v := nI 1) dX5_team_62 rfl ?_
        refine aw_icmp_neN (tgt := 76) dX5_team_63 (by decide) (by omega) (by omega) (fun c_63 => ?_) (fun c_63 => ?_)
        · refine aw_iconst (v := nI 0) dX5_team_76 rfl ?_
          first
            | exact next _ h (by rw [if_pos (by omega)]) ht9 hR hs
            | exact next _ h (by rw [if_neg (by omega)]) ht9 hR hs
        · refine aw_aload_n dX5_team_66 rfl ?_
          refine aw_get dX5_team_67 fX5_85 rfl hR.1 (by rfl) ?_
          refine aw_iload dX5_team_70 rfl ?_
          refine aw_ialdN dX5_team_72 (hR.2.1 45 28 rfl) (by omega) (by decide) ?_
          refine aw_goto (tgt := 77) dX5_team_73 (by decide) ?_
          first
            | exact next _ h (by rw [if_pos (by omega)]) ht9 hR hs
            | exact next _ h (by rw [if_neg (by omega)]) ht9 hR hs
      · obtain rfl : t = mm_n s 42 := by omega
        refine aw_iload dX5_team_44 rfl ?_
        refine aw_aload_n dX5_team_46 rfl ?_
        refine aw_get dX5_team_47 fX5_350 rfl hR.1 (by rfl) ?_
        refine aw_icmp_geN (tgt := 86) dX5_team_50 (by decide) (by omega) (by omega) (fun c_50 => ?_) (fun c_50 => by exfalso; omega)
        exact AW_dr (hgo h hR hs)
  have loop : ∀ (a' : Nat), 0 ≤ a.toInt → a' ≤ 400 → a.toInt ≤ 400 → 0 ≤ q.toInt → q.toInt ≤ 1 → a.toNatClampNeg = a' → ∀ (m k : Nat) (h : aw_H), 2 ^ mm_n s 42 - k = m → k ≤ 2 ^ mm_n s 42 → mm_R G w h s → mm_same w h0 h → AW G (aw_rm 2 0 0) yX5_team cX5_team 7 (some .int) (aw_N G (mm_PoC G w h0 (some (.int (op_team (mm_H s) (mm_a s 45) a q))) (s)) 0 0) 0 0 h 27 [(0, .ref w.1), (1, .int (nI a')), (2, .int q), (3, .int (sp_cv (sp_tm (mm_H s) (mm_a s 45) a' k))), (4, .int (nI k))] [] := by
    intro a' a1 a8 a2 q1 q2 ea m
    induction m using Nat.strongRecOn with
    | _ m ih =>
      intro k h hm hk hR hs
      have eS : sp_tm (mm_H s) (mm_a s 45) a' (k + 1) = if a' ≤ sp_tsm (mm_a s 45) k (mm_n s 42) ∧ (sp_tm (mm_H s) (mm_a s 45) a' k = 0 ∨ sp_bits 8 k < sp_bits 8 (sp_tm (mm_H s) (mm_a s 45) a' k - 1)) then k + 1 else sp_tm (mm_H s) (mm_a s 45) a' k := rfl
      have s1 := sb k (mm_n s 42) hn
      have b1 := sp_bits_le 8 k
      have neg1 : (-1 : Int32) < 0 := by decide
      have g1 := @sp_tm_le (mm_H s) (mm_a s 45) a' k
      have next : ∀ (p : Nat) (z : Int32) (h : aw_H), k < 2 ^ mm_n s 42 → p = sp_tm (mm_H s) (mm_a s 45) a' (k + 1) → mm_R G w h s → mm_same w h0 h → AW G (aw_rm 2 0 0) yX5_team cX5_team 7 (some .int) (aw_N G (mm_PoC G w h0 (some (.int (op_team (mm_H s) (mm_a s 45) a q))) (s)) 0 0) 0 0 h 111 [(0, .ref w.1), (1, .int (nI a')), (2, .int q), (3, .int (sp_cv p)), (4, .int (nI k)), (5, .int z)] [] := by
        intro p z h hk2 ep hR hs
        refine aw_iincN (b := 1) dX5_team_111 rfl rfl (by decide) rfl rfl ?_
        refine aw_goto (tgt := 27) dX5_team_114 (by decide) ?_
        have q9 := ih (2 ^ mm_n s 42 - (k + 1)) (by omega) (k + 1) h rfl (by omega) hR hs
        rw [← ep] at q9
        exact AW_dr q9
      by_cases hk9 : k < 2 ^ mm_n s 42
      · rcases (show sp_tm (mm_H s) (mm_a s 45) a' k = 0 ∨ ∃ b, sp_tm (mm_H s) (mm_a s 45) a' k = b + 1 from by cases sp_tm (mm_H s) (mm_a s 45) a' k with | zero => exact Or.inl rfl | succ b => exact Or.inr ⟨b, rfl⟩) with hz | ⟨b, hz⟩
        · rw [hz] at eS
          rw [hz, sp_cv0]
          have back : ∀ h : aw_H, mm_R G w h s → mm_same w h0 h → AW G (aw_rm 2 0 0) yX5_team cX5_team 7 (some .int) (aw_N G (mm_PoC G w h0 (some (.int (op_team (mm_H s) (mm_a s 45) a q))) (s)) 0 0) 0 0 h 86 [(0, .ref w.1), (1, .int (nI a')), (2, .int q), (3, .int (-1)), (4, .int (nI k)), (5, .int (nI (sp_tsm (mm_a s 45) k (mm_n s 42))))] [] := by
            intro h hR hs
            refine aw_iload dX5_team_86 rfl ?_
            refine aw_iload_n dX5_team_88 rfl ?_
            refine aw_icmp_ltN (tgt := 111) dX5_team_89 (by decide) (by omega) (by omega) (fun c_89 => ?_) (fun c_89 => ?_)
            · first
                | exact AW_ls (by rw [sp_cv_s]; rfl) (next (k + 1) _ h hk9 (by rw [eS, if_pos ⟨by omega, Or.inl rfl⟩]) hR hs)
                | exact AW_ls (by rw [sp_cv0]) (next 0 _ h hk9 (by rw [eS, if_neg (by omega)]) hR hs)
            · refine aw_iload_n dX5_team_92 rfl ?_
              refine aw_if_lt (tgt := 108) dX5_team_93 (by decide) (fun c_93 => ?_) (fun c_93 => by exfalso; exact c_93 neg1)
              refine aw_iload dX5_team_108 rfl ?_
              refine aw_istore_n dX5_team_110 (by decide) rfl rfl ?_
              first
                | exact AW_ls (by rw [sp_cv_s]; rfl) (next (k + 1) _ h hk9 (by rw [eS, if_pos ⟨by omega, Or.inl rfl⟩]) hR hs)
                | exact AW_ls (by rw [sp_cv0]) (next 0 _ h hk9 (by rw [eS, if_neg (by omega)]) hR hs)
          refine aw_iload dX5_team_27 rfl ?_
          refine aw_iconst (v := nI 1) dX5_team_29 rfl ?_
          refine aw_aload_n dX5_team_30 rfl ?_
          refine aw_get dX5_team_31 fX5_350 rfl hR.1 (by rfl) ?_
          refine aw_ishlN dX5_team_34 (by omega) (by omega) ?_
          refine aw_icmp_geN (tgt := 117) dX5_team_35 (by decide) (by omega) (by omega) (fun c_35 => by exfalso; omega) (fun c_35 => ?_)
          refine aw_iconst (v := nI 0) dX5_team_38 rfl ?_
          refine aw_istore dX5_team_39 (by decide) rfl rfl ?_
          refine aw_iconst (v := nI 0) dX5_team_41 rfl ?_
          refine aw_istore dX5_team_42 (by decide) rfl rfl ?_
          exact sum a' _ k (by omega) back _ 0 h rfl (Nat.zero_le _) hR hs
        · rw [hz] at eS g1
          have b2 := sp_bits_le 8 b
          rw [hz, sp_cv_s]
          have back : ∀ h : aw_H, mm_R G w h s → mm_same w h0 h → AW G (aw_rm 2 0 0) yX5_team cX5_team 7 (some .int) (aw_N G (mm_PoC G w h0 (some (.int (op_team (mm_H s) (mm_a s 45) a q))) (s)) 0 0) 0 0 h 86 [(0, .ref w.1), (1, .int (nI a')), (2, .int q), (3, .int (nI b)), (4, .int (nI k)), (5, .int (nI (sp_tsm (mm_a s 45) k (mm_n s 42))))] [] := by
            intro h hR hs
            refine aw_iload dX5_team_86 rfl ?_
            refine aw_iload_n dX5_team_88 rfl ?_
            refine aw_icmp_ltN (tgt := 111) dX5_team_89 (by decide) (by omega) (by omega) (fun c_89 => ?_) (fun c_89 => ?_)
            · first
                | exact AW_ls (by rw [sp_cv_s]; rfl) (next (k + 1) _ h hk9 (by rw [eS, if_pos ⟨by omega, Or.inr (by rw [Nat.add_sub_cancel]; omega)⟩]) hR hs)
                | exact AW_ls (by rw [sp_cv_s]) (next (b + 1) _ h hk9 (by rw [eS, Nat.add_sub_cancel, if_neg (by omega)]) hR hs)
            · refine aw_iload_n dX5_team_92 rfl ?_
              refine aw_if_ltN (tgt := 108) dX5_team_93 (by decide) (by omega) ?_
              refine aw_iload dX5_team_96 rfl ?_
              refine aw_callP (r := _) dX5_team_98 sX5_479 rfl (mp_members (by first | omega | assumption | exact aw_t_lt)) rfl rfl ⟨Nat.le_of_ble_eq_true rfl, Nat.le_of_ble_eq_true rfl⟩ (Nat.le_of_ble_eq_true rfl) ?_
              refine aw_iload_n dX5_team_101 rfl ?_
              refine aw_callP (r := _) dX5_team_102 sX5_479 rfl (mp_members (by first | omega | assumption | exact aw_t_lt)) rfl rfl ⟨Nat.le_of_ble_eq_true rfl, Nat.le_of_ble_eq_true rfl⟩ (Nat.le_of_ble_eq_true rfl) ?_
              refine aw_icmp_geN (tgt := 111) dX5_team_105 (by decide) (by omega) (by omega) (fun c_105 => ?_) (fun c_105 => ?_)
              · first
                  | exact AW_ls (by rw [sp_cv_s]; rfl) (next (k + 1) _ h hk9 (by rw [eS, if_pos ⟨by omega, Or.inr (by rw [Nat.add_sub_cancel]; omega)⟩]) hR hs)
                  | exact AW_ls (by rw [sp_cv_s]) (next (b + 1) _ h hk9 (by rw [eS, Nat.add_sub_cancel, if_neg (by omega)]) hR hs)
              · refine aw_iload dX5_team_108 rfl ?_
                refine aw_istore_n dX5_team_110 (by decide) rfl rfl ?_
                first
                  | exact AW_ls (by rw [sp_cv_s]; rfl) (next (k + 1) _ h hk9 (by rw [eS, if_pos ⟨by omega, Or.inr (by rw [Nat.add_sub_cancel]; omega)⟩]) hR hs)
                  | exact AW_ls (by rw [sp_cv_s]) (next (b + 1) _ h hk9 (by rw [eS, Nat.add_sub_cancel, if_neg (by omega)]) hR hs)
          refine aw_iload dX5_team_27 rfl ?_
          refine aw_iconst (v := nI 1) dX5_team_29 rfl ?_
          refine aw_aload_n dX5_team_30 rfl ?_
          refine aw_get dX5_team_31 fX5_350 rfl hR.1 (by rfl) ?_
          refine aw_ishlN dX5_team_34 (by omega) (by omega) ?_
          refine aw_icmp_geN (tgt := 117) dX5_team_35 (by decide) (by omega) (by omega) (fun c_35 => by exfalso; omega) (fun c_35 => ?_)
          refine aw_iconst (v := nI 0) dX5_team_38 rfl ?_
          refine aw_istore dX5_team_39 (by decide) rfl rfl ?_
          refine aw_iconst (v := nI 0) dX5_team_41 rfl ?_
          refine aw_istore dX5_team_42 (by decide) rfl rfl ?_
          exact sum a' _ k (by omega) back _ 0 h rfl (Nat.zero_le _) hR hs
      · obtain rfl : k = 2 ^ mm_n s 42 := by omega
        rcases (show sp_tm (mm_H s) (mm_a s 45) a' (2 ^ mm_n s 42) = 0 ∨ ∃ b, sp_tm (mm_H s) (mm_a s 45) a' (2 ^ mm_n s 42) = b + 1 from by cases sp_tm (mm_H s) (mm_a s 45) a' (2 ^ mm_n s 42) with | zero => exact Or.inl rfl | succ b => exact Or.inr ⟨b, rfl⟩) with hz | ⟨b, hz⟩
        · rw [hz, sp_cv0]
          refine aw_iload dX5_team_27 rfl ?_
          refine aw_iconst (v := nI 1) dX5_team_29 rfl ?_
          refine aw_aload_n dX5_team_30 rfl ?_
          refine aw_get dX5_team_31 fX5_350 rfl hR.1 (by rfl) ?_
          refine aw_ishlN dX5_team_34 (by omega) (by omega) ?_
          refine aw_icmp_geN (tgt := 117) dX5_team_35 (by decide) (by omega) (by omega) (fun c_35 => ?_) (fun c_35 => by exfalso; omega)
          refine aw_iload_n dX5_team_117 rfl ?_
          refine aw_if_ge (tgt := 125) dX5_team_118 (by decide) (fun c_118 => by exfalso; exact absurd c_118 (by decide)) (fun c_118 => ?_)
          refine aw_iconst (v := -1) dX5_team_121 rfl ?_
          refine aw_goto (tgt := 137) dX5_team_122 (by decide) ?_
          refine aw_ireturn dX5_team_137 rfl ?_
          exact ⟨by rw [no (fun z => z.2.2 (by rw [ea]; exact hz))], _, mm_core.rf, hR, hs⟩
        · have eop : op_team (mm_H s) (mm_a s 45) a q = if q.toInt = 0 then nI (sp_bits 8 b) else nI b := by
            rw [op_team, aw_if1 ⟨⟨a1, a2⟩, ⟨q1, q2⟩, by rw [ea, h42, hz]; omega⟩, ea, h42, hz, Nat.add_sub_cancel]
          rw [hz] at g1
          rw [hz, sp_cv_s]
          refine aw_iload dX5_team_27 rfl ?_
          refine aw_iconst (v := nI 1) dX5_team_29 rfl ?_
          refine aw_aload_n dX5_team_30 rfl ?_
          refine aw_get dX5_team_31 fX5_350 rfl hR.1 (by rfl) ?_
          refine aw_ishlN dX5_team_34 (by omega) (by omega) ?_
          refine aw_icmp_geN (tgt := 117) dX5_team_35 (by decide) (by omega) (by omega) (fun c_35 => ?_) (fun c_35 => by exfalso; omega)
          refine aw_iload_n dX5_team_117 rfl ?_
          refine aw_if_geN (tgt := 125) dX5_team_118 (by decide) (by omega) ?_
          refine aw_iload_n dX5_team_125 rfl ?_
          refine aw_if_ne (tgt := 136) dX5_team_126 (by decide) (fun c_126 => ?_) (fun c_126 => ?_)
          · refine aw_iload_n dX5_team_136 rfl ?_
            refine aw_ireturn dX5_team_137 rfl ?_
            refine ⟨?_, _, mm_core.rf, hR, hs⟩
            rw [eop]
            first
              | (rw [c_126]; rfl)
              | (rw [if_neg (show ¬ q.toInt = 0 from fun z => c_126 (Int32.toInt_inj.mp z))])
          · refine aw_iload_n dX5_team_129 rfl ?_
            refine aw_callP (r := _) dX5_team_130 sX5_479 rfl (mp_members (by first | omega | assumption | exact aw_t_lt)) rfl rfl ⟨Nat.le_of_ble_eq_true rfl, Nat.le_of_ble_eq_true rfl⟩ (Nat.le_of_ble_eq_true rfl) ?_
            refine aw_goto (tgt := 137) dX5_team_133 (by decide) ?_
            refine aw_ireturn dX5_team_137 rfl ?_
            refine ⟨?_, _, mm_core.rf, hR, hs⟩
            rw [eop]
            first
              | (rw [c_126]; rfl)
              | (rw [if_neg (show ¬ q.toInt = 0 from fun z => c_126 (Int32.toInt_inj.mp z))])
  refine aw_iload_n dX5_team_0 rfl ?_
  refine aw_iconst (v := nI 0) dX5_team_1 rfl ?_
  refine aw_sipush (v := nI 400) dX5_team_2 rfl ?_
  refine aw_callP (r := _) dX5_team_5 sX5_368 rfl mp_isIn rfl rfl ⟨Nat.le_of_ble_eq_true rfl, Nat.le_of_ble_eq_true rfl⟩ (Nat.le_of_ble_eq_true rfl) ?_
  refine aw_if_eqB (tgt := 20) dX5_team_8 (by decide) (fun c_8 => ?_) (fun c_8 => ?_)
  · refine aw_iconst (v := -1) dX5_team_20 rfl ?_
    refine aw_ireturn dX5_team_21 rfl ?_
    refine ⟨?_, _, mm_core.rf, hR, hs⟩
    rw [no (fun z => by first | exact c_8 z.1 | exact c_17 z.2.1)]
  · refine aw_iload_n dX5_team_11 rfl ?_
    refine aw_iconst (v := nI 0) dX5_team_12 rfl ?_
    refine aw_iconst (v := nI 1) dX5_team_13 rfl ?_
    refine aw_callP (r := _) dX5_team_14 sX5_368 rfl mp_isIn rfl rfl ⟨Nat.le_of_ble_eq_true rfl, Nat.le_of_ble_eq_true rfl⟩ (Nat.le_of_ble_eq_true rfl) ?_
    refine aw_if_neB (tgt := 22) dX5_team_17 (by decide) (fun c_17 => ?_) (fun c_17 => ?_)
    · obtain ⟨a', ha, ea, a1, a2⟩ := aw_ofN (x := a) c_8.1
      have c_8 : 0 ≤ a.toInt ∧ a.toInt ≤ 400 := c_8
      refine AW_ls (show _ = [(0, .ref w.1), (1, .int (nI a')), (2, .int q)] by rw [← ea]) ?_
      refine aw_iconst (v := -1) dX5_team_22 rfl ?_
      refine aw_istore_n dX5_team_23 (by decide) rfl rfl ?_
      refine aw_iconst (v := nI 0) dX5_team_24 rfl ?_
      refine aw_istore dX5_team_25 (by decide) rfl rfl ?_
      exact loop a' c_8.1 (by omega) c_8.2 c_17.1 c_17.2 a2 _ 0 _ rfl (Nat.zero_le _) hR hs
    · refine aw_iconst (v := -1) dX5_team_20 rfl ?_
      refine aw_ireturn dX5_team_21 rfl ?_
      refine ⟨?_, _, mm_core.rf, hR, hs⟩
      rw [no (fun z => by first | exact c_8 z.1 | exact c_17 z.2.1)]
/-! odds -/
def sp_odd (fl n m k : Nat) : Nat := if m ≤ sp_bits 8 k then (100 - fl) ^ sp_bits 8 k * fl ^ (n - sp_bits 8 k) else 0
def sp_ods (fl n m : Nat) : Nat := sp_sum (sp_odd fl n m) (2 ^ n)
noncomputable def op_odds (H : sp_H) (t n m q : Int32) : Int32 := aw_if (sp_isT H t ∧ (0 ≤ n.toInt ∧ n.toInt ≤ 4) ∧ (0 ≤ m.toInt ∧ m.toInt ≤ n.toInt) ∧ (0 ≤ q.toInt ∧ q.toInt ≤ 1)) (if q.toInt = 0 then nI (sp_ods (sp_fl H t.toNatClampNeg) n.toNatClampNeg m.toNatClampNeg / Nat.gcd (100 ^ n.toNatClampNeg) (sp_ods (sp_fl H t.toNatClampNeg) n.toNatClampNeg m.toNatClampNeg)) else nI (100 ^ n.toNatClampNeg / Nat.gcd (100 ^ n.toNatClampNeg) (sp_ods (sp_fl H t.toNatClampNeg) n.toNatClampNeg m.toNatClampNeg))) (-1)
theorem sp_bits_sm {n k : Nat} (hn : n ≤ 4) (hk : k < 2 ^ n) : sp_bits 8 k ≤ n := by
  have e : ∀ n, n ≤ 4 → ∀ k, k < 16 → k < 2 ^ n → sp_bits 8 k ≤ n := by decide
  exact e n hn k (Nat.lt_of_lt_of_le hk (Nat.pow_le_pow_right (by decide) hn)) hk
theorem sp_odd_le {fl n m k : Nat} (hf : fl ≤ 100) (hn : n ≤ 4) (hk : k < 2 ^ n) : sp_odd fl n m k ≤ 100000000 := by
  unfold sp_odd
  split
  · have h1 : (100 - fl) ^ sp_bits 8 k ≤ 100 ^ sp_bits 8 k := Nat.pow_le_pow_left (by omega) _
    have h2 : fl ^ (n - sp_bits 8 k) ≤ 100 ^ (n - sp_bits 8 k) := Nat.pow_le_pow_left hf _
    have h3 := Nat.mul_le_mul h1 h2
    rw [← Nat.pow_add, show sp_bits 8 k + (n - sp_bits 8 k) = n by have := sp_bits_sm hn hk; omega] at h3
    have h4 : 100 ^ n ≤ 100 ^ 4 := Nat.pow_le_pow_right (by decide) hn
    omega
  · exact Nat.zero_le _
set_option maxHeartbeats 4000000 in
theorem mo_odds {s : mm_S} {t n m q : Int32} (hH : sp_okH (mm_H s)) : mm_Op yX5_odds cX5_odds 8 (some .int) 2 [.int (t), .int (n), .int (m), .int (q)] s (some (.int (op_odds (mm_H s) t n m q))) (s) := by
  refine mm_Op.of (by decide +kernel) (fun _ => Nat.le_of_ble_eq_true rfl) (fun G w h0 hW hR => ?_)
  have hs : mm_same w h0 h0 := mm_same.rf
  show AW G (aw_rm 2 0 0) yX5_odds cX5_odds 8 (some .int) (aw_N G (mm_PoC G w h0 (some (.int (op_odds (mm_H s) t n m q))) (s)) 0 0) 0 0 h0 0 [(0, .ref w.1), (1, .int (t)), (2, .int (n)), (3, .int (m)), (4, .int (q))] []
  have hs1 : 1 ≤ mm_n s 41 := hH.1.1; have hs20 : mm_n s 41 ≤ 20 := hH.1.2; have hn : mm_n s 42 ≤ 8 := hH.2.1; have hlv : ∀ t, t < 8 → mm_a s 32 t ≤ 20 := fun t ht => (hH.2.2.1 t ht).1; have hsg : ∀ t, t < 8 → mm_a s 33 t ≤ 40 := fun t ht => (hH.2.2.1 t ht).2.1; have hhv : ∀ t, t < 8 → mm_a s 34 t ≤ 9 := fun t ht => (hH.2.2.1 t ht).2.2.1; have how : ∀ t, t < 8 → mm_a s 35 t ≤ 999 := fun t ht => (hH.2.2.1 t ht).2.2.2.1; have hfl : ∀ t, t < 8 → mm_a s 36 t ≤ 100 := fun t ht => (hH.2.2.1 t ht).2.2.2.2; have hF0 : sp_fok (mm_steps s 0) := hH.2.2.2.1; have hF1 : sp_fok (mm_steps s 1) := hH.2.2.2.2; have h42 : sp_hn (mm_H s) = mm_n s 42 := rfl; have h41 : sp_hs (mm_H s) = mm_n s 41 := rfl
  have no : ¬ (sp_isT (mm_H s) t ∧ (0 ≤ n.toInt ∧ n.toInt ≤ 4) ∧ (0 ≤ m.toInt ∧ m.toInt ≤ n.toInt) ∧ (0 ≤ q.toInt ∧ q.toInt ≤ 1)) → op_odds (mm_H s) t n m q = -1 := fun z => by rw [op_odds, aw_if0 z]
  have loop : ∀ (t' n' m' : Nat), t' < 8 → n' ≤ 4 → 0 ≤ q.toInt → q.toInt ≤ 1 → m' ≤ n' → op_odds (mm_H s) t n m q = (if q.toInt = 0 then nI (sp_ods (mm_a s 36 t') n' m' / Nat.gcd (100 ^ n') (sp_ods (mm_a s 36 t') n' m')) else nI (100 ^ n' / Nat.gcd (100 ^ n') (sp_ods (mm_a s 36 t') n' m'))) → ∀ (m9 k : Nat) (h : aw_H), 2 ^ n' - k = m9 → k ≤ 2 ^ n' → mm_R G w h s → mm_same w h0 h → AW G (aw_rm 2 0 0) yX5_odds cX5_odds 8 (some .int) (aw_N G (mm_PoC G w h0 (some (.int (op_odds (mm_H s) t n m q))) (s)) 0 0) 0 0 h 44 [(0, .ref w.1), (1, .int (nI t')), (2, .int (nI n')), (3, .int (nI m')), (4, .int q), (5, .int (nI (sp_sum (sp_odd (mm_a s 36 t') n' m') k))), (6, .int (nI k))] [] := by
    intro t' n' m' ht hn4 q1 q2 hm4 fin m9
    induction m9 using Nat.strongRecOn with
    | _ m9 ih =>
      intro k h hm hk hR hs
      have p16 : 2 ^ n' ≤ 16 := Nat.pow_le_pow_right (by decide) hn4 (n := 2)
      have hf := hfl t' ht
      have sle : ∀ k, k ≤ 2 ^ n' → sp_sum (sp_odd (mm_a s 36 t') n' m') k ≤ 100000000 * k := by
        intro k
        induction k with
        | zero => intro _; exact Nat.zero_le _
        | succ k ih =>
          intro hk
          have := ih (by omega)
          have := @sp_odd_le (mm_a s 36 t') n' m' k hf hn4 (by omega)
          show sp_sum (sp_odd (mm_a s 36 t') n' m') k + sp_odd (mm_a s 36 t') n' m' k ≤ _
          omega
      have next : ∀ (x : Nat) (z : Int32) (h : aw_H), k < 2 ^ n' → x = sp_odd (mm_a s 36 t') n' m' k → mm_R G w h s → mm_same w h0 h → AW G (aw_rm 2 0 0) yX5_odds cX5_odds 8 (some .int) (aw_N G (mm_PoC G w h0 (some (.int (op_odds (mm_H s) t n m q))) (s)) 0 0) 0 0 h 99 [(0, .ref w.1), (1, .int (nI t')), (2, .int (nI n')), (3, .int (nI m')), (4, .int q), (5, .int (nI (sp_sum (sp_odd (mm_a s 36 t') n' m') k))), (6, .int (nI k)), (7, .int z)] [.int (nI x), .int (nI (sp_sum (sp_odd (mm_a s 36 t') n' m') k))] := by
        intro x z h hk2 ex hR hs
        refine aw_iaddN dX5_odds_99 ?_
        refine aw_istore dX5_odds_100 (by decide) rfl rfl ?_
        refine aw_iincN (b := 1) dX5_odds_102 rfl rfl (by decide) rfl rfl ?_
        refine aw_goto (tgt := 44) dX5_odds_105 (by decide) ?_
        have q9 := ih (2 ^ n' - (k + 1)) (by omega) (k + 1) h rfl (by omega) hR hs
        have e9 : sp_sum (sp_odd (mm_a s 36 t') n' m') (k + 1) = sp_sum (sp_odd (mm_a s 36 t') n' m') k + x := by rw [ex]; rfl
        rw [e9] at q9
        exact AW_dr q9
      by_cases hk9 : k < 2 ^ n'
      · have hb := sp_bits_sm hn4 hk9
        refine aw_iload dX5_odds_44 rfl ?_
        refine aw_iconst (v := nI 1) dX5_odds_46 rfl ?_
        refine aw_iload_n dX5_odds_47 rfl ?_
        refine aw_ishlN dX5_odds_48 (by omega) (by omega) ?_
        refine aw_icmp_geN (tgt := 108) dX5_odds_49 (by decide) (by omega) (by omega) (fun c_49 => by exfalso; omega) (fun c_49 => ?_)
        refine aw_iload dX5_odds_52 rfl ?_
        refine aw_callP (r := _) dX5_odds_54 sX5_479 rfl (mp_members (by first | omega | assumption | exact aw_t_lt)) rfl rfl ⟨Nat.le_of_ble_eq_true rfl, Nat.le_of_ble_eq_true rfl⟩ (Nat.le_of_ble_eq_true rfl) ?_
        refine aw_istore dX5_odds_57 (by decide) rfl rfl ?_
        refine aw_iload dX5_odds_59 rfl ?_
        refine aw_iload dX5_odds_61 rfl ?_
        refine aw_iload_n dX5_odds_63 rfl ?_
        refine aw_icmp_ltN (tgt := 98) dX5_odds_64 (by decide) (by omega) (by omega) (fun c_64 => ?_) (fun c_64 => ?_)
        · refine aw_iconst (v := nI 0) dX5_odds_98 rfl ?_
          first
            | exact next _ _ h hk9 (by rw [sp_odd, if_pos (by omega)]) hR hs
            | exact next _ _ h hk9 (by rw [sp_odd, if_neg (by omega)]) hR hs
        · refine aw_bipush (v := nI 100) dX5_odds_67 rfl ?_
          refine aw_aload_n dX5_odds_69 rfl ?_
          refine aw_get dX5_odds_70 fX5_79 rfl hR.1 (by rfl) ?_
          refine aw_iload_n dX5_odds_73 rfl ?_
          refine aw_ialdN dX5_odds_74 (hR.2.1 36 8 rfl) (by omega) (by decide) ?_
          refine aw_isubN dX5_odds_75 (by omega) ?_
          refine aw_iload dX5_odds_76 rfl ?_
          refine aw_callP (r := _) dX5_odds_78 sX5_424 rfl (mp_power (by first | omega | assumption | exact aw_t_lt)) rfl rfl ⟨Nat.le_of_ble_eq_true rfl, Nat.le_of_ble_eq_true rfl⟩ (Nat.le_of_ble_eq_true rfl) ?_
          refine aw_aload_n dX5_odds_81 rfl ?_
          refine aw_get dX5_odds_82 fX5_79 rfl hR.1 (by rfl) ?_
          refine aw_iload_n dX5_odds_85 rfl ?_
          refine aw_ialdN dX5_odds_86 (hR.2.1 36 8 rfl) (by omega) (by decide) ?_
          refine aw_iload_n dX5_odds_87 rfl ?_
          refine aw_iload dX5_odds_88 rfl ?_
          refine aw_isubN dX5_odds_90 (by omega) ?_
          refine aw_callP (r := _) dX5_odds_91 sX5_424 rfl (mp_power (by first | omega | assumption | exact aw_t_lt)) rfl rfl ⟨Nat.le_of_ble_eq_true rfl, Nat.le_of_ble_eq_true rfl⟩ (Nat.le_of_ble_eq_true rfl) ?_
          refine aw_imulN dX5_odds_94 ?_
          refine aw_goto (tgt := 99) dX5_odds_95 (by decide) ?_
          first
            | exact next _ _ h hk9 (by rw [sp_odd, if_pos (by omega)]) hR hs
            | exact next _ _ h hk9 (by rw [sp_odd, if_neg (by omega)]) hR hs
      · obtain rfl : k = 2 ^ n' := by omega
        have es : sp_sum (sp_odd (mm_a s 36 t') n' m') (2 ^ n') = sp_ods (mm_a s 36 t') n' m' := rfl
        have sl := sle _ (Nat.le_refl _)
        rw [es] at sl
        rw [es]
        have c100 : 100 ^ n' ≤ 100 ^ 4 := Nat.pow_le_pow_right (by decide) hn4
        have c1 : 0 < 100 ^ n' := Nat.pow_pos (by decide)
        have g1 : 0 < Nat.gcd (100 ^ n') (sp_ods (mm_a s 36 t') n' m') := Nat.gcd_pos_of_pos_left _ c1
        have g2 : Nat.gcd (100 ^ n') (sp_ods (mm_a s 36 t') n' m') ≤ 100 ^ n' := Nat.gcd_le_left _ c1
        refine aw_iload dX5_odds_44 rfl ?_
        refine aw_iconst (v := nI 1) dX5_odds_46 rfl ?_
        refine aw_iload_n dX5_odds_47 rfl ?_
        refine aw_ishlN dX5_odds_48 (by omega) (by omega) ?_
        refine aw_icmp_geN (tgt := 108) dX5_odds_49 (by decide) (by omega) (by omega) (fun c_49 => ?_) (fun c_49 => by exfalso; omega)
        refine aw_bipush (v := nI 100) dX5_odds_108 rfl ?_
        refine aw_iload_n dX5_odds_110 rfl ?_
        refine aw_callP (r := _) dX5_odds_111 sX5_424 rfl (mp_power (by first | omega | assumption | exact aw_t_lt)) rfl rfl ⟨Nat.le_of_ble_eq_true rfl, Nat.le_of_ble_eq_true rfl⟩ (Nat.le_of_ble_eq_true rfl) ?_
        refine aw_istore dX5_odds_114 (by decide) rfl rfl ?_
        refine aw_iload dX5_odds_116 rfl ?_
        refine aw_iload dX5_odds_118 rfl ?_
        refine aw_callP (r := _) dX5_odds_120 sX5_482 rfl (mp_divisor (by first | omega | assumption | exact aw_t_lt) (by first | omega | assumption | exact aw_t_lt)) rfl rfl ⟨Nat.le_of_ble_eq_true rfl, Nat.le_of_ble_eq_true rfl⟩ (Nat.le_of_ble_eq_true rfl) ?_
        refine aw_istore dX5_odds_123 (by decide) rfl rfl ?_
        refine aw_iload dX5_odds_125 rfl ?_
        refine aw_if_ne (tgt := 138) dX5_odds_127 (by decide) (fun c_127 => ?_) (fun c_127 => ?_)
        · refine aw_iload dX5_odds_138 rfl ?_
          refine aw_iload dX5_odds_140 rfl ?_
          refine aw_idivN dX5_odds_142 (by omega) (by omega) (by omega) ?_
          refine aw_ireturn dX5_odds_143 rfl ?_
          refine ⟨?_, _, mm_core.rf, hR, hs⟩
          rw [fin]
          first
            | (rw [c_127]; rfl)
            | (rw [if_neg (show ¬ q.toInt = 0 from fun z => c_127 (Int32.toInt_inj.mp z))])
        · refine aw_iload dX5_odds_130 rfl ?_
          refine aw_iload dX5_odds_132 rfl ?_
          refine aw_idivN dX5_odds_134 (by omega) (by omega) (by omega) ?_
          refine aw_goto (tgt := 143) dX5_odds_135 (by decide) ?_
          refine aw_ireturn dX5_odds_143 rfl ?_
          refine ⟨?_, _, mm_core.rf, hR, hs⟩
          rw [fin]
          first
            | (rw [c_127]; rfl)
            | (rw [if_neg (show ¬ q.toInt = 0 from fun z => c_127 (Int32.toInt_inj.mp z))])
  refine aw_aload_n dX5_odds_0 rfl ?_
  refine aw_iload_n dX5_odds_1 rfl ?_
  refine mm_call dX5_odds_2 sX5_382 rfl hW hR hs (mm_isTenant hn) rfl rfl ⟨Nat.le_of_ble_eq_true rfl, Nat.le_of_ble_eq_true rfl⟩ (Nat.le_of_ble_eq_true rfl) (fun h hR hs => ?_)
  refine aw_if_eqB (tgt := 36) dX5_odds_5 (by decide) (fun c_5 => ?_) (fun c_5 => ?_)
  · refine aw_iconst (v := -1) dX5_odds_36 rfl ?_
    refine aw_ireturn dX5_odds_37 rfl ?_
    refine ⟨?_, _, mm_core.rf, hR, hs⟩
    rw [no (fun z => by first | exact c_5 z.1 | exact c_14 z.2.1 | exact c_23 z.2.2.1 | exact c_33 z.2.2.2)]
  · refine aw_iload_n dX5_odds_8 rfl ?_
    refine aw_iconst (v := nI 0) dX5_odds_9 rfl ?_
    refine aw_iconst (v := nI 4) dX5_odds_10 rfl ?_
    refine aw_callP (r := _) dX5_odds_11 sX5_368 rfl mp_isIn rfl rfl ⟨Nat.le_of_ble_eq_true rfl, Nat.le_of_ble_eq_true rfl⟩ (Nat.le_of_ble_eq_true rfl) ?_
    refine aw_if_eqB (tgt := 36) dX5_odds_14 (by decide) (fun c_14 => ?_) (fun c_14 => ?_)
    · refine aw_iconst (v := -1) dX5_odds_36 rfl ?_
      refine aw_ireturn dX5_odds_37 rfl ?_
      refine ⟨?_, _, mm_core.rf, hR, hs⟩
      rw [no (fun z => by first | exact c_5 z.1 | exact c_14 z.2.1 | exact c_23 z.2.2.1 | exact c_33 z.2.2.2)]
    · refine aw_iload_n dX5_odds_17 rfl ?_
      refine aw_iconst (v := nI 0) dX5_odds_18 rfl ?_
      refine aw_iload_n dX5_odds_19 rfl ?_
      refine aw_callP (r := _) dX5_odds_20 sX5_368 rfl mp_isIn rfl rfl ⟨Nat.le_of_ble_eq_true rfl, Nat.le_of_ble_eq_true rfl⟩ (Nat.le_of_ble_eq_true rfl) ?_
      refine aw_if_eqB (tgt := 36) dX5_odds_23 (by decide) (fun c_23 => ?_) (fun c_23 => ?_)
      · refine aw_iconst (v := -1) dX5_odds_36 rfl ?_
        refine aw_ireturn dX5_odds_37 rfl ?_
        refine ⟨?_, _, mm_core.rf, hR, hs⟩
        rw [no (fun z => by first | exact c_5 z.1 | exact c_14 z.2.1 | exact c_23 z.2.2.1 | exact c_33 z.2.2.2)]
      · refine aw_iload dX5_odds_26 rfl ?_
        refine aw_iconst (v := nI 0) dX5_odds_28 rfl ?_
        refine aw_iconst (v := nI 1) dX5_odds_29 rfl ?_
        refine aw_callP (r := _) dX5_odds_30 sX5_368 rfl mp_isIn rfl rfl ⟨Nat.le_of_ble_eq_true rfl, Nat.le_of_ble_eq_true rfl⟩ (Nat.le_of_ble_eq_true rfl) ?_
        refine aw_if_neB (tgt := 38) dX5_odds_33 (by decide) (fun c_33 => ?_) (fun c_33 => ?_)
        · obtain ⟨t', ht, et, t1, t2⟩ := aw_ofN c_5.1
          obtain ⟨n', hn', en, n1, n2⟩ := aw_ofN c_14.1
          obtain ⟨m', hm', em, m1, m2⟩ := aw_ofN c_23.1
          have c_14 : 0 ≤ n.toInt ∧ n.toInt ≤ 4 := c_14
          have ht9 : t' < mm_n s 42 := by have := c_5.2; omega
          refine AW_ls (show _ = [(0, .ref w.1), (1, .int (nI t')), (2, .int (nI n')), (3, .int (nI m')), (4, .int q)] by rw [← et, ← en, ← em]) ?_
          refine aw_iconst (v := nI 0) dX5_odds_38 rfl ?_
          refine aw_istore dX5_odds_39 (by decide) rfl rfl ?_
          refine aw_iconst (v := nI 0) dX5_odds_41 rfl ?_
          refine aw_istore dX5_odds_42 (by decide) rfl rfl ?_
          exact loop t' n' m' (by omega) (by omega) c_33.1 c_33.2 (by have := c_23.2; omega) (by rw [op_odds, aw_if1 ⟨c_5, c_14, c_23, c_33⟩, t2, n2, m2]; rfl) _ 0 _ rfl (Nat.zero_le _) hR hs
        · refine aw_iconst (v := -1) dX5_odds_36 rfl ?_
          refine aw_ireturn dX5_odds_37 rfl ?_
          refine ⟨?_, _, mm_core.rf, hR, hs⟩
          rw [no (fun z => by first | exact c_5 z.1 | exact c_14 z.2.1 | exact c_23 z.2.2.1 | exact c_33 z.2.2.2)]

