set_option maxRecDepth 100000
/-! the component: team, odds -/
set_option maxHeartbeats 4000000 in
theorem jp_bc {v : Nat} (hv : v < 256) : aw_Pu yJ14_bitCount cJ14_bitCount 1 (some .int) 0 [.int (nI (v))] (.int (nI (sp_bits 8 v))) := by
  refine fun G h => aw_Met.of (by decide +kernel) (Nat.le_of_ble_eq_true rfl) ?_
  show AW G (aw_rm 0 0 0) yJ14_bitCount cJ14_bitCount 1 (some .int) (aw_N G (fun v9 h9 => v9 = some (.int (nI (sp_bits 8 v))) ∧ h9 = h) 0 0) 0 0 h 0 [(0, .int (nI (v)))] []
  refine aw_iload_n dJ14_bitCount_0 rfl ?_
  refine aw_iload_n dJ14_bitCount_1 rfl ?_
  refine aw_iconst (v := nI 1) dJ14_bitCount_2 rfl ?_
  refine aw_iushr dJ14_bitCount_3 rfl ?_
  refine aw_ldcw (v := nI 1431655765) dJ14_bitCount_4 q1103 ?_
  refine aw_iand dJ14_bitCount_7 ?_
  refine aw_isub dJ14_bitCount_8 ?_
  refine aw_istore_n dJ14_bitCount_9 (by decide) rfl rfl ?_
  refine aw_iload_n dJ14_bitCount_10 rfl ?_
  refine aw_ldcw (v := nI 858993459) dJ14_bitCount_11 q1104 ?_
  refine aw_iand dJ14_bitCount_14 ?_
  refine aw_iload_n dJ14_bitCount_15 rfl ?_
  refine aw_iconst (v := nI 2) dJ14_bitCount_16 rfl ?_
  refine aw_iushr dJ14_bitCount_17 rfl ?_
  refine aw_ldcw (v := nI 858993459) dJ14_bitCount_18 q1104 ?_
  refine aw_iand dJ14_bitCount_21 ?_
  refine aw_iadd dJ14_bitCount_22 ?_
  refine aw_istore_n dJ14_bitCount_23 (by decide) rfl rfl ?_
  refine aw_iload_n dJ14_bitCount_24 rfl ?_
  refine aw_iload_n dJ14_bitCount_25 rfl ?_
  refine aw_iconst (v := nI 4) dJ14_bitCount_26 rfl ?_
  refine aw_iushr dJ14_bitCount_27 rfl ?_
  refine aw_iadd dJ14_bitCount_28 ?_
  refine aw_ldcw (v := nI 252645135) dJ14_bitCount_29 q1105 ?_
  refine aw_iand dJ14_bitCount_32 ?_
  refine aw_istore_n dJ14_bitCount_33 (by decide) rfl rfl ?_
  refine aw_iload_n dJ14_bitCount_34 rfl ?_
  refine aw_iload_n dJ14_bitCount_35 rfl ?_
  refine aw_bipush (v := nI 8) dJ14_bitCount_36 rfl ?_
  refine aw_iushr dJ14_bitCount_38 rfl ?_
  refine aw_iadd dJ14_bitCount_39 ?_
  refine aw_istore_n dJ14_bitCount_40 (by decide) rfl rfl ?_
  refine aw_iload_n dJ14_bitCount_41 rfl ?_
  refine aw_iload_n dJ14_bitCount_42 rfl ?_
  refine aw_bipush (v := nI 16) dJ14_bitCount_43 rfl ?_
  refine aw_iushr dJ14_bitCount_45 rfl ?_
  refine aw_iadd dJ14_bitCount_46 ?_
  refine aw_istore_n dJ14_bitCount_47 (by decide) rfl rfl ?_
  refine aw_iload_n dJ14_bitCount_48 rfl ?_
  refine aw_bipush (v := nI 63) dJ14_bitCount_49 rfl ?_
  refine aw_iand dJ14_bitCount_51 ?_
  refine aw_ireturn dJ14_bitCount_52 rfl ?_
  refine ⟨congrArg (fun x => some (Value.int x)) ?_, rfl⟩
  clear h G
  revert hv
  revert v
  decide +kernel
set_option maxHeartbeats 4000000 in
theorem xo_team {s : mm_S} {H : sp_H} {u : Nat} {a q : Int32} {N : Nat} (hOK : sp_okH H) (hA : sp_okA N (mm_a s 45)) : xx_Op yX0_team cX0_team 7 (some .int) 7 0 0 (fun w => [.ref (w.1 0), .int (a), .int (q)]) s H u (some (.int (op_team H (mm_a s 45) a q))) (s) := by
  refine xx_Op.of (by decide +kernel) (fun _ => Nat.le_of_ble_eq_true rfl) (fun G w h0 hW hX hH => ?_)
  have hX0 := hX
  have hs : xx_same w h0 h0 := xx_same.rf
  obtain ⟨tl, te, cap, m9, f9, tn, nm9, c9, mo9, D9, hq⟩ := hH
  show AW G (aw_rm 7 0 0) yX0_team cX0_team 7 (some .int) (aw_N G (xx_PoC G w h0 (some (.int (op_team H (mm_a s 45) a q))) (s)) 0 0) 0 0 h0 0 [(0, .ref (w.1 0)), (1, .int (a)), (2, .int (q))] []
  have hs1 : 1 ≤ sp_hs H := hOK.1.1; have hs20 : sp_hs H ≤ 20 := hOK.1.2; have hn : sp_hn H ≤ 8 := hOK.2.1; have hlv : ∀ t, t < 8 → sp_lv H t ≤ 20 := fun t ht => (hOK.2.2.1 t ht).1; have hsg : ∀ t, t < 8 → sp_sg8 H t ≤ 40 := fun t ht => (hOK.2.2.1 t ht).2.1; have hhv : ∀ t, t < 8 → sp_hv H t ≤ 9 := fun t ht => (hOK.2.2.1 t ht).2.2.1; have how : ∀ t, t < 8 → sp_ow H t ≤ 999 := fun t ht => (hOK.2.2.1 t ht).2.2.2.1; have hfl : ∀ t, t < 8 → sp_fl H t ≤ 100 := fun t ht => (hOK.2.2.1 t ht).2.2.2.2
  have hb : ∀ t, t < 8 → mm_a s 45 t ≤ 40 := fun t ht => (hA.1 t ht).1; have hp : ∀ t, t < 8 → mm_a s 45 (8 + t) ≤ 9999 := fun t ht => (hA.1 t ht).2.1; have hd : ∀ t, t < 8 → mm_a s 45 (16 + t) ≤ N := fun t ht => (hA.1 t ht).2.2; have h24 : mm_a s 45 24 ≤ N := hA.2.1; have h25 : mm_a s 45 25 ≤ 20 := hA.2.2.1; have h26 : mm_a s 45 26 ≤ N := hA.2.2.2.1; have h27 : mm_a s 45 27 ≤ 999 := hA.2.2.2.2
  have p8 : 2 ^ sp_hn H ≤ 256 := Nat.pow_le_pow_right (by decide) hn (n := 2)
  have no : ¬ ((0 ≤ a.toInt ∧ a.toInt ≤ 400) ∧ (0 ≤ q.toInt ∧ q.toInt ≤ 1) ∧ sp_tm H (mm_a s 45) a.toNatClampNeg (2 ^ sp_hn H) ≠ 0) → op_team H (mm_a s 45) a q = -1 := fun z => by rw [op_team, aw_if0 z]
  have sb : ∀ k n, n ≤ 8 → sp_tsm (mm_a s 45) k n ≤ 40 * n := by
    intro k n
    induction n with
    | zero => intro _; exact Nat.zero_le _
    | succ n ih =>
      intro hn
      have := ih (by omega)
      have := hb n (by omega)
      show sp_tsm (mm_a s 45) k n + (if k / 2 ^ n % 2 = 1 then mm_a s 45 n else 0) ≤ _
      split <;> omega
  have sum : ∀ (a' : Nat) (p : Int32) (k : Nat), k < 256 → (∀ h : aw_H, XC G w h s → xx_same w h0 h → AW G (aw_rm 7 0 0) yX0_team cX0_team 7 (some .int) (aw_N G (xx_PoC G w h0 (some (.int (op_team H (mm_a s 45) a q))) (s)) 0 0) 0 0 (h) 88 [(0, .ref (w.1 0)), (1, .int (nI a')), (2, .int q), (3, .int p), (4, .int (nI k)), (5, .int (nI (sp_tsm (mm_a s 45) k (sp_hn H))))] []) → ∀ (m t : Nat) (h : aw_H), sp_hn H - t = m → t ≤ sp_hn H → XC G w h s → xx_same w h0 h → AW G (aw_rm 7 0 0) yX0_team cX0_team 7 (some .int) (aw_N G (xx_PoC G w h0 (some (.int (op_team H (mm_a s 45) a q))) (s)) 0 0) 0 0 (h) 44 [(0, .ref (w.1 0)), (1, .int (nI a')), (2, .int q), (3, .int p), (4, .int (nI k)), (5, .int (nI (sp_tsm (mm_a s 45) k t))), (6, .int (nI t))] [] := by
    intro a' p k hk hgo m
    induction m using Nat.strongRecOn with
    | _ m ih =>
      intro t h hm ht hX hs
      have eS : sp_tsm (mm_a s 45) k (t + 1) = sp_tsm (mm_a s 45) k t + (if k / 2 ^ t % 2 = 1 then mm_a s 45 t else 0) := rfl
      by_cases ht9 : t < sp_hn H
      · have sbt := sb k t (by omega)
        have bt := hb t (by omega)
        have next : ∀ (x : Nat) (h : aw_H), x = (if k / 2 ^ t % 2 = 1 then mm_a s 45 t else 0) → XC G w h s → xx_same w h0 h → AW G (aw_rm 7 0 0) yX0_team cX0_team 7 (some .int) (aw_N G (xx_PoC G w h0 (some (.int (op_team H (mm_a s 45) a q))) (s)) 0 0) 0 0 (h) 79 [(0, .ref (w.1 0)), (1, .int (nI a')), (2, .int q), (3, .int p), (4, .int (nI k)), (5, .int (nI (sp_tsm (mm_a s 45) k t))), (6, .int (nI t))] [.int (nI x), .int (nI (sp_tsm (mm_a s 45) k t))] := by
          intro x h ex hX hs
          have xb : x ≤ 40 := by rw [ex]; split <;> omega
          refine aw_iaddN dX0_team_79 ?_
          refine aw_istore dX0_team_80 (by decide) rfl rfl ?_
          refine aw_iincN (b := 1) dX0_team_82 rfl rfl (by decide) rfl rfl ?_
          refine aw_goto (tgt := 44) dX0_team_85 (by decide) ?_
          refine AW_ls ?_ (ih (sp_hn H - (t + 1)) (by omega) (t + 1) h rfl (by omega) hX hs)
          rw [eS, ← ex]
          rfl
        refine aw_iload dX0_team_44 rfl ?_
        refine aw_aload_n dX0_team_46 rfl ?_
        refine xx_call0 dX0_team_47 sX0_91 rfl hW hX (hq.mv hs hX0).xh hs xo_many rfl (hX.1 0 (by decide)) rfl rfl ⟨Nat.le_of_ble_eq_true rfl, Nat.le_of_ble_eq_true rfl⟩ (by exact Nat.le_of_ble_eq_true rfl) (fun h hX hs => ?_)
        refine aw_icmp_geN (tgt := 88) dX0_team_50 (by decide) (by omega) (by omega) (fun c_50 => by exfalso; omega) (fun c_50 => ?_)
        refine aw_iload dX0_team_53 rfl ?_
        refine aw_iload dX0_team_55 rfl ?_
        refine aw_iload dX0_team_57 rfl ?_
        refine aw_callP (r := _) dX0_team_59 sX0_258 rfl (xp_has (by omega) (by omega)) rfl rfl ⟨Nat.le_of_ble_eq_true rfl, Nat.le_of_ble_eq_true rfl⟩ (Nat.le_of_ble_eq_true rfl) ?_
        refine aw_if_eqB (tgt := 78) dX0_team_62 (by decide) (fun c_62 => ?_) (fun c_62 => ?_)
        · refine aw_iconst (v := nI 0) dX0_team_78 rfl ?_
          first
            | exact next _ h (by rw [if_pos (by assumption)]) hX hs
            | exact next _ h (by rw [if_neg (by assumption)]) hX hs
        · refine aw_aload_n dX0_team_65 rfl ?_
          refine aw_get dX0_team_66 fX0_28 rfl (hX.1 0 (by decide)) (by rfl) ?_
          refine aw_get dX0_team_69 fX0_88 rfl (hX.st (i := 0) (by decide)) (by rfl) ?_
          refine aw_iload dX0_team_72 rfl ?_
          refine xx_ialdS (i := 0) (b := 0) dX0_team_74 hX (by decide) (by decide) (by omega) ?_
          try simp only [Nat.reduceMul, Nat.reduceAdd, Nat.zero_add]
          refine aw_goto (tgt := 79) dX0_team_75 (by decide) ?_
          first
            | exact next _ h (by rw [if_pos (by assumption)]) hX hs
            | exact next _ h (by rw [if_neg (by assumption)]) hX hs
      · obtain rfl : t = sp_hn H := by omega
        refine aw_iload dX0_team_44 rfl ?_
        refine aw_aload_n dX0_team_46 rfl ?_
        refine xx_call0 dX0_team_47 sX0_91 rfl hW hX (hq.mv hs hX0).xh hs xo_many rfl (hX.1 0 (by decide)) rfl rfl ⟨Nat.le_of_ble_eq_true rfl, Nat.le_of_ble_eq_true rfl⟩ (by exact Nat.le_of_ble_eq_true rfl) (fun h hX hs => ?_)
        refine aw_icmp_geN (tgt := 88) dX0_team_50 (by decide) (by omega) (by omega) (fun c_50 => ?_) (fun c_50 => by exfalso; omega)
        exact AW_dr (r := [(6, .int (nI (sp_hn H)))]) (hgo h hX hs)
  have loop : ∀ (a' : Nat), 0 ≤ a.toInt → a' ≤ 400 → a.toInt ≤ 400 → 0 ≤ q.toInt → q.toInt ≤ 1 → a.toNatClampNeg = a' → ∀ (m k : Nat) (h : aw_H), 2 ^ sp_hn H - k = m → k ≤ 2 ^ sp_hn H → XC G w h s → xx_same w h0 h → AW G (aw_rm 7 0 0) yX0_team cX0_team 7 (some .int) (aw_N G (xx_PoC G w h0 (some (.int (op_team H (mm_a s 45) a q))) (s)) 0 0) 0 0 (h) 27 [(0, .ref (w.1 0)), (1, .int (nI a')), (2, .int q), (3, .int (sp_cv (sp_tm H (mm_a s 45) a' k))), (4, .int (nI k))] [] := by
    intro a' a1 a8 a2 q1 q2 ea m
    induction m using Nat.strongRecOn with
    | _ m ih =>
      intro k h hm hk hX hs
      have eS : sp_tm H (mm_a s 45) a' (k + 1) = if a' ≤ sp_tsm (mm_a s 45) k (sp_hn H) ∧ (sp_tm H (mm_a s 45) a' k = 0 ∨ sp_bits 8 k < sp_bits 8 (sp_tm H (mm_a s 45) a' k - 1)) then k + 1 else sp_tm H (mm_a s 45) a' k := rfl
      have s1 := sb k (sp_hn H) hn
      have b1 := sp_bits_le 8 k
      have neg1 : (-1 : Int32) < 0 := by decide
      have g1 := @sp_tm_le H (mm_a s 45) a' k
      have next : ∀ (p : Nat) (z : Int32) (h : aw_H), k < 2 ^ sp_hn H → p = sp_tm H (mm_a s 45) a' (k + 1) → XC G w h s → xx_same w h0 h → AW G (aw_rm 7 0 0) yX0_team cX0_team 7 (some .int) (aw_N G (xx_PoC G w h0 (some (.int (op_team H (mm_a s 45) a q))) (s)) 0 0) 0 0 (h) 113 [(0, .ref (w.1 0)), (1, .int (nI a')), (2, .int q), (3, .int (sp_cv p)), (4, .int (nI k)), (5, .int z)] [] := by
        intro p z h hk2 ep hX hs
        refine aw_iincN (b := 1) dX0_team_113 rfl rfl (by decide) rfl rfl ?_
        refine aw_goto (tgt := 27) dX0_team_116 (by decide) ?_
        have q9 := ih (2 ^ sp_hn H - (k + 1)) (by omega) (k + 1) h rfl (by omega) hX hs
        rw [← ep] at q9
        exact AW_dr (r := [(5, .int z)]) q9
      by_cases hk9 : k < 2 ^ sp_hn H
      · rcases (show sp_tm H (mm_a s 45) a' k = 0 ∨ ∃ b, sp_tm H (mm_a s 45) a' k = b + 1 from by cases sp_tm H (mm_a s 45) a' k with | zero => exact Or.inl rfl | succ b => exact Or.inr ⟨b, rfl⟩) with hz | ⟨b, hz⟩
        · rw [hz] at eS
          rw [hz, sp_cv0]
          have back : ∀ h : aw_H, XC G w h s → xx_same w h0 h → AW G (aw_rm 7 0 0) yX0_team cX0_team 7 (some .int) (aw_N G (xx_PoC G w h0 (some (.int (op_team H (mm_a s 45) a q))) (s)) 0 0) 0 0 (h) 88 [(0, .ref (w.1 0)), (1, .int (nI a')), (2, .int q), (3, .int (-1)), (4, .int (nI k)), (5, .int (nI (sp_tsm (mm_a s 45) k (sp_hn H))))] [] := by
            intro h hX hs
            refine aw_iload dX0_team_88 rfl ?_
            refine aw_iload_n dX0_team_90 rfl ?_
            refine aw_icmp_ltN (tgt := 113) dX0_team_91 (by decide) (by omega) (by omega) (fun c_91 => ?_) (fun c_91 => ?_)
            · first
                | exact AW_ls (by rw [sp_cv_s]; rfl) (next (k + 1) _ h hk9 (by rw [eS, if_pos ⟨by omega, Or.inl rfl⟩]) hX hs)
                | exact AW_ls (by rw [sp_cv0]) (next 0 _ h hk9 (by rw [eS, if_neg (by omega)]) hX hs)
            · refine aw_iload_n dX0_team_94 rfl ?_
              refine aw_if_lt (tgt := 110) dX0_team_95 (by decide) (fun c_95 => ?_) (fun c_95 => by exfalso; exact c_95 neg1)
              refine aw_iload dX0_team_110 rfl ?_
              refine aw_istore_n dX0_team_112 (by decide) rfl rfl ?_
              first
                | exact AW_ls (by rw [sp_cv_s]; rfl) (next (k + 1) _ h hk9 (by rw [eS, if_pos ⟨by omega, Or.inl rfl⟩]) hX hs)
                | exact AW_ls (by rw [sp_cv0]) (next 0 _ h hk9 (by rw [eS, if_neg (by omega)]) hX hs)
          refine aw_iload dX0_team_27 rfl ?_
          refine aw_iconst (v := nI 1) dX0_team_29 rfl ?_
          refine aw_aload_n dX0_team_30 rfl ?_
          refine xx_call0 dX0_team_31 sX0_91 rfl hW hX (hq.mv hs hX0).xh hs xo_many rfl (hX.1 0 (by decide)) rfl rfl ⟨Nat.le_of_ble_eq_true rfl, Nat.le_of_ble_eq_true rfl⟩ (by exact Nat.le_of_ble_eq_true rfl) (fun h hX hs => ?_)
          refine aw_ishlN dX0_team_34 (by omega) (by omega) ?_
          refine aw_icmp_geN (tgt := 119) dX0_team_35 (by decide) (by omega) (by omega) (fun c_35 => by exfalso; omega) (fun c_35 => ?_)
          refine aw_iconst (v := nI 0) dX0_team_38 rfl ?_
          refine aw_istore dX0_team_39 (by decide) rfl rfl ?_
          refine aw_iconst (v := nI 0) dX0_team_41 rfl ?_
          refine aw_istore dX0_team_42 (by decide) rfl rfl ?_
          exact sum a' _ k (by omega) back _ 0 h rfl (Nat.zero_le _) hX hs
        · rw [hz] at eS g1
          have b2 := sp_bits_le 8 b
          rw [hz, sp_cv_s]
          have back : ∀ h : aw_H, XC G w h s → xx_same w h0 h → AW G (aw_rm 7 0 0) yX0_team cX0_team 7 (some .int) (aw_N G (xx_PoC G w h0 (some (.int (op_team H (mm_a s 45) a q))) (s)) 0 0) 0 0 (h) 88 [(0, .ref (w.1 0)), (1, .int (nI a')), (2, .int q), (3, .int (nI b)), (4, .int (nI k)), (5, .int (nI (sp_tsm (mm_a s 45) k (sp_hn H))))] [] := by
            intro h hX hs
            refine aw_iload dX0_team_88 rfl ?_
            refine aw_iload_n dX0_team_90 rfl ?_
            refine aw_icmp_ltN (tgt := 113) dX0_team_91 (by decide) (by omega) (by omega) (fun c_91 => ?_) (fun c_91 => ?_)
            · first
                | exact AW_ls (by rw [sp_cv_s]; rfl) (next (k + 1) _ h hk9 (by rw [eS, if_pos ⟨by omega, Or.inr (by rw [Nat.add_sub_cancel]; omega)⟩]) hX hs)
                | exact AW_ls (by rw [sp_cv_s]) (next (b + 1) _ h hk9 (by rw [eS, Nat.add_sub_cancel, if_neg (by omega)]) hX hs)
            · refine aw_iload_n dX0_team_94 rfl ?_
              refine aw_if_ltN (tgt := 110) dX0_team_95 (by decide) (by omega) ?_
              refine aw_iload dX0_team_98 rfl ?_
              refine aw_callP (r := _) dX0_team_100 sX0_274 rfl (jp_bc (by first | omega | assumption | exact aw_t_lt)) rfl rfl ⟨Nat.le_of_ble_eq_true rfl, Nat.le_of_ble_eq_true rfl⟩ (Nat.le_of_ble_eq_true rfl) ?_
              refine aw_iload_n dX0_team_103 rfl ?_
              refine aw_callP (r := _) dX0_team_104 sX0_274 rfl (jp_bc (by first | omega | assumption | exact aw_t_lt)) rfl rfl ⟨Nat.le_of_ble_eq_true rfl, Nat.le_of_ble_eq_true rfl⟩ (Nat.le_of_ble_eq_true rfl) ?_
              refine aw_icmp_geN (tgt := 113) dX0_team_107 (by decide) (by omega) (by omega) (fun c_107 => ?_) (fun c_107 => ?_)
              · first
                  | exact AW_ls (by rw [sp_cv_s]; rfl) (next (k + 1) _ h hk9 (by rw [eS, if_pos ⟨by omega, Or.inr (by rw [Nat.add_sub_cancel]; omega)⟩]) hX hs)
                  | exact AW_ls (by rw [sp_cv_s]) (next (b + 1) _ h hk9 (by rw [eS, Nat.add_sub_cancel, if_neg (by omega)]) hX hs)
              · refine aw_iload dX0_team_110 rfl ?_
                refine aw_istore_n dX0_team_112 (by decide) rfl rfl ?_
                first
                  | exact AW_ls (by rw [sp_cv_s]; rfl) (next (k + 1) _ h hk9 (by rw [eS, if_pos ⟨by omega, Or.inr (by rw [Nat.add_sub_cancel]; omega)⟩]) hX hs)
                  | exact AW_ls (by rw [sp_cv_s]) (next (b + 1) _ h hk9 (by rw [eS, Nat.add_sub_cancel, if_neg (by omega)]) hX hs)
          refine aw_iload dX0_team_27 rfl ?_
          refine aw_iconst (v := nI 1) dX0_team_29 rfl ?_
          refine aw_aload_n dX0_team_30 rfl ?_
          refine xx_call0 dX0_team_31 sX0_91 rfl hW hX (hq.mv hs hX0).xh hs xo_many rfl (hX.1 0 (by decide)) rfl rfl ⟨Nat.le_of_ble_eq_true rfl, Nat.le_of_ble_eq_true rfl⟩ (by exact Nat.le_of_ble_eq_true rfl) (fun h hX hs => ?_)
          refine aw_ishlN dX0_team_34 (by omega) (by omega) ?_
          refine aw_icmp_geN (tgt := 119) dX0_team_35 (by decide) (by omega) (by omega) (fun c_35 => by exfalso; omega) (fun c_35 => ?_)
          refine aw_iconst (v := nI 0) dX0_team_38 rfl ?_
          refine aw_istore dX0_team_39 (by decide) rfl rfl ?_
          refine aw_iconst (v := nI 0) dX0_team_41 rfl ?_
          refine aw_istore dX0_team_42 (by decide) rfl rfl ?_
          exact sum a' _ k (by omega) back _ 0 h rfl (Nat.zero_le _) hX hs
      · obtain rfl : k = 2 ^ sp_hn H := by omega
        rcases (show sp_tm H (mm_a s 45) a' (2 ^ sp_hn H) = 0 ∨ ∃ b, sp_tm H (mm_a s 45) a' (2 ^ sp_hn H) = b + 1 from by cases sp_tm H (mm_a s 45) a' (2 ^ sp_hn H) with | zero => exact Or.inl rfl | succ b => exact Or.inr ⟨b, rfl⟩) with hz | ⟨b, hz⟩
        · rw [hz, sp_cv0]
          refine aw_iload dX0_team_27 rfl ?_
          refine aw_iconst (v := nI 1) dX0_team_29 rfl ?_
          refine aw_aload_n dX0_team_30 rfl ?_
          refine xx_call0 dX0_team_31 sX0_91 rfl hW hX (hq.mv hs hX0).xh hs xo_many rfl (hX.1 0 (by decide)) rfl rfl ⟨Nat.le_of_ble_eq_true rfl, Nat.le_of_ble_eq_true rfl⟩ (by exact Nat.le_of_ble_eq_true rfl) (fun h hX hs => ?_)
          refine aw_ishlN dX0_team_34 (by omega) (by omega) ?_
          refine aw_icmp_geN (tgt := 119) dX0_team_35 (by decide) (by omega) (by omega) (fun c_35 => ?_) (fun c_35 => by exfalso; omega)
          refine aw_iload_n dX0_team_119 rfl ?_
          refine aw_if_ge (tgt := 127) dX0_team_120 (by decide) (fun c_120 => by exfalso; exact absurd c_120 (by decide)) (fun c_120 => ?_)
          refine aw_iconst (v := -1) dX0_team_123 rfl ?_
          refine aw_goto (tgt := 139) dX0_team_124 (by decide) ?_
          refine aw_ireturn dX0_team_139 rfl ?_
          exact ⟨by rw [no (fun z => z.2.2 (by rw [ea]; exact hz))], _, mm_core.rf, hX, hs⟩
        · have eop : op_team H (mm_a s 45) a q = if q.toInt = 0 then nI (sp_bits 8 b) else nI b := by
            rw [op_team, aw_if1 ⟨⟨a1, a2⟩, ⟨q1, q2⟩, by rw [ea, hz]; omega⟩, ea, hz, Nat.add_sub_cancel]
          rw [hz] at g1
          rw [hz, sp_cv_s]
          refine aw_iload dX0_team_27 rfl ?_
          refine aw_iconst (v := nI 1) dX0_team_29 rfl ?_
          refine aw_aload_n dX0_team_30 rfl ?_
          refine xx_call0 dX0_team_31 sX0_91 rfl hW hX (hq.mv hs hX0).xh hs xo_many rfl (hX.1 0 (by decide)) rfl rfl ⟨Nat.le_of_ble_eq_true rfl, Nat.le_of_ble_eq_true rfl⟩ (by exact Nat.le_of_ble_eq_true rfl) (fun h hX hs => ?_)
          refine aw_ishlN dX0_team_34 (by omega) (by omega) ?_
          refine aw_icmp_geN (tgt := 119) dX0_team_35 (by decide) (by omega) (by omega) (fun c_35 => ?_) (fun c_35 => by exfalso; omega)
          refine aw_iload_n dX0_team_119 rfl ?_
          refine aw_if_geN (tgt := 127) dX0_team_120 (by decide) (by omega) ?_
          refine aw_iload_n dX0_team_127 rfl ?_
          refine aw_if_ne (tgt := 138) dX0_team_128 (by decide) (fun c_128 => ?_) (fun c_128 => ?_)
          · refine aw_iload_n dX0_team_138 rfl ?_
            refine aw_ireturn dX0_team_139 rfl ?_
            refine ⟨?_, _, mm_core.rf, hX, hs⟩
            rw [eop]
            first
              | (rw [c_128]; rfl)
              | (rw [if_neg (show ¬ q.toInt = 0 from fun z => c_128 (Int32.toInt_inj.mp z))])
          · refine aw_iload_n dX0_team_131 rfl ?_
            refine aw_callP (r := _) dX0_team_132 sX0_274 rfl (jp_bc (by first | omega | assumption | exact aw_t_lt)) rfl rfl ⟨Nat.le_of_ble_eq_true rfl, Nat.le_of_ble_eq_true rfl⟩ (Nat.le_of_ble_eq_true rfl) ?_
            refine aw_goto (tgt := 139) dX0_team_135 (by decide) ?_
            refine aw_ireturn dX0_team_139 rfl ?_
            refine ⟨?_, _, mm_core.rf, hX, hs⟩
            rw [eop]
            first
              | (rw [c_128]; rfl)
              | (rw [if_neg (show ¬ q.toInt = 0 from fun z => c_128 (Int32.toInt_inj.mp z))])
  by_cases z1 : 0 ≤ a.toInt ∧ a.toInt ≤ 400
  · by_cases z2 : 0 ≤ q.toInt ∧ q.toInt ≤ 1
    · obtain ⟨a', ha, ea, a1, a2⟩ := aw_ofN (x := a) z1.1
      refine AW_ls (show _ = [(0, .ref (w.1 0)), (1, .int (nI a')), (2, .int q)] by rw [← ea]) ?_
      refine aw_iload_n dX0_team_0 rfl ?_
      refine aw_iconst (v := nI 0) dX0_team_1 rfl ?_
      refine aw_sipush (v := nI 400) dX0_team_2 rfl ?_
      refine aw_callP (r := _) dX0_team_5 sX0_155 rfl (xp_isIn (a := nI 0) (b := nI 400) (v := nI a')) rfl rfl ⟨Nat.le_of_ble_eq_true rfl, Nat.le_of_ble_eq_true rfl⟩ (Nat.le_of_ble_eq_true rfl) ?_
      refine aw_if_eqB (tgt := 20) dX0_team_8 (by decide) (fun c_8 => by exfalso; exact c_8 (by rw [← ea]; exact z1)) (fun c_8 => ?_)
      refine aw_iload_n dX0_team_11 rfl ?_
      refine aw_iconst (v := nI 0) dX0_team_12 rfl ?_
      refine aw_iconst (v := nI 1) dX0_team_13 rfl ?_
      refine aw_callP (r := _) dX0_team_14 sX0_155 rfl xp_isIn rfl rfl ⟨Nat.le_of_ble_eq_true rfl, Nat.le_of_ble_eq_true rfl⟩ (Nat.le_of_ble_eq_true rfl) ?_
      refine aw_if_neB (tgt := 22) dX0_team_17 (by decide) (fun c_17 => ?_) (fun c_17 => by exfalso; exact c_17 z2)
      refine aw_iconst (v := -1) dX0_team_22 rfl ?_
      refine aw_istore_n dX0_team_23 (by decide) rfl rfl ?_
      refine aw_iconst (v := nI 0) dX0_team_24 rfl ?_
      refine aw_istore dX0_team_25 (by decide) rfl rfl ?_
      exact loop a' z1.1 (by omega) z1.2 z2.1 z2.2 a2 _ 0 _ rfl (Nat.zero_le _) hX hs
    ·
      refine aw_iload_n dX0_team_0 rfl ?_
      refine aw_iconst (v := nI 0) dX0_team_1 rfl ?_
      refine aw_sipush (v := nI 400) dX0_team_2 rfl ?_
      refine aw_callP (r := _) dX0_team_5 sX0_155 rfl xp_isIn rfl rfl ⟨Nat.le_of_ble_eq_true rfl, Nat.le_of_ble_eq_true rfl⟩ (Nat.le_of_ble_eq_true rfl) ?_
      refine aw_if_eqB (tgt := 20) dX0_team_8 (by decide) (fun c_8 => ?_) (fun c_8 => ?_)
      · refine aw_iconst (v := -1) dX0_team_20 rfl ?_
        refine aw_ireturn dX0_team_21 rfl ?_
        exact ⟨by rw [no (fun z => z2 z.2.1)], _, mm_core.rf, hX, hs⟩
      · refine aw_iload_n dX0_team_11 rfl ?_
        refine aw_iconst (v := nI 0) dX0_team_12 rfl ?_
        refine aw_iconst (v := nI 1) dX0_team_13 rfl ?_
        refine aw_callP (r := _) dX0_team_14 sX0_155 rfl xp_isIn rfl rfl ⟨Nat.le_of_ble_eq_true rfl, Nat.le_of_ble_eq_true rfl⟩ (Nat.le_of_ble_eq_true rfl) ?_
        refine aw_if_neB (tgt := 22) dX0_team_17 (by decide) (fun c_17 => by exfalso; exact z2 c_17) (fun c_17 => ?_)
        refine aw_iconst (v := -1) dX0_team_20 rfl ?_
        refine aw_ireturn dX0_team_21 rfl ?_
        exact ⟨by rw [no (fun z => z2 z.2.1)], _, mm_core.rf, hX, hs⟩
  ·
    refine aw_iload_n dX0_team_0 rfl ?_
    refine aw_iconst (v := nI 0) dX0_team_1 rfl ?_
    refine aw_sipush (v := nI 400) dX0_team_2 rfl ?_
    refine aw_callP (r := _) dX0_team_5 sX0_155 rfl xp_isIn rfl rfl ⟨Nat.le_of_ble_eq_true rfl, Nat.le_of_ble_eq_true rfl⟩ (Nat.le_of_ble_eq_true rfl) ?_
    refine aw_if_eqB (tgt := 20) dX0_team_8 (by decide) (fun c_8 => ?_) (fun c_8 => by exfalso; exact z1 c_8)
    refine aw_iconst (v := -1) dX0_team_20 rfl ?_
    refine aw_ireturn dX0_team_21 rfl ?_
    exact ⟨by rw [no (fun z => z1 z.1)], _, mm_core.rf, hX, hs⟩

