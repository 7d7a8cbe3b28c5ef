set_option maxRecDepth 100000
/-! the model: words, numbers told -/
def mm_own (v : Int64) : Bool := v == 32497644331170163 || v == 1818846836 || v == 127978992397940 || v == 28526 || v == 126943973305959 || v == 448377484921 || v == 1870095731 || v == 439720963187 || v == 109330362692723 || v == 470021465459 || v == 1685217655 || v == 474214787188 || v == 2003133803 || v == 27985222756885860 || v == 6385252 || v == 28530 || v == 7237492
set_option maxHeartbeats 4000000 in
theorem mm_isOwn {s : mm_S} : mm_Met yX5_isOwn cX5_isOwn 1 (some .boolean) 0 [] s (some (.int (nI (aw_t (mm_own (mm_w s) = true))))) (s) := by
  refine mm_Met.of (by decide +kernel) (fun _ => Nat.le_of_ble_eq_true rfl) (fun G w h0 hW hR => ?_)
  have hs : mm_same w h0 h0 := mm_same.rf
  show AW G (aw_rm 0 0 0) yX5_isOwn cX5_isOwn 1 (some .boolean) (aw_N G (mm_Po G w h0 (some (.int (nI (aw_t (mm_own (mm_w s) = true))))) (s)) 0 0) 0 0 h0 0 [(0, .ref w.1)] []
  refine aw_aload_n dX5_isOwn_0 rfl ?_
  refine aw_get dX5_isOwn_1 fX5_162 rfl hR.1 (by rfl) ?_
  refine aw_ldc2 dX5_isOwn_4 q1588 ?_
  refine aw_lcmp dX5_isOwn_7 ?_
  refine aw_if_eqL (tgt := 187) dX5_isOwn_8 (by decide) (fun c_8 => ?_) (fun c_8 => ?_)
  · refine aw_iconst (v := nI 1) dX5_isOwn_187 rfl ?_
    refine aw_goto (tgt := 192) dX5_isOwn_188 (by decide) ?_
    refine aw_zreturn dX5_isOwn_192 rfl rfl ?_
    by_cases z : mm_own (mm_w s) = true
    · rw [aw_t1 z]
      first
        | exact ⟨rfl, hR, hs⟩
        | (exfalso; unfold mm_own at z; simp_all)
    · rw [aw_t0 z]
      first
        | exact ⟨rfl, hR, hs⟩
        | (exfalso; apply z; unfold mm_own; simp [*])
  · refine aw_aload_n dX5_isOwn_11 rfl ?_
    refine aw_get dX5_isOwn_12 fX5_162 rfl hR.1 (by rfl) ?_
    refine aw_ldc2 dX5_isOwn_15 q1605 ?_
    refine aw_lcmp dX5_isOwn_18 ?_
    refine aw_if_eqL (tgt := 187) dX5_isOwn_19 (by decide) (fun c_19 => ?_) (fun c_19 => ?_)
    · refine aw_iconst (v := nI 1) dX5_isOwn_187 rfl ?_
      refine aw_goto (tgt := 192) dX5_isOwn_188 (by decide) ?_
      refine aw_zreturn dX5_isOwn_192 rfl rfl ?_
      by_cases z : mm_own (mm_w s) = true
      · rw [aw_t1 z]
        first
          | exact ⟨rfl, hR, hs⟩
          | (exfalso; unfold mm_own at z; simp_all)
      · rw [aw_t0 z]
        first
          | exact ⟨rfl, hR, hs⟩
          | (exfalso; apply z; unfold mm_own; simp [*])
    · refine aw_aload_n dX5_isOwn_22 rfl ?_
      refine aw_get dX5_isOwn_23 fX5_162 rfl hR.1 (by rfl) ?_
      refine aw_ldc2 dX5_isOwn_26 q1618 ?_
      refine aw_lcmp dX5_isOwn_29 ?_
      refine aw_if_eqL (tgt := 187) dX5_isOwn_30 (by decide) (fun c_30 => ?_) (fun c_30 => ?_)
      · refine aw_iconst (v := nI 1) dX5_isOwn_187 rfl ?_
        refine aw_goto (tgt := 192) dX5_isOwn_188 (by decide) ?_
        refine aw_zreturn dX5_isOwn_192 rfl rfl ?_
        by_cases z : mm_own (mm_w s) = true
        · rw [aw_t1 z]
          first
            | exact ⟨rfl, hR, hs⟩
            | (exfalso; unfold mm_own at z; simp_all)
        · rw [aw_t0 z]
          first
            | exact ⟨rfl, hR, hs⟩
            | (exfalso; apply z; unfold mm_own; simp [*])
      · refine aw_aload_n dX5_isOwn_33 rfl ?_
        refine aw_get dX5_isOwn_34 fX5_162 rfl hR.1 (by rfl) ?_
        refine aw_ldc2 dX5_isOwn_37 q1635 ?_
        refine aw_lcmp dX5_isOwn_40 ?_
        refine aw_if_eqL (tgt := 187) dX5_isOwn_41 (by decide) (fun c_41 => ?_) (fun c_41 => ?_)
        · refine aw_iconst (v := nI 1) dX5_isOwn_187 rfl ?_
          refine aw_goto (tgt := 192) dX5_isOwn_188 (by decide) ?_
          refine aw_zreturn dX5_isOwn_192 rfl rfl ?_
          by_cases z : mm_own (mm_w s) = true
          · rw [aw_t1 z]
            first
              | exact ⟨rfl, hR, hs⟩
              | (exfalso; unfold mm_own at z; simp_all)
          · rw [aw_t0 z]
            first
              | exact ⟨rfl, hR, hs⟩
              | (exfalso; apply z; unfold mm_own; simp [*])
        · refine aw_aload_n dX5_isOwn_44 rfl ?_
          refine aw_get dX5_isOwn_45 fX5_162 rfl hR.1 (by rfl) ?_
          refine aw_ldc2 dX5_isOwn_48 q1636 ?_
          refine aw_lcmp dX5_isOwn_51 ?_
          refine aw_if_eqL (tgt := 187) dX5_isOwn_52 (by decide) (fun c_52 => ?_) (fun c_52 => ?_)
          · refine aw_iconst (v := nI 1) dX5_isOwn_187 rfl ?_
            refine aw_goto (tgt := 192) dX5_isOwn_188 (by decide) ?_
            refine aw_zreturn dX5_isOwn_192 rfl rfl ?_
            by_cases z : mm_own (mm_w s) = true
            · rw [aw_t1 z]
              first
                | exact ⟨rfl, hR, hs⟩
                | (exfalso; unfold mm_own at z; simp_all)
            · rw [aw_t0 z]
              first
                | exact ⟨rfl, hR, hs⟩
                | (exfalso; apply z; unfold mm_own; simp [*])
          · refine aw_aload_n dX5_isOwn_55 rfl ?_
            refine aw_get dX5_isOwn_56 fX5_162 rfl hR.1 (by rfl) ?_
            refine aw_ldc2 dX5_isOwn_59 q1637 ?_
            refine aw_lcmp dX5_isOwn_62 ?_
            refine aw_if_eqL (tgt := 187) dX5_isOwn_63 (by decide) (fun c_63 => ?_) (fun c_63 => ?_)
            · refine aw_iconst (v := nI 1) dX5_isOwn_187 rfl ?_
              refine aw_goto (tgt := 192) dX5_isOwn_188 (by decide) ?_
              refine aw_zreturn dX5_isOwn_192 rfl rfl ?_
              by_cases z : mm_own (mm_w s) = true
              · rw [aw_t1 z]
                first
                  | exact ⟨rfl, hR, hs⟩
                  | (exfalso; unfold mm_own at z; simp_all)
              · rw [aw_t0 z]
                first
                  | exact ⟨rfl, hR, hs⟩
                  | (exfalso; apply z; unfold mm_own; simp [*])
            · refine aw_aload_n dX5_isOwn_66 rfl ?_
              refine aw_get dX5_isOwn_67 fX5_162 rfl hR.1 (by rfl) ?_
              refine aw_ldc2 dX5_isOwn_70 q1638 ?_
              refine aw_lcmp dX5_isOwn_73 ?_
              refine aw_if_eqL (tgt := 187) dX5_isOwn_74 (by decide) (fun c_74 => ?_) (fun c_74 => ?_)
              · refine aw_iconst (v := nI 1) dX5_isOwn_187 rfl ?_
                refine aw_goto (tgt := 192) dX5_isOwn_188 (by decide) ?_
                refine aw_zreturn dX5_isOwn_192 rfl rfl ?_
                by_cases z : mm_own (mm_w s) = true
                · rw [aw_t1 z]
                  first
                    | exact ⟨rfl, hR, hs⟩
                    | (exfalso; unfold mm_own at z; simp_all)
                · rw [aw_t0 z]
                  first
                    | exact ⟨rfl, hR, hs⟩
                    | (exfalso; apply z; unfold mm_own; simp [*])
              · refine aw_aload_n dX5_isOwn_77 rfl ?_
                refine aw_get dX5_isOwn_78 fX5_162 rfl hR.1 (by rfl) ?_
                refine aw_ldc2 dX5_isOwn_81 q1639 ?_
                refine aw_lcmp dX5_isOwn_84 ?_
                refine aw_if_eqL (tgt := 187) dX5_isOwn_85 (by decide) (fun c_85 => ?_) (fun c_85 => ?_)
                · refine aw_iconst (v := nI 1) dX5_isOwn_187 rfl ?_
                  refine aw_goto (tgt := 192) dX5_isOwn_188 (by decide) ?_
                  refine aw_zreturn dX5_isOwn_192 rfl rfl ?_
                  by_cases z : mm_own (mm_w s) = true
                  · rw [aw_t1 z]
                    first
                      | exact ⟨rfl, hR, hs⟩
                      | (exfalso; unfold mm_own at z; simp_all)
                  · rw [aw_t0 z]
                    first
                      | exact ⟨rfl, hR, hs⟩
                      | (exfalso; apply z; unfold mm_own; simp [*])
                · refine aw_aload_n dX5_isOwn_88 rfl ?_
                  refine aw_get dX5_isOwn_89 fX5_162 rfl hR.1 (by rfl) ?_
                  refine aw_ldc2 dX5_isOwn_92 q1640 ?_
                  refine aw_lcmp dX5_isOwn_95 ?_
                  refine aw_if_eqL (tgt := 187) dX5_isOwn_96 (by decide) (fun c_96 => ?_) (fun c_96 => ?_)
                  · refine aw_iconst (v := nI 1) dX5_isOwn_187 rfl ?_
                    refine aw_goto (tgt := 192) dX5_isOwn_188 (by decide) ?_
                    refine aw_zreturn dX5_isOwn_192 rfl rfl ?_
                    by_cases z : mm_own (mm_w s) = true
                    · rw [aw_t1 z]
                      first
                        | exact ⟨rfl, hR, hs⟩
                        | (exfalso; unfold mm_own at z; simp_all)
                    · rw [aw_t0 z]
                      first
                        | exact ⟨rfl, hR, hs⟩
                        | (exfalso; apply z; unfold mm_own; simp [*])
                  · refine aw_aload_n dX5_isOwn_99 rfl ?_
                    refine aw_get dX5_isOwn_100 fX5_162 rfl hR.1 (by rfl) ?_
                    refine aw_ldc2 dX5_isOwn_103 q1641 ?_
                    refine aw_lcmp dX5_isOwn_106 ?_
                    refine aw_if_eqL (tgt := 187) dX5_isOwn_107 (by decide) (fun c_107 => ?_) (fun c_107 => ?_)
                    · refine aw_iconst (v := nI 1) dX5_isOwn_187 rfl ?_
                      refine aw_goto (tgt := 192) dX5_isOwn_188 (by decide) ?_
                      refine aw_zreturn dX5_isOwn_192 rfl rfl ?_
                      by_cases z : mm_own (mm_w s) = true
                      · rw [aw_t1 z]
                        first
                          | exact ⟨rfl, hR, hs⟩
                          | (exfalso; unfold mm_own at z; simp_all)
                      · rw [aw_t0 z]
                        first
                          | exact ⟨rfl, hR, hs⟩
                          | (exfalso; apply z; unfold mm_own; simp [*])
                    · refine aw_aload_n dX5_isOwn_110 rfl ?_
                      refine aw_get dX5_isOwn_111 fX5_162 rfl hR.1 (by rfl) ?_
                      refine aw_ldc2 dX5_isOwn_114 q1642 ?_
                      refine aw_lcmp dX5_isOwn_117 ?_
                      refine aw_if_eqL (tgt := 187) dX5_isOwn_118 (by decide) (fun c_118 => ?_) (fun c_118 => ?_)
                      · refine aw_iconst (v := nI 1) dX5_isOwn_187 rfl ?_
                        refine aw_goto (tgt := 192) dX5_isOwn_188 (by decide) ?_
                        refine aw_zreturn dX5_isOwn_192 rfl rfl ?_
                        by_cases z : mm_own (mm_w s) = true
                        · rw [aw_t1 z]
                          first
                            | exact ⟨rfl, hR, hs⟩
                            | (exfalso; unfold mm_own at z; simp_all)
                        · rw [aw_t0 z]
                          first
                            | exact ⟨rfl, hR, hs⟩
                            | (exfalso; apply z; unfold mm_own; simp [*])
                      · refine aw_aload_n dX5_isOwn_121 rfl ?_
                        refine aw_get dX5_isOwn_122 fX5_162 rfl hR.1 (by rfl) ?_
                        refine aw_ldc2 dX5_isOwn_125 q1643 ?_
                        refine aw_lcmp dX5_isOwn_128 ?_
                        refine aw_if_eqL (tgt := 187) dX5_isOwn_129 (by decide) (fun c_129 => ?_) (fun c_129 => ?_)
                        · refine aw_iconst (v := nI 1) dX5_isOwn_187 rfl ?_
                          refine aw_goto (tgt := 192) dX5_isOwn_188 (by decide) ?_
                          refine aw_zreturn dX5_isOwn_192 rfl rfl ?_
                          by_cases z : mm_own (mm_w s) = true
                          · rw [aw_t1 z]
                            first
                              | exact ⟨rfl, hR, hs⟩
                              | (exfalso; unfold mm_own at z; simp_all)
                          · rw [aw_t0 z]
                            first
                              | exact ⟨rfl, hR, hs⟩
                              | (exfalso; apply z; unfold mm_own; simp [*])
                        · refine aw_aload_n dX5_isOwn_132 rfl ?_
                          refine aw_get dX5_isOwn_133 fX5_162 rfl hR.1 (by rfl) ?_
                          refine aw_ldc2 dX5_isOwn_136 q1644 ?_
                          refine aw_lcmp dX5_isOwn_139 ?_
                          refine aw_if_eqL (tgt := 187) dX5_isOwn_140 (by decide) (fun c_140 => ?_) (fun c_140 => ?_)
                          · refine aw_iconst (v := nI 1) dX5_isOwn_187 rfl ?_
                            refine aw_goto (tgt := 192) dX5_isOwn_188 (by decide) ?_
                            refine aw_zreturn dX5_isOwn_192 rfl rfl ?_
                            by_cases z : mm_own (mm_w s) = true
                            · rw [aw_t1 z]
                              first
                                | exact ⟨rfl, hR, hs⟩
                                | (exfalso; unfold mm_own at z; simp_all)
                            · rw [aw_t0 z]
                              first
                                | exact ⟨rfl, hR, hs⟩
                                | (exfalso; apply z; unfold mm_own; simp [*])
                          · refine aw_aload_n dX5_isOwn_143 rfl ?_
                            refine aw_get dX5_isOwn_144 fX5_162 rfl hR.1 (by rfl) ?_
                            refine aw_ldc2 dX5_isOwn_147 q1645 ?_
                            refine aw_lcmp dX5_isOwn_150 ?_
                            refine aw_if_eqL (tgt := 187) dX5_isOwn_151 (by decide) (fun c_151 => ?_) (fun c_151 => ?_)
                            · refine aw_iconst (v := nI 1) dX5_isOwn_187 rfl ?_
                              refine aw_goto (tgt := 192) dX5_isOwn_188 (by decide) ?_
                              refine aw_zreturn dX5_isOwn_192 rfl rfl ?_
                              by_cases z : mm_own (mm_w s) = true
                              · rw [aw_t1 z]
                                first
                                  | exact ⟨rfl, hR, hs⟩
                                  | (exfalso; unfold mm_own at z; simp_all)
                              · rw [aw_t0 z]
                                first
                                  | exact ⟨rfl, hR, hs⟩
                                  | (exfalso; apply z; unfold mm_own; simp [*])
                            · refine aw_aload_n dX5_isOwn_154 rfl ?_
                              refine aw_get dX5_isOwn_155 fX5_162 rfl hR.1 (by rfl) ?_
                              refine aw_ldc2 dX5_isOwn_158 q1646 ?_
                              refine aw_lcmp dX5_isOwn_161 ?_
                              refine aw_if_eqL (tgt := 187) dX5_isOwn_162 (by decide) (fun c_162 => ?_) (fun c_162 => ?_)
                              · refine aw_iconst (v := nI 1) dX5_isOwn_187 rfl ?_
                                refine aw_goto (tgt := 192) dX5_isOwn_188 (by decide) ?_
                                refine aw_zreturn dX5_isOwn_192 rfl rfl ?_
                                by_cases z : mm_own (mm_w s) = true
                                · rw [aw_t1 z]
                                  first
                                    | exact ⟨rfl, hR, hs⟩
                                    | (exfalso; unfold mm_own at z; simp_all)
                                · rw [aw_t0 z]
                                  first
                                    | exact ⟨rfl, hR, hs⟩
                                    | (exfalso; apply z; unfold mm_own; simp [*])
                              · refine aw_aload_n dX5_isOwn_165 rfl ?_
                                refine aw_get dX5_isOwn_166 fX5_162 rfl hR.1 (by rfl) ?_
                                refine aw_ldc2 dX5_isOwn_169 q1647 ?_
                                refine aw_lcmp dX5_isOwn_172 ?_
                                refine aw_if_eqL (tgt := 187) dX5_isOwn_173 (by decide) (fun c_173 => ?_) (fun c_173 => ?_)
                                · refine aw_iconst (v := nI 1) dX5_isOwn_187 rfl ?_
                                  refine aw_goto (tgt := 192) dX5_isOwn_188 (by decide) ?_
                                  refine aw_zreturn dX5_isOwn_192 rfl rfl ?_
                                  by_cases z : mm_own (mm_w s) = true
                                  · rw [aw_t1 z]
                                    first
                                      | exact ⟨rfl, hR, hs⟩
                                      | (exfalso; unfold mm_own at z; simp_all)
                                  · rw [aw_t0 z]
                                    first
                                      | exact ⟨rfl, hR, hs⟩
                                      | (exfalso; apply z; unfold mm_own; simp [*])
                                · refine aw_aload_n dX5_isOwn_176 rfl ?_
                                  refine aw_get dX5_isOwn_177 fX5_162 rfl hR.1 (by rfl) ?_
                                  refine aw_ldc2 dX5_isOwn_180 q1648 ?_
                                  refine aw_lcmp dX5_isOwn_183 ?_
                                  refine aw_if_neL (tgt := 191) dX5_isOwn_184 (by decide) (fun c_184 => ?_) (fun c_184 => ?_)
                                  · refine aw_iconst (v := nI 0) dX5_isOwn_191 rfl ?_
                                    refine aw_zreturn dX5_isOwn_192 rfl rfl ?_
                                    by_cases z : mm_own (mm_w s) = true
                                    · rw [aw_t1 z]
                                      first
                                        | exact ⟨rfl, hR, hs⟩
                                        | (exfalso; unfold mm_own at z; simp_all)
                                    · rw [aw_t0 z]
                                      first
                                        | exact ⟨rfl, hR, hs⟩
                                        | (exfalso; apply z; unfold mm_own; simp [*])
                                  · refine aw_iconst (v := nI 1) dX5_isOwn_187 rfl ?_
                                    refine aw_goto (tgt := 192) dX5_isOwn_188 (by decide) ?_
                                    refine aw_zreturn dX5_isOwn_192 rfl rfl ?_
                                    by_cases z : mm_own (mm_w s) = true
                                    · rw [aw_t1 z]
                                      first
                                        | exact ⟨rfl, hR, hs⟩
                                        | (exfalso; unfold mm_own at z; simp_all)
                                    · rw [aw_t0 z]
                                      first
                                        | exact ⟨rfl, hR, hs⟩
                                        | (exfalso; apply z; unfold mm_own; simp [*])
set_option maxHeartbeats 4000000 in
theorem mm_isName {s : mm_S} (h6 : mm_n s 6 < 256) : mm_Met yX5_isName cX5_isName 1 (some .boolean) 1 [] s (some (.int (nI (aw_t (mm_n s 6 = 1 ∧ mm_own (mm_w s) = false))))) (s) := by
  refine mm_Met.of (by decide +kernel) (fun _ => Nat.le_of_ble_eq_true rfl) (fun G w h0 hW hR => ?_)
  have hs : mm_same w h0 h0 := mm_same.rf
  show AW G (aw_rm 1 0 0) yX5_isName cX5_isName 1 (some .boolean) (aw_N G (mm_Po G w h0 (some (.int (nI (aw_t (mm_n s 6 = 1 ∧ mm_own (mm_w s) = false))))) (s)) 0 0) 0 0 h0 0 [(0, .ref w.1)] []
  refine aw_aload_n dX5_isName_0 rfl ?_
  refine aw_get dX5_isName_1 fX5_169 rfl hR.1 (by rfl) ?_
  refine aw_iconst (v := nI 1) dX5_isName_4 rfl ?_
  refine aw_icmp_neN (tgt := 19) dX5_isName_5 (by decide) (by omega) (by omega) (fun c_5 => ?_) (fun c_5 => ?_)
  · refine aw_iconst (v := nI 0) dX5_isName_19 rfl ?_
    refine aw_zreturn dX5_isName_20 rfl rfl ?_
    by_cases z : mm_n s 6 = 1 ∧ mm_own (mm_w s) = false
    · rw [aw_t1 z]
      first
        | exact ⟨rfl, hR, hs⟩
        | exact absurd z.1 c_5
        | (have y := z.2; rw [c_12] at y; cases y)
    · rw [aw_t0 z]
      first
        | exact ⟨rfl, hR, hs⟩
        | exact absurd ⟨c_5, aw_bf c_12⟩ z
  · refine aw_aload_n dX5_isName_8 rfl ?_
    refine mm_call dX5_isName_9 sX5_219 rfl hW hR hs (mm_isOwn) rfl rfl ⟨Nat.le_of_ble_eq_true rfl, Nat.le_of_ble_eq_true rfl⟩ (Nat.le_of_ble_eq_true rfl) (fun h hR hs => ?_)
    refine aw_if_neB (tgt := 19) dX5_isName_12 (by decide) (fun c_12 => ?_) (fun c_12 => ?_)
    · refine aw_iconst (v := nI 0) dX5_isName_19 rfl ?_
      refine aw_zreturn dX5_isName_20 rfl rfl ?_
      by_cases z : mm_n s 6 = 1 ∧ mm_own (mm_w s) = false
      · rw [aw_t1 z]
        first
          | exact ⟨rfl, hR, hs⟩
          | exact absurd z.1 c_5
          | (have y := z.2; rw [c_12] at y; cases y)
      · rw [aw_t0 z]
        first
          | exact ⟨rfl, hR, hs⟩
          | exact absurd ⟨c_5, aw_bf c_12⟩ z
    · refine aw_iconst (v := nI 1) dX5_isName_15 rfl ?_
      refine aw_goto (tgt := 20) dX5_isName_16 (by decide) ?_
      refine aw_zreturn dX5_isName_20 rfl rfl ?_
      by_cases z : mm_n s 6 = 1 ∧ mm_own (mm_w s) = false
      · rw [aw_t1 z]
        first
          | exact ⟨rfl, hR, hs⟩
          | exact absurd z.1 c_5
          | (have y := z.2; rw [c_12] at y; cases y)
      · rw [aw_t0 z]
        first
          | exact ⟨rfl, hR, hs⟩
          | exact absurd ⟨c_5, aw_bf c_12⟩ z
/-- the reader's state as it can be -/
def mm_okP (s : mm_S) : Prop := mm_n s 5 ≤ 1600 ∧ mm_n s 4 ≤ mm_n s 5 ∧ (∀ j, j < 1600 → mm_a s 0 j < 256) ∧ mm_n s 6 < 256 ∧ mm_n s 8 ≤ 100000 ∧ mm_n s 2 ≤ 4 ∧ mm_n s 7 ≤ 1600
def mm_wr (s : mm_S) (v : Nat) : mm_S := if mm_n s 2 = 0 then mm_setFp (mm_setN s 2 (if mm_n s 6 = 3 then 1 else v)) (nI (mm_n s 7)) else s
def mm_wn (s : mm_S) (v : Int64) : mm_S := if mm_n s 2 = 0 then (if mm_n s 6 = 1 ∧ mm_w s = v then mm_tk s else mm_wr s 2) else s
set_option maxHeartbeats 4000000 in
theorem mm_want {s : mm_S} {v : Int64} (hP : mm_okP s) : mm_Met yX5_want cX5_want 3 none 2 [.long (v)] s none (mm_wn s v) := by
  refine mm_Met.of (by decide +kernel) (fun _ => Nat.le_of_ble_eq_true rfl) (fun G w h0 hW hR => ?_)
  have hs : mm_same w h0 h0 := mm_same.rf
  show AW G (aw_rm 2 0 0) yX5_want cX5_want 3 none (aw_N G (mm_Po G w h0 none (mm_wn s v)) 0 0) 0 0 h0 0 [(0, .ref w.1), (1, .long (v))] []
  obtain ⟨p1, p2, p3, p4, p5, p6, p7⟩ := hP
  refine aw_aload_n dX5_want_0 rfl ?_
  refine aw_get dX5_want_1 fX5_182 rfl hR.1 (by rfl) ?_
  refine aw_if_leN (tgt := 8) dX5_want_4 (by decide) (by omega) (fun c_4 => ?_) (fun c_4 => ?_)
  · refine aw_aload_n dX5_want_8 rfl ?_
    refine aw_lload_n dX5_want_9 rfl ?_
    refine mm_call dX5_want_10 sX5_223 rfl hW hR hs (mm_isWord (by first | omega | assumption | exact aw_t_lt)) rfl rfl ⟨Nat.le_of_ble_eq_true rfl, Nat.le_of_ble_eq_true rfl⟩ (Nat.le_of_ble_eq_true rfl) (fun h hR hs => ?_)
    refine aw_if_neB (tgt := 24) dX5_want_13 (by decide) (fun c_13 => ?_) (fun c_13 => ?_)
    · refine aw_aload_n dX5_want_24 rfl ?_
      refine mm_call dX5_want_25 sX5_230 rfl hW hR hs (mm_token p1 p2 p3) rfl rfl ⟨Nat.le_of_ble_eq_true rfl, Nat.le_of_ble_eq_true rfl⟩ (Nat.le_of_ble_eq_true rfl) (fun h hR hs => ?_)
      refine aw_vreturn dX5_want_28 rfl ?_
      first
        | (have e : mm_wn s v = mm_tk s := by (unfold mm_wn; rw [if_pos (show mm_n s 2 = 0 by omega), if_pos c_13])
           exact ⟨rfl, mm_eq hR e.symm, hs⟩)
        | (have e : mm_wn s v = mm_wr s 2 := by (unfold mm_wn; rw [if_pos (show mm_n s 2 = 0 by omega), if_neg c_13])
           exact ⟨rfl, mm_eq hR e.symm, hs⟩)
    · refine aw_aload_n dX5_want_16 rfl ?_
      refine aw_iconst (v := nI 2) dX5_want_17 rfl ?_
      refine mm_call dX5_want_18 sX5_227 rfl hW hR hs (mm_wrong (by omega) (by omega)) rfl rfl ⟨Nat.le_of_ble_eq_true rfl, Nat.le_of_ble_eq_true rfl⟩ (Nat.le_of_ble_eq_true rfl) (fun h hR hs => ?_)
      refine aw_goto (tgt := 28) dX5_want_21 (by decide) ?_
      refine aw_vreturn dX5_want_28 rfl ?_
      first
        | (have e : mm_wn s v = mm_tk s := by (unfold mm_wn; rw [if_pos (show mm_n s 2 = 0 by omega), if_pos c_13])
           exact ⟨rfl, mm_eq hR e.symm, hs⟩)
        | (have e : mm_wn s v = mm_wr s 2 := by (unfold mm_wn; rw [if_pos (show mm_n s 2 = 0 by omega), if_neg c_13])
           exact ⟨rfl, mm_eq hR e.symm, hs⟩)
  · refine aw_vreturn dX5_want_7 rfl ?_
    exact ⟨rfl, mm_eq hR (by unfold mm_wn; rw [if_neg (by omega)]), hs⟩
/-- what a number told leaves -/
def mm_tn0 (s : mm_S) (lo hi : Nat) : mm_S := if mm_n s 6 ≠ 2 then mm_wr s 2 else if mm_n s 8 < lo ∨ hi < mm_n s 8 then mm_wr s 4 else s
def mm_tn (s : mm_S) (lo hi : Nat) : mm_S := if mm_n s 2 = 0 then (if mm_n (mm_tn0 s lo hi) 2 = 0 then mm_tk s else mm_tn0 s lo hi) else s
def mm_tnv (s : mm_S) : Nat := if mm_n s 2 = 0 then mm_n s 8 else 0
theorem mm_wr_0 {s : mm_S} {v : Nat} (h : mm_n s 2 = 0) : mm_wr s v = mm_setFp (mm_setN s 2 (if mm_n s 6 = 3 then 1 else v)) (nI (mm_n s 7)) := if_pos h
theorem mm_wr_n {s : mm_S} {v : Nat} (h : mm_n s 2 = 0) : mm_n (mm_wr s v) 2 = if mm_n s 6 = 3 then 1 else v := by rw [mm_wr_0 h]; rfl
theorem mm_tn0_e {s : mm_S} {lo hi : Nat} (h : mm_n s 2 = 0) (e : mm_n (mm_tn0 s lo hi) 2 = 0) : mm_tn0 s lo hi = s := by
  unfold mm_tn0 at *
  by_cases z : mm_n s 6 ≠ 2
  · rw [if_pos z, mm_wr_n h] at e
    split at e <;> omega
  · rw [if_neg z] at e ⊢
    by_cases y : mm_n s 8 < lo ∨ hi < mm_n s 8
    · rw [if_pos y, mm_wr_n h] at e
      split at e <;> omega
    · rw [if_neg y]
set_option maxHeartbeats 4000000 in
theorem mm_toldNumber {s : mm_S} {lo hi : Nat} (hP : mm_okP s) (hl : lo < 2147483648) (hh : hi < 2147483648) : mm_Met yX5_toldNumber cX5_toldNumber 4 (some .int) 2 [.int (nI (lo)), .int (nI (hi))] s (some (.int (nI (mm_tnv s)))) (mm_tn s lo hi) := by
  refine mm_Met.of (by decide +kernel) (fun _ => Nat.le_of_ble_eq_true rfl) (fun G w h0 hW hR => ?_)
  have hs : mm_same w h0 h0 := mm_same.rf
  show AW G (aw_rm 2 0 0) yX5_toldNumber cX5_toldNumber 4 (some .int) (aw_N G (mm_Po G w h0 (some (.int (nI (mm_tnv s)))) (mm_tn s lo hi)) 0 0) 0 0 h0 0 [(0, .ref w.1), (1, .int (nI (lo))), (2, .int (nI (hi)))] []
  obtain ⟨p1, p2, p3, p4, p5, p6, p7⟩ := hP
  have aft : ∀ (h : aw_H), mm_n s 2 = 0 → mm_R G w h (mm_tn0 s lo hi) → mm_same w h0 h → AW G (aw_rm 2 0 0) yX5_toldNumber cX5_toldNumber 4 (some .int) (aw_N G (mm_Po G w h0 (some (.int (nI (mm_tnv s)))) (mm_tn s lo hi)) 0 0) 0 0 h 46 [(0, .ref w.1), (1, .int (nI lo)), (2, .int (nI hi))] [] := by
    intro h h2 hR hs
    have ev : mm_n (mm_tn0 s lo hi) 8 = mm_n s 8 := by
      unfold mm_tn0
      split
      · rw [mm_wr_0 h2]; rfl
      · split
        · rw [mm_wr_0 h2]; rfl
        · rfl
    have e2 : mm_n (mm_tn0 s lo hi) 2 ≤ 4 := by
      unfold mm_tn0
      split
      · rw [mm_wr_n h2]; split <;> omega
      · split
        · rw [mm_wr_n h2]; split <;> omega
        · omega
    have er : mm_tnv s = mm_n s 8 := if_pos h2
    by_cases z : mm_n (mm_tn0 s lo hi) 2 = 0
    · have e9 := mm_tn0_e h2 z
      have et : mm_tn s lo hi = mm_tk s := by unfold mm_tn; rw [if_pos h2, if_pos z]
      have hR := mm_eq hR e9
      refine aw_aload_n dX5_toldNumber_46 rfl ?_
      refine aw_get dX5_toldNumber_47 fX5_166 rfl hR.1 (by rfl) ?_
      refine aw_istore_n dX5_toldNumber_50 (by decide) rfl rfl ?_
      refine aw_aload_n dX5_toldNumber_51 rfl ?_
      refine aw_get dX5_toldNumber_52 fX5_182 rfl hR.1 (by rfl) ?_
      refine aw_if_neN (tgt := 62) dX5_toldNumber_55 (by decide) (by omega) (fun c_55 => by exfalso; omega) (fun c_55 => ?_)
      refine aw_aload_n dX5_toldNumber_58 rfl ?_
      refine mm_call dX5_toldNumber_59 sX5_230 rfl hW hR hs (mm_token p1 p2 p3) rfl rfl ⟨Nat.le_of_ble_eq_true rfl, Nat.le_of_ble_eq_true rfl⟩ (Nat.le_of_ble_eq_true rfl) (fun h hR hs => ?_)
      refine aw_iload_n dX5_toldNumber_62 rfl ?_
      refine aw_ireturn dX5_toldNumber_63 rfl ?_
      exact ⟨by rw [er], mm_eq hR et.symm, hs⟩
    · have et : mm_tn s lo hi = mm_tn0 s lo hi := by unfold mm_tn; rw [if_pos h2, if_neg z]
      refine aw_aload_n dX5_toldNumber_46 rfl ?_
      refine aw_get dX5_toldNumber_47 fX5_166 rfl hR.1 (by rfl) ?_
      refine aw_istore_n dX5_toldNumber_50 (by decide) rfl rfl ?_
      refine aw_aload_n dX5_toldNumber_51 rfl ?_
      refine aw_get dX5_toldNumber_52 fX5_182 rfl hR.1 (by rfl) ?_
      refine aw_if_neN (tgt := 62) dX5_toldNumber_55 (by decide) (by omega) (fun c_55 => ?_) (fun c_55 => by exfalso; omega)
      refine aw_iload_n dX5_toldNumber_62 rfl ?_
      refine aw_ireturn dX5_toldNumber_63 rfl ?_
      exact ⟨by rw [er, ev], mm_eq hR et.symm, hs⟩
  refine aw_aload_n dX5_toldNumber_0 rfl ?_
  refine aw_get dX5_toldNumber_1 fX5_182 rfl hR.1 (by rfl) ?_
  refine aw_if_leN (tgt := 9) dX5_toldNumber_4 (by decide) (by omega) (fun c_4 => ?_) (fun c_4 => ?_)
  · refine aw_aload_n dX5_toldNumber_9 rfl ?_
    refine aw_get dX5_toldNumber_10 fX5_169 rfl hR.1 (by rfl) ?_
    refine aw_iconst (v := nI 2) dX5_toldNumber_13 rfl ?_
    refine aw_icmp_eqN (tgt := 25) dX5_toldNumber_14 (by decide) (by omega) (by omega) (fun c_14 => ?_) (fun c_14 => ?_)
    · refine aw_aload_n dX5_toldNumber_25 rfl ?_
      refine aw_get dX5_toldNumber_26 fX5_166 rfl hR.1 (by rfl) ?_
      refine aw_iload_n dX5_toldNumber_29 rfl ?_
      refine aw_icmp_ltN (tgt := 41) dX5_toldNumber_30 (by decide) (by omega) (by omega) (fun c_30 => ?_) (fun c_30 => ?_)
      · refine aw_aload_n dX5_toldNumber_41 rfl ?_
        refine aw_iconst (v := nI 4) dX5_toldNumber_42 rfl ?_
        refine mm_call dX5_toldNumber_43 sX5_227 rfl hW hR hs (mm_wrong (by omega) (by omega)) rfl rfl ⟨Nat.le_of_ble_eq_true rfl, Nat.le_of_ble_eq_true rfl⟩ (Nat.le_of_ble_eq_true rfl) (fun h hR hs => ?_)
        refine aft _ (by omega) (mm_eq hR ?_) hs
        unfold mm_tn0
        first
          | (rw [if_pos (show mm_n s 6 ≠ 2 by omega)]; rfl)
          | (rw [if_neg (show ¬ mm_n s 6 ≠ 2 by omega), if_pos (show mm_n s 8 < lo ∨ hi < mm_n s 8 by omega)]; rfl)
          | (rw [if_neg (show ¬ mm_n s 6 ≠ 2 by omega), if_neg (show ¬ (mm_n s 8 < lo ∨ hi < mm_n s 8) by omega)]; done)
      · refine aw_aload_n dX5_toldNumber_33 rfl ?_
        refine aw_get dX5_toldNumber_34 fX5_166 rfl hR.1 (by rfl) ?_
        refine aw_iload_n dX5_toldNumber_37 rfl ?_
        refine aw_icmp_leN (tgt := 46) dX5_toldNumber_38 (by decide) (by omega) (by omega) (fun c_38 => ?_) (fun c_38 => ?_)
        · refine aft _ (by omega) (mm_eq hR ?_) hs
          unfold mm_tn0
          first
            | (rw [if_pos (show mm_n s 6 ≠ 2 by omega)]; rfl)
            | (rw [if_neg (show ¬ mm_n s 6 ≠ 2 by omega), if_pos (show mm_n s 8 < lo ∨ hi < mm_n s 8 by omega)]; rfl)
            | (rw [if_neg (show ¬ mm_n s 6 ≠ 2 by omega), if_neg (show ¬ (mm_n s 8 < lo ∨ hi < mm_n s 8) by omega)]; done)
        · refine aw_aload_n dX5_toldNumber_41 rfl ?_
          refine aw_iconst (v := nI 4) dX5_toldNumber_42 rfl ?_
          refine mm_call dX5_toldNumber_43 sX5_227 rfl hW hR hs (mm_wrong (by omega) (by omega)) rfl rfl ⟨Nat.le_of_ble_eq_true rfl, Nat.le_of_ble_eq_true rfl⟩ (Nat.le_of_ble_eq_true rfl) (fun h hR hs => ?_)
          refine aft _ (by omega) (mm_eq hR ?_) hs
          unfold mm_tn0
          first
            | (rw [if_pos (show mm_n s 6 ≠ 2 by omega)]; rfl)
            | (rw [if_neg (show ¬ mm_n s 6 ≠ 2 by omega), if_pos (show mm_n s 8 < lo ∨ hi < mm_n s 8 by omega)]; rfl)
            | (rw [if_neg (show ¬ mm_n s 6 ≠ 2 by omega), if_neg (show ¬ (mm_n s 8 < lo ∨ hi < mm_n s 8) by omega)]; done)
    · refine aw_aload_n dX5_toldNumber_17 rfl ?_
      refine aw_iconst (v := nI 2) dX5_toldNumber_18 rfl ?_
      refine mm_call dX5_toldNumber_19 sX5_227 rfl hW hR hs (mm_wrong (by first | omega | assumption | exact aw_t_lt) (by first | omega | assumption | exact aw_t_lt)) rfl rfl ⟨Nat.le_of_ble_eq_true rfl, Nat.le_of_ble_eq_true rfl⟩ (Nat.le_of_ble_eq_true rfl) (fun h hR hs => ?_)
      refine aw_goto (tgt := 46) dX5_toldNumber_22 (by decide) ?_
      refine aft _ (by omega) (mm_eq hR ?_) hs
      unfold mm_tn0
      first
        | (rw [if_pos (show mm_n s 6 ≠ 2 by omega)]; rfl)
        | (rw [if_neg (show ¬ mm_n s 6 ≠ 2 by omega), if_pos (show mm_n s 8 < lo ∨ hi < mm_n s 8 by omega)]; rfl)
        | (rw [if_neg (show ¬ mm_n s 6 ≠ 2 by omega), if_neg (show ¬ (mm_n s 8 < lo ∨ hi < mm_n s 8) by omega)]; done)
  · refine aw_iconst (v := nI 0) dX5_toldNumber_7 rfl ?_
    refine aw_ireturn dX5_toldNumber_8 rfl ?_
    exact ⟨by unfold mm_tnv; rw [if_neg (by omega)], mm_eq hR (by unfold mm_tn; rw [if_neg (by omega)]), hs⟩
theorem sp_ws_le {T : Nat → Nat} {z p : Nat} (h : p ≤ z) : sp_ws T z p ≤ z := sp_ln_le (P := sp_isW T z) (fun p hp => (of_decide_eq_true hp).1) _ _ h
theorem sp_wl_le {T : Nat → Nat} {z p : Nat} (h : p ≤ z) : p + sp_wl T z p ≤ z := sp_ln_le (P := sp_isL T z) (fun p hp => (of_decide_eq_true hp).1) _ _ h
theorem sp_dl_le {T : Nat → Nat} {z p : Nat} (h : p ≤ z) : p + sp_dl T z p ≤ z := sp_ln_le (P := sp_isD T z) (fun p hp => (of_decide_eq_true hp).1) _ _ h
theorem sp_nm_b {T : Nat → Nat} {z q : Nat} : sp_nm T q (min 4 (sp_dl T z q)) ≤ 9999 := by
  have e : ∀ j, j ≤ sp_dl T z q → sp_nm T q j + 1 ≤ 10 ^ j := by
    intro j
    induction j with
    | zero => intro _; exact Nat.le_refl _
    | succ j ih =>
      intro hj
      have := ih (by omega)
      have hd := of_decide_eq_true (sp_ln_in (P := sp_isD T z) _ _ j (show j < sp_ln (sp_isD T z) (z - q) q from hj))
      show 10 * sp_nm T q j + T (q + j) - 48 + 1 ≤ 10 ^ j * 10
      omega
  have h1 := e (min 4 (sp_dl T z q)) (Nat.min_le_right _ _)
  have h2 : 10 ^ min 4 (sp_dl T z q) ≤ 10 ^ 4 := Nat.pow_le_pow_right (by decide) (Nat.min_le_left _ _)
  omega
theorem sp_tks_lt {T : Nat → Nat} {z q : Nat} (h : q < z → T q < 256) : sp_tks T z q < 256 := by
  unfold sp_tks
  by_cases z1 : z ≤ q
  · rw [if_pos z1]; decide
  · rw [if_neg z1]
    split
    · split <;> decide
    · split
      · split <;> decide
      · split
        · exact h (by omega)
        · decide
theorem sp_tkn_le {T : Nat → Nat} {z q : Nat} (h : q ≤ z) : q + sp_tkn T z q ≤ z := by
  unfold sp_tkn
  by_cases z1 : z ≤ q
  · rw [if_pos z1]; exact h
  · rw [if_neg z1]
    split
    · exact sp_wl_le h
    · split
      · exact sp_dl_le h
      · omega
theorem mm_tk_ok {s : mm_S} (hP : mm_okP s) : mm_okP (mm_tk s) := by
  obtain ⟨p1, p2, p3, p4, p5, p6, p7⟩ := hP
  obtain ⟨q, eq⟩ : ∃ q, q = sp_ws (mm_a s 0) (mm_n s 5) (mm_n s 4) := ⟨_, rfl⟩
  have hq : q ≤ mm_n s 5 := by rw [eq]; exact sp_ws_le p2
  unfold mm_tk
  rw [← eq]
  refine ⟨p1, ?_, p3, sp_tks_lt (fun h => p3 q (by omega)), ?_, p6, by show q ≤ 1600; omega⟩
  · show (if _ then q else q + _) ≤ mm_n s 5
    split
    · exact hq
    · exact sp_tkn_le hq
  · show (if _ then sp_nm _ _ _ else 0) ≤ 100000
    split
    · have := @sp_nm_b (mm_a s 0) (mm_n s 5) q
      omega
    · omega
theorem mm_wr_ok {s : mm_S} {v : Nat} (hP : mm_okP s) (hv : v ≤ 4) : mm_okP (mm_wr s v) := by
  obtain ⟨p1, p2, p3, p4, p5, p6, p7⟩ := hP
  unfold mm_wr
  split
  · refine ⟨p1, p2, p3, p4, p5, ?_, p7⟩
    show (if mm_n s 6 = 3 then 1 else v) ≤ 4
    split <;> omega
  · exact ⟨p1, p2, p3, p4, p5, p6, p7⟩
theorem mm_wn_ok {s : mm_S} {v : Int64} (hP : mm_okP s) : mm_okP (mm_wn s v) := by
  unfold mm_wn
  split
  · split
    · exact mm_tk_ok hP
    · exact mm_wr_ok hP (by decide)
  · exact hP
theorem mm_tn_ok {s : mm_S} {lo hi : Nat} (hP : mm_okP s) : mm_okP (mm_tn s lo hi) := by
  unfold mm_tn
  split
  · split
    · exact mm_tk_ok hP
    · unfold mm_tn0
      split
      · exact mm_wr_ok hP (by decide)
      · split
        · exact mm_wr_ok hP (by decide)
        · exact hP
  · exact hP
set_option maxHeartbeats 4000000 in
theorem mm_told {s : mm_S} {v : Int64} {lo hi : Nat} (hP : mm_okP s) (hl : lo < 2147483648) (hh : hi < 2147483648) : mm_Met yX5_told cX5_told 5 (some .int) 3 [.long (v), .int (nI (lo)), .int (nI (hi))] s (some (.int (nI (mm_tnv (mm_wn s v))))) (mm_tn (mm_wn s v) lo hi) := by
  refine mm_Met.of (by decide +kernel) (fun _ => Nat.le_of_ble_eq_true rfl) (fun G w h0 hW hR => ?_)
  have hs : mm_same w h0 h0 := mm_same.rf
  show AW G (aw_rm 3 0 0) yX5_told cX5_told 5 (some .int) (aw_N G (mm_Po G w h0 (some (.int (nI (mm_tnv (mm_wn s v))))) (mm_tn (mm_wn s v) lo hi)) 0 0) 0 0 h0 0 [(0, .ref w.1), (1, .long (v)), (3, .int (nI (lo))), (4, .int (nI (hi)))] []
  refine aw_aload_n dX5_told_0 rfl ?_
  refine aw_lload_n dX5_told_1 rfl ?_
  refine mm_call dX5_told_2 sX5_233 rfl hW hR hs (mm_want hP) rfl rfl ⟨Nat.le_of_ble_eq_true rfl, Nat.le_of_ble_eq_true rfl⟩ (Nat.le_of_ble_eq_true rfl) (fun h hR hs => ?_)
  refine aw_aload_n dX5_told_5 rfl ?_
  refine aw_iload_n dX5_told_6 rfl ?_
  refine aw_iload dX5_told_7 rfl ?_
  refine mm_call dX5_told_9 sX5_237 rfl hW hR hs (mm_toldNumber (s := mm_wn s v) (mm_wn_ok hP) hl hh) rfl rfl ⟨Nat.le_of_ble_eq_true rfl, Nat.le_of_ble_eq_true rfl⟩ (Nat.le_of_ble_eq_true rfl) (fun h hR hs => ?_)
  try simp only [mm_n_N, mm_n_A, mm_n_V, mm_n_Fp, mm_n_W, mm_n_Nm, mm_a_N, mm_a_A, mm_a_V, mm_a_Fp, mm_a_W, mm_a_Nm, mm_v_N, mm_v_A, mm_v_V, mm_fp_N, mm_fp_A, mm_fp_Fp, mm_w_N, mm_w_W, Nat.reduceEqDiff, reduceIte, if_true, if_false, mm_H_45, mm_H_46, mm_H_47, mm_H_50, mm_H_53, mm_H_54, mm_H_55, mm_H_56, mm_H_57, mm_H_58, mm_H_66, mm_H_67, mm_H_68]
  refine aw_ireturn dX5_told_12 rfl ?_
  exact ⟨rfl, hR, hs⟩
def mm_op (s : mm_S) (v : Int64) (hi : Nat) : mm_S := if mm_n s 2 = 0 ∧ mm_n s 6 = 1 ∧ mm_w s = v then mm_tn (mm_wn s v) 0 hi else s
def mm_opv (s : mm_S) (v : Int64) : Nat := if mm_n s 2 = 0 ∧ mm_n s 6 = 1 ∧ mm_w s = v then mm_tnv (mm_wn s v) else 0
set_option maxHeartbeats 4000000 in
theorem mm_option {s : mm_S} {v : Int64} {hi : Nat} (hP : mm_okP s) (hh : hi < 2147483648) : mm_Met yX5_option cX5_option 4 (some .int) 4 [.long (v), .int (nI (hi))] s (some (.int (nI (mm_opv s v)))) (mm_op s v hi) := by
  refine mm_Met.of (by decide +kernel) (fun _ => Nat.le_of_ble_eq_true rfl) (fun G w h0 hW hR => ?_)
  have hs : mm_same w h0 h0 := mm_same.rf
  show AW G (aw_rm 4 0 0) yX5_option cX5_option 4 (some .int) (aw_N G (mm_Po G w h0 (some (.int (nI (mm_opv s v)))) (mm_op s v hi)) 0 0) 0 0 h0 0 [(0, .ref w.1), (1, .long (v)), (3, .int (nI (hi)))] []
  obtain ⟨p1, p2, p3, p4, p5, p6, p7⟩ := hP
  refine aw_aload_n dX5_option_0 rfl ?_
  refine aw_get dX5_option_1 fX5_182 rfl hR.1 (by rfl) ?_
  refine aw_if_neN (tgt := 25) dX5_option_4 (by decide) (by omega) (fun c_4 => ?_) (fun c_4 => ?_)
  · refine aw_iconst (v := nI 0) dX5_option_25 rfl ?_
    refine aw_ireturn dX5_option_26 rfl ?_
    by_cases z : mm_n s 2 = 0 ∧ mm_n s 6 = 1 ∧ mm_w s = v
    · have e1 : mm_opv s v = mm_tnv (mm_wn s v) := if_pos z
      have e2 : mm_op s v hi = mm_tn (mm_wn s v) 0 hi := if_pos z
      first
        | exact ⟨by rw [e1], mm_eq hR e2.symm, hs⟩
        | exact absurd z.1 c_4
        | exact absurd z.2 c_12
    · have e1 : mm_opv s v = 0 := if_neg z
      have e2 : mm_op s v hi = s := if_neg z
      first
        | exact ⟨by rw [e1], mm_eq hR e2.symm, hs⟩
        | exact absurd ⟨c_4, c_12⟩ z
  · refine aw_aload_n dX5_option_7 rfl ?_
    refine aw_lload_n dX5_option_8 rfl ?_
    refine mm_call dX5_option_9 sX5_223 rfl hW hR hs (mm_isWord (by omega)) rfl rfl ⟨Nat.le_of_ble_eq_true rfl, Nat.le_of_ble_eq_true rfl⟩ (Nat.le_of_ble_eq_true rfl) (fun h hR hs => ?_)
    refine aw_if_eqB (tgt := 25) dX5_option_12 (by decide) (fun c_12 => ?_) (fun c_12 => ?_)
    · refine aw_iconst (v := nI 0) dX5_option_25 rfl ?_
      refine aw_ireturn dX5_option_26 rfl ?_
      by_cases z : mm_n s 2 = 0 ∧ mm_n s 6 = 1 ∧ mm_w s = v
      · have e1 : mm_opv s v = mm_tnv (mm_wn s v) := if_pos z
        have e2 : mm_op s v hi = mm_tn (mm_wn s v) 0 hi := if_pos z
        first
          | exact ⟨by rw [e1], mm_eq hR e2.symm, hs⟩
          | exact absurd z.1 c_4
          | exact absurd z.2 c_12
      · have e1 : mm_opv s v = 0 := if_neg z
        have e2 : mm_op s v hi = s := if_neg z
        first
          | exact ⟨by rw [e1], mm_eq hR e2.symm, hs⟩
          | exact absurd ⟨c_4, c_12⟩ z
    · refine aw_aload_n dX5_option_15 rfl ?_
      refine aw_lload_n dX5_option_16 rfl ?_
      refine aw_iconst (v := nI 0) dX5_option_17 rfl ?_
      refine aw_iload_n dX5_option_18 rfl ?_
      refine mm_call dX5_option_19 sX5_241 rfl hW hR hs (mm_told ⟨p1, p2, p3, p4, p5, p6, p7⟩ (by decide) hh) rfl rfl ⟨Nat.le_of_ble_eq_true rfl, Nat.le_of_ble_eq_true rfl⟩ (Nat.le_of_ble_eq_true rfl) (fun h hR hs => ?_)
      refine aw_goto (tgt := 26) dX5_option_22 (by decide) ?_
      refine aw_ireturn dX5_option_26 rfl ?_
      by_cases z : mm_n s 2 = 0 ∧ mm_n s 6 = 1 ∧ mm_w s = v
      · have e1 : mm_opv s v = mm_tnv (mm_wn s v) := if_pos z
        have e2 : mm_op s v hi = mm_tn (mm_wn s v) 0 hi := if_pos z
        first
          | exact ⟨by rw [e1], mm_eq hR e2.symm, hs⟩
          | exact absurd z.1 c_4
          | exact absurd z.2 c_12
      · have e1 : mm_opv s v = 0 := if_neg z
        have e2 : mm_op s v hi = s := if_neg z
        first
          | exact ⟨by rw [e1], mm_eq hR e2.symm, hs⟩
          | exact absurd ⟨c_4, c_12⟩ z

