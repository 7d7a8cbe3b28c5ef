set_option maxRecDepth 100000
/-! the component: a State taken over from another one -/
/-- a State's cells: the object a, its arrays -/
def xx_Sh (G : aw_G) (h : aw_H) (a a1 a2 a3 : Nat) (A : Nat → Nat) : Prop := h a = some (aw_o 2 [.ref a1, .ref a2, .ref a3, .int (nI (A 24)), .int (nI (A 25)), .int (nI (A 26)), .int (nI (A 27))]) ∧ h a1 = some (xx_a8 G (fun j => A (8 * 0 + j))) ∧ h a2 = some (xx_a8 G (fun j => A (8 * 1 + j))) ∧ h a3 = some (xx_a8 G (fun j => A (8 * 2 + j)))
theorem xx_a8cp {G : aw_G} {f g : Nat → Nat} : aw_I G 8 (va_cpy (fun j => if j < 8 then nI (f j) else 0) (fun j => if j < 8 then nI (g j) else 0) 0 0 8) = xx_a8 G f := by
  unfold xx_a8
  congr 1
  funext j
  unfold va_cpy
  by_cases z : j < 8
  · rw [if_pos (by omega)]
    simp [z]
  · rw [if_neg (by omega)]
    simp [z]
/-- all of one State's cells are new -/
def xx_ofH (G : aw_G) (h : aw_H) (d d1 d2 d3 : Nat) (A : Nat → Nat) : aw_H := aw_up (aw_up (aw_up (aw_up h d1 (xx_a8 G (fun j => A (8 * 0 + j)))) d2 (xx_a8 G (fun j => A (8 * 1 + j)))) d3 (xx_a8 G (fun j => A (8 * 2 + j)))) d (aw_o 2 [.ref d1, .ref d2, .ref d3, .int (nI (A 24)), .int (nI (A 25)), .int (nI (A 26)), .int (nI (A 27))])
set_option maxHeartbeats 4000000 in
theorem xg_of {G : aw_G} {h : aw_H} {d d1 d2 d3 e e1 e2 e3 : Nat} {A B : Nat → Nat} (hD : xx_Sh G h d d1 d2 d3 B) (hE : xx_Sh G h e e1 e2 e3 A) (bd : aw_b G ≤ d ∧ aw_b G ≤ d1 ∧ aw_b G ≤ d2 ∧ aw_b G ≤ d3) (be : aw_b G ≤ e1 ∧ aw_b G ≤ e2 ∧ aw_b G ≤ e3) (n1 : d1 ≠ d2 ∧ d1 ≠ d3 ∧ d2 ≠ d3) (n2 : e2 ≠ d1 ∧ e3 ≠ d1 ∧ e3 ≠ d2) (n3 : e ≠ d) : aw_Met G yX2_of cX2_of 2 none 2 0 0 [.ref (d), .ref (e)] h (fun v9 h9 => v9 = none ∧ h9 = xx_ofH G h d d1 d2 d3 A) := by
  refine aw_Met.of (by decide +kernel) (Nat.le_of_ble_eq_true rfl) ?_
  show AW G (aw_rm 2 0 0) yX2_of cX2_of 2 none (aw_N G (fun v9 h9 => v9 = none ∧ h9 = xx_ofH G h d d1 d2 d3 A) 0 0) 0 0 h 0 [(0, .ref (d)), (1, .ref (e))] []
  obtain ⟨g0, g1, g2, g3⟩ := hD
  obtain ⟨f0, f1, f2, f3⟩ := hE
  have a1 : d ≠ d1 := fun z => by rw [z, g1] at g0; cases g0
  have a2 : d ≠ d2 := fun z => by rw [z, g2] at g0; cases g0
  have a3 : d ≠ d3 := fun z => by rw [z, g3] at g0; cases g0
  have c1 : e ≠ d1 := fun z => by rw [z, g1] at f0; cases f0
  have c2 : e ≠ d2 := fun z => by rw [z, g2] at f0; cases f0
  have c3 : e ≠ d3 := fun z => by rw [z, g3] at f0; cases f0
  have k1 : ∀ x, aw_up h d1 x d = h d := fun x => aw_up_n a1
  refine aw_aload_n dX2_of_0 rfl ?_
  refine aw_get dX2_of_1 fX2_9 rfl f0 (by rfl) ?_
  refine aw_iconst (v := nI 0) dX2_of_4 rfl ?_
  refine aw_aload_n dX2_of_5 rfl ?_
  refine aw_get dX2_of_6 fX2_9 rfl g0 (by rfl) ?_
  refine aw_iconst (v := nI 0) dX2_of_9 rfl ?_
  refine aw_bipush (v := nI 8) dX2_of_10 rfl ?_
  refine aw_copyI (sp := 0) (dp := 0) (n := 8) dX2_of_12 q977 be.1 bd.2.1 f1 g1 (by decide) (by decide) (by decide) (by decide) (Nat.le_of_ble_eq_true rfl) (Nat.le_of_ble_eq_true rfl) (by exact Nat.le_of_ble_eq_true rfl) ?_
  rw [xx_a8cp]
  have f0 := (aw_up_n (e := xx_a8 G (fun j => A (8 * 0 + j))) c1).trans f0
  have g0 := (aw_up_n (e := xx_a8 G (fun j => A (8 * 0 + j))) a1).trans g0
  have f2 := (aw_up_n (e := xx_a8 G (fun j => A (8 * 0 + j))) n2.1).trans f2
  have g2 := (aw_up_n (e := xx_a8 G (fun j => A (8 * 0 + j))) (Ne.symm n1.1)).trans g2
  have f3 := (aw_up_n (e := xx_a8 G (fun j => A (8 * 0 + j))) n2.2.1).trans f3
  have g3 := (aw_up_n (e := xx_a8 G (fun j => A (8 * 0 + j))) (Ne.symm n1.2.1)).trans g3
  refine aw_aload_n dX2_of_15 rfl ?_
  refine aw_get dX2_of_16 fX2_15 rfl f0 (by rfl) ?_
  refine aw_iconst (v := nI 0) dX2_of_19 rfl ?_
  refine aw_aload_n dX2_of_20 rfl ?_
  refine aw_get dX2_of_21 fX2_15 rfl g0 (by rfl) ?_
  refine aw_iconst (v := nI 0) dX2_of_24 rfl ?_
  refine aw_bipush (v := nI 8) dX2_of_25 rfl ?_
  refine aw_copyI (sp := 0) (dp := 0) (n := 8) dX2_of_27 q977 be.2.1 bd.2.2.1 f2 g2 (by decide) (by decide) (by decide) (by decide) (Nat.le_of_ble_eq_true rfl) (Nat.le_of_ble_eq_true rfl) (by exact Nat.le_of_ble_eq_true rfl) ?_
  rw [xx_a8cp]
  have f0 := (aw_up_n (e := xx_a8 G (fun j => A (8 * 1 + j))) c2).trans f0
  have g0 := (aw_up_n (e := xx_a8 G (fun j => A (8 * 1 + j))) a2).trans g0
  have f3 := (aw_up_n (e := xx_a8 G (fun j => A (8 * 1 + j))) n2.2.2).trans f3
  have g3 := (aw_up_n (e := xx_a8 G (fun j => A (8 * 1 + j))) (Ne.symm n1.2.2)).trans g3
  refine aw_aload_n dX2_of_30 rfl ?_
  refine aw_get dX2_of_31 fX2_18 rfl f0 (by rfl) ?_
  refine aw_iconst (v := nI 0) dX2_of_34 rfl ?_
  refine aw_aload_n dX2_of_35 rfl ?_
  refine aw_get dX2_of_36 fX2_18 rfl g0 (by rfl) ?_
  refine aw_iconst (v := nI 0) dX2_of_39 rfl ?_
  refine aw_bipush (v := nI 8) dX2_of_40 rfl ?_
  refine aw_copyI (sp := 0) (dp := 0) (n := 8) dX2_of_42 q977 be.2.2 bd.2.2.2 f3 g3 (by decide) (by decide) (by decide) (by decide) (Nat.le_of_ble_eq_true rfl) (Nat.le_of_ble_eq_true rfl) (by exact Nat.le_of_ble_eq_true rfl) ?_
  rw [xx_a8cp]
  have f0 := (aw_up_n (e := xx_a8 G (fun j => A (8 * 2 + j))) c3).trans f0
  have g0 := (aw_up_n (e := xx_a8 G (fun j => A (8 * 2 + j))) a3).trans g0
  refine aw_aload_n dX2_of_45 rfl ?_
  refine aw_aload_n dX2_of_46 rfl ?_
  refine aw_get dX2_of_47 fX2_27 rfl f0 (by rfl) ?_
  refine aw_put dX2_of_50 (pX2_27 _) rfl rfl bd.1 g0 (by exact Nat.le_of_ble_eq_true rfl) rfl rfl ?_
  refine aw_aload_n dX2_of_53 rfl ?_
  refine aw_aload_n dX2_of_54 rfl ?_
  refine aw_get dX2_of_55 fX2_31 rfl ((aw_up_n n3).trans f0) (by rfl) ?_
  refine aw_put dX2_of_58 (pX2_31 _) rfl rfl bd.1 (aw_up_s _ _ _) (by exact Nat.le_of_ble_eq_true rfl) rfl rfl ?_
  refine aw_aload_n dX2_of_61 rfl ?_
  refine aw_aload_n dX2_of_62 rfl ?_
  refine aw_get dX2_of_63 fX2_34 rfl ((aw_up_n n3).trans ((aw_up_n n3).trans f0)) (by rfl) ?_
  refine aw_put dX2_of_66 (pX2_34 _) rfl rfl bd.1 (aw_up_s _ _ _) (by exact Nat.le_of_ble_eq_true rfl) rfl rfl ?_
  refine aw_aload_n dX2_of_69 rfl ?_
  refine aw_aload_n dX2_of_70 rfl ?_
  refine aw_get dX2_of_71 fX2_37 rfl ((aw_up_n n3).trans ((aw_up_n n3).trans ((aw_up_n n3).trans f0))) (by rfl) ?_
  refine aw_put dX2_of_74 (pX2_37 _) rfl rfl bd.1 (aw_up_s _ _ _) (by exact Nat.le_of_ble_eq_true rfl) rfl rfl ?_
  refine aw_vreturn dX2_of_77 rfl ?_
  refine ⟨rfl, ?_⟩
  rw [aw_up_up, aw_up_up, aw_up_up]
  rfl
theorem aw_Met.imp {G : aw_G} {y : MethodName} {cc : ByteArray} {nL : Nat} {ret : Option FieldType} {f mc ms : Nat} {args : List Value} {h : aw_H} {Po Po' : Option Value → aw_H → Prop} (M : aw_Met G y cc nL ret f mc ms args h Po) (hp : ∀ v h', Po v h' → Po' v h') : aw_Met G y cc nL ret f mc ms args h Po' := by
  unfold aw_Met at M ⊢
  unfold Met at M ⊢
  refine MetFree.mono M (fun _ _ z => z) (fun _ _ _ _ _ z => z) ?_
  intro a s o t _ z
  obtain ⟨⟨v, h', z1, z2, z3⟩, z4⟩ := z
  exact ⟨⟨v, h', z1, hp _ _ z2, z3⟩, z4⟩
/-! then is now -/
theorem xx_of10 {G : aw_G} {w : xx_Wd} {h : aw_H} {s : mm_S} (hW : xx_W G w) (hX : XC G w h s) : XC G w (xx_ofH G h (w.1 5) (w.1 6) (w.1 7) (w.1 8) (mm_a s 45)) (mm_setA s 46 (mm_a s 45)) ∧ xx_same w h (xx_ofH G h (w.1 5) (w.1 6) (w.1 7) (w.1 8) (mm_a s 45)) := by
  have ne : ∀ a b, a < 16 → b < 16 → a ≠ b → w.1 a ≠ w.1 b := fun a b h1 h2 h3 z => h3 (hW.2 a b h1 h2 z)
  refine ⟨⟨fun d hd => ?_, ?_⟩, ?_⟩
  · unfold xx_ofH
    by_cases e5 : d = 5
    · subst e5
      rw [aw_up_s]
      rfl
    · rw [aw_up_n (ne d 5 (by omega) (by omega) e5)]
      by_cases e8 : d = 8
      · subst e8
        rw [aw_up_s]
        rfl
      · rw [aw_up_n (ne d 8 (by omega) (by omega) e8)]
        by_cases e7 : d = 7
        · subst e7
          rw [aw_up_s]
          rfl
        · rw [aw_up_n (ne d 7 (by omega) (by omega) e7)]
          by_cases e6 : d = 6
          · subst e6
            rw [aw_up_s]
            rfl
          · rw [aw_up_n (ne d 6 (by omega) (by omega) e6), hX.1 d hd]
            have k : ∀ d, d < 16 → d ≠ 5 → d ≠ 6 → d ≠ 7 → d ≠ 8 → xx_cell G w s d = xx_cell G w (mm_setA s 46 (mm_a s 45)) d := by
              apply xx_16
              all_goals
                intro h1 h2 h3 h4
                first
                  | rfl
                  | omega
            rw [k d (by omega) e5 e6 e7 e8]
  · obtain ⟨f, hf⟩ := hX.2
    refine ⟨f, ?_⟩
    unfold xx_ofH
    rw [aw_up_n (ne 15 5 (by omega) (by omega) (by omega)), aw_up_n (ne 15 8 (by omega) (by omega) (by omega)), aw_up_n (ne 15 7 (by omega) (by omega) (by omega)), aw_up_n (ne 15 6 (by omega) (by omega) (by omega))]
    exact hf
  · unfold xx_ofH
    exact (((xx_same.rf.up (by decide)).up (by decide)).up (by decide)).up (by decide)
theorem xs_of10 {s : mm_S} {H : sp_H} {u : Nat} : xx_Met yX2_of cX2_of 2 none 2 0 0 (fun w => [.ref (w.1 (1 + 4 * 1)), .ref (w.1 (1 + 4 * 0))]) s H u none (mm_setA s 46 (mm_a s 45)) := by
  intro G w h hW hX hH
  have ne : ∀ a b, a < 16 → b < 16 → a ≠ b → w.1 a ≠ w.1 b := fun a b h1 h2 h3 z => h3 (hW.2 a b h1 h2 z)
  have M := xg_of (G := G) (h := h) (d := w.1 5) (d1 := w.1 6) (d2 := w.1 7) (d3 := w.1 8) (e := w.1 1) (e1 := w.1 2) (e2 := w.1 3) (e3 := w.1 4) (A := mm_a s 45) (B := mm_a s 46) ⟨hX.1 5 (by decide), hX.1 6 (by decide), hX.1 7 (by decide), hX.1 8 (by decide)⟩ ⟨hX.1 1 (by decide), hX.1 2 (by decide), hX.1 3 (by decide), hX.1 4 (by decide)⟩ ⟨hW.1 5 (by decide), hW.1 6 (by decide), hW.1 7 (by decide), hW.1 8 (by decide)⟩ ⟨hW.1 2 (by decide), hW.1 3 (by decide), hW.1 4 (by decide)⟩ ⟨ne 6 7 (by decide) (by decide) (by decide), ne 6 8 (by decide) (by decide) (by decide), ne 7 8 (by decide) (by decide) (by decide)⟩ ⟨ne 3 6 (by decide) (by decide) (by decide), ne 4 6 (by decide) (by decide) (by decide), ne 4 7 (by decide) (by decide) (by decide)⟩ (ne 1 5 (by decide) (by decide) (by decide))
  have K := xx_of10 hW hX
  exact aw_Met.imp M (fun v9 h9 z => by
    obtain ⟨z1, z2⟩ := z
    rw [z2]
    exact ⟨z1, K⟩)

