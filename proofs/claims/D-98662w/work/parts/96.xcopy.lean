set_option maxRecDepth 100000
/-! the component: a State copied; an act kept -/
set_option maxHeartbeats 4000000 in
theorem xg_Sinit {G : aw_G} {h : aw_H} {a : Nat} {x y z : Value} {fs : List Value} (hab : aw_b G ≤ a) (ha : h a = some (aw_o 2 (x :: y :: z :: fs))) (hfl : 4 ≤ fs.length) : aw_Met G yX2_init cX2_init 1 none 2 3 24 [.ref (a)] h (fun v9 h9 => v9 = none ∧ ∃ q1 q2 q3, (h q1 = none ∧ h q2 = none ∧ h q3 = none) ∧ (q1 ≠ q2 ∧ q1 ≠ q3 ∧ q2 ≠ q3) ∧ (aw_b G ≤ q1 ∧ aw_b G ≤ q2 ∧ aw_b G ≤ q3) ∧ h9 a = some (aw_o 2 (.ref q1 :: .ref q2 :: .ref q3 :: fs)) ∧ h9 q1 = some (aw_I G 8 (fun _ => 0)) ∧ h9 q2 = some (aw_I G 8 (fun _ => 0)) ∧ h9 q3 = some (aw_I G 8 (fun _ => 0)) ∧ ∀ q, h q ≠ none → q ≠ a → h9 q = h q) := by
  refine aw_Met.of (by decide +kernel) (Nat.le_of_ble_eq_true rfl) ?_
  show AW G (aw_rm 2 3 24) yX2_init cX2_init 1 none (aw_N G (fun v9 h9 => v9 = none ∧ ∃ q1 q2 q3, (h q1 = none ∧ h q2 = none ∧ h q3 = none) ∧ (q1 ≠ q2 ∧ q1 ≠ q3 ∧ q2 ≠ q3) ∧ (aw_b G ≤ q1 ∧ aw_b G ≤ q2 ∧ aw_b G ≤ q3) ∧ h9 a = some (aw_o 2 (.ref q1 :: .ref q2 :: .ref q3 :: fs)) ∧ h9 q1 = some (aw_I G 8 (fun _ => 0)) ∧ h9 q2 = some (aw_I G 8 (fun _ => 0)) ∧ h9 q3 = some (aw_I G 8 (fun _ => 0)) ∧ ∀ q, h q ≠ none → q ≠ a → h9 q = h q) 3 24) 3 24 h 0 [(0, .ref (a))] []
  refine aw_aload_n dX2_init_0 rfl ?_
  refine aw_objInit dX2_init_1 q241 q156 q157 (Nat.le_of_ble_eq_true rfl) (Nat.le_of_ble_eq_true rfl) (by exact Nat.le_of_ble_eq_true rfl) ?_
  refine aw_aload_n dX2_init_4 rfl ?_
  refine aw_bipush (v := nI 8) dX2_init_5 rfl ?_
  refine AW_le (kc' := 0 + 1 + 1 + 1) (ks' := 0 + 8 + 8 + 8) (by omega) (by omega) ?_
  refine aw_newI (y := yX2_init) (N := 8) dX2_init_7 q235 (nI_pos (by omega)) (nI_clamp (by omega)) (by first | decide | omega) (fun q1 hq1 bq1 => ?_)
  refine aw_put dX2_init_9 pX2_9 rfl rfl hab ((aw_up_n (aw_ne hq1 ha)).trans ha) (by exact Nat.le_of_ble_eq_true rfl) rfl rfl ?_
  refine aw_aload_n dX2_init_12 rfl ?_
  refine aw_bipush (v := nI 8) dX2_init_13 rfl ?_
  refine aw_newI (y := yX2_init) (N := 8) dX2_init_15 q235 (nI_pos (by omega)) (nI_clamp (by omega)) (by first | decide | omega) (fun q2 hq2 bq2 => ?_)
  refine aw_put dX2_init_17 pX2_15 rfl rfl hab ((aw_up_n (aw_ne hq2 (aw_up_s _ _ _))).trans (aw_up_s _ _ _)) (by exact Nat.le_of_ble_eq_true rfl) rfl rfl ?_
  refine aw_aload_n dX2_init_20 rfl ?_
  refine aw_bipush (v := nI 8) dX2_init_21 rfl ?_
  refine aw_newI (y := yX2_init) (N := 8) dX2_init_23 q235 (nI_pos (by omega)) (nI_clamp (by omega)) (by first | decide | omega) (fun q3 hq3 bq3 => ?_)
  refine aw_put dX2_init_25 pX2_18 rfl rfl hab ((aw_up_n (aw_ne hq3 (aw_up_s _ _ _))).trans (aw_up_s _ _ _)) (by exact Nat.le_of_ble_eq_true rfl) rfl rfl ?_
  refine aw_vreturn dX2_init_28 rfl ?_
  have na1 := aw_ne hq1 ha
  have n2a : q2 ≠ a := Ne.symm (aw_ne hq2 (aw_up_s _ _ _))
  have n3a : q3 ≠ a := Ne.symm (aw_ne hq3 (aw_up_s _ _ _))
  rw [aw_up_n n2a] at hq2
  have n21 : q2 ≠ q1 := fun z => by rw [z, aw_up_s] at hq2; cases hq2
  rw [aw_up_n n21] at hq2
  rw [aw_up_n n3a] at hq3
  have n32 : q3 ≠ q2 := fun z => by rw [z, aw_up_s] at hq3; cases hq3
  rw [aw_up_n n32, aw_up_n n3a] at hq3
  have n31 : q3 ≠ q1 := fun z => by rw [z, aw_up_s] at hq3; cases hq3
  rw [aw_up_n n31] at hq3
  refine ⟨rfl, q1, q2, q3, ⟨hq1, hq2, hq3⟩, ⟨Ne.symm n21, Ne.symm n31, Ne.symm n32⟩, ⟨bq1, bq2, bq3⟩, aw_up_s _ _ _, ?_, ?_, ?_, fun q g1 g2 => ?_⟩
  · rw [aw_up_n (Ne.symm na1), aw_up_n (Ne.symm n31), aw_up_n (Ne.symm na1), aw_up_n (Ne.symm n21), aw_up_n (Ne.symm na1), aw_up_s]
  · rw [aw_up_n n2a, aw_up_n (Ne.symm n32), aw_up_n n2a, aw_up_s]
  · rw [aw_up_n n3a, aw_up_s]
  · rw [aw_up_n g2, aw_up_n (fun z => g1 (by rw [z]; exact hq3)), aw_up_n g2, aw_up_n (fun z => g1 (by rw [z]; exact hq2)), aw_up_n g2, aw_up_n (fun z => g1 (by rw [z]; exact hq1))]
theorem xx_a8_0 {G : aw_G} : xx_a8 G (fun _ => 0) = aw_I G 8 (fun _ => 0) := by
  unfold xx_a8
  congr 1
  funext j
  split <;> rfl
set_option maxHeartbeats 4000000 in
theorem xg_copy {G : aw_G} {h : aw_H} {e e1 e2 e3 : Nat} {A : Nat → Nat} (hE : xx_Sh G h e e1 e2 e3 A) (be : aw_b G ≤ e1 ∧ aw_b G ≤ e2 ∧ aw_b G ≤ e3) : aw_Met G yX0_copy cX0_copy 2 (some (.object "SoManyStairs$State")) 3 4 31 [.ref (e)] h (fun v9 h9 => ∃ a a1 a2 a3, v9 = some (.ref a) ∧ (h a = none ∧ h a1 = none ∧ h a2 = none ∧ h a3 = none) ∧ (aw_b G ≤ a ∧ aw_b G ≤ a1 ∧ aw_b G ≤ a2 ∧ aw_b G ≤ a3) ∧ xx_Sh G h9 a a1 a2 a3 A ∧ ∀ q, h q ≠ none → h9 q = h q) := by
  refine aw_Met.of (by decide +kernel) (Nat.le_of_ble_eq_true rfl) ?_
  show AW G (aw_rm 3 4 31) yX0_copy cX0_copy 2 (some (.object "SoManyStairs$State")) (aw_N G (fun v9 h9 => ∃ a a1 a2 a3, v9 = some (.ref a) ∧ (h a = none ∧ h a1 = none ∧ h a2 = none ∧ h a3 = none) ∧ (aw_b G ≤ a ∧ aw_b G ≤ a1 ∧ aw_b G ≤ a2 ∧ aw_b G ≤ a3) ∧ xx_Sh G h9 a a1 a2 a3 A ∧ ∀ q, h q ≠ none → h9 q = h q) 4 31) 4 31 h 0 [(0, .ref (e))] []
  obtain ⟨f0, f1, f2, f3⟩ := hE
  refine AW_le (kc' := 0 + 3 + 1) (ks' := 0 + 24 + 7) (by omega) (by omega) ?_
  refine aw_new dX0_copy_0 nX0_25 rfl (fun a ha ba => ?_)
  refine aw_dup dX0_copy_3 rfl ?_
  refine aw_callIN (kc := 0) (ks := 0) (mc2 := 3) (ms2 := 24) dX0_copy_4 sX0_27 rfl (xg_Sinit ba (aw_up_s _ _ _) (by exact Nat.le_of_ble_eq_true rfl)) rfl rfl ⟨Nat.le_of_ble_eq_true rfl, Nat.le_of_ble_eq_true rfl⟩ (by exact Nat.le_of_ble_eq_true rfl) (fun v9 h9 q9 => ?_)
  obtain ⟨rfl, a1, a2, a3, ⟨n1, n2, n3⟩, ⟨u1, u2, u3⟩, ⟨b1, b2, b3⟩, g0, g1, g2, g3, g4⟩ := q9
  have t1 := aw_ne n1 (aw_up_s h a _)
  have t2 := aw_ne n2 (aw_up_s h a _)
  have t3 := aw_ne n3 (aw_up_s h a _)
  rw [aw_up_n (Ne.symm t1)] at n1
  rw [aw_up_n (Ne.symm t2)] at n2
  rw [aw_up_n (Ne.symm t3)] at n3
  have old : ∀ q v, h q = some v → h9 q = some v := fun q v z => by
    rw [g4 q (by rw [aw_up_n (aw_ne ha z), z]; exact fun z => by cases z) (aw_ne ha z), aw_up_n (aw_ne ha z), z]
  refine aw_astore_n dX0_copy_7 (by decide) rfl rfl ?_
  refine aw_aload_n dX0_copy_8 rfl ?_
  refine aw_aload_n dX0_copy_9 rfl ?_
  refine aw_callV (kc := 0) (ks := 0) (mc2 := 0) (ms2 := 0) dX0_copy_10 sX0_138 rfl (xg_of (d := a) (d1 := a1) (d2 := a2) (d3 := a3) (e := e) (e1 := e1) (e2 := e2) (e3 := e3) (A := A) (B := fun _ => 0) ⟨g0, g1.trans (congrArg some xx_a8_0.symm), g2.trans (congrArg some xx_a8_0.symm), g3.trans (congrArg some xx_a8_0.symm)⟩ ⟨old _ _ f0, old _ _ f1, old _ _ f2, old _ _ f3⟩ ⟨ba, b1, b2, b3⟩ be ⟨u1, u2, u3⟩ ⟨aw_ne n1 f2, aw_ne n1 f3, aw_ne n2 f3⟩ (aw_ne ha f0)) g0 rfl rfl ⟨Nat.le_of_ble_eq_true rfl, Nat.le_of_ble_eq_true rfl⟩ (by exact Nat.le_of_ble_eq_true rfl) (fun v9 h2 q9 => ?_)
  obtain ⟨rfl, q9⟩ := q9
  refine aw_aload_n dX0_copy_13 rfl ?_
  refine aw_areturn dX0_copy_14 rfl (Or.inl ⟨_, rfl⟩) (Or.inr ⟨_, rfl⟩) ?_
  have ne : ∀ z v, h z = some v → xx_ofH G h9 a a1 a2 a3 A z = some v := fun z v hz => by
    unfold xx_ofH
    rw [aw_up_n (aw_ne ha hz), aw_up_n (aw_ne n3 hz), aw_up_n (aw_ne n2 hz), aw_up_n (aw_ne n1 hz)]
    exact old z v hz
  refine ⟨a, a1, a2, a3, rfl, ⟨ha, n1, n2, n3⟩, ⟨ba, b1, b2, b3⟩, ?_, fun q z => ?_⟩
  · rw [q9]
    refine ⟨aw_up_s _ _ _, ?_, ?_, ?_⟩
    · unfold xx_ofH
      rw [aw_up_n (Ne.symm t1), aw_up_n u2, aw_up_n u1, aw_up_s]
    · unfold xx_ofH
      rw [aw_up_n (Ne.symm t2), aw_up_n u3, aw_up_s]
    · unfold xx_ofH
      rw [aw_up_n (Ne.symm t3), aw_up_s]
  · rw [q9]
    cases hz : h q with
    | none => exact absurd hz z
    | some v => exact ne q v hz
set_option maxHeartbeats 4000000 in
theorem xg_Kinit {G : aw_G} {h : aw_H} {a c : Nat} {v : Value} (hab : aw_b G ≤ a) (ha : h a = some (aw_o 4 [v])) : aw_Met G yX4_init cX4_init 2 none 2 0 0 [.ref (a), .ref (c)] h (fun v9 h9 => v9 = none ∧ h9 = aw_up h a (aw_o 4 [.ref c])) := by
  refine aw_Met.of (by decide +kernel) (Nat.le_of_ble_eq_true rfl) ?_
  show AW G (aw_rm 2 0 0) yX4_init cX4_init 2 none (aw_N G (fun v9 h9 => v9 = none ∧ h9 = aw_up h a (aw_o 4 [.ref c])) 0 0) 0 0 h 0 [(0, .ref (a)), (1, .ref (c))] []
  refine aw_aload_n dX4_init_0 rfl ?_
  refine aw_objInit dX4_init_1 q346 q156 q157 (Nat.le_of_ble_eq_true rfl) (Nat.le_of_ble_eq_true rfl) (by exact Nat.le_of_ble_eq_true rfl) ?_
  refine aw_aload_n dX4_init_4 rfl ?_
  refine aw_aload_n dX4_init_5 rfl ?_
  refine aw_put dX4_init_6 (pX4_7 _) rfl rfl hab ha (by exact Nat.le_of_ble_eq_true rfl) rfl rfl ?_
  refine aw_vreturn dX4_init_9 rfl ?_
  exact ⟨rfl, rfl⟩
set_option maxHeartbeats 4000000 in
theorem xg_KinitN {G : aw_G} {h : aw_H} {a : Nat} (hab : aw_b G ≤ a) (ha : h a = some (aw_o 4 [.null])) : aw_Met G yX4_init cX4_init 2 none 2 0 0 [.ref (a), .null] h (fun v9 h9 => v9 = none ∧ h9 = aw_up h a (aw_o 4 [.null])) := by
  refine aw_Met.of (by decide +kernel) (Nat.le_of_ble_eq_true rfl) ?_
  show AW G (aw_rm 2 0 0) yX4_init cX4_init 2 none (aw_N G (fun v9 h9 => v9 = none ∧ h9 = aw_up h a (aw_o 4 [.null])) 0 0) 0 0 h 0 [(0, .ref (a)), (1, .null)] []
  refine aw_aload_n dX4_init_0 rfl ?_
  refine aw_objInit dX4_init_1 q346 q156 q157 (Nat.le_of_ble_eq_true rfl) (Nat.le_of_ble_eq_true rfl) (by exact Nat.le_of_ble_eq_true rfl) ?_
  refine aw_aload_n dX4_init_4 rfl ?_
  refine aw_aload_nN dX4_init_5 rfl ?_
  refine aw_put dX4_init_6 (pX4_7 _) rfl rfl hab ha (by exact Nat.le_of_ble_eq_true rfl) rfl rfl ?_
  refine aw_vreturn dX4_init_9 rfl ?_
  exact ⟨rfl, rfl⟩

