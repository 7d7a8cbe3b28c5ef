set_option maxRecDepth 100000
/-! the model: the state in the air -/
theorem aw_tt {P Q : Prop} {dp : Decidable P} {dq : Decidable Q} (h : P ↔ Q) : some (Value.int (nI (@aw_t P dp))) = some (Value.int (nI (@aw_t Q dq))) := congrArg (fun x => some (Value.int (nI x))) (aw_t_c h)
set_option maxHeartbeats 4000000 in
theorem mm_isTenant {s : mm_S} {t : Int32} (hn : mm_n s 42 ≤ 8) : mm_Met yX5_isTenant cX5_isTenant 2 (some .boolean) 1 [.int (t)] s (some (.int (nI (aw_t (0 ≤ t.toInt ∧ t.toInt < (mm_n s 42 : Int)))))) (s) := by
  refine mm_Met.of (by decide +kernel) (fun _ => Nat.le_of_ble_eq_true rfl) (fun G w h0 hW hR => ?_)
  have hs : mm_same w h0 h0 := mm_same.rf
  show AW G (aw_rm 1 0 0) yX5_isTenant cX5_isTenant 2 (some .boolean) (aw_N G (mm_Po G w h0 (some (.int (nI (aw_t (0 ≤ t.toInt ∧ t.toInt < (mm_n s 42 : Int)))))) (s)) 0 0) 0 0 h0 0 [(0, .ref w.1), (1, .int (t))] []
  refine aw_iload_n dX5_isTenant_0 rfl ?_
  refine aw_iconst (v := nI 0) dX5_isTenant_1 rfl ?_
  refine aw_aload_n dX5_isTenant_2 rfl ?_
  refine aw_get dX5_isTenant_3 fX5_350 rfl hR.1 (by rfl) ?_
  refine aw_iconst (v := nI 1) dX5_isTenant_6 rfl ?_
  refine aw_isub dX5_isTenant_7 ?_
  refine aw_callP (r := _) dX5_isTenant_8 sX5_368 rfl (mp_isIn) rfl rfl ⟨Nat.le_of_ble_eq_true rfl, Nat.le_of_ble_eq_true rfl⟩ (Nat.le_of_ble_eq_true rfl) ?_
  refine aw_zreturn dX5_isTenant_11 rfl (aw_nb aw_t_lt) ?_
  refine ⟨aw_tt ?_, hR, hs⟩
  rw [pk_sub_toInt (by omega) (by omega), show (nI 0).toInt = 0 from rfl]
  omega
theorem aw_u_cp {f g : Nat → Nat} {k : Nat} : aw_u (fun j => if j < k then f j else g j) k (f k) = fun j => if j < k + 1 then f j else g j := by
  funext j
  unfold aw_u
  dsimp only
  by_cases h : j = k
  · subst h; simp
  · by_cases h2 : j < k
    · rw [if_neg h, if_pos h2, if_pos (by omega)]
    · rw [if_neg h, if_neg h2, if_neg (by omega)]
set_option maxHeartbeats 4000000 in
theorem mm_load {s : mm_S} : mm_Met yX5_load cX5_load 2 none 0 [] s none (mm_setA s 46 (mm_a s 45)) := by
  refine mm_Met.of (by decide +kernel) (fun _ => Nat.le_of_ble_eq_true rfl) (fun G w h0 hW hR => ?_)
  have hs : mm_same w h0 h0 := mm_same.rf
  show AW G (aw_rm 0 0 0) yX5_load cX5_load 2 none (aw_N G (mm_Po G w h0 none (mm_setA s 46 (mm_a s 45))) 0 0) 0 0 h0 0 [(0, .ref w.1)] []
  have loop : ∀ (m k : Nat) (h : aw_H), 28 - k = m → k ≤ 28 → mm_R G w h (mm_setA s 46 (fun j => if j < k then mm_a s 45 j else mm_a s 46 j)) → mm_same w h0 h → AW G (aw_rm 0 0 0) yX5_load cX5_load 2 none (aw_N G (mm_Po G w h0 none (mm_setA s 46 (mm_a s 45))) 0 0) 0 0 h 2 [(0, .ref w.1), (1, .int (nI k))] [] := by
    intro m
    induction m using Nat.strongRecOn with
    | _ m ih =>
      intro k h hm hk hR hs
      refine aw_iload_n dX5_load_2 rfl ?_
      refine aw_bipush (v := nI 28) dX5_load_3 rfl ?_
      refine aw_icmp_geN (tgt := 26) dX5_load_5 (by decide) (by omega) (by omega) (fun c_5 => ?_) (fun c_5 => ?_)
      · refine mm_ext hW hR hs 46 28 rfl (mm_a s 45) (fun j hj => by simp only [mm_n_N, mm_n_A, mm_n_V, mm_n_Fp, mm_n_W, mm_n_Nm, mm_a_N, mm_a_A, mm_a_V, mm_a_Fp, mm_a_W, mm_a_Nm, mm_v_N, mm_v_A, mm_v_V, mm_fp_N, mm_fp_A, mm_fp_Fp, mm_w_N, mm_w_W, Nat.reduceEqDiff, reduceIte, if_true, if_false, mm_H_45, mm_H_46, mm_H_47, mm_H_50, mm_H_53, mm_H_54, mm_H_55, mm_H_56, mm_H_57, mm_H_58, mm_H_66, mm_H_67, mm_H_68]; rw [if_pos (by omega)]) (fun h hR hs => ?_)
        refine aw_vreturn dX5_load_26 rfl ?_
        exact ⟨rfl, mm_eq hR (mm_A_A _ _ _ _), hs⟩
      · refine aw_aload_n dX5_load_8 rfl ?_
        refine aw_get dX5_load_9 fX5_88 rfl hR.1 (by rfl) ?_
        refine aw_iload_n dX5_load_12 rfl ?_
        refine aw_aload_n dX5_load_13 rfl ?_
        refine aw_get dX5_load_14 fX5_85 rfl hR.1 (by rfl) ?_
        refine aw_iload_n dX5_load_17 rfl ?_
        refine aw_ialdN dX5_load_18 (hR.2.1 45 28 rfl) (by omega) (by decide) ?_
        try simp only [mm_n_N, mm_n_A, mm_n_V, mm_n_Fp, mm_n_W, mm_n_Nm, mm_a_N, mm_a_A, mm_a_V, mm_a_Fp, mm_a_W, mm_a_Nm, mm_v_N, mm_v_A, mm_v_V, mm_fp_N, mm_fp_A, mm_fp_Fp, mm_w_N, mm_w_W, Nat.reduceEqDiff, reduceIte, if_true, if_false, mm_H_45, mm_H_46, mm_H_47, mm_H_50, mm_H_53, mm_H_54, mm_H_55, mm_H_56, mm_H_57, mm_H_58, mm_H_66, mm_H_67, mm_H_68]
        refine mm_iast (k := 46) rfl hW hR hs dX5_load_19 (by omega) (by decide) (fun h hR hs => ?_)
        have hR := mm_eq hR (show _ = mm_setA s 46 (fun j => if j < k + 1 then mm_a s 45 j else mm_a s 46 j) by rw [mm_A_A]; simp only [mm_n_N, mm_n_A, mm_n_V, mm_n_Fp, mm_n_W, mm_n_Nm, mm_a_N, mm_a_A, mm_a_V, mm_a_Fp, mm_a_W, mm_a_Nm, mm_v_N, mm_v_A, mm_v_V, mm_fp_N, mm_fp_A, mm_fp_Fp, mm_w_N, mm_w_W, Nat.reduceEqDiff, reduceIte, if_true, if_false, mm_H_45, mm_H_46, mm_H_47, mm_H_50, mm_H_53, mm_H_54, mm_H_55, mm_H_56, mm_H_57, mm_H_58, mm_H_66, mm_H_67, mm_H_68]; rw [← aw_u_cp])
        refine aw_iincN (b := 1) dX5_load_20 rfl rfl (by decide) rfl rfl ?_
        refine aw_goto (tgt := 2) dX5_load_23 (by decide) ?_
        exact ih (28 - (k + 1)) (by omega) (k + 1) h rfl (by omega) hR hs
  refine aw_iconst (v := nI 0) dX5_load_0 rfl ?_
  refine aw_istore_n dX5_load_1 (by decide) rfl rfl ?_
  exact loop 28 0 h0 rfl (Nat.zero_le _) (mm_eq hR (by simp only [Nat.not_lt_zero, if_false]; exact (mm_A_self s 46).symm)) hs
set_option maxHeartbeats 4000000 in
theorem mm_keepAir {s : mm_S} : mm_Met yX5_keepAir cX5_keepAir 2 none 0 [] s none (mm_setA s 45 (mm_a s 46)) := by
  refine mm_Met.of (by decide +kernel) (fun _ => Nat.le_of_ble_eq_true rfl) (fun G w h0 hW hR => ?_)
  have hs : mm_same w h0 h0 := mm_same.rf
  show AW G (aw_rm 0 0 0) yX5_keepAir cX5_keepAir 2 none (aw_N G (mm_Po G w h0 none (mm_setA s 45 (mm_a s 46))) 0 0) 0 0 h0 0 [(0, .ref w.1)] []
  have loop : ∀ (m k : Nat) (h : aw_H), 28 - k = m → k ≤ 28 → mm_R G w h (mm_setA s 45 (fun j => if j < k then mm_a s 46 j else mm_a s 45 j)) → mm_same w h0 h → AW G (aw_rm 0 0 0) yX5_keepAir cX5_keepAir 2 none (aw_N G (mm_Po G w h0 none (mm_setA s 45 (mm_a s 46))) 0 0) 0 0 h 2 [(0, .ref w.1), (1, .int (nI k))] [] := by
    intro m
    induction m using Nat.strongRecOn with
    | _ m ih =>
      intro k h hm hk hR hs
      refine aw_iload_n dX5_keepAir_2 rfl ?_
      refine aw_bipush (v := nI 28) dX5_keepAir_3 rfl ?_
      refine aw_icmp_geN (tgt := 26) dX5_keepAir_5 (by decide) (by omega) (by omega) (fun c_5 => ?_) (fun c_5 => ?_)
      · refine mm_ext hW hR hs 45 28 rfl (mm_a s 46) (fun j hj => by simp only [mm_n_N, mm_n_A, mm_n_V, mm_n_Fp, mm_n_W, mm_n_Nm, mm_a_N, mm_a_A, mm_a_V, mm_a_Fp, mm_a_W, mm_a_Nm, mm_v_N, mm_v_A, mm_v_V, mm_fp_N, mm_fp_A, mm_fp_Fp, mm_w_N, mm_w_W, Nat.reduceEqDiff, reduceIte, if_true, if_false, mm_H_45, mm_H_46, mm_H_47, mm_H_50, mm_H_53, mm_H_54, mm_H_55, mm_H_56, mm_H_57, mm_H_58, mm_H_66, mm_H_67, mm_H_68]; rw [if_pos (by omega)]) (fun h hR hs => ?_)
        refine aw_vreturn dX5_keepAir_26 rfl ?_
        exact ⟨rfl, mm_eq hR (mm_A_A _ _ _ _), hs⟩
      · refine aw_aload_n dX5_keepAir_8 rfl ?_
        refine aw_get dX5_keepAir_9 fX5_85 rfl hR.1 (by rfl) ?_
        refine aw_iload_n dX5_keepAir_12 rfl ?_
        refine aw_aload_n dX5_keepAir_13 rfl ?_
        refine aw_get dX5_keepAir_14 fX5_88 rfl hR.1 (by rfl) ?_
        refine aw_iload_n dX5_keepAir_17 rfl ?_
        refine aw_ialdN dX5_keepAir_18 (hR.2.1 46 28 rfl) (by omega) (by decide) ?_
        try simp only [mm_n_N, mm_n_A, mm_n_V, mm_n_Fp, mm_n_W, mm_n_Nm, mm_a_N, mm_a_A, mm_a_V, mm_a_Fp, mm_a_W, mm_a_Nm, mm_v_N, mm_v_A, mm_v_V, mm_fp_N, mm_fp_A, mm_fp_Fp, mm_w_N, mm_w_W, Nat.reduceEqDiff, reduceIte, if_true, if_false, mm_H_45, mm_H_46, mm_H_47, mm_H_50, mm_H_53, mm_H_54, mm_H_55, mm_H_56, mm_H_57, mm_H_58, mm_H_66, mm_H_67, mm_H_68]
        refine mm_iast (k := 45) rfl hW hR hs dX5_keepAir_19 (by omega) (by decide) (fun h hR hs => ?_)
        have hR := mm_eq hR (show _ = mm_setA s 45 (fun j => if j < k + 1 then mm_a s 46 j else mm_a s 45 j) by rw [mm_A_A]; simp only [mm_n_N, mm_n_A, mm_n_V, mm_n_Fp, mm_n_W, mm_n_Nm, mm_a_N, mm_a_A, mm_a_V, mm_a_Fp, mm_a_W, mm_a_Nm, mm_v_N, mm_v_A, mm_v_V, mm_fp_N, mm_fp_A, mm_fp_Fp, mm_w_N, mm_w_W, Nat.reduceEqDiff, reduceIte, if_true, if_false, mm_H_45, mm_H_46, mm_H_47, mm_H_50, mm_H_53, mm_H_54, mm_H_55, mm_H_56, mm_H_57, mm_H_58, mm_H_66, mm_H_67, mm_H_68]; rw [← aw_u_cp])
        refine aw_iincN (b := 1) dX5_keepAir_20 rfl rfl (by decide) rfl rfl ?_
        refine aw_goto (tgt := 2) dX5_keepAir_23 (by decide) ?_
        exact ih (28 - (k + 1)) (by omega) (k + 1) h rfl (by omega) hR hs
  refine aw_iconst (v := nI 0) dX5_keepAir_0 rfl ?_
  refine aw_istore_n dX5_keepAir_1 (by decide) rfl rfl ?_
  exact loop 28 0 h0 rfl (Nat.zero_le _) (mm_eq hR (by simp only [Nat.not_lt_zero, if_false]; exact (mm_A_self s 45).symm)) hs
set_option maxHeartbeats 4000000 in
theorem mm_dueOf {s : mm_S} {t : Nat} (ht : t < 8) : mm_Met yX5_dueOf cX5_dueOf 2 (some .int) 0 [.int (nI (t))] s (some (.int (nI (sp_due (mm_H s) (mm_a s 46) t)))) (s) := by
  refine mm_Met.of (by decide +kernel) (fun _ => Nat.le_of_ble_eq_true rfl) (fun G w h0 hW hR => ?_)
  have hs : mm_same w h0 h0 := mm_same.rf
  show AW G (aw_rm 0 0 0) yX5_dueOf cX5_dueOf 2 (some .int) (aw_N G (mm_Po G w h0 (some (.int (nI (sp_due (mm_H s) (mm_a s 46) t)))) (s)) 0 0) 0 0 h0 0 [(0, .ref w.1), (1, .int (nI (t)))] []
  refine aw_aload_n dX5_dueOf_0 rfl ?_
  refine aw_get dX5_dueOf_1 fX5_76 rfl hR.1 (by rfl) ?_
  refine aw_iload_n dX5_dueOf_4 rfl ?_
  refine aw_ialdN dX5_dueOf_5 (hR.2.1 35 8 rfl) (by omega) (by decide) ?_
  refine aw_aload_n dX5_dueOf_6 rfl ?_
  refine aw_get dX5_dueOf_7 fX5_88 rfl hR.1 (by rfl) ?_
  refine aw_bipush (v := nI 16) dX5_dueOf_10 rfl ?_
  refine aw_iload_n dX5_dueOf_12 rfl ?_
  refine aw_iaddN dX5_dueOf_13 ?_
  refine aw_ialdN dX5_dueOf_14 (hR.2.1 46 28 rfl) (by omega) (by decide) ?_
  refine aw_iaddN dX5_dueOf_15 ?_
  refine aw_ireturn dX5_dueOf_16 rfl ?_
  exact ⟨rfl, hR, hs⟩
set_option maxHeartbeats 4000000 in
theorem mm_lackOf {s : mm_S} {t : Nat} (ht : t < 8) (h1 : sp_due (mm_H s) (mm_a s 46) t < 2147483648) (h2 : mm_a s 46 (8 + t) < 2147483648) : mm_Met yX5_lackOf cX5_lackOf 2 (some .int) 1 [.int (nI (t))] s (some (.int (nI (sp_lack (mm_H s) (mm_a s 46) t)))) (s) := by
  refine mm_Met.of (by decide +kernel) (fun _ => Nat.le_of_ble_eq_true rfl) (fun G w h0 hW hR => ?_)
  have hs : mm_same w h0 h0 := mm_same.rf
  show AW G (aw_rm 1 0 0) yX5_lackOf cX5_lackOf 2 (some .int) (aw_N G (mm_Po G w h0 (some (.int (nI (sp_lack (mm_H s) (mm_a s 46) t)))) (s)) 0 0) 0 0 h0 0 [(0, .ref w.1), (1, .int (nI (t)))] []
  refine aw_aload_n dX5_lackOf_0 rfl ?_
  refine aw_iload_n dX5_lackOf_1 rfl ?_
  refine mm_call dX5_lackOf_2 sX5_372 rfl hW hR hs (mm_dueOf (by first | omega | assumption | exact aw_t_lt)) rfl rfl ⟨Nat.le_of_ble_eq_true rfl, Nat.le_of_ble_eq_true rfl⟩ (Nat.le_of_ble_eq_true rfl) (fun h hR hs => ?_)
  refine aw_aload_n dX5_lackOf_5 rfl ?_
  refine aw_get dX5_lackOf_6 fX5_88 rfl hR.1 (by rfl) ?_
  refine aw_bipush (v := nI 8) dX5_lackOf_9 rfl ?_
  refine aw_iload_n dX5_lackOf_11 rfl ?_
  refine aw_iaddN dX5_lackOf_12 ?_
  refine aw_ialdN dX5_lackOf_13 (hR.2.1 46 28 rfl) (by omega) (by decide) ?_
  refine aw_icmp_leN (tgt := 35) dX5_lackOf_14 (by decide) (by omega) (by omega) (fun c_14 => ?_) (fun c_14 => ?_)
  · refine aw_iconst (v := nI 0) dX5_lackOf_35 rfl ?_
    refine aw_ireturn dX5_lackOf_36 rfl ?_
    exact ⟨by unfold sp_lack; first | rfl | rw [show sp_due (mm_H s) (mm_a s 46) t - mm_a s 46 (8 + t) = 0 by omega], hR, hs⟩
  · refine aw_aload_n dX5_lackOf_17 rfl ?_
    refine aw_iload_n dX5_lackOf_18 rfl ?_
    refine mm_call dX5_lackOf_19 sX5_372 rfl hW hR hs (mm_dueOf (by first | omega | assumption | exact aw_t_lt)) rfl rfl ⟨Nat.le_of_ble_eq_true rfl, Nat.le_of_ble_eq_true rfl⟩ (Nat.le_of_ble_eq_true rfl) (fun h hR hs => ?_)
    refine aw_aload_n dX5_lackOf_22 rfl ?_
    refine aw_get dX5_lackOf_23 fX5_88 rfl hR.1 (by rfl) ?_
    refine aw_bipush (v := nI 8) dX5_lackOf_26 rfl ?_
    refine aw_iload_n dX5_lackOf_28 rfl ?_
    refine aw_iaddN dX5_lackOf_29 ?_
    refine aw_ialdN dX5_lackOf_30 (hR.2.1 46 28 rfl) (by omega) (by decide) ?_
    refine aw_isubN dX5_lackOf_31 (by omega) ?_
    refine aw_goto (tgt := 36) dX5_lackOf_32 (by decide) ?_
    refine aw_ireturn dX5_lackOf_36 rfl ?_
    exact ⟨by unfold sp_lack; first | rfl | rw [show sp_due (mm_H s) (mm_a s 46) t - mm_a s 46 (8 + t) = 0 by omega], hR, hs⟩
section SCR
variable {G : aw_G} {R : Room} {y : MethodName} {cc : ByteArray} {nL : Nat} {ret : Option FieldType} {Qf : List Frame → Array Value → State → State → Prop} {kc ks : Nat} {h : aw_H} {pc : Nat} {ls : List (Nat × Value)} {st : List Value} {w : mm_Wd} {h0 : aw_H} {s : mm_S}
theorem mm_sast {k k2 n n2 j : Nat} {v : Int32} {f f2 : Nat → Int32} (hk : mm_sl k = some n) (hW : mm_W G w) (hR : mm_R G w h s) (hs : mm_same w h0 h) (hf : h (w.2 k) = some (aw_I G n f)) (hf2 : h (w.2 k2) = some (aw_I G n2 f2)) (hne : k2 ≠ k ∧ (mm_sl k2).isSome = true) (d : decode cc pc = .ok (.iastore, 1)) (hj : j < n) (hn : n < 2 ^ 31) (kk : ∀ h', mm_R G w h' s → mm_same w h0 h' → h' (w.2 k) = some (aw_I G n (aw_u f j v)) → h' (w.2 k2) = some (aw_I G n2 f2) → AW G R y cc nL ret Qf kc ks h' (pc + 1) ls st) : AW G R y cc nL ret Qf kc ks h pc ls (.int v :: .int (nI j) :: .ref (w.2 k) :: st) := by
  have ik : mm_isA k := Or.inr (Or.inr (Or.inr (Or.inl (by rw [hk]; rfl))))
  have ik2 : mm_isA k2 := Or.inr (Or.inr (Or.inr (Or.inl hne.2)))
  refine aw_iast d (hW.2.1 k ik).1 hf (vp_in_nI hj hn) ?_
  have e : upd f (nI j).toNatClampNeg v = aw_u f j v := by
    rw [nI_clamp (Nat.lt_trans hj hn)]; rfl
  rw [e]
  exact kk _ (hR.scr hW hk) (hs.arr ik) (aw_up_s _ _ _) (by rw [aw_up_n (fun z => hne.1 (hW.2.2 k2 k ik2 ik z))]; exact hf2)
end SCR
/-- the stack L, its top first, lies in g from place 0 on -/
def sp_stk : List Int32 → (Nat → Int32) → Prop
  | [], _ => True
  | x :: r, g => g r.length = x ∧ sp_stk r g
theorem sp_stk_u {L : List Int32} {g : Nat → Int32} {j : Nat} {v : Int32} (h : sp_stk L g) (hj : L.length ≤ j) : sp_stk L (aw_u g j v) := by
  induction L with
  | nil => trivial
  | cons x r ih =>
    simp only [List.length_cons] at hj
    exact ⟨by rw [aw_u_n (by omega)]; exact h.1, ih h.2 (by omega)⟩
theorem mm_steps_len (s : mm_S) (f : Nat) : (mm_steps s f).length = mm_a s 16 f := by simp [mm_steps]
theorem mm_steps_at {s : mm_S} {f i : Nat} {q : Nat × Nat} {F : List (Nat × Nat)} (h : q :: F = (mm_steps s f).drop i) : i < mm_a s 16 f ∧ mm_a s 14 (320 * f + i) = q.1 ∧ mm_a s 15 (320 * f + i) = q.2 ∧ F = (mm_steps s f).drop (i + 1) := by
  have hl : i < (mm_steps s f).length := by
    rcases Nat.lt_or_ge i (mm_steps s f).length with z | z
    · exact z
    · rw [List.drop_eq_nil_of_le z] at h
      cases h
  rw [List.drop_eq_getElem_cons hl] at h
  injection h with h1 h2
  have h3 : (mm_steps s f)[i] = (mm_a s 14 (320 * f + i), mm_a s 15 (320 * f + i)) := by simp [mm_steps]
  rw [h3] at h1
  rw [mm_steps_len] at hl
  exact ⟨hl, by rw [h1], by rw [h1], h2⟩
set_option maxHeartbeats 4000000 in
theorem mm_worked {s : mm_S} {f a c nt : Nat} {o : Int32} (hf : f < 2) (hF : sp_fok (mm_steps s f)) : mm_Met yX5_worked cX5_worked 8 (some .int) 2 [.int (nI (f)), .int (nI (a)), .int (nI (c)), .int (nI (nt)), .int (o)] s (some (.int (sp_val (mm_steps s f) (sp_ask a c nt (mm_a s 46)) o))) (s) := by
  refine mm_Met.of (by decide +kernel) (fun _ => Nat.le_of_ble_eq_true rfl) (fun G w h0 hW hR => ?_)
  have hs : mm_same w h0 h0 := mm_same.rf
  show AW G (aw_rm 2 0 0) yX5_worked cX5_worked 8 (some .int) (aw_N G (mm_Po G w h0 (some (.int (sp_val (mm_steps s f) (sp_ask a c nt (mm_a s 46)) o))) (s)) 0 0) 0 0 h0 0 [(0, .ref w.1), (1, .int (nI (f))), (2, .int (nI (a))), (3, .int (nI (c))), (4, .int (nI (nt))), (5, .int (o))] []
  have h16 : mm_a s 16 f ≤ 320 := by rw [← mm_steps_len]; exact hF.1
  obtain ⟨fa, hAK⟩ := hR.2.2.2.2.2 26 6 rfl
  obtain ⟨g0, hVA⟩ := hR.2.2.2.2.2 18 64 rfl
  have loop : ∀ (F : List (Nat × Nat)) (i d : Nat) (L : List Int32) (g fk : Nat → Int32) (h : aw_H), F = (mm_steps s f).drop i → i ≤ mm_a s 16 f → d ≤ 64 → L.length = d → sp_stk L g → (∀ k, k < 6 → fk k = nI (sp_ask a c nt (mm_a s 46) k)) → ((mm_steps s f = [] ∧ g 0 = o) ∨ (mm_steps s f ≠ [] ∧ sp_okF F d ∧ sp_run F (sp_ask a c nt (mm_a s 46)) L = sp_run (mm_steps s f) (sp_ask a c nt (mm_a s 46)) [])) → mm_R G w h s → mm_same w h0 h → h (w.2 26) = some (aw_I G 6 fk) → h (w.2 18) = some (aw_I G 64 g) → AW G (aw_rm 2 0 0) yX5_worked cX5_worked 8 (some .int) (aw_N G (mm_Po G w h0 (some (.int (sp_val (mm_steps s f) (sp_ask a c nt (mm_a s 46)) o))) (s)) 0 0) 0 0 h 79 [(0, .ref w.1), (1, .int (nI f)), (2, .int (nI a)), (3, .int (nI c)), (4, .int (nI nt)), (5, .int o), (6, .int (nI d)), (7, .int (nI (320 * f + i)))] [] := by
    intro F
    induction F with
    | nil =>
      intro i d L g fk h hF9 hi hd64 hd hL hk hres hR hs hAK hVA
      have hlen : mm_a s 16 f ≤ i := by
        rw [← mm_steps_len]
        exact List.drop_eq_nil_iff.mp hF9.symm
      have hg : g 0 = sp_val (mm_steps s f) (sp_ask a c nt (mm_a s 46)) o := by
        rcases hres with ⟨e1, e2⟩ | ⟨e1, e2, e3⟩
        · unfold sp_val
          rw [if_pos e1, e2]
        · have e2 : d = 1 := e2
          unfold sp_val
          rw [if_neg e1, ← e3]
          match L, hd, hL with
          | [x], _, hL => exact hL.1
          | [], hd, _ => exact absurd (hd.trans e2) (by decide)
          | _ :: _ :: _, hd, _ => simp at hd; omega
      refine aw_iload dX5_worked_79 rfl ?_
      refine aw_sipush (v := nI 320) dX5_worked_81 rfl ?_
      refine aw_iload_n dX5_worked_84 rfl ?_
      refine aw_imulN dX5_worked_85 ?_
      refine aw_aload_n dX5_worked_86 rfl ?_
      refine aw_get dX5_worked_87 fX5_36 rfl hR.1 (by rfl) ?_
      refine aw_iload_n dX5_worked_90 rfl ?_
      refine aw_ialdN dX5_worked_91 (hR.2.1 16 2 rfl) (by omega) (by decide) ?_
      refine aw_iaddN dX5_worked_92 ?_
      refine aw_icmp_geN (tgt := 249) dX5_worked_93 (by decide) (by omega) (by omega) (fun c_93 => ?_) (fun c_93 => by exfalso; omega)
      refine aw_aload_n dX5_worked_249 rfl ?_
      refine aw_get dX5_worked_250 fX5_42 rfl hR.1 (by rfl) ?_
      refine aw_iconst (v := nI 0) dX5_worked_253 rfl ?_
      refine aw_ialdN dX5_worked_254 hVA (by omega) (by decide) ?_
      refine aw_ireturn dX5_worked_255 rfl ?_
      exact ⟨by rw [hg], hR, hs⟩
    | cons q F ih =>
      intro i d L g fk h hF9 hi hd64 hd hL hk hres hR hs hAK hVA
      obtain ⟨hi2, hq1, hq2, hF2⟩ := mm_steps_at hF9
      rcases hres with ⟨e1, -⟩ | ⟨e1, e2, e3⟩
      · rw [e1, List.drop_nil] at hF9
        cases hF9
      · rcases e2 with ⟨k1, k2, k3⟩ | ⟨k1, k2, k3, k4⟩ | ⟨k1, k2, k3⟩ | ⟨k1, k2, k3, k4⟩
        ·
          refine aw_iload dX5_worked_79 rfl ?_
          refine aw_sipush (v := nI 320) dX5_worked_81 rfl ?_
          refine aw_iload_n dX5_worked_84 rfl ?_
          refine aw_imulN dX5_worked_85 ?_
          refine aw_aload_n dX5_worked_86 rfl ?_
          refine aw_get dX5_worked_87 fX5_36 rfl hR.1 (by rfl) ?_
          refine aw_iload_n dX5_worked_90 rfl ?_
          refine aw_ialdN dX5_worked_91 (hR.2.1 16 2 rfl) (by omega) (by decide) ?_
          refine aw_iaddN dX5_worked_92 ?_
          refine aw_icmp_geN (tgt := 249) dX5_worked_93 (by decide) (by omega) (by omega) (fun c_93 => by exfalso; omega) (fun c_93 => ?_)
          refine aw_aload_n dX5_worked_96 rfl ?_
          refine aw_get dX5_worked_97 fX5_30 rfl hR.1 (by rfl) ?_
          refine aw_iload dX5_worked_100 rfl ?_
          refine aw_ialdN dX5_worked_102 (hR.2.1 14 640 rfl) (by omega) (by decide) ?_
          refine aw_if_eqN (tgt := 117) dX5_worked_103 (by decide) (by omega) (fun c_103 => ?_) (fun c_103 => by exfalso; omega)
          refine aw_aload_n dX5_worked_117 rfl ?_
          refine aw_get dX5_worked_118 fX5_42 rfl hR.1 (by rfl) ?_
          refine aw_iload dX5_worked_121 rfl ?_
          refine aw_aload_n dX5_worked_123 rfl ?_
          refine aw_get dX5_worked_124 fX5_30 rfl hR.1 (by rfl) ?_
          refine aw_iload dX5_worked_127 rfl ?_
          refine aw_ialdN dX5_worked_129 (hR.2.1 14 640 rfl) (by omega) (by decide) ?_
          refine aw_if_neN (tgt := 143) dX5_worked_130 (by decide) (by omega) (fun c_130 => by exfalso; omega) (fun c_130 => ?_)
          refine aw_aload_n dX5_worked_133 rfl ?_
          refine aw_get dX5_worked_134 fX5_33 rfl hR.1 (by rfl) ?_
          refine aw_iload dX5_worked_137 rfl ?_
          refine aw_ialdN dX5_worked_139 (hR.2.1 15 640 rfl) (by omega) (by decide) ?_
          refine aw_goto (tgt := 155) dX5_worked_140 (by decide) ?_
          refine mm_sast (k := 18) (k2 := 26) rfl hW hR hs hVA hAK (by decide) dX5_worked_155 (by omega) (by decide) (fun h hR hs hVA hAK => ?_)
          refine aw_iincN (b := 1) dX5_worked_156 rfl rfl (by decide) rfl rfl ?_
          refine aw_goto (tgt := 243) dX5_worked_159 (by decide) ?_
          refine aw_iincN (b := 1) dX5_worked_243 rfl rfl (by decide) rfl rfl ?_
          refine aw_goto (tgt := 79) dX5_worked_246 (by decide) ?_
          refine ih (i + 1) (d + 1) (nI q.2 :: L) _ fk h hF2 (by omega) (by omega) (by simp [hd]) ⟨?_, sp_stk_u hL (by omega)⟩ hk (Or.inr ⟨e1, k3, ?_⟩) hR hs hAK hVA
          · rw [hd, aw_u_s, hq2]
          · rw [← e3]
            show _ = sp_run F _ (sp_step q _ L)
            unfold sp_step
            rw [if_pos k1]
        ·
          refine aw_iload dX5_worked_79 rfl ?_
          refine aw_sipush (v := nI 320) dX5_worked_81 rfl ?_
          refine aw_iload_n dX5_worked_84 rfl ?_
          refine aw_imulN dX5_worked_85 ?_
          refine aw_aload_n dX5_worked_86 rfl ?_
          refine aw_get dX5_worked_87 fX5_36 rfl hR.1 (by rfl) ?_
          refine aw_iload_n dX5_worked_90 rfl ?_
          refine aw_ialdN dX5_worked_91 (hR.2.1 16 2 rfl) (by omega) (by decide) ?_
          refine aw_iaddN dX5_worked_92 ?_
          refine aw_icmp_geN (tgt := 249) dX5_worked_93 (by decide) (by omega) (by omega) (fun c_93 => by exfalso; omega) (fun c_93 => ?_)
          refine aw_aload_n dX5_worked_96 rfl ?_
          refine aw_get dX5_worked_97 fX5_30 rfl hR.1 (by rfl) ?_
          refine aw_iload dX5_worked_100 rfl ?_
          refine aw_ialdN dX5_worked_102 (hR.2.1 14 640 rfl) (by omega) (by decide) ?_
          refine aw_if_eqN (tgt := 117) dX5_worked_103 (by decide) (by omega) (fun c_103 => by exfalso; omega) (fun c_103 => ?_)
          refine aw_aload_n dX5_worked_106 rfl ?_
          refine aw_get dX5_worked_107 fX5_30 rfl hR.1 (by rfl) ?_
          refine aw_iload dX5_worked_110 rfl ?_
          refine aw_ialdN dX5_worked_112 (hR.2.1 14 640 rfl) (by omega) (by decide) ?_
          refine aw_iconst (v := nI 1) dX5_worked_113 rfl ?_
          refine aw_icmp_neN (tgt := 162) dX5_worked_114 (by decide) (by omega) (by omega) (fun c_114 => by exfalso; omega) (fun c_114 => ?_)
          refine aw_aload_n dX5_worked_117 rfl ?_
          refine aw_get dX5_worked_118 fX5_42 rfl hR.1 (by rfl) ?_
          refine aw_iload dX5_worked_121 rfl ?_
          refine aw_aload_n dX5_worked_123 rfl ?_
          refine aw_get dX5_worked_124 fX5_30 rfl hR.1 (by rfl) ?_
          refine aw_iload dX5_worked_127 rfl ?_
          refine aw_ialdN dX5_worked_129 (hR.2.1 14 640 rfl) (by omega) (by decide) ?_
          refine aw_if_neN (tgt := 143) dX5_worked_130 (by decide) (by omega) (fun c_130 => ?_) (fun c_130 => by exfalso; omega)
          refine aw_aload_n dX5_worked_143 rfl ?_
          refine aw_get dX5_worked_144 fX5_49 rfl hR.1 (by rfl) ?_
          refine aw_aload_n dX5_worked_147 rfl ?_
          refine aw_get dX5_worked_148 fX5_33 rfl hR.1 (by rfl) ?_
          refine aw_iload dX5_worked_151 rfl ?_
          refine aw_ialdN dX5_worked_153 (hR.2.1 15 640 rfl) (by omega) (by decide) ?_
          refine aw_ialdN dX5_worked_154 hAK (by omega) (by decide) ?_
          refine mm_sast (k := 18) (k2 := 26) rfl hW hR hs hVA hAK (by decide) dX5_worked_155 (by omega) (by decide) (fun h hR hs hVA hAK => ?_)
          refine aw_iincN (b := 1) dX5_worked_156 rfl rfl (by decide) rfl rfl ?_
          refine aw_goto (tgt := 243) dX5_worked_159 (by decide) ?_
          refine aw_iincN (b := 1) dX5_worked_243 rfl rfl (by decide) rfl rfl ?_
          refine aw_goto (tgt := 79) dX5_worked_246 (by decide) ?_
          refine ih (i + 1) (d + 1) (nI (sp_ask a c nt (mm_a s 46) q.2) :: L) _ fk h hF2 (by omega) (by omega) (by simp [hd]) ⟨?_, sp_stk_u hL (by omega)⟩ hk (Or.inr ⟨e1, k4, ?_⟩) hR hs hAK hVA
          · rw [hd, aw_u_s, hq2, hk _ k2]
          · rw [← e3]
            show _ = sp_run F _ (sp_step q _ L)
            unfold sp_step
            rw [if_neg (by omega), if_pos k1]
        · match L, hd, hL, e3 with
          | [], hd, _, _ => simp at hd; omega
          | x :: r, hd, hL, e3 =>
            simp only [List.length_cons] at hd
            have hx : g (d - 1) = x := by rw [show d - 1 = r.length by omega]; exact hL.1
            have fin : ∀ (v : Int32) (h : aw_H), v = nI (aw_t (x = 0)) → mm_R G w h s → mm_same w h0 h → h (w.2 26) = some (aw_I G 6 fk) → h (w.2 18) = some (aw_I G 64 (aw_u g (d - 1) v)) → AW G (aw_rm 2 0 0) yX5_worked cX5_worked 8 (some .int) (aw_N G (mm_Po G w h0 (some (.int (sp_val (mm_steps s f) (sp_ask a c nt (mm_a s 46)) o))) (s)) 0 0) 0 0 h 79 [(0, .ref w.1), (1, .int (nI f)), (2, .int (nI a)), (3, .int (nI c)), (4, .int (nI nt)), (5, .int o), (6, .int (nI d)), (7, .int (nI (320 * f + i + 1)))] [] := by
              intro v h ev hR hs hAK hVA
              refine ih (i + 1) d (v :: r) _ fk h hF2 (by omega) (by omega) (by simp; omega) ⟨?_, sp_stk_u hL.2 (by omega)⟩ hk (Or.inr ⟨e1, k3, ?_⟩) hR hs hAK hVA
              · rw [show r.length = d - 1 by omega, aw_u_s]
              · rw [← e3]
                show _ = sp_run F _ (sp_step q _ (x :: r))
                unfold sp_step
                rw [if_neg (by omega), if_neg (by omega), if_pos k1, ev]
            refine aw_iload dX5_worked_79 rfl ?_
            refine aw_sipush (v := nI 320) dX5_worked_81 rfl ?_
            refine aw_iload_n dX5_worked_84 rfl ?_
            refine aw_imulN dX5_worked_85 ?_
            refine aw_aload_n dX5_worked_86 rfl ?_
            refine aw_get dX5_worked_87 fX5_36 rfl hR.1 (by rfl) ?_
            refine aw_iload_n dX5_worked_90 rfl ?_
            refine aw_ialdN dX5_worked_91 (hR.2.1 16 2 rfl) (by omega) (by decide) ?_
            refine aw_iaddN dX5_worked_92 ?_
            refine aw_icmp_geN (tgt := 249) dX5_worked_93 (by decide) (by omega) (by omega) (fun c_93 => by exfalso; omega) (fun c_93 => ?_)
            refine aw_aload_n dX5_worked_96 rfl ?_
            refine aw_get dX5_worked_97 fX5_30 rfl hR.1 (by rfl) ?_
            refine aw_iload dX5_worked_100 rfl ?_
            refine aw_ialdN dX5_worked_102 (hR.2.1 14 640 rfl) (by omega) (by decide) ?_
            refine aw_if_eqN (tgt := 117) dX5_worked_103 (by decide) (by omega) (fun c_103 => by exfalso; omega) (fun c_103 => ?_)
            refine aw_aload_n dX5_worked_106 rfl ?_
            refine aw_get dX5_worked_107 fX5_30 rfl hR.1 (by rfl) ?_
            refine aw_iload dX5_worked_110 rfl ?_
            refine aw_ialdN dX5_worked_112 (hR.2.1 14 640 rfl) (by omega) (by decide) ?_
            refine aw_iconst (v := nI 1) dX5_worked_113 rfl ?_
            refine aw_icmp_neN (tgt := 162) dX5_worked_114 (by decide) (by omega) (by omega) (fun c_114 => ?_) (fun c_114 => by exfalso; omega)
            refine aw_aload_n dX5_worked_162 rfl ?_
            refine aw_get dX5_worked_163 fX5_30 rfl hR.1 (by rfl) ?_
            refine aw_iload dX5_worked_166 rfl ?_
            refine aw_ialdN dX5_worked_168 (hR.2.1 14 640 rfl) (by omega) (by decide) ?_
            refine aw_iconst (v := nI 2) dX5_worked_169 rfl ?_
            refine aw_icmp_neN (tgt := 205) dX5_worked_170 (by decide) (by omega) (by omega) (fun c_170 => by exfalso; omega) (fun c_170 => ?_)
            refine aw_aload_n dX5_worked_173 rfl ?_
            refine aw_get dX5_worked_174 fX5_42 rfl hR.1 (by rfl) ?_
            refine aw_iload dX5_worked_177 rfl ?_
            refine aw_iconst (v := nI 1) dX5_worked_179 rfl ?_
            refine aw_isubN dX5_worked_180 (by omega) ?_
            refine aw_aload_n dX5_worked_181 rfl ?_
            refine aw_get dX5_worked_182 fX5_42 rfl hR.1 (by rfl) ?_
            refine aw_iload dX5_worked_185 rfl ?_
            refine aw_iconst (v := nI 1) dX5_worked_187 rfl ?_
            refine aw_isubN dX5_worked_188 (by omega) ?_
            refine aw_ialdN dX5_worked_189 hVA (by omega) (by decide) ?_
            refine aw_if_ne (tgt := 197) dX5_worked_190 (by decide) (fun c_190 => ?_) (fun c_190 => ?_)
            · refine aw_iconst (v := nI 0) dX5_worked_197 rfl ?_
              refine aw_callP (r := _) dX5_worked_198 sX5_304 rfl (mp_truth (by decide)) rfl rfl ⟨Nat.le_of_ble_eq_true rfl, Nat.le_of_ble_eq_true rfl⟩ (Nat.le_of_ble_eq_true rfl) ?_
              refine mm_sast (k := 18) (k2 := 26) rfl hW hR hs hVA hAK (by decide) dX5_worked_201 (by omega) (by decide) (fun h hR hs hVA hAK => ?_)
              refine aw_goto (tgt := 243) dX5_worked_202 (by decide) ?_
              refine aw_iincN (b := 1) dX5_worked_243 rfl rfl (by decide) rfl rfl ?_
              refine aw_goto (tgt := 79) dX5_worked_246 (by decide) ?_
              first
              | exact fin _ h (by rw [aw_t0 (by rw [← hx]; exact c_190)]) hR hs hAK hVA
              | exact fin _ h (by rw [aw_t1 (by rw [← hx]; exact c_190)]) hR hs hAK hVA
            · refine aw_iconst (v := nI 1) dX5_worked_193 rfl ?_
              refine aw_goto (tgt := 198) dX5_worked_194 (by decide) ?_
              refine aw_callP (r := _) dX5_worked_198 sX5_304 rfl (mp_truth (by decide)) rfl rfl ⟨Nat.le_of_ble_eq_true rfl, Nat.le_of_ble_eq_true rfl⟩ (Nat.le_of_ble_eq_true rfl) ?_
              refine mm_sast (k := 18) (k2 := 26) rfl hW hR hs hVA hAK (by decide) dX5_worked_201 (by omega) (by decide) (fun h hR hs hVA hAK => ?_)
              refine aw_goto (tgt := 243) dX5_worked_202 (by decide) ?_
              refine aw_iincN (b := 1) dX5_worked_243 rfl rfl (by decide) rfl rfl ?_
              refine aw_goto (tgt := 79) dX5_worked_246 (by decide) ?_
              first
              | exact fin _ h (by rw [aw_t0 (by rw [← hx]; exact c_190)]) hR hs hAK hVA
              | exact fin _ h (by rw [aw_t1 (by rw [← hx]; exact c_190)]) hR hs hAK hVA
        · match L, hd, hL, e3 with
          | [], hd, _, _ => simp at hd; omega
          | [_], hd, _, _ => simp at hd; omega
          | y9 :: x :: r, hd, hL, e3 =>
            simp only [List.length_cons] at hd
            have hy : g (d - 1) = y9 := by rw [show d - 1 = (x :: r).length by simp; omega]; exact hL.1
            have hx : g (d - 1 - 1) = x := by rw [show d - 1 - 1 = r.length by omega]; exact hL.2.1
            have k3' : sp_sg (mm_a s 15 (320 * f + i)) := by rw [hq2]; exact k3
            refine aw_iload dX5_worked_79 rfl ?_
            refine aw_sipush (v := nI 320) dX5_worked_81 rfl ?_
            refine aw_iload_n dX5_worked_84 rfl ?_
            refine aw_imulN dX5_worked_85 ?_
            refine aw_aload_n dX5_worked_86 rfl ?_
            refine aw_get dX5_worked_87 fX5_36 rfl hR.1 (by rfl) ?_
            refine aw_iload_n dX5_worked_90 rfl ?_
            refine aw_ialdN dX5_worked_91 (hR.2.1 16 2 rfl) (by omega) (by decide) ?_
            refine aw_iaddN dX5_worked_92 ?_
            refine aw_icmp_geN (tgt := 249) dX5_worked_93 (by decide) (by omega) (by omega) (fun c_93 => by exfalso; omega) (fun c_93 => ?_)
            refine aw_aload_n dX5_worked_96 rfl ?_
            refine aw_get dX5_worked_97 fX5_30 rfl hR.1 (by rfl) ?_
            refine aw_iload dX5_worked_100 rfl ?_
            refine aw_ialdN dX5_worked_102 (hR.2.1 14 640 rfl) (by omega) (by decide) ?_
            refine aw_if_eqN (tgt := 117) dX5_worked_103 (by decide) (by omega) (fun c_103 => by exfalso; omega) (fun c_103 => ?_)
            refine aw_aload_n dX5_worked_106 rfl ?_
            refine aw_get dX5_worked_107 fX5_30 rfl hR.1 (by rfl) ?_
            refine aw_iload dX5_worked_110 rfl ?_
            refine aw_ialdN dX5_worked_112 (hR.2.1 14 640 rfl) (by omega) (by decide) ?_
            refine aw_iconst (v := nI 1) dX5_worked_113 rfl ?_
            refine aw_icmp_neN (tgt := 162) dX5_worked_114 (by decide) (by omega) (by omega) (fun c_114 => ?_) (fun c_114 => by exfalso; omega)
            refine aw_aload_n dX5_worked_162 rfl ?_
            refine aw_get dX5_worked_163 fX5_30 rfl hR.1 (by rfl) ?_
            refine aw_iload dX5_worked_166 rfl ?_
            refine aw_ialdN dX5_worked_168 (hR.2.1 14 640 rfl) (by omega) (by decide) ?_
            refine aw_iconst (v := nI 2) dX5_worked_169 rfl ?_
            refine aw_icmp_neN (tgt := 205) dX5_worked_170 (by decide) (by omega) (by omega) (fun c_170 => ?_) (fun c_170 => by exfalso; omega)
            refine aw_iincM dX5_worked_205 rfl (by omega) (by decide) rfl rfl ?_
            refine aw_aload_n dX5_worked_208 rfl ?_
            refine aw_get dX5_worked_209 fX5_42 rfl hR.1 (by rfl) ?_
            refine aw_iload dX5_worked_212 rfl ?_
            refine aw_iconst (v := nI 1) dX5_worked_214 rfl ?_
            refine aw_isubN dX5_worked_215 (by omega) ?_
            refine aw_aload_n dX5_worked_216 rfl ?_
            refine aw_get dX5_worked_217 fX5_33 rfl hR.1 (by rfl) ?_
            refine aw_iload dX5_worked_220 rfl ?_
            refine aw_ialdN dX5_worked_222 (hR.2.1 15 640 rfl) (by omega) (by decide) ?_
            refine aw_aload_n dX5_worked_223 rfl ?_
            refine aw_get dX5_worked_224 fX5_42 rfl hR.1 (by rfl) ?_
            refine aw_iload dX5_worked_227 rfl ?_
            refine aw_iconst (v := nI 1) dX5_worked_229 rfl ?_
            refine aw_isubN dX5_worked_230 (by omega) ?_
            refine aw_ialdN dX5_worked_231 hVA (by omega) (by decide) ?_
            refine aw_aload_n dX5_worked_232 rfl ?_
            refine aw_get dX5_worked_233 fX5_42 rfl hR.1 (by rfl) ?_
            refine aw_iload dX5_worked_236 rfl ?_
            refine aw_ialdN dX5_worked_238 hVA (by omega) (by decide) ?_
            refine aw_callP (r := _) dX5_worked_239 sX5_308 rfl (mp_done (by first | omega | assumption | exact aw_t_lt)) rfl rfl ⟨Nat.le_of_ble_eq_true rfl, Nat.le_of_ble_eq_true rfl⟩ (Nat.le_of_ble_eq_true rfl) ?_
            refine mm_sast (k := 18) (k2 := 26) rfl hW hR hs hVA hAK (by decide) dX5_worked_242 (by omega) (by decide) (fun h hR hs hVA hAK => ?_)
            refine aw_iincN (b := 1) dX5_worked_243 rfl rfl (by decide) rfl rfl ?_
            refine aw_goto (tgt := 79) dX5_worked_246 (by decide) ?_
            refine ih (i + 1) (d - 1) (sp_done q.2 x y9 :: r) _ fk h hF2 (by omega) (by omega) (by simp; omega) ⟨?_, sp_stk_u hL.2.2 (by omega)⟩ hk (Or.inr ⟨e1, k4, ?_⟩) hR hs hAK hVA
            · rw [show r.length = d - 1 - 1 by omega, aw_u_s, hq2, hx, hy]
            · rw [← e3]
              show _ = sp_run F _ (sp_step q _ (y9 :: x :: r))
              unfold sp_step
              rw [if_neg (by omega), if_neg (by omega), if_neg (by omega)]
  refine aw_aload_n dX5_worked_0 rfl ?_
  refine aw_get dX5_worked_1 fX5_49 rfl hR.1 (by rfl) ?_
  refine aw_iconst (v := nI 0) dX5_worked_4 rfl ?_
  refine aw_iload_n dX5_worked_5 rfl ?_
  refine mm_sast (k := 26) (k2 := 18) rfl hW hR hs hAK hVA (by decide) dX5_worked_6 (by omega) (by decide) (fun h hR hs hAK hVA => ?_)
  refine aw_aload_n dX5_worked_7 rfl ?_
  refine aw_get dX5_worked_8 fX5_49 rfl hR.1 (by rfl) ?_
  refine aw_iconst (v := nI 1) dX5_worked_11 rfl ?_
  refine aw_iload_n dX5_worked_12 rfl ?_
  refine mm_sast (k := 26) (k2 := 18) rfl hW hR hs hAK hVA (by decide) dX5_worked_13 (by omega) (by decide) (fun h hR hs hAK hVA => ?_)
  refine aw_aload_n dX5_worked_14 rfl ?_
  refine aw_get dX5_worked_15 fX5_49 rfl hR.1 (by rfl) ?_
  refine aw_iconst (v := nI 2) dX5_worked_18 rfl ?_
  refine aw_iload dX5_worked_19 rfl ?_
  refine mm_sast (k := 26) (k2 := 18) rfl hW hR hs hAK hVA (by decide) dX5_worked_21 (by omega) (by decide) (fun h hR hs hAK hVA => ?_)
  refine aw_aload_n dX5_worked_22 rfl ?_
  refine aw_get dX5_worked_23 fX5_49 rfl hR.1 (by rfl) ?_
  refine aw_iconst (v := nI 3) dX5_worked_26 rfl ?_
  refine aw_aload_n dX5_worked_27 rfl ?_
  refine aw_get dX5_worked_28 fX5_88 rfl hR.1 (by rfl) ?_
  refine aw_bipush (v := nI 26) dX5_worked_31 rfl ?_
  refine aw_ialdN dX5_worked_33 (hR.2.1 46 28 rfl) (by omega) (by decide) ?_
  refine mm_sast (k := 26) (k2 := 18) rfl hW hR hs hAK hVA (by decide) dX5_worked_34 (by omega) (by decide) (fun h hR hs hAK hVA => ?_)
  refine aw_aload_n dX5_worked_35 rfl ?_
  refine aw_get dX5_worked_36 fX5_49 rfl hR.1 (by rfl) ?_
  refine aw_iconst (v := nI 4) dX5_worked_39 rfl ?_
  refine aw_aload_n dX5_worked_40 rfl ?_
  refine aw_get dX5_worked_41 fX5_88 rfl hR.1 (by rfl) ?_
  refine aw_bipush (v := nI 24) dX5_worked_44 rfl ?_
  refine aw_ialdN dX5_worked_46 (hR.2.1 46 28 rfl) (by omega) (by decide) ?_
  refine mm_sast (k := 26) (k2 := 18) rfl hW hR hs hAK hVA (by decide) dX5_worked_47 (by omega) (by decide) (fun h hR hs hAK hVA => ?_)
  refine aw_aload_n dX5_worked_48 rfl ?_
  refine aw_get dX5_worked_49 fX5_49 rfl hR.1 (by rfl) ?_
  refine aw_iconst (v := nI 5) dX5_worked_52 rfl ?_
  refine aw_aload_n dX5_worked_53 rfl ?_
  refine aw_get dX5_worked_54 fX5_88 rfl hR.1 (by rfl) ?_
  refine aw_bipush (v := nI 25) dX5_worked_57 rfl ?_
  refine aw_ialdN dX5_worked_59 (hR.2.1 46 28 rfl) (by omega) (by decide) ?_
  refine mm_sast (k := 26) (k2 := 18) rfl hW hR hs hAK hVA (by decide) dX5_worked_60 (by omega) (by decide) (fun h hR hs hAK hVA => ?_)
  refine aw_iconst (v := nI 0) dX5_worked_61 rfl ?_
  refine aw_istore dX5_worked_62 (by decide) rfl rfl ?_
  refine aw_aload_n dX5_worked_64 rfl ?_
  refine aw_get dX5_worked_65 fX5_42 rfl hR.1 (by rfl) ?_
  refine aw_iconst (v := nI 0) dX5_worked_68 rfl ?_
  refine aw_iload dX5_worked_69 rfl ?_
  refine mm_sast (k := 18) (k2 := 26) rfl hW hR hs hVA hAK (by decide) dX5_worked_71 (by omega) (by decide) (fun h hR hs hVA hAK => ?_)
  refine aw_sipush (v := nI 320) dX5_worked_72 rfl ?_
  refine aw_iload_n dX5_worked_75 rfl ?_
  refine aw_imulN dX5_worked_76 ?_
  refine aw_istore dX5_worked_77 (by decide) rfl rfl ?_
  refine loop (mm_steps s f) 0 0 [] _ _ h rfl (Nat.zero_le _) (Nat.zero_le _) rfl trivial ?_ ?_ hR hs hAK hVA
  · intro k hk
    rcases (show k = 0 ∨ k = 1 ∨ k = 2 ∨ k = 3 ∨ k = 4 ∨ k = 5 by omega) with rfl | rfl | rfl | rfl | rfl | rfl <;> rfl
  · by_cases e : mm_steps s f = []
    · exact Or.inl ⟨e, aw_u_s _ _ _⟩
    · exact Or.inr ⟨e, hF.2.resolve_left e, rfl⟩
/-- who is carried: c is one more than his number, 0 for nobody -/
def sp_cv (c : Nat) : Int32 := if c = 0 then -1 else nI (c - 1)
theorem sp_cv_s (k : Nat) : sp_cv (k + 1) = nI k := by unfold sp_cv; rw [if_neg (by omega)]; rfl
theorem aw_min_lt {v n : Nat} (h : n < 2147483648) : min v n < 2147483648 := by omega
set_option maxHeartbeats 4000000 in
theorem mm_countOf {s : mm_S} {a c nt : Nat} (hc : c ≤ 8) (hF : sp_fok (mm_steps s 0)) : mm_Met yX5_countOf cX5_countOf 4 (some .int) 3 [.int (nI (a)), .int ((sp_cv c)), .int (nI (nt))] s (some (.int (nI (sp_cnt (mm_H s) (mm_a s 46) a (sp_hvc (mm_H s) c) nt)))) (s) := by
  refine mm_Met.of (by decide +kernel) (fun _ => Nat.le_of_ble_eq_true rfl) (fun G w h0 hW hR => ?_)
  have hs : mm_same w h0 h0 := mm_same.rf
  show AW G (aw_rm 3 0 0) yX5_countOf cX5_countOf 4 (some .int) (aw_N G (mm_Po G w h0 (some (.int (nI (sp_cnt (mm_H s) (mm_a s 46) a (sp_hvc (mm_H s) c) nt)))) (s)) 0 0) 0 0 h0 0 [(0, .ref w.1), (1, .int (nI (a))), (2, .int ((sp_cv c))), (3, .int (nI (nt)))] []
  rcases (show c = 0 ∨ ∃ k, k < 8 ∧ c = k + 1 by first | exact Or.inl rfl | (by_cases z : c = 0; exact Or.inl z; exact Or.inr ⟨c - 1, by omega, by omega⟩)) with rfl | ⟨k, hk, rfl⟩
  ·
    refine aw_aload_n dX5_countOf_0 rfl ?_
    refine aw_iconst (v := nI 0) dX5_countOf_1 rfl ?_
    refine aw_iload_n dX5_countOf_2 rfl ?_
    refine aw_iload_n dX5_countOf_3 rfl ?_
    refine aw_if_ge (tgt := 11) dX5_countOf_4 (by decide) (fun c_4 => by exfalso; exact absurd c_4 (by decide)) (fun c_4 => ?_)
    refine aw_iconst (v := nI 0) dX5_countOf_7 rfl ?_
    refine aw_goto (tgt := 17) dX5_countOf_8 (by decide) ?_
    refine aw_iload_n dX5_countOf_17 rfl ?_
    refine aw_bipush (v := nI 10) dX5_countOf_18 rfl ?_
    refine aw_iload_n dX5_countOf_20 rfl ?_
    refine aw_imulN dX5_countOf_21 ?_
    refine mm_call dX5_countOf_22 sX5_375 rfl hW hR hs (mm_worked (by decide) hF) rfl rfl ⟨Nat.le_of_ble_eq_true rfl, Nat.le_of_ble_eq_true rfl⟩ (Nat.le_of_ble_eq_true rfl) (fun h hR hs => ?_)
    refine aw_sipush (v := nI 999) dX5_countOf_25 rfl ?_
    refine aw_callP (r := _) dX5_countOf_28 sX5_379 rfl (mp_within (by decide)) rfl rfl ⟨Nat.le_of_ble_eq_true rfl, Nat.le_of_ble_eq_true rfl⟩ (Nat.le_of_ble_eq_true rfl) ?_
    refine aw_ireturn dX5_countOf_31 rfl ?_
    exact ⟨rfl, hR, hs⟩
  · simp only [sp_cv_s]
    refine aw_aload_n dX5_countOf_0 rfl ?_
    refine aw_iconst (v := nI 0) dX5_countOf_1 rfl ?_
    refine aw_iload_n dX5_countOf_2 rfl ?_
    refine aw_iload_n dX5_countOf_3 rfl ?_
    refine aw_if_geN (tgt := 11) dX5_countOf_4 (by decide) (by omega) ?_
    refine aw_aload_n dX5_countOf_11 rfl ?_
    refine aw_get dX5_countOf_12 fX5_73 rfl hR.1 (by rfl) ?_
    refine aw_iload_n dX5_countOf_15 rfl ?_
    refine aw_ialdN dX5_countOf_16 (hR.2.1 34 8 rfl) (by omega) (by decide) ?_
    refine aw_iload_n dX5_countOf_17 rfl ?_
    refine aw_bipush (v := nI 10) dX5_countOf_18 rfl ?_
    refine aw_iload_n dX5_countOf_20 rfl ?_
    refine aw_imulN dX5_countOf_21 ?_
    refine mm_call dX5_countOf_22 sX5_375 rfl hW hR hs (mm_worked (by decide) hF) rfl rfl ⟨Nat.le_of_ble_eq_true rfl, Nat.le_of_ble_eq_true rfl⟩ (Nat.le_of_ble_eq_true rfl) (fun h hR hs => ?_)
    refine aw_sipush (v := nI 999) dX5_countOf_25 rfl ?_
    refine aw_callP (r := _) dX5_countOf_28 sX5_379 rfl (mp_within (by decide)) rfl rfl ⟨Nat.le_of_ble_eq_true rfl, Nat.le_of_ble_eq_true rfl⟩ (Nat.le_of_ble_eq_true rfl) ?_
    refine aw_ireturn dX5_countOf_31 rfl ?_
    exact ⟨rfl, hR, hs⟩
set_option maxHeartbeats 4000000 in
theorem mm_breathFor {s : mm_S} {a c : Nat} (hc : c ≤ 8) (hh : ∀ k, k < 8 → mm_a s 34 k ≤ 9) : mm_Met yX5_breathFor cX5_breathFor 3 (some .int) 0 [.int (nI (a)), .int ((sp_cv c))] s (some (.int (nI (a * sp_brc (mm_H s) c)))) (s) := by
  refine mm_Met.of (by decide +kernel) (fun _ => Nat.le_of_ble_eq_true rfl) (fun G w h0 hW hR => ?_)
  have hs : mm_same w h0 h0 := mm_same.rf
  show AW G (aw_rm 0 0 0) yX5_breathFor cX5_breathFor 3 (some .int) (aw_N G (mm_Po G w h0 (some (.int (nI (a * sp_brc (mm_H s) c)))) (s)) 0 0) 0 0 h0 0 [(0, .ref w.1), (1, .int (nI (a))), (2, .int ((sp_cv c)))] []
  rcases (show c = 0 ∨ ∃ k, k < 8 ∧ c = k + 1 by first | exact Or.inl rfl | (by_cases z : c = 0; exact Or.inl z; exact Or.inr ⟨c - 1, by omega, by omega⟩)) with rfl | ⟨k, hk, rfl⟩
  ·
    refine aw_iload_n dX5_breathFor_0 rfl ?_
    refine aw_if_ge (tgt := 8) dX5_breathFor_1 (by decide) (fun c_1 => by exfalso; exact absurd c_1 (by decide)) (fun c_1 => ?_)
    refine aw_iload_n dX5_breathFor_4 rfl ?_
    refine aw_goto (tgt := 20) dX5_breathFor_5 (by decide) ?_
    refine aw_ireturn dX5_breathFor_20 rfl ?_
    exact ⟨by rw [show a * sp_brc (mm_H s) 0 = a from Nat.mul_one a], hR, hs⟩
  · simp only [sp_cv_s]
    have := hh k hk
    refine aw_iload_n dX5_breathFor_0 rfl ?_
    refine aw_if_geN (tgt := 8) dX5_breathFor_1 (by decide) (by omega) ?_
    refine aw_iload_n dX5_breathFor_8 rfl ?_
    refine aw_iconst (v := nI 1) dX5_breathFor_9 rfl ?_
    refine aw_aload_n dX5_breathFor_10 rfl ?_
    refine aw_get dX5_breathFor_11 fX5_73 rfl hR.1 (by rfl) ?_
    refine aw_iload_n dX5_breathFor_14 rfl ?_
    refine aw_ialdN dX5_breathFor_15 (hR.2.1 34 8 rfl) (by omega) (by decide) ?_
    refine aw_iconst (v := nI 3) dX5_breathFor_16 rfl ?_
    refine aw_idivN dX5_breathFor_17 (by omega) (by omega) (by omega) ?_
    refine aw_iaddN dX5_breathFor_18 ?_
    refine aw_imulN dX5_breathFor_19 ?_
    refine aw_ireturn dX5_breathFor_20 rfl ?_
    exact ⟨rfl, hR, hs⟩
/-- may t climb a storeys, carrying c, by night or not -/
def sp_can (H : sp_H) (A : Nat → Nat) (t a c nt : Int32) : Prop := (0 ≤ t.toInt ∧ t.toInt < (sp_hn H : Int)) ∧ (1 ≤ a.toInt ∧ a.toInt ≤ (sp_hs H : Int)) ∧ (0 ≤ nt.toInt ∧ nt.toInt ≤ 1) ∧ (-1 ≤ c.toInt ∧ c.toInt < (sp_hn H : Int)) ∧ c ≠ t ∧ a.toNatClampNeg * sp_brc H (c.toInt + 1).toNat ≤ A t.toNatClampNeg
theorem aw_ofN {x : Int32} (h : 0 ≤ x.toInt) : ∃ n : Nat, n < 2147483648 ∧ x = nI n ∧ x.toInt = (n : Int) ∧ x.toNatClampNeg = n := by
  have h2 : x.toInt < 2147483648 := by have := Int32.toInt_lt x; omega
  refine ⟨x.toInt.toNat, by omega, ?_, by omega, rfl⟩
  rw [aw_eqi (by omega)]
  omega
set_option maxHeartbeats 4000000 in
theorem mm_canClimb {s : mm_S} {t a c nt : Int32} {dc : Decidable (sp_can (mm_H s) (mm_a s 46) t a c nt)} (hn : mm_n s 42 ≤ 8) (hs20 : mm_n s 41 ≤ 20) (hh : ∀ k, k < 8 → mm_a s 34 k ≤ 9) (hA : ∀ k, k < 8 → mm_a s 46 k ≤ 40) : mm_Met yX5_canClimb cX5_canClimb 5 (some .boolean) 2 [.int (t), .int (a), .int (c), .int (nt)] s (some (.int (nI (aw_t (sp_can (mm_H s) (mm_a s 46) t a c nt))))) (s) := by
  refine mm_Met.of (by decide +kernel) (fun _ => Nat.le_of_ble_eq_true rfl) (fun G w h0 hW hR => ?_)
  have hs : mm_same w h0 h0 := mm_same.rf
  show AW G (aw_rm 2 0 0) yX5_canClimb cX5_canClimb 5 (some .boolean) (aw_N G (mm_Po G w h0 (some (.int (nI (aw_t (sp_can (mm_H s) (mm_a s 46) t a c nt))))) (s)) 0 0) 0 0 h0 0 [(0, .ref w.1), (1, .int (t)), (2, .int (a)), (3, .int (c)), (4, .int (nt))] []
  have e41 : (nI (mm_n s 41)).toInt = mm_n s 41 := aw_ti (by omega)
  have e1 : (nI 1).toInt = 1 := rfl
  have e0 : (nI 0).toInt = 0 := rfl
  have em : (-1 : Int32).toInt = -1 := rfl
  have h42 : sp_hn (mm_H s) = mm_n s 42 := rfl
  have h41 : sp_hs (mm_H s) = mm_n s 41 := rfl
  have no : ∀ (h : aw_H), mm_R G w h s → mm_same w h0 h → ¬ sp_can (mm_H s) (mm_a s 46) t a c nt → mm_Po G w h0 (some (.int (nI (aw_t (sp_can (mm_H s) (mm_a s 46) t a c nt))))) s (some (.int (nI 0))) h := fun h hR hs q => ⟨by rw [aw_t0 q], hR, hs⟩
  have go : ∀ (h : aw_H), mm_R G w h s → mm_same w h0 h → (0 ≤ t.toInt ∧ t.toInt < (mm_n s 42 : Int)) → (1 ≤ a.toInt ∧ a.toInt ≤ (mm_n s 41 : Int)) → (0 ≤ nt.toInt ∧ nt.toInt ≤ 1) → (-1 ≤ c.toInt ∧ c.toInt < (mm_n s 42 : Int)) → AW G (aw_rm 2 0 0) yX5_canClimb cX5_canClimb 5 (some .boolean) (aw_N G (mm_Po G w h0 (some (.int (nI (aw_t (sp_can (mm_H s) (mm_a s 46) t a c nt))))) (s)) 0 0) 0 0 h 43 [(0, .ref w.1), (1, .int t), (2, .int a), (3, .int c), (4, .int nt)] [] := by
    intro h hR hs g1 g2 g3 g4
    have bk : ¬ c = t → AW G (aw_rm 2 0 0) yX5_canClimb cX5_canClimb 5 (some .boolean) (aw_N G (mm_Po G w h0 (some (.int (nI (aw_t (sp_can (mm_H s) (mm_a s 46) t a c nt))))) (s)) 0 0) 0 0 h 50 [(0, .ref w.1), (1, .int t), (2, .int a), (3, .int c), (4, .int nt)] [] := by
      intro hne
      obtain ⟨t', ht, rfl, t1, t2⟩ := aw_ofN g1.1
      obtain ⟨a', ha, rfl, a1, a2⟩ := aw_ofN (x := a) (by omega)
      obtain ⟨c', hc', rfl, hc2⟩ : ∃ c' : Nat, c' ≤ 8 ∧ c = sp_cv c' ∧ c' = (c.toInt + 1).toNat := by
        refine ⟨(c.toInt + 1).toNat, by omega, ?_, rfl⟩
        unfold sp_cv
        by_cases z : (c.toInt + 1).toNat = 0
        · rw [if_pos z]
          exact Int32.toInt_inj.mp (by rw [em]; omega)
        · rw [if_neg z, aw_eqi (by omega)]
          omega
      have hb : a' * sp_brc (mm_H s) c' < 2147483648 := by
        have : sp_brc (mm_H s) c' ≤ 4 := by
          unfold sp_brc
          split
          · decide
          · have := hh (c' - 1) (by omega)
            show 1 + mm_a s 34 (c' - 1) / 3 ≤ 4
            omega
        have : a' * sp_brc (mm_H s) c' ≤ 20 * 4 := Nat.mul_le_mul (by omega) this
        omega
      have hA' := hA t' (by omega)
      have hP : sp_can (mm_H s) (mm_a s 46) (nI t') (nI a') (sp_cv c') nt ↔ a' * sp_brc (mm_H s) c' ≤ mm_a s 46 t' := by
        unfold sp_can
        rw [a2, t2, ← hc2]
        exact ⟨fun q => q.2.2.2.2.2, fun q => ⟨g1, g2, g3, g4, hne, q⟩⟩
      refine aw_aload_n dX5_canClimb_50 rfl ?_
      refine aw_iload_n dX5_canClimb_51 rfl ?_
      refine aw_iload_n dX5_canClimb_52 rfl ?_
      refine mm_call dX5_canClimb_53 sX5_385 rfl hW hR hs (mm_breathFor hc' hh) rfl rfl ⟨Nat.le_of_ble_eq_true rfl, Nat.le_of_ble_eq_true rfl⟩ (Nat.le_of_ble_eq_true rfl) (fun h hR hs => ?_)
      refine aw_aload_n dX5_canClimb_56 rfl ?_
      refine aw_get dX5_canClimb_57 fX5_88 rfl hR.1 (by rfl) ?_
      refine aw_iload_n dX5_canClimb_60 rfl ?_
      refine aw_ialdN dX5_canClimb_61 (hR.2.1 46 28 rfl) (by omega) (by decide) ?_
      refine aw_icmp_gtN (tgt := 69) dX5_canClimb_62 (by decide) (by omega) (by omega) (fun c_62 => ?_) (fun c_62 => ?_)
      · refine aw_iconst (v := nI 0) dX5_canClimb_69 rfl ?_
        refine aw_zreturn dX5_canClimb_70 rfl rfl ?_
        exact ⟨by first | rw [aw_t0 (fun q => absurd (hP.mp q) (by omega))] | rw [aw_t1 (hP.mpr (by omega))], hR, hs⟩
      · refine aw_iconst (v := nI 1) dX5_canClimb_65 rfl ?_
        refine aw_goto (tgt := 70) dX5_canClimb_66 (by decide) ?_
        refine aw_zreturn dX5_canClimb_70 rfl rfl ?_
        exact ⟨by first | rw [aw_t0 (fun q => absurd (hP.mp q) (by omega))] | rw [aw_t1 (hP.mpr (by omega))], hR, hs⟩
    refine aw_iload_n dX5_canClimb_43 rfl ?_
    refine aw_iload_n dX5_canClimb_44 rfl ?_
    refine aw_icmp_ne (tgt := 50) dX5_canClimb_45 (by decide) (fun c_45 => ?_) (fun c_45 => ?_)
    · exact bk c_45
    · refine aw_iconst (v := nI 0) dX5_canClimb_48 rfl ?_
      refine aw_zreturn dX5_canClimb_49 rfl rfl ?_
      exact no h hR hs (fun q => q.2.2.2.2.1 c_45)
  refine aw_aload_n dX5_canClimb_0 rfl ?_
  refine aw_iload_n dX5_canClimb_1 rfl ?_
  refine mm_call dX5_canClimb_2 sX5_382 rfl hW hR hs (mm_isTenant hn) rfl rfl ⟨Nat.le_of_ble_eq_true rfl, Nat.le_of_ble_eq_true rfl⟩ (Nat.le_of_ble_eq_true rfl) (fun h hR hs => ?_)
  refine aw_if_eqB (tgt := 48) dX5_canClimb_5 (by decide) (fun c_5 => ?_) (fun c_5 => ?_)
  · refine aw_iconst (v := nI 0) dX5_canClimb_48 rfl ?_
    refine aw_zreturn dX5_canClimb_49 rfl rfl ?_
    exact no h hR hs (fun q => by unfold sp_can at q; first | omega | (have := lv_neT c_32 em; omega))
  · refine aw_iload_n dX5_canClimb_8 rfl ?_
    refine aw_iconst (v := nI 1) dX5_canClimb_9 rfl ?_
    refine aw_aload_n dX5_canClimb_10 rfl ?_
    refine aw_get dX5_canClimb_11 fX5_82 rfl hR.1 (by rfl) ?_
    refine aw_callP (r := _) dX5_canClimb_14 sX5_368 rfl (mp_isIn) rfl rfl ⟨Nat.le_of_ble_eq_true rfl, Nat.le_of_ble_eq_true rfl⟩ (Nat.le_of_ble_eq_true rfl) ?_
    refine aw_if_eqB (tgt := 48) dX5_canClimb_17 (by decide) (fun c_17 => ?_) (fun c_17 => ?_)
    · refine aw_iconst (v := nI 0) dX5_canClimb_48 rfl ?_
      refine aw_zreturn dX5_canClimb_49 rfl rfl ?_
      exact no h hR hs (fun q => by unfold sp_can at q; first | omega | (have := lv_neT c_32 em; omega))
    · refine aw_iload dX5_canClimb_20 rfl ?_
      refine aw_iconst (v := nI 0) dX5_canClimb_22 rfl ?_
      refine aw_iconst (v := nI 1) dX5_canClimb_23 rfl ?_
      refine aw_callP (r := _) dX5_canClimb_24 sX5_368 rfl (mp_isIn) rfl rfl ⟨Nat.le_of_ble_eq_true rfl, Nat.le_of_ble_eq_true rfl⟩ (Nat.le_of_ble_eq_true rfl) ?_
      refine aw_if_eqB (tgt := 48) dX5_canClimb_27 (by decide) (fun c_27 => ?_) (fun c_27 => ?_)
      · refine aw_iconst (v := nI 0) dX5_canClimb_48 rfl ?_
        refine aw_zreturn dX5_canClimb_49 rfl rfl ?_
        exact no h hR hs (fun q => by unfold sp_can at q; first | omega | (have := lv_neT c_32 em; omega))
      · refine aw_iload_n dX5_canClimb_30 rfl ?_
        refine aw_iconst (v := -1) dX5_canClimb_31 rfl ?_
        refine aw_icmp_eq (tgt := 43) dX5_canClimb_32 (by decide) (fun c_32 => ?_) (fun c_32 => ?_)
        · exact go h hR hs c_5 (by omega) (by omega) (by first | omega | (rw [c_32]; omega))
        · refine aw_aload_n dX5_canClimb_35 rfl ?_
          refine aw_iload_n dX5_canClimb_36 rfl ?_
          refine mm_call dX5_canClimb_37 sX5_382 rfl hW hR hs (mm_isTenant hn) rfl rfl ⟨Nat.le_of_ble_eq_true rfl, Nat.le_of_ble_eq_true rfl⟩ (Nat.le_of_ble_eq_true rfl) (fun h hR hs => ?_)
          refine aw_if_eqB (tgt := 48) dX5_canClimb_40 (by decide) (fun c_40 => ?_) (fun c_40 => ?_)
          · refine aw_iconst (v := nI 0) dX5_canClimb_48 rfl ?_
            refine aw_zreturn dX5_canClimb_49 rfl rfl ?_
            exact no h hR hs (fun q => by unfold sp_can at q; first | omega | (have := lv_neT c_32 em; omega))
          · exact go h hR hs c_5 (by omega) (by omega) (by first | omega | (rw [c_32]; omega))

