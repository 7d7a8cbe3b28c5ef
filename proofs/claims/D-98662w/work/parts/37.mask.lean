set_option maxRecDepth 100000
/-! the model: runs, who and ask -/
def sp_s1 (g : Nat → Nat → Nat → Nat) (t f n : Nat) : Nat := sp_sum (fun i => g t f (f + 1 + i)) n
def sp_s2 (S : Nat) (g : Nat → Nat → Nat → Nat) (t n : Nat) : Nat := sp_sum (fun f => sp_s1 g t f (S - f)) n
def sp_s3 (S : Nat) (g : Nat → Nat → Nat → Nat) (n : Nat) : Nat := sp_sum (fun t => sp_s2 S g t S) n
def sp_gR (s : mm_S) (k : Int32) (t f o : Nat) : Nat := sp_isR s t f o k
/-- runs that have the storey v -/
def sp_gV (s : mm_S) (k : Int32) (v t f o : Nat) : Nat := if f ≤ v ∧ v ≤ o then sp_isR s t f o k else 0
theorem sp_sum_b {f : Nat → Nat} {b : Nat} (h : ∀ i, f i ≤ b) : ∀ n, sp_sum f n ≤ b * n := by
  intro n
  induction n with
  | zero => exact Nat.zero_le _
  | succ n ih =>
    have := h n
    show sp_sum f n + f n ≤ b * (n + 1)
    rw [Nat.mul_add]
    omega
theorem sp_sum_m {f g : Nat → Nat} (h : ∀ i, f i ≤ g i) : ∀ n, sp_sum f n ≤ sp_sum g n := by
  intro n
  induction n with
  | zero => exact Nat.le_refl _
  | succ n ih => exact Nat.add_le_add ih (h n)
theorem sp_s1_b {g : Nat → Nat → Nat → Nat} (h : ∀ t f o, g t f o ≤ 1) {t f n : Nat} : sp_s1 g t f n ≤ n := by
  have := sp_sum_b (f := fun i => g t f (f + 1 + i)) (b := 1) (fun i => h _ _ _) n
  unfold sp_s1
  omega
theorem sp_s2_b {g : Nat → Nat → Nat → Nat} (h : ∀ t f o, g t f o ≤ 1) {S t n : Nat} (hS : S ≤ 20) : sp_s2 S g t n ≤ 20 * n :=
  sp_sum_b (fun i => Nat.le_trans (sp_s1_b h) (by omega)) n
theorem sp_s3_b {g : Nat → Nat → Nat → Nat} (h : ∀ t f o, g t f o ≤ 1) {S n : Nat} (hS : S ≤ 20) : sp_s3 S g n ≤ 400 * n :=
  sp_sum_b (fun i => Nat.le_trans (sp_s2_b h hS) (by omega)) n
theorem sp_isR_1 {s : mm_S} {k : Int32} {t f o : Nat} : sp_isR s t f o k ≤ 1 := by have := @sp_isR_lt s t f o k; omega
theorem sp_gV_1 {s : mm_S} {k : Int32} {v t f o : Nat} : sp_gV s k v t f o ≤ 1 := by
  unfold sp_gV
  split
  · exact sp_isR_1
  · exact Nat.zero_le _
theorem sp_gV_R {s : mm_S} {k : Int32} {v t f o : Nat} : sp_gV s k v t f o ≤ sp_gR s k t f o := by
  unfold sp_gV sp_gR
  split
  · exact Nat.le_refl _
  · exact Nat.zero_le _
theorem sp_fits_c {s u : mm_S} (e : mm_core s u) (h33 : mm_a s 33 = mm_a u 33) (h34 : mm_a s 34 = mm_a u 34) {t f o : Nat} {k : Int32} : ∀ n, sp_fits s t f o k n = sp_fits u t f o k n := by
  intro n
  induction n with
  | zero => unfold sp_fits; rw [h33]
  | succ n ih =>
    unfold sp_fits
    rw [ih]
    unfold sp_fit sp_soN
    rw [e.2.2.1 59 rfl, e.2.2.1 60 rfl, e.2.2.1 61 rfl, e.2.2.1 63 rfl, e.2.2.2 62 rfl, h34]
theorem sp_isR_c {s u : mm_S} (e : mm_core s u) {t f o : Nat} {k : Int32} : sp_isR s t f o k = sp_isR u t f o k := by
  unfold sp_isR
  rw [sp_fits_c e (e.2.2.1 33 rfl) (e.2.2.1 34 rfl), e.1 64 rfl]
set_option maxHeartbeats 4000000 in
theorem mm_runsOf {s : mm_S} {t : Nat} {k : Int32} (hH : sp_okH (mm_H s)) (hM : mm_okM s) (ht : t < 8) : mm_Met yX5_runsOf cX5_runsOf 6 (some .int) 2 [.int (nI (t)), .int (k)] s (some (.int (nI (sp_s2 (mm_n s 41) (sp_gR s k) t (mm_n s 41))))) (s) := by
  refine mm_Met.of (by decide +kernel) (fun _ => Nat.le_of_ble_eq_true rfl) (fun G w h0 hW hR => ?_)
  have hs : mm_same w h0 h0 := mm_same.rf
  show AW G (aw_rm 2 0 0) yX5_runsOf cX5_runsOf 6 (some .int) (aw_N G (mm_Po G w h0 (some (.int (nI (sp_s2 (mm_n s 41) (sp_gR s k) t (mm_n s 41))))) (s)) 0 0) 0 0 h0 0 [(0, .ref w.1), (1, .int (nI (t))), (2, .int (k))] []
  have hs1 : 1 ≤ mm_n s 41 := hH.1.1; have hs20 : mm_n s 41 ≤ 20 := hH.1.2; have hn : mm_n s 42 ≤ 8 := hH.2.1; have hlv : ∀ t, t < 8 → mm_a s 32 t ≤ 20 := fun t ht => (hH.2.2.1 t ht).1; have hsg : ∀ t, t < 8 → mm_a s 33 t ≤ 40 := fun t ht => (hH.2.2.1 t ht).2.1; have hhv : ∀ t, t < 8 → mm_a s 34 t ≤ 9 := fun t ht => (hH.2.2.1 t ht).2.2.1; have how : ∀ t, t < 8 → mm_a s 35 t ≤ 999 := fun t ht => (hH.2.2.1 t ht).2.2.2.1; have hfl : ∀ t, t < 8 → mm_a s 36 t ≤ 100 := fun t ht => (hH.2.2.1 t ht).2.2.2.2; have hF0 : sp_fok (mm_steps s 0) := hH.2.2.2.1; have hF1 : sp_fok (mm_steps s 1) := hH.2.2.2.2; have h42 : sp_hn (mm_H s) = mm_n s 42 := rfl; have h41 : sp_hs (mm_H s) = mm_n s 41 := rfl
  have inner : ∀ (m f i c : Nat) (h : aw_H), mm_n s 41 - f - i = m → f < mm_n s 41 → i ≤ mm_n s 41 - f → (∀ h : aw_H, mm_R G w h s → mm_same w h0 h → AW G (aw_rm 2 0 0) yX5_runsOf cX5_runsOf 6 (some .int) (aw_N G (mm_Po G w h0 (some (.int (nI (sp_s2 (mm_n s 41) (sp_gR s k) t (mm_n s 41))))) (s)) 0 0) 0 0 h 51 [(0, .ref w.1), (1, .int (nI t)), (2, .int k), (3, .int (nI (c + sp_s1 (sp_gR s k) t f (mm_n s 41 - f)))), (4, .int (nI f))] []) → mm_R G w h s → mm_same w h0 h → AW G (aw_rm 2 0 0) yX5_runsOf cX5_runsOf 6 (some .int) (aw_N G (mm_Po G w h0 (some (.int (nI (sp_s2 (mm_n s 41) (sp_gR s k) t (mm_n s 41))))) (s)) 0 0) 0 0 h 20 [(0, .ref w.1), (1, .int (nI t)), (2, .int k), (3, .int (nI (c + sp_s1 (sp_gR s k) t f i))), (4, .int (nI f)), (5, .int (nI (f + 1 + i)))] [] := by
    intro m
    induction m using Nat.strongRecOn with
    | _ m ih =>
      intro f i c h hm hf hi hgo hR hs
      refine aw_iload dX5_runsOf_20 rfl ?_
      refine aw_aload_n dX5_runsOf_22 rfl ?_
      refine aw_get dX5_runsOf_23 fX5_82 rfl hR.1 (by rfl) ?_
      refine aw_icmp_gtN (tgt := 51) dX5_runsOf_26 (by decide) (by omega) (by omega) (fun c_26 => ?_) (fun c_26 => ?_)
      · obtain rfl : i = mm_n s 41 - f := by omega
        exact AW_dr (hgo h hR hs)
      · refine aw_iload_n dX5_runsOf_29 rfl ?_
        refine aw_aload_n dX5_runsOf_30 rfl ?_
        refine aw_iload_n dX5_runsOf_31 rfl ?_
        refine aw_iload dX5_runsOf_32 rfl ?_
        refine aw_iload dX5_runsOf_34 rfl ?_
        refine aw_iload_n dX5_runsOf_36 rfl ?_
        refine mm_call dX5_runsOf_37 sX5_493 rfl hW hR hs (mm_isRun hH hM ht (by omega) (by omega)) rfl rfl ⟨Nat.le_of_ble_eq_true rfl, Nat.le_of_ble_eq_true rfl⟩ (Nat.le_of_ble_eq_true rfl) (fun h hR hs => ?_)
        refine aw_callP (r := _) dX5_runsOf_40 sX5_304 rfl (mp_truth sp_isR_lt) rfl rfl ⟨Nat.le_of_ble_eq_true rfl, Nat.le_of_ble_eq_true rfl⟩ (Nat.le_of_ble_eq_true rfl) ?_
        refine aw_iaddN dX5_runsOf_43 ?_
        refine aw_istore_n dX5_runsOf_44 (by decide) rfl rfl ?_
        refine aw_iincN (b := 1) dX5_runsOf_45 rfl rfl (by decide) rfl rfl ?_
        refine aw_goto (tgt := 20) dX5_runsOf_48 (by decide) ?_
        refine AW_ls ?_ (ih (mm_n s 41 - f - (i + 1)) (by omega) f (i + 1) c h rfl hf (by omega) hgo hR hs)
        rw [Nat.add_assoc c]
        rfl
  have outer : ∀ (m f : Nat) (h : aw_H), mm_n s 41 - f = m → f ≤ mm_n s 41 → mm_R G w h s → mm_same w h0 h → AW G (aw_rm 2 0 0) yX5_runsOf cX5_runsOf 6 (some .int) (aw_N G (mm_Po G w h0 (some (.int (nI (sp_s2 (mm_n s 41) (sp_gR s k) t (mm_n s 41))))) (s)) 0 0) 0 0 h 5 [(0, .ref w.1), (1, .int (nI t)), (2, .int k), (3, .int (nI (sp_s2 (mm_n s 41) (sp_gR s k) t f))), (4, .int (nI f))] [] := by
    intro m
    induction m using Nat.strongRecOn with
    | _ m ih =>
      intro f h hm hf hR hs
      have back : ∀ h : aw_H, f < mm_n s 41 → mm_R G w h s → mm_same w h0 h → AW G (aw_rm 2 0 0) yX5_runsOf cX5_runsOf 6 (some .int) (aw_N G (mm_Po G w h0 (some (.int (nI (sp_s2 (mm_n s 41) (sp_gR s k) t (mm_n s 41))))) (s)) 0 0) 0 0 h 51 [(0, .ref w.1), (1, .int (nI t)), (2, .int k), (3, .int (nI (sp_s2 (mm_n s 41) (sp_gR s k) t f + sp_s1 (sp_gR s k) t f (mm_n s 41 - f)))), (4, .int (nI f))] [] := by
        intro h hk2 hR hs
        refine aw_iincN (b := 1) dX5_runsOf_51 rfl rfl (by decide) rfl rfl ?_
        refine aw_goto (tgt := 5) dX5_runsOf_54 (by decide) ?_
        exact ih (mm_n s 41 - (f + 1)) (by omega) (f + 1) h rfl (by omega) hR hs
      refine aw_iload dX5_runsOf_5 rfl ?_
      refine aw_aload_n dX5_runsOf_7 rfl ?_
      refine aw_get dX5_runsOf_8 fX5_82 rfl hR.1 (by rfl) ?_
      refine aw_icmp_geN (tgt := 57) dX5_runsOf_11 (by decide) (by omega) (by omega) (fun c_11 => ?_) (fun c_11 => ?_)
      · refine aw_iload_n dX5_runsOf_57 rfl ?_
        refine aw_ireturn dX5_runsOf_58 rfl ?_
        exact ⟨by rw [show f = mm_n s 41 by omega], hR, hs⟩
      · refine aw_iload dX5_runsOf_14 rfl ?_
        refine aw_iconst (v := nI 1) dX5_runsOf_16 rfl ?_
        refine aw_iaddN dX5_runsOf_17 ?_
        refine aw_istore dX5_runsOf_18 (by decide) rfl rfl ?_
        exact inner _ f 0 _ h rfl (by omega) (Nat.zero_le _) (fun h => back h (by omega)) hR hs
  refine aw_iconst (v := nI 0) dX5_runsOf_0 rfl ?_
  refine aw_istore_n dX5_runsOf_1 (by decide) rfl rfl ?_
  refine aw_iconst (v := nI 0) dX5_runsOf_2 rfl ?_
  refine aw_istore dX5_runsOf_3 (by decide) rfl rfl ?_
  exact outer (mm_n s 41) 0 h0 rfl (Nat.zero_le _) hR hs
def op_runs (s : mm_S) (k : Int32) : Int32 := nI (sp_s3 (mm_n s 41) (sp_gR s k) (mm_n s 42))
def op_who (s : mm_S) (k : Int32) : Int32 := nI (sp_or (fun t => aw_t (0 < sp_s2 (mm_n s 41) (sp_gR s k) t (mm_n s 41))) (mm_n s 42))
set_option maxHeartbeats 4000000 in
theorem mo_runs {s : mm_S} {k : Int32} (hH : sp_okH (mm_H s)) (hM : mm_okM s) : mm_Op yX5_runs cX5_runs 4 (some .int) 3 [.int (k)] s (some (.int (op_runs s k))) (s) := by
  refine mm_Op.of (by decide +kernel) (fun _ => Nat.le_of_ble_eq_true rfl) (fun G w h0 hW hR => ?_)
  have hs : mm_same w h0 h0 := mm_same.rf
  show AW G (aw_rm 3 0 0) yX5_runs cX5_runs 4 (some .int) (aw_N G (mm_PoC G w h0 (some (.int (op_runs s k))) (s)) 0 0) 0 0 h0 0 [(0, .ref w.1), (1, .int (k))] []
  have hs1 : 1 ≤ mm_n s 41 := hH.1.1; have hs20 : mm_n s 41 ≤ 20 := hH.1.2; have hn : mm_n s 42 ≤ 8 := hH.2.1; have hlv : ∀ t, t < 8 → mm_a s 32 t ≤ 20 := fun t ht => (hH.2.2.1 t ht).1; have hsg : ∀ t, t < 8 → mm_a s 33 t ≤ 40 := fun t ht => (hH.2.2.1 t ht).2.1; have hhv : ∀ t, t < 8 → mm_a s 34 t ≤ 9 := fun t ht => (hH.2.2.1 t ht).2.2.1; have how : ∀ t, t < 8 → mm_a s 35 t ≤ 999 := fun t ht => (hH.2.2.1 t ht).2.2.2.1; have hfl : ∀ t, t < 8 → mm_a s 36 t ≤ 100 := fun t ht => (hH.2.2.1 t ht).2.2.2.2; have hF0 : sp_fok (mm_steps s 0) := hH.2.2.2.1; have hF1 : sp_fok (mm_steps s 1) := hH.2.2.2.2; have h42 : sp_hn (mm_H s) = mm_n s 42 := rfl; have h41 : sp_hs (mm_H s) = mm_n s 41 := rfl
  have loop : ∀ (m t : Nat) (h : aw_H), mm_n s 42 - t = m → t ≤ mm_n s 42 → mm_R G w h s → mm_same w h0 h → AW G (aw_rm 3 0 0) yX5_runs cX5_runs 4 (some .int) (aw_N G (mm_PoC G w h0 (some (.int (op_runs s k))) (s)) 0 0) 0 0 h 4 [(0, .ref w.1), (1, .int k), (2, .int (nI (sp_s3 (mm_n s 41) (sp_gR s k) t))), (3, .int (nI t))] [] := by
    intro m
    induction m using Nat.strongRecOn with
    | _ m ih =>
      intro t h hm ht hR hs
      refine aw_iload_n dX5_runs_4 rfl ?_
      refine aw_aload_n dX5_runs_5 rfl ?_
      refine aw_get dX5_runs_6 fX5_350 rfl hR.1 (by rfl) ?_
      refine aw_icmp_geN (tgt := 27) dX5_runs_9 (by decide) (by omega) (by omega) (fun c_9 => ?_) (fun c_9 => ?_)
      · refine aw_iload_n dX5_runs_27 rfl ?_
        refine aw_ireturn dX5_runs_28 rfl ?_
        exact ⟨by rw [op_runs, show mm_n s 42 = t by omega], _, mm_core.rf, hR, hs⟩
      · refine aw_iload_n dX5_runs_12 rfl ?_
        refine aw_aload_n dX5_runs_13 rfl ?_
        refine aw_iload_n dX5_runs_14 rfl ?_
        refine aw_iload_n dX5_runs_15 rfl ?_
        refine mm_call dX5_runs_16 sX5_496 rfl hW hR hs (mm_runsOf hH hM (by omega)) rfl rfl ⟨Nat.le_of_ble_eq_true rfl, Nat.le_of_ble_eq_true rfl⟩ (Nat.le_of_ble_eq_true rfl) (fun h hR hs => ?_)
        refine aw_iaddN dX5_runs_19 ?_
        refine aw_istore_n dX5_runs_20 (by decide) rfl rfl ?_
        refine aw_iincN (b := 1) dX5_runs_21 rfl rfl (by decide) rfl rfl ?_
        refine aw_goto (tgt := 4) dX5_runs_24 (by decide) ?_
        exact ih (mm_n s 42 - (t + 1)) (by omega) (t + 1) h rfl (by omega) hR hs
  refine aw_iconst (v := nI 0) dX5_runs_0 rfl ?_
  refine aw_istore_n dX5_runs_1 (by decide) rfl rfl ?_
  refine aw_iconst (v := nI 0) dX5_runs_2 rfl ?_
  refine aw_istore_n dX5_runs_3 (by decide) rfl rfl ?_
  exact loop (mm_n s 42) 0 h0 rfl (Nat.zero_le _) hR hs
set_option maxHeartbeats 4000000 in
theorem mo_who {s : mm_S} {k : Int32} (hH : sp_okH (mm_H s)) (hM : mm_okM s) : mm_Op yX5_who cX5_who 4 (some .int) 3 [.int (k)] s (some (.int (op_who s k))) (s) := by
  refine mm_Op.of (by decide +kernel) (fun _ => Nat.le_of_ble_eq_true rfl) (fun G w h0 hW hR => ?_)
  have hs : mm_same w h0 h0 := mm_same.rf
  show AW G (aw_rm 3 0 0) yX5_who cX5_who 4 (some .int) (aw_N G (mm_PoC G w h0 (some (.int (op_who s k))) (s)) 0 0) 0 0 h0 0 [(0, .ref w.1), (1, .int (k))] []
  have hs1 : 1 ≤ mm_n s 41 := hH.1.1; have hs20 : mm_n s 41 ≤ 20 := hH.1.2; have hn : mm_n s 42 ≤ 8 := hH.2.1; have hlv : ∀ t, t < 8 → mm_a s 32 t ≤ 20 := fun t ht => (hH.2.2.1 t ht).1; have hsg : ∀ t, t < 8 → mm_a s 33 t ≤ 40 := fun t ht => (hH.2.2.1 t ht).2.1; have hhv : ∀ t, t < 8 → mm_a s 34 t ≤ 9 := fun t ht => (hH.2.2.1 t ht).2.2.1; have how : ∀ t, t < 8 → mm_a s 35 t ≤ 999 := fun t ht => (hH.2.2.1 t ht).2.2.2.1; have hfl : ∀ t, t < 8 → mm_a s 36 t ≤ 100 := fun t ht => (hH.2.2.1 t ht).2.2.2.2; have hF0 : sp_fok (mm_steps s 0) := hH.2.2.2.1; have hF1 : sp_fok (mm_steps s 1) := hH.2.2.2.2; have h42 : sp_hn (mm_H s) = mm_n s 42 := rfl; have h41 : sp_hs (mm_H s) = mm_n s 41 := rfl
  have loop : ∀ (m t : Nat) (h : aw_H), mm_n s 42 - t = m → t ≤ mm_n s 42 → mm_R G w h s → mm_same w h0 h → AW G (aw_rm 3 0 0) yX5_who cX5_who 4 (some .int) (aw_N G (mm_PoC G w h0 (some (.int (op_who s k))) (s)) 0 0) 0 0 h 4 [(0, .ref w.1), (1, .int k), (2, .int (nI (sp_or (fun t => aw_t (0 < sp_s2 (mm_n s 41) (sp_gR s k) t (mm_n s 41))) t))), (3, .int (nI t))] [] := by
    intro m
    induction m using Nat.strongRecOn with
    | _ m ih =>
      intro t h hm ht hR hs
      have q := sp_s2_b (g := sp_gR s k) (S := mm_n s 41) (t := t) (n := mm_n s 41) (fun t f o => sp_isR_1) hs20
      by_cases ht9 : t < mm_n s 42
      · have ht8 : t < 8 := by omega
        have e24 := sp_2p ht8
        have e25 := sp_or_lt (f := fun t => aw_t (0 < sp_s2 (mm_n s 41) (sp_gR s k) t (mm_n s 41))) (fun k => aw_t_lt) t
        have next : ∀ (b : Nat) (h : aw_H), b = aw_t (0 < sp_s2 (mm_n s 41) (sp_gR s k) t (mm_n s 41)) → mm_R G w h s → mm_same w h0 h → t < mm_n s 42 → AW G (aw_rm 3 0 0) yX5_who cX5_who 4 (some .int) (aw_N G (mm_PoC G w h0 (some (.int (op_who s k))) (s)) 0 0) 0 0 h 27 [(0, .ref w.1), (1, .int k), (2, .int (nI (sp_or (fun t => aw_t (0 < sp_s2 (mm_n s 41) (sp_gR s k) t (mm_n s 41))) t))), (3, .int (nI t))] [.int (nI b), .int (nI (sp_or (fun t => aw_t (0 < sp_s2 (mm_n s 41) (sp_gR s k) t (mm_n s 41))) t))] := by
          intro b h eb hR hs ht9
          have hb2 : b < 2 := eb ▸ aw_t_lt
          have hb3 := aw_sh1 hb2 ht8
          refine aw_callP (r := _) dX5_who_27 sX5_304 rfl (mp_truth hb2) rfl rfl ⟨Nat.le_of_ble_eq_true rfl, Nat.le_of_ble_eq_true rfl⟩ (Nat.le_of_ble_eq_true rfl) ?_
          refine aw_iload_n dX5_who_30 rfl ?_
          refine aw_ishlN dX5_who_31 (by first | omega | exact hb3) (by first | omega | exact hb3) ?_
          refine aw_iorN dX5_who_32 ?_
          refine aw_istore_n dX5_who_33 (by decide) rfl rfl ?_
          refine aw_iincN (b := 1) dX5_who_34 rfl rfl (by decide) rfl rfl ?_
          refine aw_goto (tgt := 4) dX5_who_37 (by decide) ?_
          refine AW_ls ?_ (ih (mm_n s 42 - (t + 1)) (by omega) (t + 1) h rfl (by omega) hR hs)
          rw [eb]
          rfl
        refine aw_iload_n dX5_who_4 rfl ?_
        refine aw_aload_n dX5_who_5 rfl ?_
        refine aw_get dX5_who_6 fX5_350 rfl hR.1 (by rfl) ?_
        refine aw_icmp_geN (tgt := 40) dX5_who_9 (by decide) (by omega) (by omega) (fun c_9 => by exfalso; omega) (fun c_9 => ?_)
        refine aw_iload_n dX5_who_12 rfl ?_
        refine aw_aload_n dX5_who_13 rfl ?_
        refine aw_iload_n dX5_who_14 rfl ?_
        refine aw_iload_n dX5_who_15 rfl ?_
        refine mm_call dX5_who_16 sX5_496 rfl hW hR hs (mm_runsOf hH hM ht8) rfl rfl ⟨Nat.le_of_ble_eq_true rfl, Nat.le_of_ble_eq_true rfl⟩ (Nat.le_of_ble_eq_true rfl) (fun h hR hs => ?_)
        refine aw_if_leN (tgt := 26) dX5_who_19 (by decide) (by omega) (fun c_19 => ?_) (fun c_19 => ?_)
        · refine aw_iconst (v := nI 0) dX5_who_26 rfl ?_
          refine next _ _ ?_ hR hs (by omega)
          first
            | rw [aw_t1 (by omega)]
            | rw [aw_t0 (by omega)]
        · refine aw_iconst (v := nI 1) dX5_who_22 rfl ?_
          refine aw_goto (tgt := 27) dX5_who_23 (by decide) ?_
          refine next _ _ ?_ hR hs (by omega)
          first
            | rw [aw_t1 (by omega)]
            | rw [aw_t0 (by omega)]
      ·
        refine aw_iload_n dX5_who_4 rfl ?_
        refine aw_aload_n dX5_who_5 rfl ?_
        refine aw_get dX5_who_6 fX5_350 rfl hR.1 (by rfl) ?_
        refine aw_icmp_geN (tgt := 40) dX5_who_9 (by decide) (by omega) (by omega) (fun c_9 => ?_) (fun c_9 => by exfalso; omega)
        refine aw_iload_n dX5_who_40 rfl ?_
        refine aw_ireturn dX5_who_41 rfl ?_
        exact ⟨by rw [op_who, show mm_n s 42 = t by omega], _, mm_core.rf, hR, hs⟩
  refine aw_iconst (v := nI 0) dX5_who_0 rfl ?_
  refine aw_istore_n dX5_who_1 (by decide) rfl rfl ?_
  refine aw_iconst (v := nI 0) dX5_who_2 rfl ?_
  refine aw_istore_n dX5_who_3 (by decide) rfl rfl ?_
  exact loop (mm_n s 42) 0 h0 rfl (Nat.zero_le _) hR hs
/-- the best storey to ask of: one more, and what is left -/
def sp_bst (all : Nat) (T : Nat → Nat) : Nat → Nat × Nat
  | 0 => (0, all + 1)
  | k + 1 => if max (T k) (all - T k) < (sp_bst all T k).2 then (k + 1, max (T k) (all - T k)) else sp_bst all T k
theorem sp_bst_le {all : Nat} {T : Nat → Nat} : ∀ n, (sp_bst all T n).1 ≤ n ∧ (sp_bst all T n).2 ≤ all + 1 := by
  intro n
  induction n with
  | zero => exact ⟨Nat.le_refl _, Nat.le_refl _⟩
  | succ n ih =>
    unfold sp_bst
    split
    · refine ⟨Nat.le_refl _, ?_⟩
      dsimp only
      omega
    · exact ⟨by omega, ih.2⟩
def sp_all (s : mm_S) (k : Int32) : Nat := sp_s3 (mm_n s 41) (sp_gR s k) (mm_n s 42)
def sp_tal (s : mm_S) (k : Int32) (v : Nat) : Nat := sp_s3 (mm_n s 41) (sp_gV s k v) (mm_n s 42)
noncomputable def op_ask (s : mm_S) (q k : Int32) : Int32 := aw_if ((0 ≤ q.toInt ∧ q.toInt ≤ 1) ∧ sp_all s k ≠ 0) (if q.toInt = 0 then sp_cv (sp_bst (sp_all s k) (sp_tal s k) (mm_n s 41 + 1)).1 else nI (sp_bst (sp_all s k) (sp_tal s k) (mm_n s 41 + 1)).2) (-1)
theorem sp_s1_m {g g' : Nat → Nat → Nat → Nat} (h : ∀ t f o, g t f o ≤ g' t f o) {t f n : Nat} : sp_s1 g t f n ≤ sp_s1 g' t f n := sp_sum_m (fun i => h _ _ _) n
theorem sp_s2_m {g g' : Nat → Nat → Nat → Nat} (h : ∀ t f o, g t f o ≤ g' t f o) {S t n : Nat} : sp_s2 S g t n ≤ sp_s2 S g' t n := sp_sum_m (fun i => sp_s1_m h) n
theorem sp_s3_m {g g' : Nat → Nat → Nat → Nat} (h : ∀ t f o, g t f o ≤ g' t f o) {S n : Nat} : sp_s3 S g n ≤ sp_s3 S g' n := sp_sum_m (fun i => sp_s2_m h) n
/-- the tally so far -/
def mm_tl (s : mm_S) (T : Nat → Nat) : mm_S := mm_setA s 66 (fun j => if j ≤ mm_n s 41 then T j else mm_a s 66 j)
theorem mm_tl_u {s : mm_S} {T : Nat → Nat} {v x : Nat} (hv : v ≤ mm_n s 41) : mm_setA (mm_tl s T) 66 (aw_u (fun j => if j ≤ mm_n s 41 then T j else mm_a s 66 j) v x) = mm_tl s (aw_u T v x) := by
  unfold mm_tl
  rw [mm_A_A]
  congr 1
  funext j
  unfold aw_u
  by_cases e : j = v
  · rw [if_pos e, if_pos e, if_pos (by omega)]
  · rw [if_neg e, if_neg e]
theorem mm_tl_c {s : mm_S} {T T' : Nat → Nat} (h : ∀ j, j ≤ mm_n s 41 → T j = T' j) : mm_tl s T = mm_tl s T' := by
  unfold mm_tl
  congr 1
  funext j
  by_cases e : j ≤ mm_n s 41
  · rw [if_pos e, if_pos e, h j e]
  · rw [if_neg e, if_neg e]
theorem mm_tl_at {s : mm_S} {T : Nat → Nat} {j : Nat} (h : j ≤ mm_n s 41) : mm_a (mm_tl s T) 66 j = T j := if_pos h
theorem mm_tl_core {s : mm_S} {T : Nat → Nat} : mm_core s (mm_tl s T) := mm_core.A rfl mm_core.rf
def mm_Wt (s : mm_S) (k : Int32) (t f i v : Nat) : Nat := sp_s3 (mm_n s 41) (sp_gV s k v) t + sp_s2 (mm_n s 41) (sp_gV s k v) t f + sp_s1 (sp_gV s k v) t f i
def mm_Ct (s : mm_S) (k : Int32) (t f i : Nat) : Nat := sp_s3 (mm_n s 41) (sp_gR s k) t + sp_s2 (mm_n s 41) (sp_gR s k) t f + sp_s1 (sp_gR s k) t f i
theorem mm_tl_inc {s : mm_S} {T T' : Nat → Nat} {j : Nat} (hj : j ≤ mm_n s 41) (h : ∀ v, v ≤ mm_n s 41 → T' v = if v = j then T j + 1 else T v) : mm_setA (mm_tl s T) 66 (aw_u (mm_a (mm_tl s T) 66) j (mm_a (mm_tl s T) 66 j + 1)) = mm_tl s T' := by
  rw [mm_tl_at hj]
  refine (mm_tl_u hj).trans (mm_tl_c fun v hv => ?_)
  rw [h v hv]
  rfl
set_option maxHeartbeats 4000000 in
theorem mo_ask {s : mm_S} {q k : Int32} (hH : sp_okH (mm_H s)) (hM : mm_okM s) : mm_Op yX5_ask cX5_ask 8 (some .int) 2 [.int (q), .int (k)] s (some (.int (op_ask s q k))) (s) := by
  refine mm_Op.of (by decide +kernel) (fun _ => Nat.le_of_ble_eq_true rfl) (fun G w h0 hW hR => ?_)
  have hs : mm_same w h0 h0 := mm_same.rf
  show AW G (aw_rm 2 0 0) yX5_ask cX5_ask 8 (some .int) (aw_N G (mm_PoC G w h0 (some (.int (op_ask s q k))) (s)) 0 0) 0 0 h0 0 [(0, .ref w.1), (1, .int (q)), (2, .int (k))] []
  have hs1 : 1 ≤ mm_n s 41 := hH.1.1; have hs20 : mm_n s 41 ≤ 20 := hH.1.2; have hn : mm_n s 42 ≤ 8 := hH.2.1; have hlv : ∀ t, t < 8 → mm_a s 32 t ≤ 20 := fun t ht => (hH.2.2.1 t ht).1; have hsg : ∀ t, t < 8 → mm_a s 33 t ≤ 40 := fun t ht => (hH.2.2.1 t ht).2.1; have hhv : ∀ t, t < 8 → mm_a s 34 t ≤ 9 := fun t ht => (hH.2.2.1 t ht).2.2.1; have how : ∀ t, t < 8 → mm_a s 35 t ≤ 999 := fun t ht => (hH.2.2.1 t ht).2.2.2.1; have hfl : ∀ t, t < 8 → mm_a s 36 t ≤ 100 := fun t ht => (hH.2.2.1 t ht).2.2.2.2; have hF0 : sp_fok (mm_steps s 0) := hH.2.2.2.1; have hF1 : sp_fok (mm_steps s 1) := hH.2.2.2.2; have h42 : sp_hn (mm_H s) = mm_n s 42 := rfl; have h41 : sp_hs (mm_H s) = mm_n s 41 := rfl
  obtain ⟨al, hal⟩ : ∃ al, al = sp_all s k := ⟨_, rfl⟩
  have b3 : ∀ t, sp_s3 (mm_n s 41) (sp_gR s k) t ≤ 400 * t := fun t => sp_s3_b (fun t f o => sp_isR_1) hs20
  have bal : al ≤ 3200 := by have := b3 (mm_n s 42); rw [hal]; unfold sp_all; omega
  have bt : ∀ v, sp_tal s k v ≤ al := fun v => by rw [hal]; exact sp_s3_m (fun t f o => sp_gV_R)
  have loop : ∀ (m v : Nat) (h : aw_H), mm_n s 41 + 1 - v = m → v ≤ mm_n s 41 + 1 → 0 ≤ q.toInt → q.toInt ≤ 1 → al ≠ 0 → mm_R G w h (mm_tl s (sp_tal s k)) → mm_same w h0 h → AW G (aw_rm 2 0 0) yX5_ask cX5_ask 8 (some .int) (aw_N G (mm_PoC G w h0 (some (.int (op_ask s q k))) (s)) 0 0) 0 0 h 159 [(0, .ref w.1), (1, .int q), (2, .int k), (3, .int (nI al)), (4, .int (sp_cv (sp_bst al (sp_tal s k) v).1)), (5, .int (nI (sp_bst al (sp_tal s k) v).2)), (6, .int (nI v))] [] := by
    intro m
    induction m using Nat.strongRecOn with
    | _ m ih =>
      intro v h hm hv q1 q2 qa hR hs
      obtain ⟨g1, g2⟩ := @sp_bst_le al (sp_tal s k) v
      have g3 := bt v
      obtain ⟨p, hp⟩ : ∃ p, p = sp_bst al (sp_tal s k) v := ⟨_, rfl⟩
      have eS : sp_bst al (sp_tal s k) (v + 1) = if max (sp_tal s k v) (al - sp_tal s k v) < (sp_bst al (sp_tal s k) v).2 then (v + 1, max (sp_tal s k v) (al - sp_tal s k v)) else sp_bst al (sp_tal s k) v := rfl
      have next : ∀ (c l : Nat) (h : aw_H), (c, l) = sp_bst al (sp_tal s k) (v + 1) → v ≤ mm_n s 41 → mm_R G w h (mm_tl s (sp_tal s k)) → mm_same w h0 h → AW G (aw_rm 2 0 0) yX5_ask cX5_ask 8 (some .int) (aw_N G (mm_PoC G w h0 (some (.int (op_ask s q k))) (s)) 0 0) 0 0 h 226 [(0, .ref w.1), (1, .int q), (2, .int k), (3, .int (nI al)), (4, .int (sp_cv c)), (5, .int (nI l)), (6, .int (nI v))] [] := by
        intro c l h e hv2 hR hs
        refine aw_iincN (b := 1) dX5_ask_226 rfl rfl (by decide) rfl rfl ?_
        refine aw_goto (tgt := 159) dX5_ask_229 (by decide) ?_
        refine AW_ls ?_ (ih (mm_n s 41 + 1 - (v + 1)) (by omega) (v + 1) h rfl (by omega) q1 q2 qa hR hs)
        rw [← e]
        rfl
      have mid : ∀ (o : Nat) (h : aw_H), o = max (sp_tal s k v) (al - sp_tal s k v) → v ≤ mm_n s 41 → mm_R G w h (mm_tl s (sp_tal s k)) → mm_same w h0 h → AW G (aw_rm 2 0 0) yX5_ask cX5_ask 8 (some .int) (aw_N G (mm_PoC G w h0 (some (.int (op_ask s q k))) (s)) 0 0) 0 0 h 206 [(0, .ref w.1), (1, .int q), (2, .int k), (3, .int (nI al)), (4, .int (sp_cv (sp_bst al (sp_tal s k) v).1)), (5, .int (nI (sp_bst al (sp_tal s k) v).2)), (6, .int (nI v))] [.int (nI o)] := by
        intro o h eo hv2 hR hs
        refine aw_istore dX5_ask_206 (by decide) rfl rfl ?_
        refine aw_iload dX5_ask_208 rfl ?_
        refine aw_iload dX5_ask_210 rfl ?_
        refine aw_icmp_ltN (tgt := 218) dX5_ask_212 (by decide) (by omega) (by omega) (fun c_212 => ?_) (fun c_212 => ?_)
        · refine aw_iload dX5_ask_218 rfl ?_
          refine aw_istore dX5_ask_220 (by decide) rfl rfl ?_
          refine aw_iload dX5_ask_222 rfl ?_
          refine aw_istore dX5_ask_224 (by decide) rfl rfl ?_
          first
            | exact AW_dr (ls' := [(0, .ref w.1), (1, .int q), (2, .int k), (3, .int (nI al)), (4, .int (sp_cv (v + 1))), (5, .int (nI o)), (6, .int (nI v))]) (r := [(7, .int (nI o))]) (next (v + 1) o h (by rw [eS, if_pos (by omega), eo]) hv2 hR hs)
            | exact AW_dr (ls' := [(0, .ref w.1), (1, .int q), (2, .int k), (3, .int (nI al)), (4, .int (sp_cv (sp_bst al (sp_tal s k) v).1)), (5, .int (nI (sp_bst al (sp_tal s k) v).2)), (6, .int (nI v))]) (r := [(7, .int (nI o))]) (next _ _ h (by rw [eS, if_neg (by omega)]) hv2 hR hs)
        · refine aw_goto (tgt := 226) dX5_ask_215 (by decide) ?_
          first
            | exact AW_dr (ls' := [(0, .ref w.1), (1, .int q), (2, .int k), (3, .int (nI al)), (4, .int (sp_cv (v + 1))), (5, .int (nI o)), (6, .int (nI v))]) (r := [(7, .int (nI o))]) (next (v + 1) o h (by rw [eS, if_pos (by omega), eo]) hv2 hR hs)
            | exact AW_dr (ls' := [(0, .ref w.1), (1, .int q), (2, .int k), (3, .int (nI al)), (4, .int (sp_cv (sp_bst al (sp_tal s k) v).1)), (5, .int (nI (sp_bst al (sp_tal s k) v).2)), (6, .int (nI v))]) (r := [(7, .int (nI o))]) (next _ _ h (by rw [eS, if_neg (by omega)]) hv2 hR hs)
      by_cases hv9 : v ≤ mm_n s 41
      · have e66 : mm_a (mm_tl s (sp_tal s k)) 66 v = sp_tal s k v := mm_tl_at hv9
        have e41 : mm_n (mm_tl s (sp_tal s k)) 41 = mm_n s 41 := rfl
        refine aw_iload dX5_ask_159 rfl ?_
        refine aw_aload_n dX5_ask_161 rfl ?_
        refine aw_get dX5_ask_162 fX5_82 rfl hR.1 (by rfl) ?_
        refine aw_icmp_gtN (tgt := 232) dX5_ask_165 (by decide) (by omega) (by omega) (fun c_165 => by exfalso; omega) (fun c_165 => ?_)
        refine aw_aload_n dX5_ask_168 rfl ?_
        refine aw_get dX5_ask_169 fX5_133 rfl hR.1 (by rfl) ?_
        refine aw_iload dX5_ask_172 rfl ?_
        refine aw_ialdN dX5_ask_174 (hR.2.1 66 21 rfl) (by omega) (by decide) ?_
        refine aw_iload_n dX5_ask_175 rfl ?_
        refine aw_aload_n dX5_ask_176 rfl ?_
        refine aw_get dX5_ask_177 fX5_133 rfl hR.1 (by rfl) ?_
        refine aw_iload dX5_ask_180 rfl ?_
        refine aw_ialdN dX5_ask_182 (hR.2.1 66 21 rfl) (by omega) (by decide) ?_
        refine aw_isubN dX5_ask_183 (by omega) ?_
        refine aw_icmp_leN (tgt := 197) dX5_ask_184 (by decide) (by omega) (by omega) (fun c_184 => ?_) (fun c_184 => ?_)
        · refine aw_iload_n dX5_ask_197 rfl ?_
          refine aw_aload_n dX5_ask_198 rfl ?_
          refine aw_get dX5_ask_199 fX5_133 rfl hR.1 (by rfl) ?_
          refine aw_iload dX5_ask_202 rfl ?_
          refine aw_ialdN dX5_ask_204 (hR.2.1 66 21 rfl) (by omega) (by decide) ?_
          refine aw_isubN dX5_ask_205 (by omega) ?_
          first
            | exact mid _ h (by rw [e66]; omega) hv9 hR hs
            | exact mid _ h (by omega) hv9 hR hs
        · refine aw_aload_n dX5_ask_187 rfl ?_
          refine aw_get dX5_ask_188 fX5_133 rfl hR.1 (by rfl) ?_
          refine aw_iload dX5_ask_191 rfl ?_
          refine aw_ialdN dX5_ask_193 (hR.2.1 66 21 rfl) (by omega) (by decide) ?_
          refine aw_goto (tgt := 206) dX5_ask_194 (by decide) ?_
          first
            | exact mid _ h (by rw [e66]; omega) hv9 hR hs
            | exact mid _ h (by omega) hv9 hR hs
      · have ev : v = mm_n s 41 + 1 := by omega
        have e41 : mm_n (mm_tl s (sp_tal s k)) 41 = mm_n s 41 := rfl
        have eop : op_ask s q k = if q.toInt = 0 then sp_cv (sp_bst al (sp_tal s k) v).1 else nI (sp_bst al (sp_tal s k) v).2 := by
          rw [op_ask, aw_if1 ⟨⟨q1, q2⟩, by rw [← hal]; exact qa⟩, ← hal, ev]
        refine aw_iload dX5_ask_159 rfl ?_
        refine aw_aload_n dX5_ask_161 rfl ?_
        refine aw_get dX5_ask_162 fX5_82 rfl hR.1 (by rfl) ?_
        refine aw_icmp_gtN (tgt := 232) dX5_ask_165 (by decide) (by omega) (by omega) (fun c_165 => ?_) (fun c_165 => by exfalso; omega)
        refine aw_iload_n dX5_ask_232 rfl ?_
        refine aw_if_ne (tgt := 241) dX5_ask_233 (by decide) (fun c_233 => ?_) (fun c_233 => ?_)
        · refine aw_iload dX5_ask_241 rfl ?_
          refine aw_ireturn dX5_ask_243 rfl ?_
          refine ⟨?_, _, mm_tl_core, hR, hs⟩
          rw [eop]
          first
            | (rw [c_233]; rfl)
            | (rw [if_neg (show ¬ q.toInt = 0 from fun z => c_233 (Int32.toInt_inj.mp z))])
        · refine aw_iload dX5_ask_236 rfl ?_
          refine aw_goto (tgt := 243) dX5_ask_238 (by decide) ?_
          refine aw_ireturn dX5_ask_243 rfl ?_
          refine ⟨?_, _, mm_tl_core, hR, hs⟩
          rw [eop]
          first
            | (rw [c_233]; rfl)
            | (rw [if_neg (show ¬ q.toInt = 0 from fun z => c_233 (Int32.toInt_inj.mp z))])
  have w91 : ∀ (T : Nat → Nat) (c t f o : Nat), o ≤ mm_n s 41 → (∀ h : aw_H, mm_R G w h (mm_tl s (fun v => T v + if f ≤ v ∧ v ≤ o then 1 else 0)) → mm_same w h0 h → AW G (aw_rm 2 0 0) yX5_ask cX5_ask 8 (some .int) (aw_N G (mm_PoC G w h0 (some (.int (op_ask s q k))) (s)) 0 0) 0 0 h 115 [(0, .ref w.1), (1, .int q), (2, .int k), (3, .int (nI c)), (4, .int (nI t)), (5, .int (nI f)), (6, .int (nI o))] []) → ∀ (m j : Nat) (h : aw_H), o + 1 - j = m → f ≤ j → j ≤ o + 1 → mm_R G w h (mm_tl s (fun v => T v + if f ≤ v ∧ v < j then 1 else 0)) → mm_same w h0 h → AW G (aw_rm 2 0 0) yX5_ask cX5_ask 8 (some .int) (aw_N G (mm_PoC G w h0 (some (.int (op_ask s q k))) (s)) 0 0) 0 0 h 91 [(0, .ref w.1), (1, .int q), (2, .int k), (3, .int (nI c)), (4, .int (nI t)), (5, .int (nI f)), (6, .int (nI o)), (7, .int (nI j))] [] := by
    intro T c t f o ho hgo m
    induction m using Nat.strongRecOn with
    | _ m ih =>
      intro j h hm hj1 hj2 hR hs
      refine aw_iload dX5_ask_91 rfl ?_
      refine aw_iload dX5_ask_93 rfl ?_
      refine aw_icmp_gtN (tgt := 115) dX5_ask_95 (by decide) (by omega) (by omega) (fun c_95 => ?_) (fun c_95 => ?_)
      · obtain rfl : j = o + 1 := by omega
        refine AW_dr (hgo h (mm_eq hR (mm_tl_c fun v hv => ?_)) hs)
        split <;> split <;> omega
      · refine aw_aload_n dX5_ask_98 rfl ?_
        refine aw_get dX5_ask_99 fX5_133 rfl hR.1 (by rfl) ?_
        refine aw_iload dX5_ask_102 rfl ?_
        refine aw_dup2 dX5_ask_104 rfl rfl ?_
        refine aw_ialdN dX5_ask_105 (hR.2.1 66 21 rfl) (by omega) (by decide) ?_
        refine aw_iconst (v := nI 1) dX5_ask_106 rfl ?_
        refine aw_iaddN dX5_ask_107 ?_
        refine mm_iast (k := 66) rfl hW hR hs dX5_ask_108 (by omega) (by decide) (fun h hR hs => ?_)
        have hR := mm_eq hR (mm_tl_inc (T' := fun v => T v + if f ≤ v ∧ v < j + 1 then 1 else 0) (by omega) (fun v hv => by split <;> split <;> (try split) <;> (try subst_vars) <;> omega))
        refine aw_iincN (b := 1) dX5_ask_109 rfl rfl (by decide) rfl rfl ?_
        refine aw_goto (tgt := 91) dX5_ask_112 (by decide) ?_
        exact ih (o + 1 - (j + 1)) (by omega) (j + 1) h rfl (by omega) (by omega) hR hs
  have w58 : ∀ (t f : Nat), t < mm_n s 42 → f < mm_n s 41 → (∀ h : aw_H, mm_R G w h (mm_tl s (mm_Wt s k t f (mm_n s 41 - f))) → mm_same w h0 h → AW G (aw_rm 2 0 0) yX5_ask cX5_ask 8 (some .int) (aw_N G (mm_PoC G w h0 (some (.int (op_ask s q k))) (s)) 0 0) 0 0 h 121 [(0, .ref w.1), (1, .int q), (2, .int k), (3, .int (nI (mm_Ct s k t f (mm_n s 41 - f)))), (4, .int (nI t)), (5, .int (nI f))] []) → ∀ (m i : Nat) (h : aw_H), mm_n s 41 - f - i = m → i ≤ mm_n s 41 - f → mm_R G w h (mm_tl s (mm_Wt s k t f i)) → mm_same w h0 h → AW G (aw_rm 2 0 0) yX5_ask cX5_ask 8 (some .int) (aw_N G (mm_PoC G w h0 (some (.int (op_ask s q k))) (s)) 0 0) 0 0 h 58 [(0, .ref w.1), (1, .int q), (2, .int k), (3, .int (nI (mm_Ct s k t f i))), (4, .int (nI t)), (5, .int (nI f)), (6, .int (nI (f + 1 + i)))] [] := by
    intro t f ht hf hgo m
    induction m using Nat.strongRecOn with
    | _ m ih =>
      intro i h hm hi hR hs
      have g1 := @sp_isR_lt s t f (f + 1 + i) k
      have e41 : mm_n (mm_tl s (mm_Wt s k t f i)) 41 = mm_n s 41 := rfl
      have eC : mm_Ct s k t f (i + 1) = mm_Ct s k t f i + sp_isR s t f (f + 1 + i) k := (Nat.add_assoc _ _ _).symm
      have eW : ∀ v, mm_Wt s k t f (i + 1) v = mm_Wt s k t f i v + sp_gV s k v t f (f + 1 + i) := fun v => (Nat.add_assoc _ _ _).symm
      have next : ∀ h : aw_H, i < mm_n s 41 - f → mm_R G w h (mm_tl s (mm_Wt s k t f (i + 1))) → mm_same w h0 h → AW G (aw_rm 2 0 0) yX5_ask cX5_ask 8 (some .int) (aw_N G (mm_PoC G w h0 (some (.int (op_ask s q k))) (s)) 0 0) 0 0 h 115 [(0, .ref w.1), (1, .int q), (2, .int k), (3, .int (nI (mm_Ct s k t f (i + 1)))), (4, .int (nI t)), (5, .int (nI f)), (6, .int (nI (f + 1 + i)))] [] := by
        intro h hi2 hR hs
        refine aw_iincN (b := 1) dX5_ask_115 rfl rfl (by decide) rfl rfl ?_
        refine aw_goto (tgt := 58) dX5_ask_118 (by decide) ?_
        exact ih (mm_n s 41 - f - (i + 1)) (by omega) (i + 1) h rfl (by omega) hR hs
      by_cases hi9 : i < mm_n s 41 - f
      ·
        refine aw_iload dX5_ask_58 rfl ?_
        refine aw_aload_n dX5_ask_60 rfl ?_
        refine aw_get dX5_ask_61 fX5_82 rfl hR.1 (by rfl) ?_
        refine aw_icmp_gtN (tgt := 121) dX5_ask_64 (by decide) (by omega) (by omega) (fun c_64 => by exfalso; omega) (fun c_64 => ?_)
        refine aw_aload_n dX5_ask_67 rfl ?_
        refine aw_iload dX5_ask_68 rfl ?_
        refine aw_iload dX5_ask_70 rfl ?_
        refine aw_iload dX5_ask_72 rfl ?_
        refine aw_iload_n dX5_ask_74 rfl ?_
        refine mm_call dX5_ask_75 sX5_493 rfl hW hR hs (by have z := mm_isRun (s := mm_tl s (mm_Wt s k t f i)) (t := t) (f := f) (o := f + 1 + i) (k := k) hH hM (by omega) (by omega) (by omega); rw [← sp_isR_c mm_tl_core] at z; exact z) rfl rfl ⟨Nat.le_of_ble_eq_true rfl, Nat.le_of_ble_eq_true rfl⟩ (Nat.le_of_ble_eq_true rfl) (fun h hR hs => ?_)
        refine aw_if_neN (tgt := 84) dX5_ask_78 (by decide) (by omega) (fun c_78 => ?_) (fun c_78 => ?_)
        · refine aw_iincN (b := 1) dX5_ask_84 rfl rfl (by decide) rfl rfl ?_
          refine aw_iload dX5_ask_87 rfl ?_
          refine aw_istore dX5_ask_89 (by decide) rfl rfl ?_
          have z : sp_isR s t f (f + 1 + i) k = 1 := by omega
          refine w91 (mm_Wt s k t f i) _ t f (f + 1 + i) (by omega) (fun h hR hs => AW_ls ?_ (next h hi9 (mm_eq hR (mm_tl_c fun v hv => ?_)) hs)) _ f h rfl (Nat.le_refl _) (by omega) (mm_eq hR (mm_tl_c fun v hv => ?_)) hs
          · rw [eC, z]
          · rw [eW, sp_gV, z]
          · rw [if_neg (by omega), Nat.add_zero]
        · refine aw_goto (tgt := 115) dX5_ask_81 (by decide) ?_
          have z : sp_isR s t f (f + 1 + i) k = 0 := by omega
          refine AW_ls ?_ (next h hi9 (mm_eq hR (mm_tl_c fun v hv => ?_)) hs)
          · rw [eC, z]; rfl
          · rw [eW, sp_gV, z]
            try (split <;> rfl)
      ·
        refine aw_iload dX5_ask_58 rfl ?_
        refine aw_aload_n dX5_ask_60 rfl ?_
        refine aw_get dX5_ask_61 fX5_82 rfl hR.1 (by rfl) ?_
        refine aw_icmp_gtN (tgt := 121) dX5_ask_64 (by decide) (by omega) (by omega) (fun c_64 => ?_) (fun c_64 => by exfalso; omega)
        obtain rfl : i = mm_n s 41 - f := by omega
        exact AW_dr (hgo h hR hs)
  have w43 : ∀ (t : Nat), t < mm_n s 42 → (∀ h : aw_H, mm_R G w h (mm_tl s (mm_Wt s k t (mm_n s 41) 0)) → mm_same w h0 h → AW G (aw_rm 2 0 0) yX5_ask cX5_ask 8 (some .int) (aw_N G (mm_PoC G w h0 (some (.int (op_ask s q k))) (s)) 0 0) 0 0 h 127 [(0, .ref w.1), (1, .int q), (2, .int k), (3, .int (nI (mm_Ct s k t (mm_n s 41) 0))), (4, .int (nI t))] []) → ∀ (m f : Nat) (h : aw_H), mm_n s 41 - f = m → f ≤ mm_n s 41 → mm_R G w h (mm_tl s (mm_Wt s k t f 0)) → mm_same w h0 h → AW G (aw_rm 2 0 0) yX5_ask cX5_ask 8 (some .int) (aw_N G (mm_PoC G w h0 (some (.int (op_ask s q k))) (s)) 0 0) 0 0 h 43 [(0, .ref w.1), (1, .int q), (2, .int k), (3, .int (nI (mm_Ct s k t f 0))), (4, .int (nI t)), (5, .int (nI f))] [] := by
    intro t ht hgo m
    induction m using Nat.strongRecOn with
    | _ m ih =>
      intro f h hm hf hR hs
      have e41 : mm_n (mm_tl s (mm_Wt s k t f 0)) 41 = mm_n s 41 := rfl
      have next : ∀ h : aw_H, f < mm_n s 41 → mm_R G w h (mm_tl s (mm_Wt s k t f (mm_n s 41 - f))) → mm_same w h0 h → AW G (aw_rm 2 0 0) yX5_ask cX5_ask 8 (some .int) (aw_N G (mm_PoC G w h0 (some (.int (op_ask s q k))) (s)) 0 0) 0 0 h 121 [(0, .ref w.1), (1, .int q), (2, .int k), (3, .int (nI (mm_Ct s k t f (mm_n s 41 - f)))), (4, .int (nI t)), (5, .int (nI f))] [] := by
        intro h hf2 hR hs
        refine aw_iincN (b := 1) dX5_ask_121 rfl rfl (by decide) rfl rfl ?_
        refine aw_goto (tgt := 43) dX5_ask_124 (by decide) ?_
        exact AW_ls (by rw [show mm_Ct s k t f (mm_n s 41 - f) = mm_Ct s k t (f + 1) 0 from Nat.add_assoc _ _ _]; rfl) (ih (mm_n s 41 - (f + 1)) (by omega) (f + 1) h rfl (by omega) (mm_eq hR (mm_tl_c fun v hv => Nat.add_assoc _ _ _)) hs)
      refine aw_iload dX5_ask_43 rfl ?_
      refine aw_aload_n dX5_ask_45 rfl ?_
      refine aw_get dX5_ask_46 fX5_82 rfl hR.1 (by rfl) ?_
      refine aw_icmp_geN (tgt := 127) dX5_ask_49 (by decide) (by omega) (by omega) (fun c_49 => ?_) (fun c_49 => ?_)
      · obtain rfl : f = mm_n s 41 := by omega
        exact AW_dr (hgo h hR hs)
      · refine aw_iload dX5_ask_52 rfl ?_
        refine aw_iconst (v := nI 1) dX5_ask_54 rfl ?_
        refine aw_iaddN dX5_ask_55 ?_
        refine aw_istore dX5_ask_56 (by decide) rfl rfl ?_
        exact w58 t f ht (by omega) (fun h => next h (by omega)) _ 0 h rfl (Nat.zero_le _) hR hs
  have w31 : ∀ (m t : Nat) (h : aw_H), mm_n s 42 - t = m → t ≤ mm_n s 42 → mm_R G w h (mm_tl s (mm_Wt s k t 0 0)) → mm_same w h0 h → AW G (aw_rm 2 0 0) yX5_ask cX5_ask 8 (some .int) (aw_N G (mm_PoC G w h0 (some (.int (op_ask s q k))) (s)) 0 0) 0 0 h 31 [(0, .ref w.1), (1, .int q), (2, .int k), (3, .int (nI (mm_Ct s k t 0 0))), (4, .int (nI t))] [] := by
    intro m
    induction m using Nat.strongRecOn with
    | _ m ih =>
      intro t h hm ht hR hs
      have e42 : mm_n (mm_tl s (mm_Wt s k t 0 0)) 42 = mm_n s 42 := rfl
      have next : ∀ h : aw_H, t < mm_n s 42 → mm_R G w h (mm_tl s (mm_Wt s k t (mm_n s 41) 0)) → mm_same w h0 h → AW G (aw_rm 2 0 0) yX5_ask cX5_ask 8 (some .int) (aw_N G (mm_PoC G w h0 (some (.int (op_ask s q k))) (s)) 0 0) 0 0 h 127 [(0, .ref w.1), (1, .int q), (2, .int k), (3, .int (nI (mm_Ct s k t (mm_n s 41) 0))), (4, .int (nI t))] [] := by
        intro h ht2 hR hs
        refine aw_iincN (b := 1) dX5_ask_127 rfl rfl (by decide) rfl rfl ?_
        refine aw_goto (tgt := 31) dX5_ask_130 (by decide) ?_
        exact ih (mm_n s 42 - (t + 1)) (by omega) (t + 1) h rfl (by omega) hR hs
      by_cases ht9 : t < mm_n s 42
      ·
        refine aw_iload dX5_ask_31 rfl ?_
        refine aw_aload_n dX5_ask_33 rfl ?_
        refine aw_get dX5_ask_34 fX5_350 rfl hR.1 (by rfl) ?_
        refine aw_icmp_geN (tgt := 133) dX5_ask_37 (by decide) (by omega) (by omega) (fun c_37 => by exfalso; omega) (fun c_37 => ?_)
        refine aw_iconst (v := nI 0) dX5_ask_40 rfl ?_
        refine aw_istore dX5_ask_41 (by decide) rfl rfl ?_
        exact w43 t ht9 (fun h => next h ht9) _ 0 h rfl (Nat.zero_le _) hR hs
      · have et : t = mm_n s 42 := by omega
        have e43 : mm_n (mm_tl s (sp_tal s k)) 42 = mm_n s 42 := rfl
        have eal : mm_Ct s k t 0 0 = al := by rw [hal, et]; rfl
        have hR := mm_eq hR (show _ = mm_tl s (sp_tal s k) by refine mm_tl_c fun v hv => ?_; rw [et]; rfl)
        refine AW_ls (by rw [eal]) ?_
        have no : ¬ ((0 ≤ q.toInt ∧ q.toInt ≤ 1) ∧ al ≠ 0) → op_ask s q k = -1 := fun z => by rw [op_ask, aw_if0 (by rw [← hal]; exact z)]
        refine aw_iload dX5_ask_31 rfl ?_
        refine aw_aload_n dX5_ask_33 rfl ?_
        refine aw_get dX5_ask_34 fX5_350 rfl hR.1 (by rfl) ?_
        refine aw_icmp_geN (tgt := 133) dX5_ask_37 (by decide) (by omega) (by omega) (fun c_37 => ?_) (fun c_37 => by exfalso; omega)
        refine aw_iload_n dX5_ask_133 rfl ?_
        refine aw_iconst (v := nI 0) dX5_ask_134 rfl ?_
        refine aw_iconst (v := nI 1) dX5_ask_135 rfl ?_
        refine aw_callP (r := _) dX5_ask_136 sX5_368 rfl mp_isIn rfl rfl ⟨Nat.le_of_ble_eq_true rfl, Nat.le_of_ble_eq_true rfl⟩ (Nat.le_of_ble_eq_true rfl) ?_
        refine aw_if_eqB (tgt := 146) dX5_ask_139 (by decide) (fun c_139 => ?_) (fun c_139 => ?_)
        · refine aw_iconst (v := -1) dX5_ask_146 rfl ?_
          refine aw_ireturn dX5_ask_147 rfl ?_
          refine ⟨?_, _, mm_tl_core, hR, hs⟩
          rw [no (fun z => by first | exact c_139 z.1 | exact z.2 c_143)]
        · refine aw_iload_n dX5_ask_142 rfl ?_
          refine aw_if_neN (tgt := 148) dX5_ask_143 (by decide) (by omega) (fun c_143 => ?_) (fun c_143 => ?_)
          · refine aw_iconst (v := -1) dX5_ask_148 rfl ?_
            refine aw_istore dX5_ask_149 (by decide) rfl rfl ?_
            refine aw_iload_n dX5_ask_151 rfl ?_
            refine aw_iconst (v := nI 1) dX5_ask_152 rfl ?_
            refine aw_iaddN dX5_ask_153 ?_
            refine aw_istore dX5_ask_154 (by decide) rfl rfl ?_
            refine aw_iconst (v := nI 0) dX5_ask_156 rfl ?_
            refine aw_istore dX5_ask_157 (by decide) rfl rfl ?_
            exact loop _ 0 h rfl (Nat.zero_le _) c_139.1 c_139.2 c_143 hR hs
          · refine aw_iconst (v := -1) dX5_ask_146 rfl ?_
            refine aw_ireturn dX5_ask_147 rfl ?_
            refine ⟨?_, _, mm_tl_core, hR, hs⟩
            rw [no (fun z => by first | exact c_139 z.1 | exact z.2 c_143)]
  have w5 : ∀ (m v : Nat) (h : aw_H), mm_n s 41 + 1 - v = m → v ≤ mm_n s 41 + 1 → mm_R G w h (mm_setA s 66 (fun j => if j < v then 0 else mm_a s 66 j)) → mm_same w h0 h → AW G (aw_rm 2 0 0) yX5_ask cX5_ask 8 (some .int) (aw_N G (mm_PoC G w h0 (some (.int (op_ask s q k))) (s)) 0 0) 0 0 h 5 [(0, .ref w.1), (1, .int q), (2, .int k), (3, .int (nI 0)), (4, .int (nI v))] [] := by
    intro m
    induction m using Nat.strongRecOn with
    | _ m ih =>
      intro v h hm hv hR hs
      refine aw_iload dX5_ask_5 rfl ?_
      refine aw_aload_n dX5_ask_7 rfl ?_
      refine aw_get dX5_ask_8 fX5_82 rfl hR.1 (by rfl) ?_
      try simp only [mm_n_N, mm_n_A, mm_n_V, mm_n_Fp, mm_n_W, mm_n_Nm, mm_a_N, mm_a_A, mm_a_V, mm_a_Fp, mm_a_W, mm_a_Nm, mm_v_N, mm_v_A, mm_v_V, mm_fp_N, mm_fp_A, mm_fp_Fp, mm_w_N, mm_w_W, Nat.reduceEqDiff, reduceIte, if_true, if_false, mm_H_45, mm_H_46, mm_H_47, mm_H_50, mm_H_53, mm_H_54, mm_H_55, mm_H_56, mm_H_57, mm_H_58, mm_H_66, mm_H_67, mm_H_68]
      refine aw_icmp_gtN (tgt := 28) dX5_ask_11 (by decide) (by omega) (by omega) (fun c_11 => ?_) (fun c_11 => ?_)
      · refine aw_iconst (v := nI 0) dX5_ask_28 rfl ?_
        refine aw_istore dX5_ask_29 (by decide) rfl rfl ?_
        obtain rfl : v = mm_n s 41 + 1 := by omega
        refine w31 _ 0 h rfl (Nat.zero_le _) (mm_eq hR ?_) hs
        unfold mm_tl
        congr 1
        funext j
        by_cases e : j ≤ mm_n s 41
        · rw [if_pos (by omega), if_pos e]; rfl
        · rw [if_neg (by omega), if_neg e]
      · refine aw_aload_n dX5_ask_14 rfl ?_
        refine aw_get dX5_ask_15 fX5_133 rfl hR.1 (by rfl) ?_
        refine aw_iload dX5_ask_18 rfl ?_
        refine aw_iconst (v := nI 0) dX5_ask_20 rfl ?_
        refine mm_iast (k := 66) rfl hW hR hs dX5_ask_21 (by omega) (by decide) (fun h hR hs => ?_)
        have hR := mm_eq (mm_AU hR) (show _ = mm_setA s 66 (fun j => if j < v + 1 then 0 else mm_a s 66 j) by rw [← aw_u_cp (f := fun _ => 0)])
        refine aw_iincN (b := 1) dX5_ask_22 rfl rfl (by decide) rfl rfl ?_
        refine aw_goto (tgt := 5) dX5_ask_25 (by decide) ?_
        exact ih (mm_n s 41 + 1 - (v + 1)) (by omega) (v + 1) h rfl (by omega) hR hs
  refine aw_iconst (v := nI 0) dX5_ask_0 rfl ?_
  refine aw_istore_n dX5_ask_1 (by decide) rfl rfl ?_
  refine aw_iconst (v := nI 0) dX5_ask_2 rfl ?_
  refine aw_istore dX5_ask_3 (by decide) rfl rfl ?_
  exact w5 _ 0 h0 rfl (Nat.zero_le _) (mm_eq hR (by simp only [Nat.not_lt_zero, if_false]; exact (mm_A_self s 66).symm)) hs

