set_option maxRecDepth 100000
/-! the model: the next order of homes -/
/-- the last k of the first c with f k < f (k + 1): one more -/
def sp_nk (f : Nat → Nat) : Nat → Nat
  | 0 => 0
  | c + 1 => if f c < f (c + 1) then c + 1 else sp_nk f c
/-- the last j up to the given one with v < f j -/
def sp_nj (f : Nat → Nat) (v : Nat) : Nat → Nat
  | 0 => 0
  | j + 1 => if v < f (j + 1) then j + 1 else sp_nj f v j
def sp_rv : Nat → (Nat → Nat) → Nat → Nat → (Nat → Nat)
  | 0, f, _, _ => f
  | m + 1, f, a, b => if a < b then sp_rv m (sp_swap f a b) (a + 1) (b - 1) else f
def sp_nxt (n : Nat) (f : Nat → Nat) : Nat → Nat := sp_rv n (sp_swap f (sp_nk f (n - 1) - 1) (sp_nj f (f (sp_nk f (n - 1) - 1)) (n - 1))) (sp_nk f (n - 1)) (n - 1)
theorem sp_nk_some {f : Nat → Nat} {k : Nat} : ∀ {c}, sp_nk f c = k + 1 → k < c ∧ f k < f (k + 1) ∧ ∀ i, k < i → i < c → f (i + 1) ≤ f i := by
  intro c
  induction c with
  | zero => intro h; cases h
  | succ c ih =>
    intro h
    unfold sp_nk at h
    by_cases e : f c < f (c + 1)
    · rw [if_pos e] at h
      obtain rfl : c = k := by omega
      exact ⟨by omega, e, fun i h1 h2 => by omega⟩
    · rw [if_neg e] at h
      obtain ⟨h1, h2, h3⟩ := ih h
      refine ⟨by omega, h2, fun i g1 g2 => ?_⟩
      by_cases e2 : i = c
      · rw [e2]; omega
      · exact h3 i g1 (by omega)
theorem sp_nk_none {f : Nat → Nat} : ∀ {c}, sp_nk f c = 0 → ∀ i, i < c → f (i + 1) ≤ f i := by
  intro c
  induction c with
  | zero => intro _ i hi; omega
  | succ c ih =>
    intro h i hi
    unfold sp_nk at h
    by_cases e : f c < f (c + 1)
    · rw [if_pos e] at h; cases h
    · rw [if_neg e] at h
      by_cases e2 : i = c
      · rw [e2]; omega
      · exact ih h i (by omega)
theorem sp_nj_at {f : Nat → Nat} {v a : Nat} : ∀ {c}, a ≤ c → 1 ≤ a → v < f a → a ≤ sp_nj f v c ∧ sp_nj f v c ≤ c ∧ v < f (sp_nj f v c) ∧ ∀ i, sp_nj f v c < i → i ≤ c → f i ≤ v := by
  intro c
  induction c with
  | zero => intro h1 h2 _; omega
  | succ c ih =>
    intro h1 h2 h3
    unfold sp_nj
    by_cases e : v < f (c + 1)
    · rw [if_pos e]
      exact ⟨h1, Nat.le_refl _, e, fun i g1 g2 => by omega⟩
    · rw [if_neg e]
      have : a ≠ c + 1 := fun z => e (z ▸ h3)
      obtain ⟨p1, p2, p3, p4⟩ := ih (by omega) h2 h3
      refine ⟨p1, by omega, p3, fun i g1 g2 => ?_⟩
      by_cases e2 : i = c + 1
      · rw [e2]; omega
      · exact p4 i g1 (by omega)
theorem sp_swap_s {f : Nat → Nat} {a b : Nat} : sp_swap f a a = f := by
  funext j
  unfold sp_swap aw_u
  split
  · rename_i h; rw [h]
  · rfl
set_option maxHeartbeats 4000000 in
theorem mm_nextHomes {s : mm_S} (hn : mm_n s 42 ≤ 8) (h1 : 1 ≤ mm_n s 42) (hh : ∀ k, k < mm_n s 42 → mm_a s 57 k ≤ 20) : mm_Met yX5_nextHomes cX5_nextHomes 5 (some .boolean) 2 [] s (some (.int (nI (aw_t (sp_nk (mm_a s 57) (mm_n s 42 - 1) ≠ 0))))) (if sp_nk (mm_a s 57) (mm_n s 42 - 1) = 0 then s else mm_setA s 57 (sp_nxt (mm_n s 42) (mm_a s 57))) := by
  refine mm_Met.of (by decide +kernel) (fun _ => Nat.le_of_ble_eq_true rfl) (fun G w h0 hW hR => ?_)
  have hs : mm_same w h0 h0 := mm_same.rf
  show AW G (aw_rm 2 0 0) yX5_nextHomes cX5_nextHomes 5 (some .boolean) (aw_N G (mm_Po G w h0 (some (.int (nI (aw_t (sp_nk (mm_a s 57) (mm_n s 42 - 1) ≠ 0))))) (if sp_nk (mm_a s 57) (mm_n s 42 - 1) = 0 then s else mm_setA s 57 (sp_nxt (mm_n s 42) (mm_a s 57)))) 0 0) 0 0 h0 0 [(0, .ref w.1)] []
  obtain ⟨f, hf⟩ : ∃ f, f = mm_a s 57 := ⟨_, rfl⟩
  have r86 : ∀ (k j : Nat), sp_nk (mm_a s 57) (mm_n s 42 - 1) = k + 1 → ∀ (m a b : Nat) (g : Nat → Nat) (h : aw_H), b ≤ m + a → m ≤ 9 → b < mm_n s 42 → a ≤ mm_n s 42 → (∀ i, i < mm_n s 42 → g i ≤ 20) → sp_rv m g a b = sp_nxt (mm_n s 42) (mm_a s 57) → mm_R G w h (mm_setA s 57 g) → mm_same w h0 h → AW G (aw_rm 2 0 0) yX5_nextHomes cX5_nextHomes 5 (some .boolean) (aw_N G (mm_Po G w h0 (some (.int (nI (aw_t (sp_nk (mm_a s 57) (mm_n s 42 - 1) ≠ 0))))) (if sp_nk (mm_a s 57) (mm_n s 42 - 1) = 0 then s else mm_setA s 57 (sp_nxt (mm_n s 42) (mm_a s 57)))) 0 0) 0 0 h 86 [(0, .ref w.1), (1, .int (nI k)), (2, .int (nI j)), (3, .int (nI a)), (4, .int (nI b))] [] := by
    intro k j hk m
    induction m with
    | zero =>
      intro a b g h hm hm9 hb ha hg eg hR hs
      have eg : g = sp_nxt (mm_n s 42) (mm_a s 57) := eg
      refine aw_iload_n dX5_nextHomes_86 rfl ?_
      refine aw_iload dX5_nextHomes_87 rfl ?_
      refine aw_icmp_geN (tgt := 108) dX5_nextHomes_89 (by decide) (by omega) (by omega) (fun c_89 => ?_) (fun c_89 => by exfalso; omega)
      refine aw_iconst (v := nI 1) dX5_nextHomes_108 rfl ?_
      refine aw_zreturn dX5_nextHomes_109 rfl rfl ?_
      exact ⟨by rw [aw_t1 (by omega)], mm_eq hR (by rw [eg, if_neg (by omega)]), hs⟩
    | succ m ih =>
      intro a b g h hm hm9 hb ha hg eg hR hs
      have eg : (if a < b then sp_rv m (sp_swap g a b) (a + 1) (b - 1) else g) = sp_nxt (mm_n s 42) (mm_a s 57) := eg
      by_cases z : a < b
      · rw [if_pos z] at eg
        have hg2 : ∀ i, i < mm_n s 42 → sp_swap g a b i < 21 := sp_swap_lt (by omega) hb (fun i hi => by have := hg i hi; omega)
        refine aw_iload_n dX5_nextHomes_86 rfl ?_
        refine aw_iload dX5_nextHomes_87 rfl ?_
        refine aw_icmp_geN (tgt := 108) dX5_nextHomes_89 (by decide) (by omega) (by omega) (fun c_89 => by exfalso; omega) (fun c_89 => ?_)
        refine aw_aload_n dX5_nextHomes_92 rfl ?_
        refine aw_iload_n dX5_nextHomes_93 rfl ?_
        refine aw_iload dX5_nextHomes_94 rfl ?_
        refine mm_call dX5_nextHomes_96 sX5_464 rfl hW hR hs (mm_changeHomes (s := mm_setA s 57 g) (by omega) (by omega)) rfl rfl ⟨Nat.le_of_ble_eq_true rfl, Nat.le_of_ble_eq_true rfl⟩ (Nat.le_of_ble_eq_true rfl) (fun h hR hs => ?_)
        refine aw_iincM dX5_nextHomes_99 rfl (by omega) (by decide) rfl rfl ?_
        refine aw_iincN (b := 1) dX5_nextHomes_102 rfl rfl (by decide) rfl rfl ?_
        refine aw_goto (tgt := 86) dX5_nextHomes_105 (by decide) ?_
        exact ih (a + 1) (b - 1) _ h (by omega) (by omega) (by omega) (by omega) (fun i hi => by have := hg2 i hi; omega) eg (mm_eq hR (mm_A_A _ _ _ _)) hs
      · rw [if_neg z] at eg
        refine aw_iload_n dX5_nextHomes_86 rfl ?_
        refine aw_iload dX5_nextHomes_87 rfl ?_
        refine aw_icmp_geN (tgt := 108) dX5_nextHomes_89 (by decide) (by omega) (by omega) (fun c_89 => ?_) (fun c_89 => by exfalso; omega)
        refine aw_iconst (v := nI 1) dX5_nextHomes_108 rfl ?_
        refine aw_zreturn dX5_nextHomes_109 rfl rfl ?_
        exact ⟨by rw [aw_t1 (by omega)], mm_eq hR (by rw [eg, if_neg (by omega)]), hs⟩
  have r47 : ∀ (k : Nat), sp_nk (mm_a s 57) (mm_n s 42 - 1) = k + 1 → ∀ (j : Nat) (h : aw_H), k + 1 ≤ j → j < mm_n s 42 → sp_nj (mm_a s 57) (mm_a s 57 k) j = sp_nj (mm_a s 57) (mm_a s 57 k) (mm_n s 42 - 1) → mm_R G w h s → mm_same w h0 h → AW G (aw_rm 2 0 0) yX5_nextHomes cX5_nextHomes 5 (some .boolean) (aw_N G (mm_Po G w h0 (some (.int (nI (aw_t (sp_nk (mm_a s 57) (mm_n s 42 - 1) ≠ 0))))) (if sp_nk (mm_a s 57) (mm_n s 42 - 1) = 0 then s else mm_setA s 57 (sp_nxt (mm_n s 42) (mm_a s 57)))) 0 0) 0 0 h 47 [(0, .ref w.1), (1, .int (nI k)), (2, .int (nI j))] [] := by
    intro k hk
    obtain ⟨k1, k2, k3⟩ := sp_nk_some hk
    intro j
    induction j with
    | zero => intro h hj; omega
    | succ j ih =>
      intro h hj hj2 ej hR hs
      have v1 := hh (j + 1) hj2
      have v2 := hh k (by omega)
      have ej2 : (if mm_a s 57 k < mm_a s 57 (j + 1) then j + 1 else sp_nj (mm_a s 57) (mm_a s 57 k) j) = sp_nj (mm_a s 57) (mm_a s 57 k) (mm_n s 42 - 1) := ej
      by_cases z : mm_a s 57 k < mm_a s 57 (j + 1)
      · rw [if_pos z] at ej2
        have hg2 : ∀ i, i < mm_n s 42 → sp_swap (mm_a s 57) k (j + 1) i < 21 := sp_swap_lt (by omega) hj2 (fun i hi => by have := hh i hi; omega)
        refine aw_aload_n dX5_nextHomes_47 rfl ?_
        refine aw_get dX5_nextHomes_48 fX5_112 rfl hR.1 (by rfl) ?_
        refine aw_iload_n dX5_nextHomes_51 rfl ?_
        refine aw_ialdN dX5_nextHomes_52 (hR.2.1 57 8 rfl) (by omega) (by decide) ?_
        refine aw_aload_n dX5_nextHomes_53 rfl ?_
        refine aw_get dX5_nextHomes_54 fX5_112 rfl hR.1 (by rfl) ?_
        refine aw_iload_n dX5_nextHomes_57 rfl ?_
        refine aw_ialdN dX5_nextHomes_58 (hR.2.1 57 8 rfl) (by omega) (by decide) ?_
        refine aw_icmp_gtN (tgt := 68) dX5_nextHomes_59 (by decide) (by omega) (by omega) (fun c_59 => ?_) (fun c_59 => by exfalso; omega)
        refine aw_aload_n dX5_nextHomes_68 rfl ?_
        refine aw_iload_n dX5_nextHomes_69 rfl ?_
        refine aw_iload_n dX5_nextHomes_70 rfl ?_
        refine mm_call dX5_nextHomes_71 sX5_464 rfl hW hR hs (mm_changeHomes (by omega) (by omega)) rfl rfl ⟨Nat.le_of_ble_eq_true rfl, Nat.le_of_ble_eq_true rfl⟩ (Nat.le_of_ble_eq_true rfl) (fun h hR hs => ?_)
        refine aw_iload_n dX5_nextHomes_74 rfl ?_
        refine aw_iconst (v := nI 1) dX5_nextHomes_75 rfl ?_
        refine aw_iaddN dX5_nextHomes_76 ?_
        refine aw_istore_n dX5_nextHomes_77 (by decide) rfl rfl ?_
        refine aw_aload_n dX5_nextHomes_78 rfl ?_
        refine aw_get dX5_nextHomes_79 fX5_350 rfl hR.1 (by rfl) ?_
        try simp only [mm_n_N, mm_n_A, mm_n_V, mm_n_Fp, mm_n_W, mm_n_Nm, mm_a_N, mm_a_A, mm_a_V, mm_a_Fp, mm_a_W, mm_a_Nm, mm_v_N, mm_v_A, mm_v_V, mm_fp_N, mm_fp_A, mm_fp_Fp, mm_w_N, mm_w_W, Nat.reduceEqDiff, reduceIte, if_true, if_false, mm_H_45, mm_H_46, mm_H_47, mm_H_50, mm_H_53, mm_H_54, mm_H_55, mm_H_56, mm_H_57, mm_H_58, mm_H_66, mm_H_67, mm_H_68]
        refine aw_iconst (v := nI 1) dX5_nextHomes_82 rfl ?_
        refine aw_isubN dX5_nextHomes_83 (by omega) ?_
        refine aw_istore dX5_nextHomes_84 (by decide) rfl rfl ?_
        refine r86 k (j + 1) hk (mm_n s 42) (k + 1) (mm_n s 42 - 1) _ h (by omega) (by omega) (by omega) (by omega) (fun i hi => by have := hg2 i hi; omega) ?_ hR hs
        unfold sp_nxt
        rw [hk, Nat.add_sub_cancel, ← ej2]
      · rw [if_neg z] at ej2
        have : j ≠ k := fun e => z (e ▸ k2)
        refine aw_aload_n dX5_nextHomes_47 rfl ?_
        refine aw_get dX5_nextHomes_48 fX5_112 rfl hR.1 (by rfl) ?_
        refine aw_iload_n dX5_nextHomes_51 rfl ?_
        refine aw_ialdN dX5_nextHomes_52 (hR.2.1 57 8 rfl) (by omega) (by decide) ?_
        refine aw_aload_n dX5_nextHomes_53 rfl ?_
        refine aw_get dX5_nextHomes_54 fX5_112 rfl hR.1 (by rfl) ?_
        refine aw_iload_n dX5_nextHomes_57 rfl ?_
        refine aw_ialdN dX5_nextHomes_58 (hR.2.1 57 8 rfl) (by omega) (by decide) ?_
        refine aw_icmp_gtN (tgt := 68) dX5_nextHomes_59 (by decide) (by omega) (by omega) (fun c_59 => by exfalso; omega) (fun c_59 => ?_)
        refine aw_iincM dX5_nextHomes_62 rfl (by omega) (by decide) rfl rfl ?_
        refine aw_goto (tgt := 47) dX5_nextHomes_65 (by decide) ?_
        exact ih h (by omega) (by omega) ej2 hR hs
  have r7 : ∀ (c : Nat) (h : aw_H), c ≤ mm_n s 42 - 1 → sp_nk (mm_a s 57) c = sp_nk (mm_a s 57) (mm_n s 42 - 1) → mm_R G w h s → mm_same w h0 h → AW G (aw_rm 2 0 0) yX5_nextHomes cX5_nextHomes 5 (some .boolean) (aw_N G (mm_Po G w h0 (some (.int (nI (aw_t (sp_nk (mm_a s 57) (mm_n s 42 - 1) ≠ 0))))) (if sp_nk (mm_a s 57) (mm_n s 42 - 1) = 0 then s else mm_setA s 57 (sp_nxt (mm_n s 42) (mm_a s 57)))) 0 0) 0 0 h 7 [(0, .ref w.1), (1, .int (sp_cv c))] [] := by
    intro c
    induction c with
    | zero =>
      intro h hc ec hR hs
      have e0 : sp_nk (mm_a s 57) (mm_n s 42 - 1) = 0 := by rw [← ec]; rfl
      refine aw_iload_n dX5_nextHomes_7 rfl ?_
      refine aw_if_lt (tgt := 34) dX5_nextHomes_8 (by decide) (fun c_8 => ?_) (fun c_8 => by exfalso; exact absurd (by decide) c_8)
      refine aw_iload_n dX5_nextHomes_34 rfl ?_
      refine aw_if_ge (tgt := 40) dX5_nextHomes_35 (by decide) (fun c_35 => by exfalso; exact absurd c_35 (by decide)) (fun c_35 => ?_)
      refine aw_iconst (v := nI 0) dX5_nextHomes_38 rfl ?_
      refine aw_zreturn dX5_nextHomes_39 rfl rfl ?_
      exact ⟨by rw [aw_t0 (fun y => y e0)], mm_eq hR (by rw [if_pos e0]), hs⟩
    | succ c ih =>
      intro h hc ec hR hs
      have v1 := hh c (by omega)
      have v2 := hh (c + 1) (by omega)
      have ec2 : (if mm_a s 57 c < mm_a s 57 (c + 1) then c + 1 else sp_nk (mm_a s 57) c) = sp_nk (mm_a s 57) (mm_n s 42 - 1) := ec
      rw [sp_cv_s]
      by_cases z : mm_a s 57 c < mm_a s 57 (c + 1)
      · rw [if_pos z] at ec2
        refine aw_iload_n dX5_nextHomes_7 rfl ?_
        refine aw_if_ltN (tgt := 34) dX5_nextHomes_8 (by decide) (by omega) ?_
        refine aw_aload_n dX5_nextHomes_11 rfl ?_
        refine aw_get dX5_nextHomes_12 fX5_112 rfl hR.1 (by rfl) ?_
        refine aw_iload_n dX5_nextHomes_15 rfl ?_
        refine aw_ialdN dX5_nextHomes_16 (hR.2.1 57 8 rfl) (by omega) (by decide) ?_
        refine aw_aload_n dX5_nextHomes_17 rfl ?_
        refine aw_get dX5_nextHomes_18 fX5_112 rfl hR.1 (by rfl) ?_
        refine aw_iload_n dX5_nextHomes_21 rfl ?_
        refine aw_iconst (v := nI 1) dX5_nextHomes_22 rfl ?_
        refine aw_iaddN dX5_nextHomes_23 ?_
        refine aw_ialdN dX5_nextHomes_24 (hR.2.1 57 8 rfl) (by omega) (by decide) ?_
        refine aw_icmp_ltN (tgt := 34) dX5_nextHomes_25 (by decide) (by omega) (by omega) (fun c_25 => ?_) (fun c_25 => by exfalso; omega)
        refine aw_iload_n dX5_nextHomes_34 rfl ?_
        refine aw_if_geN (tgt := 40) dX5_nextHomes_35 (by decide) (by omega) ?_
        refine aw_aload_n dX5_nextHomes_40 rfl ?_
        refine aw_get dX5_nextHomes_41 fX5_350 rfl hR.1 (by rfl) ?_
        refine aw_iconst (v := nI 1) dX5_nextHomes_44 rfl ?_
        refine aw_isubN dX5_nextHomes_45 (by omega) ?_
        refine aw_istore_n dX5_nextHomes_46 (by decide) rfl rfl ?_
        exact r47 c ec2.symm (mm_n s 42 - 1) h (by omega) (by omega) rfl hR hs
      · rw [if_neg z] at ec2
        refine aw_iload_n dX5_nextHomes_7 rfl ?_
        refine aw_if_ltN (tgt := 34) dX5_nextHomes_8 (by decide) (by omega) ?_
        refine aw_aload_n dX5_nextHomes_11 rfl ?_
        refine aw_get dX5_nextHomes_12 fX5_112 rfl hR.1 (by rfl) ?_
        refine aw_iload_n dX5_nextHomes_15 rfl ?_
        refine aw_ialdN dX5_nextHomes_16 (hR.2.1 57 8 rfl) (by omega) (by decide) ?_
        refine aw_aload_n dX5_nextHomes_17 rfl ?_
        refine aw_get dX5_nextHomes_18 fX5_112 rfl hR.1 (by rfl) ?_
        refine aw_iload_n dX5_nextHomes_21 rfl ?_
        refine aw_iconst (v := nI 1) dX5_nextHomes_22 rfl ?_
        refine aw_iaddN dX5_nextHomes_23 ?_
        refine aw_ialdN dX5_nextHomes_24 (hR.2.1 57 8 rfl) (by omega) (by decide) ?_
        refine aw_icmp_ltN (tgt := 34) dX5_nextHomes_25 (by decide) (by omega) (by omega) (fun c_25 => by exfalso; omega) (fun c_25 => ?_)
        refine aw_iinc (v := -1) dX5_nextHomes_28 rfl rfl (by decide) rfl rfl ?_
        refine aw_goto (tgt := 7) dX5_nextHomes_31 (by decide) ?_
        refine AW_ls ?_ (ih h (by omega) ec2 hR hs)
        rw [aw_cvd]
        rfl
  refine aw_aload_n dX5_nextHomes_0 rfl ?_
  refine aw_get dX5_nextHomes_1 fX5_350 rfl hR.1 (by rfl) ?_
  refine aw_iconst (v := nI 2) dX5_nextHomes_4 rfl ?_
  refine aw_isub dX5_nextHomes_5 ?_
  refine aw_istore_n dX5_nextHomes_6 (by decide) rfl rfl ?_
  refine AW_ls ?_ (r7 (mm_n s 42 - 1) h0 (Nat.le_refl _) rfl hR hs)
  have e : nI (mm_n s 42) - nI 2 = sp_cv (mm_n s 42 - 1) := by
    obtain ⟨n, hn⟩ : ∃ n, mm_n s 42 = n + 1 := ⟨mm_n s 42 - 1, by omega⟩
    rw [hn, Nat.add_sub_cancel, aw_cvd]
    cases n with
    | zero => rfl
    | succ n => rw [pk_m1, show n + 1 + 1 = n + 2 by omega, pk_sub (by omega), Nat.add_sub_cancel]
  rw [← e]
  rfl

