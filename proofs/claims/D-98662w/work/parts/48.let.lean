set_option maxRecDepth 100000
/-! the model: let -/
theorem sp_unev_c {H : sp_H} {f g : Nat → Nat} (h : ∀ k, k < sp_hn H → f k = g k) : sp_unev H f = sp_unev H g := by
  have e := sp_mx_c (f := sp_mon H f) (g := sp_mon H g) (sp_hn H) (fun k hk => by unfold sp_mon; rw [h k hk])
  unfold sp_unev
  rw [e.1, e.2]
theorem sp_mx_le2 {f : Nat → Nat} {b : Nat} : ∀ n, (∀ k, k < n → f k ≤ b) → sp_mx f n ≤ b := by
  intro n
  induction n with
  | zero => intro _; exact Nat.zero_le _
  | succ n ih =>
    intro h
    unfold sp_mx
    split
    · exact h n (by omega)
    · exact ih (fun k hk => h k (by omega))
theorem sp_unev_b {H : sp_H} {f : Nat → Nat} (h : ∀ k, k < sp_hn H → sp_mon H f k ≤ 1599) : sp_unev H f ≤ 1599 := by
  have := sp_mx_le2 _ h
  unfold sp_unev
  omega
def sp_trim (n : Nat) (f : Nat → Nat) : Nat → Nat := fun j => if j < n then f j else 0
theorem sp_trim_at {n : Nat} {f : Nat → Nat} {j : Nat} (h : j < n) : sp_trim n f j = f j := if_pos h
noncomputable def op_let (H : sp_H) : Int32 := if sp_hn H = 0 then -1 else nI (sp_unev H (sp_let (sp_hn H) (sp_unev H) (sp_lv H)))
noncomputable def op_letS (s : mm_S) : mm_S := if mm_n s 42 = 0 then mm_setN s 52 0 else mm_setN (mm_setV s 51 (fun j => if j < mm_n s 42 then nI (sp_let (mm_n s 42) (sp_unev (mm_H s)) (mm_a s 32) j) else mm_v s 51 j)) 52 (mm_n s 42)
/-- the best so far, of those with P -/
def mm_ltI (s : mm_S) (P : (Nat → Nat) → Prop) (least : Nat) (R : Nat → Int32) : Prop :=
  (least = 1000000 ∧ R = mm_v s 51 ∧ ∀ g, sp_pm (mm_n s 42) (mm_a s 32) g → ¬ P g) ∨
  (∃ L, P L ∧ least = sp_unev (mm_H s) L ∧ sp_pm (mm_n s 42) (mm_a s 32) L ∧ (∀ j, mm_n s 42 ≤ j → L j = 0) ∧ R = (fun j => if j < mm_n s 42 then nI (L j) else mm_v s 51 j) ∧ ∀ g, sp_pm (mm_n s 42) (mm_a s 32) g → P g → sp_unev (mm_H s) L ≤ sp_unev (mm_H s) g ∧ (sp_unev (mm_H s) g = sp_unev (mm_H s) L → sp_cd L (mm_n s 42) ≤ sp_cd g (mm_n s 42)))
theorem sp_pm_c {n : Nat} {f g g' : Nat → Nat} (h : sp_pm n f g) (e : ∀ i, i < n → g i = g' i) : sp_pm n f g' := fun v => (h v).trans (sp_ct_c e)
theorem mm_ltI_1 {s : mm_S} {g : Nat → Nat} {least : Nat} {R : Nat → Int32} (h20 : ∀ i, i < mm_n s 42 → mm_a s 32 i ≤ 20) (hg : sp_pm (mm_n s 42) (mm_a s 32) g) (hI : mm_ltI s (fun M => sp_cd M (mm_n s 42) < sp_cd g (mm_n s 42)) least R) (hlt : sp_unev (mm_H s) g < least) : mm_ltI s (fun M => sp_cd M (mm_n s 42) ≤ sp_cd g (mm_n s 42)) (sp_unev (mm_H s) g) (fun j => if j < mm_n s 42 then nI (g j) else mm_v s 51 j) := by
  have eu : sp_unev (mm_H s) (sp_trim (mm_n s 42) g) = sp_unev (mm_H s) g := sp_unev_c (fun k hk => sp_trim_at hk)
  have ec : sp_cd (sp_trim (mm_n s 42) g) (mm_n s 42) = sp_cd g (mm_n s 42) := sp_cd_c (fun k hk => sp_trim_at hk)
  refine Or.inr ⟨sp_trim (mm_n s 42) g, Nat.le_of_eq ec, eu.symm, sp_pm_c hg (fun i hi => (sp_trim_at hi).symm), fun j hj => if_neg (by omega), ?_, fun M hM hP => ?_⟩
  · funext j
    by_cases z : j < mm_n s 42
    · rw [if_pos z, if_pos z, sp_trim_at z]
    · rw [if_neg z, if_neg z]
  · rw [eu, ec]
    by_cases z : sp_cd M (mm_n s 42) < sp_cd g (mm_n s 42)
    · rcases hI with ⟨h1, h2, h3⟩ | ⟨L, h0, h1, h2, h3, h4, h5⟩
      · exact absurd z (h3 M hM)
      · have := (h5 M hM z).1
        exact ⟨by omega, fun e => by omega⟩
    · have e : sp_cd M (mm_n s 42) = sp_cd g (mm_n s 42) := Nat.le_antisymm hP (Nat.le_of_not_lt z)
      have e2 : sp_unev (mm_H s) M = sp_unev (mm_H s) g := sp_unev_c (sp_cd_in (sp_pm_20 hM h20) (sp_pm_20 hg h20) e)
      rw [e, e2]
      exact ⟨Nat.le_refl _, fun _ => Nat.le_refl _⟩
theorem mm_ltI_0 {s : mm_S} {g : Nat → Nat} {least : Nat} {R : Nat → Int32} (h20 : ∀ i, i < mm_n s 42 → mm_a s 32 i ≤ 20) (hg : sp_pm (mm_n s 42) (mm_a s 32) g) (hb : sp_unev (mm_H s) g ≤ 1599) (hI : mm_ltI s (fun M => sp_cd M (mm_n s 42) < sp_cd g (mm_n s 42)) least R) (hlt : ¬ sp_unev (mm_H s) g < least) : mm_ltI s (fun M => sp_cd M (mm_n s 42) ≤ sp_cd g (mm_n s 42)) least R := by
  rcases hI with ⟨h1, h2, h3⟩ | ⟨L, h0, h1, h2, h3, h4, h5⟩
  · omega
  · refine Or.inr ⟨L, Nat.le_of_lt h0, h1, h2, h3, h4, fun M hM hP => ?_⟩
    by_cases z : sp_cd M (mm_n s 42) < sp_cd g (mm_n s 42)
    · exact h5 M hM z
    · have e : sp_cd M (mm_n s 42) = sp_cd g (mm_n s 42) := Nat.le_antisymm hP (Nat.le_of_not_lt z)
      have e2 : sp_unev (mm_H s) M = sp_unev (mm_H s) g := sp_unev_c (sp_cd_in (sp_pm_20 hM h20) (sp_pm_20 hg h20) e)
      rw [e, e2]
      exact ⟨by omega, fun _ => Nat.le_of_lt h0⟩
theorem mm_ltI_m {s : mm_S} {P Q : (Nat → Nat) → Prop} {least : Nat} {R : Nat → Int32} (hI : mm_ltI s P least R) (h1 : ∀ L, P L → Q L) (h2 : ∀ g, sp_pm (mm_n s 42) (mm_a s 32) g → Q g → P g) : mm_ltI s Q least R := by
  rcases hI with ⟨a1, a2, a3⟩ | ⟨L, a0, a1, a2, a3, a4, a5⟩
  · exact Or.inl ⟨a1, a2, fun g hg hq => a3 g hg (h2 g hg hq)⟩
  · exact Or.inr ⟨L, h1 L a0, a1, a2, a3, a4, fun g hg hq => a5 g hg (h2 g hg hq)⟩
theorem mm_fT_n {s s2 : mm_S} {L : Nat → Int32} (h : mm_core (mm_fT s L) s2) : mm_n s2 42 = mm_n s 42 ∧ mm_H s2 = mm_H s := ⟨(h.1 42 rfl).symm, h.H.symm⟩
theorem mm_fT_57 {s s2 : mm_S} {L : Nat → Int32} {g : Nat → Nat} (h : mm_core (mm_fT s L) s2) : mm_core (mm_fT s L) (mm_setA s2 57 g) := h.tr (mm_core.A rfl mm_core.rf)
set_option maxHeartbeats 4000000 in
theorem mo_let {s : mm_S} (hH : sp_okH (mm_H s)) : mm_Op yX5_let cX5_let 5 (some .int) 3 [] s (some (.int (op_let (mm_H s)))) (op_letS s) := by
  refine mm_Op.of (by decide +kernel) (fun _ => Nat.le_of_ble_eq_true rfl) (fun G w h0 hW hR => ?_)
  have hs : mm_same w h0 h0 := mm_same.rf
  show AW G (aw_rm 3 0 0) yX5_let cX5_let 5 (some .int) (aw_N G (mm_PoC G w h0 (some (.int (op_let (mm_H s)))) (op_letS s)) 0 0) 0 0 h0 0 [(0, .ref w.1)] []
  have hs1 : 1 ≤ mm_n s 41 := hH.1.1; have hs20 : mm_n s 41 ≤ 20 := hH.1.2; have hn : mm_n s 42 ≤ 8 := hH.2.1; have hlv : ∀ t, t < 8 → mm_a s 32 t ≤ 20 := fun t ht => (hH.2.2.1 t ht).1; have hsg : ∀ t, t < 8 → mm_a s 33 t ≤ 40 := fun t ht => (hH.2.2.1 t ht).2.1; have hhv : ∀ t, t < 8 → mm_a s 34 t ≤ 9 := fun t ht => (hH.2.2.1 t ht).2.2.1; have how : ∀ t, t < 8 → mm_a s 35 t ≤ 999 := fun t ht => (hH.2.2.1 t ht).2.2.2.1; have hfl : ∀ t, t < 8 → mm_a s 36 t ≤ 100 := fun t ht => (hH.2.2.1 t ht).2.2.2.2; have hF0 : sp_fok (mm_steps s 0) := hH.2.2.2.1; have hF1 : sp_fok (mm_steps s 1) := hH.2.2.2.2; have h42 : sp_hn (mm_H s) = mm_n s 42 := rfl; have h41 : sp_hs (mm_H s) = mm_n s 41 := rfl
  have l20 : ∀ i, i < mm_n s 42 → mm_a s 32 i ≤ 20 := fun i hi => hlv i (by omega)
  have mon : ∀ g, (∀ i, i < mm_n s 42 → g i ≤ 20) → ∀ k, k < sp_hn (mm_H s) → sp_mon (mm_H s) g k ≤ 1599 := fun g hg k hk => by
    have := hg k hk
    have := how k (by omega)
    show 30 * g k + mm_a s 35 k ≤ 1599
    omega
  have r98 : ∀ (x : Nat) (g : Nat → Nat) (R : Nat → Int32), (∀ (s2 : mm_S) (h : aw_H), mm_core (mm_fT s (fun j => if j < mm_n s 42 then nI (g j) else R j)) s2 → mm_a s2 57 = g → mm_R G w h s2 → mm_same w h0 h → AW G (aw_rm 3 0 0) yX5_let cX5_let 5 (some .int) (aw_N G (mm_PoC G w h0 (some (.int (op_let (mm_H s)))) (op_letS s)) 0 0) 0 0 h 127 [(0, .ref w.1), (1, .int (nI x)), (2, .int (nI 1))] []) → ∀ (m k : Nat) (s2 : mm_S) (h : aw_H), mm_n s 42 - k = m → k ≤ mm_n s 42 → mm_core (mm_fT s (fun j => if j < k then nI (g j) else R j)) s2 → mm_a s2 57 = g → mm_R G w h s2 → mm_same w h0 h → AW G (aw_rm 3 0 0) yX5_let cX5_let 5 (some .int) (aw_N G (mm_PoC G w h0 (some (.int (op_let (mm_H s)))) (op_letS s)) 0 0) 0 0 h 98 [(0, .ref w.1), (1, .int (nI x)), (2, .int (nI 1)), (3, .int (nI x)), (4, .int (nI k))] [] := by
    intro x g R hgo m
    induction m using Nat.strongRecOn with
    | _ m ih =>
      intro k s2 h hm hk hC hg hR hs
      obtain ⟨e42, eH⟩ := mm_fT_n hC
      by_cases hk9 : k < mm_n s 42
      ·
        refine aw_iload dX5_let_98 rfl ?_
        refine aw_aload_n dX5_let_100 rfl ?_
        refine aw_get dX5_let_101 fX5_350 rfl hR.1 (by rfl) ?_
        refine aw_icmp_geN (tgt := 127) dX5_let_104 (by decide) (by omega) (by omega) (fun c_104 => by exfalso; omega) (fun c_104 => ?_)
        refine aw_aload_n dX5_let_107 rfl ?_
        refine aw_get dX5_let_108 fX5_97 rfl hR.1 (by rfl) ?_
        refine aw_iload dX5_let_111 rfl ?_
        refine aw_aload_n dX5_let_113 rfl ?_
        refine aw_get dX5_let_114 fX5_112 rfl hR.1 (by rfl) ?_
        refine aw_iload dX5_let_117 rfl ?_
        refine aw_ialdN dX5_let_119 (hR.2.1 57 8 rfl) (by omega) (by decide) ?_
        refine mm_vast (k := 51) rfl hW hR hs dX5_let_120 (by omega) (by decide) (fun h hR hs => ?_)
        refine aw_iincN (b := 1) dX5_let_121 rfl rfl (by decide) rfl rfl ?_
        refine aw_goto (tgt := 98) dX5_let_124 (by decide) ?_
        refine ih (mm_n s 42 - (k + 1)) (by omega) (k + 1) (mm_setV s2 51 (aw_u (mm_v s2 51) k (nI (mm_a s2 57 k)))) h rfl (by omega) ?_ hg hR hs
        rw [hg, ← aw_u_cpV (f := fun j => nI (g j)) (g := R)]
        exact mm_fT_u hC
      · obtain rfl : k = mm_n s 42 := by omega
        refine aw_iload dX5_let_98 rfl ?_
        refine aw_aload_n dX5_let_100 rfl ?_
        refine aw_get dX5_let_101 fX5_350 rfl hR.1 (by rfl) ?_
        refine aw_icmp_geN (tgt := 127) dX5_let_104 (by decide) (by omega) (by omega) (fun c_104 => ?_) (fun c_104 => by exfalso; omega)
        exact AW_dr (hgo s2 h hC hg hR hs)
  have fin : ∀ (x : Nat) (R : Nat → Int32) (s2 : mm_S) (h : aw_H), 1 ≤ mm_n s 42 → mm_ltI s (fun _ => True) x R → mm_core (mm_fT s R) s2 → mm_R G w h s2 → mm_same w h0 h → AW G (aw_rm 3 0 0) yX5_let cX5_let 5 (some .int) (aw_N G (mm_PoC G w h0 (some (.int (op_let (mm_H s)))) (op_letS s)) 0 0) 0 0 h 79 [(0, .ref w.1), (1, .int (nI x)), (2, .int (nI 0))] [] := by
    intro x R s2 h hn1 hI hC hR hs
    obtain ⟨e42, eH⟩ := mm_fT_n hC
    refine aw_iload_n dX5_let_79 rfl ?_
    refine aw_if_eqN (tgt := 135) dX5_let_80 (by decide) (by omega) (fun c_80 => ?_) (fun c_80 => by exfalso; omega)
    refine aw_aload_n dX5_let_135 rfl ?_
    refine aw_aload_n dX5_let_136 rfl ?_
    refine aw_get dX5_let_137 fX5_350 rfl hR.1 (by rfl) ?_
    refine mm_putN (k := 52) hW hR hs dX5_let_140 (pX5_365 _) rfl rfl (mm_F_set52 _ _ _) (by decide) (fun h hR hs => ?_)
    refine aw_iload_n dX5_let_143 rfl ?_
    refine aw_ireturn dX5_let_144 rfl ?_
    rcases hI with ⟨a1, a2, a3⟩ | ⟨L, a0, a1, a2, a3, a4, a5⟩
    · exact absurd trivial (a3 _ sp_pm.rf)
    · have eL : sp_let (mm_n s 42) (sp_unev (mm_H s)) (mm_a s 32) = L := sp_let_eq l20 ⟨a2, fun g hg => ⟨(a5 g hg trivial).1, fun e => (a5 g hg trivial).2 e⟩, a3⟩
      refine ⟨?_, _, ?_, hR, hs⟩
      · unfold op_let
        rw [h42, if_neg (by omega), a1, ← eL]
        rfl
      · unfold op_letS
        rw [if_neg (by omega), eL, ← a4, e42]
        have e := mm_core.NN (k := 52) (v := mm_n s 42) hC
        unfold mm_fT at e
        rw [mm_N_N] at e
        exact e
  have r79 : ∀ (m x : Nat) (g : Nat → Nat) (R : Nat → Int32) (s2 : mm_S) (h : aw_H), 21 ^ mm_n s 42 - sp_cd g (mm_n s 42) = m → x ≤ 1000000 → 1 ≤ mm_n s 42 → sp_pm (mm_n s 42) (mm_a s 32) g → mm_ltI s (fun M => sp_cd M (mm_n s 42) < sp_cd g (mm_n s 42)) x R → mm_core (mm_fT s R) s2 → mm_a s2 57 = g → mm_R G w h s2 → mm_same w h0 h → AW G (aw_rm 3 0 0) yX5_let cX5_let 5 (some .int) (aw_N G (mm_PoC G w h0 (some (.int (op_let (mm_H s)))) (op_letS s)) 0 0) 0 0 h 79 [(0, .ref w.1), (1, .int (nI x)), (2, .int (nI 1))] [] := by
    intro m
    induction m using Nat.strongRecOn with
    | _ m ih =>
      intro x g R s2 h hm hx hn1 hg hI hC hg57 hR hs
      obtain ⟨e42, eH⟩ := mm_fT_n hC
      have g20 := sp_pm_20 hg l20
      have ub := sp_unev_b (mon g g20)
      have aft : ∀ (x : Nat) (R : Nat → Int32) (s2 : mm_S) (h : aw_H), x ≤ 1000000 → mm_ltI s (fun M => sp_cd M (mm_n s 42) ≤ sp_cd g (mm_n s 42)) x R → mm_core (mm_fT s R) s2 → mm_a s2 57 = g → mm_R G w h s2 → mm_same w h0 h → AW G (aw_rm 3 0 0) yX5_let cX5_let 5 (some .int) (aw_N G (mm_PoC G w h0 (some (.int (op_let (mm_H s)))) (op_letS s)) 0 0) 0 0 h 127 [(0, .ref w.1), (1, .int (nI x)), (2, .int (nI 1))] [] := by
        intro x R s2 h hx hI hC hg57 hR hs
        obtain ⟨e42, eH⟩ := mm_fT_n hC
        have cnx := mm_nextHomes (s := s2) (by omega) (by omega) (by rw [e42, hg57]; exact g20)
        rw [hg57, e42] at cnx
        by_cases z : sp_nk g (mm_n s 42 - 1) = 0
        · rw [if_pos z, aw_t0 (fun y => y z)] at cnx
          refine aw_aload_n dX5_let_127 rfl ?_
          refine mm_call dX5_let_128 sX5_473 rfl hW hR hs cnx rfl rfl ⟨Nat.le_of_ble_eq_true rfl, Nat.le_of_ble_eq_true rfl⟩ (Nat.le_of_ble_eq_true rfl) (fun h hR hs => ?_)
          refine aw_istore_n dX5_let_131 (by decide) rfl rfl ?_
          refine aw_goto (tgt := 79) dX5_let_132 (by decide) ?_
          exact fin x R s2 h hn1 (mm_ltI_m hI (fun _ _ => trivial) (fun M hM _ => sp_last (hg.sy.tr hM) g20 (fun i hi => sp_nk_none z i (by omega)))) hC hR hs
        · rw [if_neg z, aw_t1 z] at cnx
          obtain ⟨k, hk⟩ : ∃ k, sp_nk g (mm_n s 42 - 1) = k + 1 := ⟨sp_nk g (mm_n s 42 - 1) - 1, by omega⟩
          obtain ⟨n1, n2, n3⟩ := sp_nxt_ok g20 hk
          have n4 := sp_cd_b (sp_pm_20 n1 g20)
          refine aw_aload_n dX5_let_127 rfl ?_
          refine mm_call dX5_let_128 sX5_473 rfl hW hR hs cnx rfl rfl ⟨Nat.le_of_ble_eq_true rfl, Nat.le_of_ble_eq_true rfl⟩ (Nat.le_of_ble_eq_true rfl) (fun h hR hs => ?_)
          refine aw_istore_n dX5_let_131 (by decide) rfl rfl ?_
          refine aw_goto (tgt := 79) dX5_let_132 (by decide) ?_
          refine ih _ ?_ x (sp_nxt (mm_n s 42) g) R _ h rfl hx hn1 (hg.tr n1) (mm_ltI_m hI (fun L hL => by omega) (fun M hM hq => ?_)) (mm_fT_57 hC) rfl hR hs
          · omega
          · refine Nat.le_of_not_lt (fun y => ?_)
            have := n3 M (hg.sy.tr hM) y
            omega
      have eR : (fun j => if j < mm_n s 42 then nI (g j) else R j) = fun j => if j < mm_n s 42 then nI (g j) else mm_v s 51 j := by
        funext j
        by_cases z : j < mm_n s 42
        · rw [if_pos z, if_pos z]
        · rw [if_neg z, if_neg z]
          rcases hI with ⟨a1, a2, a3⟩ | ⟨L, a0, a1, a2, a3, a4, a5⟩
          · rw [a2]
          · rw [a4]; exact if_neg z
      have cun := mm_uneven (s := s2) (by omega) (by omega) (by rw [e42, hg57, eH]; exact fun k hk => Nat.le_trans (mon g g20 k hk) (by decide))
      rw [eH, hg57] at cun
      refine aw_iload_n dX5_let_79 rfl ?_
      refine aw_if_eqN (tgt := 135) dX5_let_80 (by decide) (by omega) (fun c_80 => by exfalso; omega) (fun c_80 => ?_)
      refine aw_aload_n dX5_let_83 rfl ?_
      refine mm_call dX5_let_84 sX5_470 rfl hW hR hs cun rfl rfl ⟨Nat.le_of_ble_eq_true rfl, Nat.le_of_ble_eq_true rfl⟩ (Nat.le_of_ble_eq_true rfl) (fun h hR hs => ?_)
      refine aw_istore_n dX5_let_87 (by decide) rfl rfl ?_
      refine aw_iload_n dX5_let_88 rfl ?_
      refine aw_iload_n dX5_let_89 rfl ?_
      refine aw_icmp_geN (tgt := 127) dX5_let_90 (by decide) (by omega) (by omega) (fun c_90 => ?_) (fun c_90 => ?_)
      · exact AW_dr (aft x R s2 h hx (mm_ltI_0 l20 hg ub hI (by omega)) hC hg57 hR hs)
      · refine aw_iload_n dX5_let_93 rfl ?_
        refine aw_istore_n dX5_let_94 (by decide) rfl rfl ?_
        refine aw_iconst (v := nI 0) dX5_let_95 rfl ?_
        refine aw_istore dX5_let_96 (by decide) rfl rfl ?_
        refine r98 _ g R (fun s2 h hC hq hR hs => aft _ _ s2 h (by omega) (mm_ltI_1 l20 hg hI (by omega)) (by rw [← eR]; exact hC) hq hR hs) _ 0 s2 h rfl (Nat.zero_le _) hC hg57 hR hs
  have start : ∀ (g : Nat → Nat) (s2 : mm_S) (h : aw_H), 1 ≤ mm_n s 42 → sp_pm (mm_n s 42) (mm_a s 32) g → (∀ i, i + 1 < mm_n s 42 → g i ≤ g (i + 1)) → mm_core (mm_fT s (mm_v s 51)) s2 → mm_a s2 57 = g → mm_R G w h s2 → mm_same w h0 h → AW G (aw_rm 3 0 0) yX5_let cX5_let 5 (some .int) (aw_N G (mm_PoC G w h0 (some (.int (op_let (mm_H s)))) (op_letS s)) 0 0) 0 0 h 73 [(0, .ref w.1)] [] := by
    intro g s2 h hn1 hg hasc hC hg57 hR hs
    refine aw_ldcw (v := nI 1000000) dX5_let_73 q1808 ?_
    refine aw_istore_n dX5_let_76 (by decide) rfl rfl ?_
    refine aw_iconst (v := nI 1) dX5_let_77 rfl ?_
    refine aw_istore_n dX5_let_78 (by decide) rfl rfl ?_
    exact r79 _ 1000000 g (mm_v s 51) s2 h rfl (Nat.le_refl _) hn1 hg (Or.inl ⟨rfl, rfl, fun M hM hq => by have := sp_first (hg.sy.tr hM) (sp_pm_20 hg l20) hasc; omega⟩) hC hg57 hR hs
  have r32 : ∀ (a : Nat), a < mm_n s 42 → (∀ (g : Nat → Nat) (s2 : mm_S) (h : aw_H), sp_pm (mm_n s 42) (mm_a s 32) g → (∀ i j, i < a + 1 → i ≤ j → j < mm_n s 42 → g i ≤ g j) → mm_core (mm_fT s (mm_v s 51)) s2 → mm_a s2 57 = g → mm_R G w h s2 → mm_same w h0 h → AW G (aw_rm 3 0 0) yX5_let cX5_let 5 (some .int) (aw_N G (mm_PoC G w h0 (some (.int (op_let (mm_H s)))) (op_letS s)) 0 0) 0 0 h 67 [(0, .ref w.1), (1, .int (nI a))] []) → ∀ (m b : Nat) (g : Nat → Nat) (s2 : mm_S) (h : aw_H), mm_n s 42 - b = m → a < b → b ≤ mm_n s 42 → sp_pm (mm_n s 42) (mm_a s 32) g → (∀ i j, i < a → i ≤ j → j < mm_n s 42 → g i ≤ g j) → (∀ j, a ≤ j → j < b → g a ≤ g j) → mm_core (mm_fT s (mm_v s 51)) s2 → mm_a s2 57 = g → mm_R G w h s2 → mm_same w h0 h → AW G (aw_rm 3 0 0) yX5_let cX5_let 5 (some .int) (aw_N G (mm_PoC G w h0 (some (.int (op_let (mm_H s)))) (op_letS s)) 0 0) 0 0 h 32 [(0, .ref w.1), (1, .int (nI a)), (2, .int (nI b))] [] := by
    intro a ha hgo m
    induction m using Nat.strongRecOn with
    | _ m ih =>
      intro b g s2 h hm hab hb hg h1 h2 hC hg57 hR hs
      obtain ⟨e42, eH⟩ := mm_fT_n hC
      have g20 := sp_pm_20 hg l20
      have next : ∀ (g : Nat → Nat) (s2 : mm_S) (h : aw_H), b < mm_n s 42 → sp_pm (mm_n s 42) (mm_a s 32) g → (∀ i j, i < a → i ≤ j → j < mm_n s 42 → g i ≤ g j) → (∀ j, a ≤ j → j < b + 1 → g a ≤ g j) → mm_core (mm_fT s (mm_v s 51)) s2 → mm_a s2 57 = g → mm_R G w h s2 → mm_same w h0 h → AW G (aw_rm 3 0 0) yX5_let cX5_let 5 (some .int) (aw_N G (mm_PoC G w h0 (some (.int (op_let (mm_H s)))) (op_letS s)) 0 0) 0 0 h 61 [(0, .ref w.1), (1, .int (nI a)), (2, .int (nI b))] [] := by
        intro g s2 h hb2 hg h1 h2 hC hg57 hR hs
        refine aw_iincN (b := 1) dX5_let_61 rfl rfl (by decide) rfl rfl ?_
        refine aw_goto (tgt := 32) dX5_let_64 (by decide) ?_
        exact ih (mm_n s 42 - (b + 1)) (by omega) (b + 1) g s2 h rfl (by omega) (by omega) hg h1 h2 hC hg57 hR hs
      by_cases hb9 : b < mm_n s 42
      · have v1 := g20 b hb9
        have v2 := g20 a ha
        refine aw_iload_n dX5_let_32 rfl ?_
        refine aw_aload_n dX5_let_33 rfl ?_
        refine aw_get dX5_let_34 fX5_350 rfl hR.1 (by rfl) ?_
        refine aw_icmp_geN (tgt := 67) dX5_let_37 (by decide) (by omega) (by omega) (fun c_37 => by exfalso; omega) (fun c_37 => ?_)
        refine aw_aload_n dX5_let_40 rfl ?_
        refine aw_get dX5_let_41 fX5_112 rfl hR.1 (by rfl) ?_
        refine aw_iload_n dX5_let_44 rfl ?_
        refine aw_ialdN dX5_let_45 (hR.2.1 57 8 rfl) (by omega) (by decide) ?_
        rw [hg57]
        refine aw_aload_n dX5_let_46 rfl ?_
        refine aw_get dX5_let_47 fX5_112 rfl hR.1 (by rfl) ?_
        refine aw_iload_n dX5_let_50 rfl ?_
        refine aw_ialdN dX5_let_51 (hR.2.1 57 8 rfl) (by omega) (by decide) ?_
        rw [hg57]
        refine aw_icmp_geN (tgt := 61) dX5_let_52 (by decide) (by omega) (by omega) (fun c_52 => ?_) (fun c_52 => ?_)
        · first
            | (refine next g s2 h hb9 hg h1 (fun j j1 j2 => ?_) hC hg57 hR hs
               by_cases e : j = b
               · rw [e]; omega
               · exact h2 j j1 (by omega))
            | (refine next (sp_swap g a b) _ h hb9 (hg.tr (sp_pm_swap ha hb9).sy) (fun i j i1 i2 i3 => ?_) (fun j j1 j2 => ?_) (mm_fT_57 hC) (by rw [hg57]; rfl) hR hs
               · rw [sp_swap_at, sp_swap_at, if_neg (by omega), if_neg (by omega)]
                 split
                 · exact h1 i a i1 (by omega) ha
                 · split
                   · exact h1 i b i1 (by omega) hb9
                   · exact h1 i j i1 i2 i3
               · rw [sp_swap_at, sp_swap_at, if_neg (show ¬ a = b by omega), if_pos rfl]
                 split
                 · omega
                 · split
                   · exact Nat.le_refl _
                   · have := h2 j j1 (by omega)
                     omega)
        · refine aw_aload_n dX5_let_55 rfl ?_
          refine aw_iload_n dX5_let_56 rfl ?_
          refine aw_iload_n dX5_let_57 rfl ?_
          refine mm_call dX5_let_58 sX5_464 rfl hW hR hs (mm_changeHomes (s := s2) (by omega) (by omega)) rfl rfl ⟨Nat.le_of_ble_eq_true rfl, Nat.le_of_ble_eq_true rfl⟩ (Nat.le_of_ble_eq_true rfl) (fun h hR hs => ?_)
          first
            | (refine next g s2 h hb9 hg h1 (fun j j1 j2 => ?_) hC hg57 hR hs
               by_cases e : j = b
               · rw [e]; omega
               · exact h2 j j1 (by omega))
            | (refine next (sp_swap g a b) _ h hb9 (hg.tr (sp_pm_swap ha hb9).sy) (fun i j i1 i2 i3 => ?_) (fun j j1 j2 => ?_) (mm_fT_57 hC) (by rw [hg57]; rfl) hR hs
               · rw [sp_swap_at, sp_swap_at, if_neg (by omega), if_neg (by omega)]
                 split
                 · exact h1 i a i1 (by omega) ha
                 · split
                   · exact h1 i b i1 (by omega) hb9
                   · exact h1 i j i1 i2 i3
               · rw [sp_swap_at, sp_swap_at, if_neg (show ¬ a = b by omega), if_pos rfl]
                 split
                 · omega
                 · split
                   · exact Nat.le_refl _
                   · have := h2 j j1 (by omega)
                     omega)
      · obtain rfl : b = mm_n s 42 := by omega
        refine aw_iload_n dX5_let_32 rfl ?_
        refine aw_aload_n dX5_let_33 rfl ?_
        refine aw_get dX5_let_34 fX5_350 rfl hR.1 (by rfl) ?_
        refine aw_icmp_geN (tgt := 67) dX5_let_37 (by decide) (by omega) (by omega) (fun c_37 => ?_) (fun c_37 => by exfalso; omega)
        refine AW_dr (hgo g s2 h hg (fun i j i1 i2 i3 => ?_) hC hg57 hR hs)
        by_cases e : i = a
        · rw [e]; exact h2 j (by omega) i3
        · exact h1 i j (by omega) i2 i3
  have r20 : ∀ (m a : Nat) (g : Nat → Nat) (s2 : mm_S) (h : aw_H), mm_n s 42 - a = m → a ≤ mm_n s 42 → 1 ≤ mm_n s 42 → sp_pm (mm_n s 42) (mm_a s 32) g → (∀ i j, i < a → i ≤ j → j < mm_n s 42 → g i ≤ g j) → mm_core (mm_fT s (mm_v s 51)) s2 → mm_a s2 57 = g → mm_R G w h s2 → mm_same w h0 h → AW G (aw_rm 3 0 0) yX5_let cX5_let 5 (some .int) (aw_N G (mm_PoC G w h0 (some (.int (op_let (mm_H s)))) (op_letS s)) 0 0) 0 0 h 20 [(0, .ref w.1), (1, .int (nI a))] [] := by
    intro m
    induction m using Nat.strongRecOn with
    | _ m ih =>
      intro a g s2 h hm ha hn1 hg h1 hC hg57 hR hs
      obtain ⟨e42, eH⟩ := mm_fT_n hC
      have next : ∀ (g : Nat → Nat) (s2 : mm_S) (h : aw_H), a < mm_n s 42 → sp_pm (mm_n s 42) (mm_a s 32) g → (∀ i j, i < a + 1 → i ≤ j → j < mm_n s 42 → g i ≤ g j) → mm_core (mm_fT s (mm_v s 51)) s2 → mm_a s2 57 = g → mm_R G w h s2 → mm_same w h0 h → AW G (aw_rm 3 0 0) yX5_let cX5_let 5 (some .int) (aw_N G (mm_PoC G w h0 (some (.int (op_let (mm_H s)))) (op_letS s)) 0 0) 0 0 h 67 [(0, .ref w.1), (1, .int (nI a))] [] := by
        intro g s2 h ha2 hg h1 hC hg57 hR hs
        refine aw_iincN (b := 1) dX5_let_67 rfl rfl (by decide) rfl rfl ?_
        refine aw_goto (tgt := 20) dX5_let_70 (by decide) ?_
        exact ih (mm_n s 42 - (a + 1)) (by omega) (a + 1) g s2 h rfl (by omega) hn1 hg h1 hC hg57 hR hs
      by_cases ha9 : a < mm_n s 42
      ·
        refine aw_iload_n dX5_let_20 rfl ?_
        refine aw_aload_n dX5_let_21 rfl ?_
        refine aw_get dX5_let_22 fX5_350 rfl hR.1 (by rfl) ?_
        refine aw_icmp_geN (tgt := 73) dX5_let_25 (by decide) (by omega) (by omega) (fun c_25 => by exfalso; omega) (fun c_25 => ?_)
        refine aw_iload_n dX5_let_28 rfl ?_
        refine aw_iconst (v := nI 1) dX5_let_29 rfl ?_
        refine aw_iaddN dX5_let_30 ?_
        refine aw_istore_n dX5_let_31 (by decide) rfl rfl ?_
        exact r32 a ha9 (fun g s2 h hg h1 hC hq hR hs => next g s2 h ha9 hg h1 hC hq hR hs) _ (a + 1) g s2 h rfl (by omega) (by omega) hg h1 (fun j j1 j2 => by rw [show j = a by omega]; exact Nat.le_refl _) hC hg57 hR hs
      ·
        refine aw_iload_n dX5_let_20 rfl ?_
        refine aw_aload_n dX5_let_21 rfl ?_
        refine aw_get dX5_let_22 fX5_350 rfl hR.1 (by rfl) ?_
        refine aw_icmp_geN (tgt := 73) dX5_let_25 (by decide) (by omega) (by omega) (fun c_25 => ?_) (fun c_25 => by exfalso; omega)
        exact AW_dr (start g s2 h hn1 hg (fun i hi => h1 i (i + 1) (by omega) (by omega) hi) hC hg57 hR hs)
  have hn2 : mm_n (mm_setN s 52 0) 42 = mm_n s 42 := rfl
  refine aw_aload_n dX5_let_0 rfl ?_
  refine aw_iconst (v := nI 0) dX5_let_1 rfl ?_
  refine mm_putN (k := 52) hW hR hs dX5_let_2 (pX5_365 _) rfl rfl (mm_F_set52 _ _ _) (by decide) (fun h hR hs => ?_)
  refine aw_aload_n dX5_let_5 rfl ?_
  refine aw_get dX5_let_6 fX5_350 rfl hR.1 (by rfl) ?_
  try simp only [mm_n_N, mm_n_A, mm_n_V, mm_n_Fp, mm_n_W, mm_n_Nm, mm_a_N, mm_a_A, mm_a_V, mm_a_Fp, mm_a_W, mm_a_Nm, mm_v_N, mm_v_A, mm_v_V, mm_fp_N, mm_fp_A, mm_fp_Fp, mm_w_N, mm_w_W, Nat.reduceEqDiff, reduceIte, if_true, if_false, mm_H_45, mm_H_46, mm_H_47, mm_H_50, mm_H_53, mm_H_54, mm_H_55, mm_H_56, mm_H_57, mm_H_58, mm_H_66, mm_H_67, mm_H_68]
  skip
  refine aw_if_neN (tgt := 14) dX5_let_9 (by decide) (by omega) (fun c_9 => ?_) (fun c_9 => ?_)
  · refine aw_aload_n dX5_let_14 rfl ?_
    refine mm_call dX5_let_15 sX5_458 rfl hW hR hs (mm_layHomes (s := mm_setN s 52 0) hn) rfl rfl ⟨Nat.le_of_ble_eq_true rfl, Nat.le_of_ble_eq_true rfl⟩ (Nat.le_of_ble_eq_true rfl) (fun h hR hs => ?_)
    refine aw_iconst (v := nI 0) dX5_let_18 rfl ?_
    refine aw_istore_n dX5_let_19 (by decide) rfl rfl ?_
    refine r20 _ 0 _ _ h rfl (Nat.zero_le _) (by omega) (sp_pm_c sp_pm.rf (fun i hi => ?_)) (fun i j i1 => by omega) ?_ rfl hR hs
    · exact (if_pos hi).symm
    · unfold mm_fT
      rw [mm_V_id (fun _ => rfl)]
      exact mm_core.A rfl mm_core.rf
  · refine aw_iconst (v := -1) dX5_let_12 rfl ?_
    refine aw_ireturn dX5_let_13 rfl ?_
    refine ⟨?_, _, ?_, hR, hs⟩
    · unfold op_let
      rw [if_pos (by omega)]
    · unfold op_letS
      rw [if_pos (by omega)]
      exact mm_core.rf

