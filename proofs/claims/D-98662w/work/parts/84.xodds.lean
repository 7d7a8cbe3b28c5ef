set_option maxRecDepth 100000
/-! odds -/
set_option maxHeartbeats 4000000 in
theorem xp_com1 {a b f g : Nat} (ha : a < 2147483648) (hb : b < 2147483648) (h0 : b = 0 → a = g) (hc : 0 < b → aw_Pu yX0_common cX0_common 2 (some .int) f [.int (nI b), .int (nI (a % b))] (.int (nI g))) : aw_Pu yX0_common cX0_common 2 (some .int) (f+1) [.int (nI (a)), .int (nI (b))] (.int (nI (g))) := by
  refine fun G h => aw_Met.of (by decide +kernel) (Nat.le_of_ble_eq_true rfl) ?_
  show AW G (aw_rm (f+1) 0 0) yX0_common cX0_common 2 (some .int) (aw_N G (fun v9 h9 => v9 = some (.int (nI (g))) ∧ h9 = h) 0 0) 0 0 h 0 [(0, .int (nI (a))), (1, .int (nI (b)))] []
  refine aw_iload_n dX0_common_0 rfl ?_
  refine aw_if_neN (tgt := 8) dX0_common_1 (by decide) (by omega) (fun c_1 => ?_) (fun c_1 => ?_)
  · refine aw_iload_n dX0_common_8 rfl ?_
    refine aw_iload_n dX0_common_9 rfl ?_
    refine aw_iload_n dX0_common_10 rfl ?_
    refine aw_iremN dX0_common_11 (by omega) (by omega) (by omega) ?_
    refine aw_callP (r := _) dX0_common_12 sX0_319 rfl (hc (by omega)) rfl rfl ⟨Nat.le_refl _, by show _ ≤ 64 * (f + 1); omega⟩ (Nat.le_of_ble_eq_true rfl) ?_
    refine aw_ireturn dX0_common_15 rfl ?_
    first
      | exact ⟨rfl, rfl⟩
      | exact ⟨by rw [h0 c_1], rfl⟩
  · refine aw_iload_n dX0_common_4 rfl ?_
    refine aw_goto (tgt := 15) dX0_common_5 (by decide) ?_
    refine aw_ireturn dX0_common_15 rfl ?_
    first
      | exact ⟨rfl, rfl⟩
      | exact ⟨by rw [h0 c_1], rfl⟩
theorem sp_gcd (a b : Nat) : Nat.gcd a b = Nat.gcd b (a % b) := by rw [Nat.gcd_comm a b, Nat.gcd_rec b a, Nat.gcd_comm]
theorem xp_com0 {a g : Nat} (ha : a < 2147483648) (e : a = g) {f : Nat} : aw_Pu yX0_common cX0_common 2 (some .int) (f + 1) [.int (nI a), .int (nI 0)] (.int (nI g)) :=
  xp_com1 ha (by decide) (fun _ => e) (fun h => absurd h (by decide))
theorem xp_com : ∀ (n a b : Nat), a < 2147483648 → b < 2147483648 → b < 2 ^ n → aw_Pu yX0_common cX0_common 2 (some .int) (2 * n + 1) [.int (nI a), .int (nI b)] (.int (nI (Nat.gcd a b))) := by
  intro n
  induction n with
  | zero =>
    intro a b ha hb h
    obtain rfl : b = 0 := by have : b < 1 := h; omega
    exact xp_com0 ha (Nat.gcd_zero_right a).symm
  | succ n ih =>
    intro a b ha hb h
    have h2 : b < 2 ^ n * 2 := h
    refine xp_com1 (f := 2 * n + 2) ha hb (fun z => by rw [z, Nat.gcd_zero_right]) (fun z => ?_)
    have r1 := Nat.mod_lt a z
    refine xp_com1 (f := 2 * n + 1) hb (by omega) (fun z2 => ?_) (fun z2 => ?_)
    · rw [sp_gcd, z2, Nat.gcd_zero_right]
    · have r2 := Nat.mod_lt b z2
      have r3 : b = a % b * (b / (a % b)) + b % (a % b) := (Nat.div_add_mod b (a % b)).symm
      have r4 : 0 < b / (a % b) := Nat.div_pos (by omega) z2
      have r5 : a % b * 1 ≤ a % b * (b / (a % b)) := Nat.mul_le_mul_left _ r4
      rw [sp_gcd a b, sp_gcd b (a % b)]
      exact ih (a % b) (b % (a % b)) (by omega) (by omega) (by omega)
theorem sp_bits_n {n k : Nat} (hn : n ≤ 4) (hk : k < 2 ^ n) : sp_bits n k = sp_bits 8 k := by
  have e : ∀ n, n ≤ 4 → ∀ k, k < 16 → k < 2 ^ n → sp_bits n k = sp_bits 8 k := by decide
  exact e n hn k (Nat.lt_of_lt_of_le hk (Nat.pow_le_pow_right (by decide) hn)) hk
def sp_prd (fl v k : Nat) : Nat := (100 - fl) ^ sp_bits k v * fl ^ (k - sp_bits k v)
theorem sp_prd_s {fl v k : Nat} : sp_prd fl v (k + 1) = sp_prd fl v k * (if v / 2 ^ k % 2 = 1 then 100 - fl else fl) := by
  have h := sp_bits_le k v
  unfold sp_prd
  rw [show sp_bits (k + 1) v = sp_bits k v + v / 2 ^ k % 2 from rfl]
  by_cases z : v / 2 ^ k % 2 = 1
  · rw [if_pos z, z, Nat.pow_succ, show k + 1 - (sp_bits k v + 1) = k - sp_bits k v by omega, Nat.mul_assoc, Nat.mul_assoc, Nat.mul_comm (100 - fl)]
  · rw [if_neg z, show v / 2 ^ k % 2 = 0 by omega, Nat.add_zero, show k + 1 - sp_bits k v = k - sp_bits k v + 1 by omega, Nat.pow_succ, Nat.mul_assoc]
theorem sp_prd_le {fl v : Nat} (hf : fl ≤ 100) : ∀ k, sp_prd fl v k ≤ 100 ^ k := by
  intro k
  have h1 : (100 - fl) ^ sp_bits k v ≤ 100 ^ sp_bits k v := Nat.pow_le_pow_left (by omega) _
  have h2 : fl ^ (k - sp_bits k v) ≤ 100 ^ (k - sp_bits k v) := Nat.pow_le_pow_left hf _
  have h3 := Nat.mul_le_mul h1 h2
  rw [← Nat.pow_add, show sp_bits k v + (k - sp_bits k v) = k by have := sp_bits_le k v; omega] at h3
  exact h3
set_option maxHeartbeats 4000000 in
theorem xo_odds {s : mm_S} {H : sp_H} {u : Nat} {t n m q : Int32} (hOK : sp_okH H) : xx_Op yX0_odds cX0_odds 11 (some .int) 64 0 0 (fun w => [.ref (w.1 0), .int (t), .int (n), .int (m), .int (q)]) s H u (some (.int (op_odds H t n m q))) (s) := by
  refine xx_Op.of (by decide +kernel) (fun _ => Nat.le_of_ble_eq_true rfl) (fun G w h0 hW hX hH => ?_)
  have hX0 := hX
  have hs : xx_same w h0 h0 := xx_same.rf
  obtain ⟨tl, te, cap, m9, f9, tn, nm9, c9, mo9, D9, hq⟩ := hH
  show AW G (aw_rm 64 0 0) yX0_odds cX0_odds 11 (some .int) (aw_N G (xx_PoC G w h0 (some (.int (op_odds H t n m q))) (s)) 0 0) 0 0 h0 0 [(0, .ref (w.1 0)), (1, .int (t)), (2, .int (n)), (3, .int (m)), (4, .int (q))] []
  have hs1 : 1 ≤ sp_hs H := hOK.1.1; have hs20 : sp_hs H ≤ 20 := hOK.1.2; have hn : sp_hn H ≤ 8 := hOK.2.1; have hlv : ∀ t, t < 8 → sp_lv H t ≤ 20 := fun t ht => (hOK.2.2.1 t ht).1; have hsg : ∀ t, t < 8 → sp_sg8 H t ≤ 40 := fun t ht => (hOK.2.2.1 t ht).2.1; have hhv : ∀ t, t < 8 → sp_hv H t ≤ 9 := fun t ht => (hOK.2.2.1 t ht).2.2.1; have how : ∀ t, t < 8 → sp_ow H t ≤ 999 := fun t ht => (hOK.2.2.1 t ht).2.2.2.1; have hfl : ∀ t, t < 8 → sp_fl H t ≤ 100 := fun t ht => (hOK.2.2.1 t ht).2.2.2.2
  have no : ¬ (sp_isT H t ∧ (0 ≤ n.toInt ∧ n.toInt ≤ 4) ∧ (0 ≤ m.toInt ∧ m.toInt ≤ n.toInt) ∧ (0 ≤ q.toInt ∧ q.toInt ≤ 1)) → op_odds H t n m q = -1 := fun z => by rw [op_odds, aw_if0 z]
  have main : ∀ (t' n' m' : Nat), t' < sp_hn H → n' ≤ 4 → m' ≤ n' → 0 ≤ q.toInt → q.toInt ≤ 1 → op_odds H t n m q = (if q.toInt = 0 then nI (sp_ods (sp_fl H t') n' m' / Nat.gcd (100 ^ n') (sp_ods (sp_fl H t') n' m')) else nI (100 ^ n' / Nat.gcd (100 ^ n') (sp_ods (sp_fl H t') n' m'))) → ∀ (m9 k : Nat) (h : aw_H), 2 ^ n' - k = m9 → k ≤ 2 ^ n' → XC G w h s → xx_same w h0 h → AW G (aw_rm 64 0 0) yX0_odds cX0_odds 11 (some .int) (aw_N G (xx_PoC G w h0 (some (.int (op_odds H t n m q))) (s)) 0 0) 0 0 (h) 88 [(0, .ref (w.1 0)), (1, .int (nI t')), (2, .int (nI n')), (3, .int (nI m')), (4, .int q), (5, .int (nI (sp_fl H t'))), (6, .int (nI (sp_sum (sp_odd (sp_fl H t') n' m') k))), (7, .int (nI (100 ^ n'))), (8, .int (nI k))] [] := by
    intro t' n' m' ht9 hn4 hm4 q1 q2 fin m9
    have hf := hfl t' (by omega)
    have c100 : 100 ^ n' ≤ 100 ^ 4 := Nat.pow_le_pow_right (by decide) hn4
    have p16 : 2 ^ n' ≤ 16 := Nat.pow_le_pow_right (by decide) hn4 (n := 2)
    have sle : ∀ k, k ≤ 2 ^ n' → sp_sum (sp_odd (sp_fl H t') n' m') k ≤ 100000000 * k := by
      intro k
      induction k with
      | zero => intro _; exact Nat.zero_le _
      | succ k ih =>
        intro hk
        have := ih (by omega)
        have := @sp_odd_le (sp_fl H t') n' m' k hf hn4 (by omega)
        show sp_sum (sp_odd (sp_fl H t') n' m') k + sp_odd (sp_fl H t') n' m' k ≤ _
        omega
    have prod : ∀ (k u9 : Nat), k < 2 ^ n' → u9 < 2147483648 → (∀ h : aw_H, XC G w h s → xx_same w h0 h → AW G (aw_rm 64 0 0) yX0_odds cX0_odds 11 (some .int) (aw_N G (xx_PoC G w h0 (some (.int (op_odds H t n m q))) (s)) 0 0) 0 0 (h) 151 [(0, .ref (w.1 0)), (1, .int (nI t')), (2, .int (nI n')), (3, .int (nI m')), (4, .int q), (5, .int (nI (sp_fl H t'))), (6, .int (nI u9)), (7, .int (nI (100 ^ n'))), (8, .int (nI k)), (9, .int (nI (sp_prd (sp_fl H t') k n')))] []) → ∀ (d j : Nat) (h : aw_H), n' - j = d → j ≤ n' → XC G w h s → xx_same w h0 h → AW G (aw_rm 64 0 0) yX0_odds cX0_odds 11 (some .int) (aw_N G (xx_PoC G w h0 (some (.int (op_odds H t n m q))) (s)) 0 0) 0 0 (h) 114 [(0, .ref (w.1 0)), (1, .int (nI t')), (2, .int (nI n')), (3, .int (nI m')), (4, .int q), (5, .int (nI (sp_fl H t'))), (6, .int (nI u9)), (7, .int (nI (100 ^ n'))), (8, .int (nI k)), (9, .int (nI (sp_prd (sp_fl H t') k j))), (10, .int (nI j))] [] := by
      intro k u9 hk hu hgo d
      induction d using Nat.strongRecOn with
      | _ d ih =>
        intro j h hd hj hX hs
        have pl := sp_prd_le (v := k) hf j
        have pj : 100 ^ j ≤ 100 ^ 4 := Nat.pow_le_pow_right (by decide) (by omega)
        by_cases hj9 : j < n'
        · have next : ∀ (x : Nat) (h : aw_H), x ≤ 100 → x = (if k / 2 ^ j % 2 = 1 then 100 - sp_fl H t' else sp_fl H t') → XC G w h s → xx_same w h0 h → AW G (aw_rm 64 0 0) yX0_odds cX0_odds 11 (some .int) (aw_N G (xx_PoC G w h0 (some (.int (op_odds H t n m q))) (s)) 0 0) 0 0 (h) 142 [(0, .ref (w.1 0)), (1, .int (nI t')), (2, .int (nI n')), (3, .int (nI m')), (4, .int q), (5, .int (nI (sp_fl H t'))), (6, .int (nI u9)), (7, .int (nI (100 ^ n'))), (8, .int (nI k)), (9, .int (nI (sp_prd (sp_fl H t') k j))), (10, .int (nI j))] [.int (nI x), .int (nI (sp_prd (sp_fl H t') k j))] := by
            intro x h hx ex hX hs
            refine aw_imulN dX0_odds_142 ?_
            refine aw_istore dX0_odds_143 (by decide) rfl rfl ?_
            refine aw_iincN (b := 1) dX0_odds_145 rfl rfl (by decide) rfl rfl ?_
            refine aw_goto (tgt := 114) dX0_odds_148 (by decide) ?_
            refine AW_ls ?_ (ih (n' - (j + 1)) (by omega) (j + 1) h rfl (by omega) hX hs)
            rw [sp_prd_s, ← ex]
            rfl
          refine aw_iload dX0_odds_114 rfl ?_
          refine aw_iload_n dX0_odds_116 rfl ?_
          refine aw_icmp_geN (tgt := 151) dX0_odds_117 (by decide) (by omega) (by omega) (fun c_117 => by exfalso; omega) (fun c_117 => ?_)
          refine aw_iload dX0_odds_120 rfl ?_
          refine aw_iload dX0_odds_122 rfl ?_
          refine aw_iload dX0_odds_124 rfl ?_
          refine aw_callP (r := _) dX0_odds_126 sX0_258 rfl (xp_has (by omega) (by omega)) rfl rfl ⟨Nat.le_of_ble_eq_true rfl, Nat.le_of_ble_eq_true rfl⟩ (Nat.le_of_ble_eq_true rfl) ?_
          refine aw_if_eqB (tgt := 140) dX0_odds_129 (by decide) (fun c_129 => ?_) (fun c_129 => ?_)
          · refine aw_iload dX0_odds_140 rfl ?_
            first
              | exact next _ h (by omega) (by rw [if_pos (by assumption)]) hX hs
              | exact next _ h (by omega) (by rw [if_neg (by assumption)]) hX hs
          · refine aw_bipush (v := nI 100) dX0_odds_132 rfl ?_
            refine aw_iload dX0_odds_134 rfl ?_
            refine aw_isubN dX0_odds_136 (by omega) ?_
            refine aw_goto (tgt := 142) dX0_odds_137 (by decide) ?_
            first
              | exact next _ h (by omega) (by rw [if_pos (by assumption)]) hX hs
              | exact next _ h (by omega) (by rw [if_neg (by assumption)]) hX hs
        · obtain rfl : j = n' := by omega
          refine aw_iload dX0_odds_114 rfl ?_
          refine aw_iload_n dX0_odds_116 rfl ?_
          refine aw_icmp_geN (tgt := 151) dX0_odds_117 (by decide) (by omega) (by omega) (fun c_117 => ?_) (fun c_117 => by exfalso; omega)
          exact AW_dr (r := [(10, .int (nI j))]) (hgo h hX hs)
    induction m9 using Nat.strongRecOn with
    | _ m9 ih =>
      intro k h hm hk hX hs
      have es1 : sp_sum (sp_odd (sp_fl H t') n' m') (k + 1) = sp_sum (sp_odd (sp_fl H t') n' m') k + sp_odd (sp_fl H t') n' m' k := rfl
      have sl := sle k hk
      by_cases hk9 : k < 2 ^ n'
      · have hb := sp_bits_sm hn4 hk9
        have sl1 := sle (k + 1) hk9
        have next : ∀ (r : List (Nat × Value)) (u9 : Nat) (h : aw_H), u9 = sp_sum (sp_odd (sp_fl H t') n' m') (k + 1) → XC G w h s → xx_same w h0 h → AW G (aw_rm 64 0 0) yX0_odds cX0_odds 11 (some .int) (aw_N G (xx_PoC G w h0 (some (.int (op_odds H t n m q))) (s)) 0 0) 0 0 (h) 158 [(0, .ref (w.1 0)), (1, .int (nI t')), (2, .int (nI n')), (3, .int (nI m')), (4, .int q), (5, .int (nI (sp_fl H t'))), (6, .int (nI u9)), (7, .int (nI (100 ^ n'))), (8, .int (nI k))] [] := by
          intro r u9 h eu hX hs
          refine aw_iincN (b := 1) dX0_odds_158 rfl rfl (by decide) rfl rfl ?_
          refine aw_goto (tgt := 88) dX0_odds_161 (by decide) ?_
          have q9 := ih (2 ^ n' - (k + 1)) (by omega) (k + 1) h rfl (by omega) hX hs
          rw [← eu] at q9
          exact q9
        have back : m' ≤ sp_bits 8 k → ∀ h : aw_H, XC G w h s → xx_same w h0 h → AW G (aw_rm 64 0 0) yX0_odds cX0_odds 11 (some .int) (aw_N G (xx_PoC G w h0 (some (.int (op_odds H t n m q))) (s)) 0 0) 0 0 (h) 151 [(0, .ref (w.1 0)), (1, .int (nI t')), (2, .int (nI n')), (3, .int (nI m')), (4, .int q), (5, .int (nI (sp_fl H t'))), (6, .int (nI (sp_sum (sp_odd (sp_fl H t') n' m') k))), (7, .int (nI (100 ^ n'))), (8, .int (nI k)), (9, .int (nI (sp_prd (sp_fl H t') k n')))] [] := by
          intro hm9 h hX hs
          have ep : sp_prd (sp_fl H t') k n' = sp_odd (sp_fl H t') n' m' k := by
            rw [sp_odd, if_pos hm9, sp_prd, sp_bits_n hn4 hk9]
          rw [ep]
          refine aw_iload dX0_odds_151 rfl ?_
          refine aw_iload dX0_odds_153 rfl ?_
          refine aw_iaddN dX0_odds_155 ?_
          refine aw_istore dX0_odds_156 (by decide) rfl rfl ?_
          exact AW_dr (r := [(9, .int (nI (sp_odd (sp_fl H t') n' m' k)))]) (next [] _ h rfl hX hs)
        refine aw_iload dX0_odds_88 rfl ?_
        refine aw_iconst (v := nI 1) dX0_odds_90 rfl ?_
        refine aw_iload_n dX0_odds_91 rfl ?_
        refine aw_ishlN dX0_odds_92 (by omega) (by omega) ?_
        refine aw_icmp_geN (tgt := 164) dX0_odds_93 (by decide) (by omega) (by omega) (fun c_93 => by exfalso; omega) (fun c_93 => ?_)
        refine aw_iload dX0_odds_96 rfl ?_
        refine aw_callP (r := _) dX0_odds_98 sX0_274 rfl (jp_bc (by omega)) rfl rfl ⟨Nat.le_of_ble_eq_true rfl, Nat.le_of_ble_eq_true rfl⟩ (Nat.le_of_ble_eq_true rfl) ?_
        refine aw_iload_n dX0_odds_101 rfl ?_
        refine aw_icmp_geN (tgt := 108) dX0_odds_102 (by decide) (by omega) (by omega) (fun c_102 => ?_) (fun c_102 => ?_)
        · refine aw_iconst (v := nI 1) dX0_odds_108 rfl ?_
          refine aw_istore dX0_odds_109 (by decide) rfl rfl ?_
          refine aw_iconst (v := nI 0) dX0_odds_111 rfl ?_
          refine aw_istore dX0_odds_112 (by decide) rfl rfl ?_
          exact prod k _ hk9 (by omega) (back (by omega)) _ 0 h rfl (Nat.zero_le _) hX hs
        · refine aw_goto (tgt := 158) dX0_odds_105 (by decide) ?_
          exact next [] _ h (by rw [es1, sp_odd, if_neg (by omega), Nat.add_zero]) hX hs
      · obtain rfl : k = 2 ^ n' := by omega
        have es : sp_sum (sp_odd (sp_fl H t') n' m') (2 ^ n') = sp_ods (sp_fl H t') n' m' := rfl
        rw [es] at sl ⊢
        have c1 : 0 < 100 ^ n' := Nat.pow_pos (by decide)
        have g1 : 0 < Nat.gcd (100 ^ n') (sp_ods (sp_fl H t') n' m') := Nat.gcd_pos_of_pos_left _ c1
        have g2 : Nat.gcd (100 ^ n') (sp_ods (sp_fl H t') n' m') ≤ 100 ^ n' := Nat.gcd_le_left _ c1
        refine aw_iload dX0_odds_88 rfl ?_
        refine aw_iconst (v := nI 1) dX0_odds_90 rfl ?_
        refine aw_iload_n dX0_odds_91 rfl ?_
        refine aw_ishlN dX0_odds_92 (by omega) (by omega) ?_
        refine aw_icmp_geN (tgt := 164) dX0_odds_93 (by decide) (by omega) (by omega) (fun c_93 => ?_) (fun c_93 => by exfalso; omega)
        refine aw_iload dX0_odds_164 rfl ?_
        refine aw_if_ne (tgt := 174) dX0_odds_166 (by decide) (fun c_166 => ?_) (fun c_166 => ?_)
        · refine aw_iload dX0_odds_174 rfl ?_
          refine aw_iload dX0_odds_176 rfl ?_
          refine aw_iload dX0_odds_178 rfl ?_
          refine aw_callP (r := _) dX0_odds_180 sX0_319 rfl (xp_com 31 _ _ (by omega) (by omega) (by omega)) rfl rfl ⟨Nat.le_of_ble_eq_true rfl, Nat.le_of_ble_eq_true rfl⟩ (Nat.le_of_ble_eq_true rfl) ?_
          refine aw_idivN dX0_odds_183 (by omega) (by omega) (by omega) ?_
          refine aw_ireturn dX0_odds_184 rfl ?_
          refine ⟨?_, _, mm_core.rf, hX, hs⟩
          rw [fin]
          first
            | (rw [c_166]; rfl)
            | (rw [if_neg (show ¬ q.toInt = 0 from fun z => c_166 (Int32.toInt_inj.mp z))])
        · refine aw_iload dX0_odds_169 rfl ?_
          refine aw_goto (tgt := 176) dX0_odds_171 (by decide) ?_
          refine aw_iload dX0_odds_176 rfl ?_
          refine aw_iload dX0_odds_178 rfl ?_
          refine aw_callP (r := _) dX0_odds_180 sX0_319 rfl (xp_com 31 _ _ (by omega) (by omega) (by omega)) rfl rfl ⟨Nat.le_of_ble_eq_true rfl, Nat.le_of_ble_eq_true rfl⟩ (Nat.le_of_ble_eq_true rfl) ?_
          refine aw_idivN dX0_odds_183 (by omega) (by omega) (by omega) ?_
          refine aw_ireturn dX0_odds_184 rfl ?_
          refine ⟨?_, _, mm_core.rf, hX, hs⟩
          rw [fin]
          first
            | (rw [c_166]; rfl)
            | (rw [if_neg (show ¬ q.toInt = 0 from fun z => c_166 (Int32.toInt_inj.mp z))])
  have low : ∀ (t' n' m' x : Nat), n' ≤ 4 → (∀ h : aw_H, XC G w h s → xx_same w h0 h → AW G (aw_rm 64 0 0) yX0_odds cX0_odds 11 (some .int) (aw_N G (xx_PoC G w h0 (some (.int (op_odds H t n m q))) (s)) 0 0) 0 0 (h) 85 [(0, .ref (w.1 0)), (1, .int (nI t')), (2, .int (nI n')), (3, .int (nI m')), (4, .int q), (5, .int (nI x)), (6, .int (nI 0)), (7, .int (nI (100 ^ n'))), (8, .int (nI n'))] []) → ∀ (d k : Nat) (h : aw_H), n' - k = d → k ≤ n' → XC G w h s → xx_same w h0 h → AW G (aw_rm 64 0 0) yX0_odds cX0_odds 11 (some .int) (aw_N G (xx_PoC G w h0 (some (.int (op_odds H t n m q))) (s)) 0 0) 0 0 (h) 66 [(0, .ref (w.1 0)), (1, .int (nI t')), (2, .int (nI n')), (3, .int (nI m')), (4, .int q), (5, .int (nI x)), (6, .int (nI 0)), (7, .int (nI (100 ^ k))), (8, .int (nI k))] [] := by
    intro t' n' m' x hn4 hgo d
    induction d using Nat.strongRecOn with
    | _ d ih =>
      intro k h hd hk hX hs
      have c100 : 100 ^ k ≤ 100 ^ 4 := Nat.pow_le_pow_right (by decide) (by omega)
      by_cases hk9 : k < n'
      ·
        refine aw_iload dX0_odds_66 rfl ?_
        refine aw_iload_n dX0_odds_68 rfl ?_
        refine aw_icmp_geN (tgt := 85) dX0_odds_69 (by decide) (by omega) (by omega) (fun c_69 => by exfalso; omega) (fun c_69 => ?_)
        refine aw_iload dX0_odds_72 rfl ?_
        refine aw_bipush (v := nI 100) dX0_odds_74 rfl ?_
        refine aw_imulN dX0_odds_76 ?_
        refine aw_istore dX0_odds_77 (by decide) rfl rfl ?_
        refine aw_iincN (b := 1) dX0_odds_79 rfl rfl (by decide) rfl rfl ?_
        refine aw_goto (tgt := 66) dX0_odds_82 (by decide) ?_
        exact ih (n' - (k + 1)) (by omega) (k + 1) h rfl (by omega) hX hs
      · obtain rfl : k = n' := by omega
        refine aw_iload dX0_odds_66 rfl ?_
        refine aw_iload_n dX0_odds_68 rfl ?_
        refine aw_icmp_geN (tgt := 85) dX0_odds_69 (by decide) (by omega) (by omega) (fun c_69 => ?_) (fun c_69 => by exfalso; omega)
        exact hgo h hX hs
  by_cases z1 : sp_isT H t
  · by_cases z2 : 0 ≤ n.toInt ∧ n.toInt ≤ 4
    · by_cases z3 : 0 ≤ m.toInt ∧ m.toInt ≤ n.toInt
      · by_cases z4 : 0 ≤ q.toInt ∧ q.toInt ≤ 1
        · have op : op_odds H t n m q = (if q.toInt = 0 then nI (sp_ods (sp_fl H t.toNatClampNeg) n.toNatClampNeg m.toNatClampNeg / Nat.gcd (100 ^ n.toNatClampNeg) (sp_ods (sp_fl H t.toNatClampNeg) n.toNatClampNeg m.toNatClampNeg)) else nI (100 ^ n.toNatClampNeg / Nat.gcd (100 ^ n.toNatClampNeg) (sp_ods (sp_fl H t.toNatClampNeg) n.toNatClampNeg m.toNatClampNeg))) := by rw [op_odds, aw_if1 ⟨z1, z2, z3, z4⟩]
          obtain ⟨t', ht, et, t1, t2⟩ := aw_ofN z1.1
          obtain ⟨n', hn', en, n1, n2⟩ := aw_ofN z2.1
          obtain ⟨m', hm', em, m1, m2⟩ := aw_ofN z3.1
          have ht9 : t' < sp_hn H := by have := z1.2; omega
          have hn4 : n' ≤ 4 := by have := z2.2; omega
          have hm4 : m' ≤ n' := by have := z3.2; omega
          rw [t2, n2, m2] at op
          refine AW_ls (show _ = [(0, .ref (w.1 0)), (1, .int (nI t')), (2, .int (nI n')), (3, .int (nI m')), (4, .int q)] by rw [← et, ← en, ← em]) ?_
          have go : ∀ h : aw_H, XC G w h s → xx_same w h0 h → AW G (aw_rm 64 0 0) yX0_odds cX0_odds 11 (some .int) (aw_N G (xx_PoC G w h0 (some (.int (op_odds H t n m q))) (s)) 0 0) 0 0 (h) 85 [(0, .ref (w.1 0)), (1, .int (nI t')), (2, .int (nI n')), (3, .int (nI m')), (4, .int q), (5, .int (nI (sp_fl H t'))), (6, .int (nI 0)), (7, .int (nI (100 ^ n'))), (8, .int (nI n'))] [] := by
            intro h hX hs
            refine aw_iconst (v := nI 0) dX0_odds_85 rfl ?_
            refine aw_istore dX0_odds_86 (by decide) rfl rfl ?_
            exact main t' n' m' ht9 hn4 hm4 z4.1 z4.2 op _ 0 h rfl (Nat.zero_le _) hX hs
          refine aw_aload_n dX0_odds_0 rfl ?_
          refine aw_iload_n dX0_odds_1 rfl ?_
          refine xx_call0 dX0_odds_2 sX0_188 rfl hW hX (hq.mv hs hX0).xh hs (xo_isT hn) rfl (hX.1 0 (by decide)) rfl rfl ⟨Nat.le_of_ble_eq_true rfl, Nat.le_of_ble_eq_true rfl⟩ (by exact Nat.le_of_ble_eq_true rfl) (fun h hX hs => ?_)
          refine aw_if_eqB (tgt := 36) dX0_odds_5 (by decide) (fun c_5 => by exfalso; exact c_5 (by rw [← et]; exact z1)) (fun c_5 => ?_)
          refine aw_iload_n dX0_odds_8 rfl ?_
          refine aw_iconst (v := nI 0) dX0_odds_9 rfl ?_
          refine aw_iconst (v := nI 4) dX0_odds_10 rfl ?_
          refine aw_callP (r := _) dX0_odds_11 sX0_155 rfl (xp_isIn (a := nI 0) (b := nI 4) (v := nI n')) rfl rfl ⟨Nat.le_of_ble_eq_true rfl, Nat.le_of_ble_eq_true rfl⟩ (Nat.le_of_ble_eq_true rfl) ?_
          refine aw_if_eqB (tgt := 36) dX0_odds_14 (by decide) (fun c_14 => by exfalso; exact c_14 (by rw [← en]; exact z2)) (fun c_14 => ?_)
          refine aw_iload_n dX0_odds_17 rfl ?_
          refine aw_iconst (v := nI 0) dX0_odds_18 rfl ?_
          refine aw_iload_n dX0_odds_19 rfl ?_
          refine aw_callP (r := _) dX0_odds_20 sX0_155 rfl (xp_isIn (a := nI 0) (b := nI n') (v := nI m')) rfl rfl ⟨Nat.le_of_ble_eq_true rfl, Nat.le_of_ble_eq_true rfl⟩ (Nat.le_of_ble_eq_true rfl) ?_
          refine aw_if_eqB (tgt := 36) dX0_odds_23 (by decide) (fun c_23 => by exfalso; exact c_23 (by rw [← en, ← em]; exact z3)) (fun c_23 => ?_)
          refine aw_iload dX0_odds_26 rfl ?_
          refine aw_iconst (v := nI 0) dX0_odds_28 rfl ?_
          refine aw_iconst (v := nI 1) dX0_odds_29 rfl ?_
          refine aw_callP (r := _) dX0_odds_30 sX0_155 rfl xp_isIn rfl rfl ⟨Nat.le_of_ble_eq_true rfl, Nat.le_of_ble_eq_true rfl⟩ (Nat.le_of_ble_eq_true rfl) ?_
          refine aw_if_neB (tgt := 38) dX0_odds_33 (by decide) (fun c_33 => ?_) (fun c_33 => by exfalso; exact c_33 z4)
          refine aw_aload_n dX0_odds_38 rfl ?_
          refine aw_get dX0_odds_39 fX0_19 rfl (hX.1 0 (by decide)) (by rfl) ?_
          refine aw_get dX0_odds_42 fX0_95 rfl (hq.mv hs hX0).1 (by rfl) ?_
          refine aw_iload_n dX0_odds_45 rfl ?_
          refine xx_get dX0_odds_46 sX0_98 rfl (hq.mv hs hX0) (by omega) ⟨Nat.le_of_ble_eq_true rfl, Nat.le_of_ble_eq_true rfl⟩ (by exact Nat.le_of_ble_eq_true rfl) ?_
          refine aw_castS (y := yX0_odds) dX0_odds_49 q378 aw_cl7 ((hq.mv hs hX0).ten (by omega)) ?_
          refine aw_get dX0_odds_52 fX0_201 rfl ((hq.mv hs hX0).ten (by omega)) (by rfl) ?_
          refine aw_istore dX0_odds_55 (by decide) rfl rfl ?_
          refine aw_iconst (v := nI 0) dX0_odds_57 rfl ?_
          refine aw_istore dX0_odds_58 (by decide) rfl rfl ?_
          refine aw_iconst (v := nI 1) dX0_odds_60 rfl ?_
          refine aw_istore dX0_odds_61 (by decide) rfl rfl ?_
          refine aw_iconst (v := nI 0) dX0_odds_63 rfl ?_
          refine aw_istore dX0_odds_64 (by decide) rfl rfl ?_
          exact low t' n' m' _ hn4 go _ 0 _ rfl (Nat.zero_le _) hX hs
        ·
          refine aw_aload_n dX0_odds_0 rfl ?_
          refine aw_iload_n dX0_odds_1 rfl ?_
          refine xx_call0 dX0_odds_2 sX0_188 rfl hW hX (hq.mv hs hX0).xh hs (xo_isT hn) rfl (hX.1 0 (by decide)) rfl rfl ⟨Nat.le_of_ble_eq_true rfl, Nat.le_of_ble_eq_true rfl⟩ (by exact Nat.le_of_ble_eq_true rfl) (fun h hX hs => ?_)
          refine aw_if_eqB (tgt := 36) dX0_odds_5 (by decide) (fun c_5 => by exfalso; exact c_5 z1) (fun c_5 => ?_)
          refine aw_iload_n dX0_odds_8 rfl ?_
          refine aw_iconst (v := nI 0) dX0_odds_9 rfl ?_
          refine aw_iconst (v := nI 4) dX0_odds_10 rfl ?_
          refine aw_callP (r := _) dX0_odds_11 sX0_155 rfl xp_isIn rfl rfl ⟨Nat.le_of_ble_eq_true rfl, Nat.le_of_ble_eq_true rfl⟩ (Nat.le_of_ble_eq_true rfl) ?_
          refine aw_if_eqB (tgt := 36) dX0_odds_14 (by decide) (fun c_14 => by exfalso; exact c_14 z2) (fun c_14 => ?_)
          refine aw_iload_n dX0_odds_17 rfl ?_
          refine aw_iconst (v := nI 0) dX0_odds_18 rfl ?_
          refine aw_iload_n dX0_odds_19 rfl ?_
          refine aw_callP (r := _) dX0_odds_20 sX0_155 rfl xp_isIn rfl rfl ⟨Nat.le_of_ble_eq_true rfl, Nat.le_of_ble_eq_true rfl⟩ (Nat.le_of_ble_eq_true rfl) ?_
          refine aw_if_eqB (tgt := 36) dX0_odds_23 (by decide) (fun c_23 => by exfalso; exact c_23 z3) (fun c_23 => ?_)
          refine aw_iload dX0_odds_26 rfl ?_
          refine aw_iconst (v := nI 0) dX0_odds_28 rfl ?_
          refine aw_iconst (v := nI 1) dX0_odds_29 rfl ?_
          refine aw_callP (r := _) dX0_odds_30 sX0_155 rfl xp_isIn rfl rfl ⟨Nat.le_of_ble_eq_true rfl, Nat.le_of_ble_eq_true rfl⟩ (Nat.le_of_ble_eq_true rfl) ?_
          refine aw_if_neB (tgt := 38) dX0_odds_33 (by decide) (fun c_33 => by exfalso; exact z4 c_33) (fun c_33 => ?_)
          refine aw_iconst (v := -1) dX0_odds_36 rfl ?_
          refine aw_ireturn dX0_odds_37 rfl ?_
          exact ⟨by rw [no (fun z => z4 z.2.2.2)], _, mm_core.rf, hX, hs⟩
      ·
        refine aw_aload_n dX0_odds_0 rfl ?_
        refine aw_iload_n dX0_odds_1 rfl ?_
        refine xx_call0 dX0_odds_2 sX0_188 rfl hW hX (hq.mv hs hX0).xh hs (xo_isT hn) rfl (hX.1 0 (by decide)) rfl rfl ⟨Nat.le_of_ble_eq_true rfl, Nat.le_of_ble_eq_true rfl⟩ (by exact Nat.le_of_ble_eq_true rfl) (fun h hX hs => ?_)
        refine aw_if_eqB (tgt := 36) dX0_odds_5 (by decide) (fun c_5 => by exfalso; exact c_5 z1) (fun c_5 => ?_)
        refine aw_iload_n dX0_odds_8 rfl ?_
        refine aw_iconst (v := nI 0) dX0_odds_9 rfl ?_
        refine aw_iconst (v := nI 4) dX0_odds_10 rfl ?_
        refine aw_callP (r := _) dX0_odds_11 sX0_155 rfl xp_isIn rfl rfl ⟨Nat.le_of_ble_eq_true rfl, Nat.le_of_ble_eq_true rfl⟩ (Nat.le_of_ble_eq_true rfl) ?_
        refine aw_if_eqB (tgt := 36) dX0_odds_14 (by decide) (fun c_14 => by exfalso; exact c_14 z2) (fun c_14 => ?_)
        refine aw_iload_n dX0_odds_17 rfl ?_
        refine aw_iconst (v := nI 0) dX0_odds_18 rfl ?_
        refine aw_iload_n dX0_odds_19 rfl ?_
        refine aw_callP (r := _) dX0_odds_20 sX0_155 rfl xp_isIn rfl rfl ⟨Nat.le_of_ble_eq_true rfl, Nat.le_of_ble_eq_true rfl⟩ (Nat.le_of_ble_eq_true rfl) ?_
        refine aw_if_eqB (tgt := 36) dX0_odds_23 (by decide) (fun c_23 => ?_) (fun c_23 => by exfalso; exact z3 c_23)
        refine aw_iconst (v := -1) dX0_odds_36 rfl ?_
        refine aw_ireturn dX0_odds_37 rfl ?_
        exact ⟨by rw [no (fun z => z3 z.2.2.1)], _, mm_core.rf, hX, hs⟩
    ·
      refine aw_aload_n dX0_odds_0 rfl ?_
      refine aw_iload_n dX0_odds_1 rfl ?_
      refine xx_call0 dX0_odds_2 sX0_188 rfl hW hX (hq.mv hs hX0).xh hs (xo_isT hn) rfl (hX.1 0 (by decide)) rfl rfl ⟨Nat.le_of_ble_eq_true rfl, Nat.le_of_ble_eq_true rfl⟩ (by exact Nat.le_of_ble_eq_true rfl) (fun h hX hs => ?_)
      refine aw_if_eqB (tgt := 36) dX0_odds_5 (by decide) (fun c_5 => by exfalso; exact c_5 z1) (fun c_5 => ?_)
      refine aw_iload_n dX0_odds_8 rfl ?_
      refine aw_iconst (v := nI 0) dX0_odds_9 rfl ?_
      refine aw_iconst (v := nI 4) dX0_odds_10 rfl ?_
      refine aw_callP (r := _) dX0_odds_11 sX0_155 rfl xp_isIn rfl rfl ⟨Nat.le_of_ble_eq_true rfl, Nat.le_of_ble_eq_true rfl⟩ (Nat.le_of_ble_eq_true rfl) ?_
      refine aw_if_eqB (tgt := 36) dX0_odds_14 (by decide) (fun c_14 => ?_) (fun c_14 => by exfalso; exact z2 c_14)
      refine aw_iconst (v := -1) dX0_odds_36 rfl ?_
      refine aw_ireturn dX0_odds_37 rfl ?_
      exact ⟨by rw [no (fun z => z2 z.2.1)], _, mm_core.rf, hX, hs⟩
  ·
    refine aw_aload_n dX0_odds_0 rfl ?_
    refine aw_iload_n dX0_odds_1 rfl ?_
    refine xx_call0 dX0_odds_2 sX0_188 rfl hW hX (hq.mv hs hX0).xh hs (xo_isT hn) rfl (hX.1 0 (by decide)) rfl rfl ⟨Nat.le_of_ble_eq_true rfl, Nat.le_of_ble_eq_true rfl⟩ (by exact Nat.le_of_ble_eq_true rfl) (fun h hX hs => ?_)
    refine aw_if_eqB (tgt := 36) dX0_odds_5 (by decide) (fun c_5 => ?_) (fun c_5 => by exfalso; exact z1 c_5)
    refine aw_iconst (v := -1) dX0_odds_36 rfl ?_
    refine aw_ireturn dX0_odds_37 rfl ?_
    exact ⟨by rw [no (fun z => z1 z.1)], _, mm_core.rf, hX, hs⟩

