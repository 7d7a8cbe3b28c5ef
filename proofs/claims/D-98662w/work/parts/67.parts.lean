set_option maxRecDepth 100000
/-! formulas as trees: a tree at a stands for the steps F -/
def xp_is (h : aw_H) : Nat → Nat → List (Nat × Nat) → Prop
  | 0, _, _ => False
  | n + 1, a, F => (∃ v, F = [(0, v)] ∧ h a = some (aw_o 9 [.int (nI v)])) ∨ (∃ k, F = [(1, k)] ∧ k < 6 ∧ h a = some (aw_o 10 [.int (nI k)])) ∨ (∃ b F1, F = F1 ++ [(2, 0)] ∧ xp_is h n b F1 ∧ h a = some (aw_o 8 [.ref b])) ∨ (∃ g b c F1 F2, F = F1 ++ F2 ++ [(3, g)] ∧ sp_sg g ∧ xp_is h n b F1 ∧ xp_is h n c F2 ∧ h a = some (aw_o 11 [.int (nI g), .ref b, .ref c]))
/-- trees lie outside what changes -/
theorem xp_is.mv {h h' : aw_H} (hh : ∀ q ci fs, (ci = 8 ∨ ci = 9 ∨ ci = 10 ∨ ci = 11) → h q = some (aw_o ci fs) → h' q = some (aw_o ci fs)) : ∀ n a F, xp_is h n a F → xp_is h' n a F := by
  intro n
  induction n with
  | zero => intro a F z; exact z
  | succ n ih =>
    intro a F z
    rcases z with ⟨v, e, z⟩ | ⟨k, e, hk, z⟩ | ⟨b, F1, e, y, z⟩ | ⟨g, b, c, F1, F2, e, hg, y1, y2, z⟩
    · exact Or.inl ⟨v, e, hh _ _ _ (by omega) z⟩
    · exact Or.inr (Or.inl ⟨k, e, hk, hh _ _ _ (by omega) z⟩)
    · exact Or.inr (Or.inr (Or.inl ⟨b, F1, e, ih _ _ y, hh _ _ _ (by omega) z⟩))
    · exact Or.inr (Or.inr (Or.inr ⟨g, b, c, F1, F2, e, hg, ih _ _ y1, ih _ _ y2, hh _ _ _ (by omega) z⟩))
theorem xp_is.le {h : aw_H} : ∀ n m a F, n ≤ m → xp_is h n a F → xp_is h m a F := by
  intro n
  induction n with
  | zero => intro m a F _ z; exact z.elim
  | succ n ih =>
    intro m a F hm z
    obtain ⟨k, rfl⟩ : ∃ k, m = k + 1 := ⟨m - 1, by omega⟩
    rcases z with z | z | ⟨b, F1, e, y, z⟩ | ⟨g, b, c, F1, F2, e, hg, y1, y2, z⟩
    · exact Or.inl z
    · exact Or.inr (Or.inl z)
    · exact Or.inr (Or.inr (Or.inl ⟨b, F1, e, ih k _ _ (by omega) y, z⟩))
    · exact Or.inr (Or.inr (Or.inr ⟨g, b, c, F1, F2, e, hg, ih k _ _ (by omega) y1, ih k _ _ (by omega) y2, z⟩))
theorem sp_run_app (ask : Nat → Nat) : ∀ (F1 F2 : List (Nat × Nat)) (L : List Int32), sp_run (F1 ++ F2) ask L = sp_run F2 ask (sp_run F1 ask L) := by
  intro F1
  induction F1 with
  | nil => intro F2 L; rfl
  | cons q t ih => intro F2 L; exact ih F2 _
/-- the tree at a, asked with the table at T, answers r -/
def xp_C (G : aw_G) (h : aw_H) (a T f : Nat) (r : Int32) : Prop := (∃ fs, h a = some (aw_o 9 fs) ∧ aw_Met G yX10_of cX10_of 2 (some .int) f 0 0 [.ref a, .ref T] h (fun v9 h9 => v9 = some (.int r) ∧ h9 = h)) ∨ (∃ fs, h a = some (aw_o 10 fs) ∧ aw_Met G yX11_of cX11_of 2 (some .int) f 0 0 [.ref a, .ref T] h (fun v9 h9 => v9 = some (.int r) ∧ h9 = h)) ∨ (∃ fs, h a = some (aw_o 8 fs) ∧ aw_Met G yX9_of cX9_of 2 (some .int) f 0 0 [.ref a, .ref T] h (fun v9 h9 => v9 = some (.int r) ∧ h9 = h)) ∨ (∃ fs, h a = some (aw_o 11 fs) ∧ aw_Met G yX12_of cX12_of 4 (some .int) f 0 0 [.ref a, .ref T] h (fun v9 h9 => v9 = some (.int r) ∧ h9 = h))
abbrev xp_y : MethodName := ⟨"SoManyStairs$Part", "of", "([I)I"⟩
theorem xp_call {G : aw_G} {R : Room} {y : MethodName} {cc : ByteArray} {nL : Nat} {ret : Option FieldType} {Qf : List Frame → Array Value → State → State → Prop} {kc ks : Nat} {h : aw_H} {pc : Nat} {ls : List (Nat × Value)} {rest : List Value} {own : String} {index a T f : Nat} {r : Int32} (d : decode cc pc = .ok (.invokevirtual index, 3)) (S9 : aw_SA own index xp_y yX9_of cX9_of 2 (some .int) 1 8) (S10 : aw_SA own index xp_y yX10_of cX10_of 2 (some .int) 1 9) (S11 : aw_SA own index xp_y yX11_of cX11_of 2 (some .int) 1 10) (S12 : aw_SA own index xp_y yX12_of cX12_of 4 (some .int) 1 11) (ho : own = y.cls) (hC : xp_C G h a T f r) (hR : f + 1 ≤ R.frames ∧ 64 * f + 64 ≤ R.locals) (hc : (rest.map fun v => v.category).sum ≤ 8) (kk : AW G R y cc nL ret Qf kc ks h (pc + 3) ls (.int r :: rest)) : AW G R y cc nL ret Qf kc ks h pc ls (.ref T :: .ref a :: rest) := by
  rcases hC with ⟨fs, z, M⟩ | ⟨fs, z, M⟩ | ⟨fs, z, M⟩ | ⟨fs, z, M⟩
  · exact aw_callA (kc := kc) (ks := ks) (As := [.ref T]) d S10 ho M z rfl rfl ⟨hR.1, by omega⟩ hc (fun v h' q => by obtain ⟨rfl, e⟩ := q; rw [e]; exact kk)
  · exact aw_callA (kc := kc) (ks := ks) (As := [.ref T]) d S11 ho M z rfl rfl ⟨hR.1, by omega⟩ hc (fun v h' q => by obtain ⟨rfl, e⟩ := q; rw [e]; exact kk)
  · exact aw_callA (kc := kc) (ks := ks) (As := [.ref T]) d S9 ho M z rfl rfl ⟨hR.1, by omega⟩ hc (fun v h' q => by obtain ⟨rfl, e⟩ := q; rw [e]; exact kk)
  · exact aw_callA (kc := kc) (ks := ks) (As := [.ref T]) d S12 ho M z rfl rfl ⟨hR.1, by omega⟩ hc (fun v h' q => by obtain ⟨rfl, e⟩ := q; rw [e]; exact kk)
set_option maxHeartbeats 4000000 in
theorem xq_num {G : aw_G} {h : aw_H} {a T f v : Nat} (ha : h a = some (aw_o 9 [.int (nI v)])) : aw_Met G yX10_of cX10_of 2 (some .int) f 0 0 [.ref (a), .ref (T)] h (fun v9 h9 => v9 = some (.int (nI v)) ∧ h9 = h) := by
  refine aw_Met.of (by decide +kernel) (Nat.le_of_ble_eq_true rfl) ?_
  show AW G (aw_rm f 0 0) yX10_of cX10_of 2 (some .int) (aw_N G (fun v9 h9 => v9 = some (.int (nI v)) ∧ h9 = h) 0 0) 0 0 h 0 [(0, .ref (a)), (1, .ref (T))] []
  refine aw_aload_n dX10_of_0 rfl ?_
  refine aw_get dX10_of_1 fX10_7 rfl ha (by rfl) ?_
  refine aw_ireturn dX10_of_4 rfl ?_
  exact ⟨rfl, rfl⟩
set_option maxHeartbeats 4000000 in
theorem xq_nam {G : aw_G} {h : aw_H} {a T f k : Nat} {ask : Nat → Nat} (ha : h a = some (aw_o 10 [.int (nI k)])) (hk : k < 6) (hT : h T = some (aw_I G 6 (fun j => nI (ask j)))) : aw_Met G yX11_of cX11_of 2 (some .int) f 0 0 [.ref (a), .ref (T)] h (fun v9 h9 => v9 = some (.int (nI (ask k))) ∧ h9 = h) := by
  refine aw_Met.of (by decide +kernel) (Nat.le_of_ble_eq_true rfl) ?_
  show AW G (aw_rm f 0 0) yX11_of cX11_of 2 (some .int) (aw_N G (fun v9 h9 => v9 = some (.int (nI (ask k))) ∧ h9 = h) 0 0) 0 0 h 0 [(0, .ref (a)), (1, .ref (T))] []
  refine aw_aload_n dX11_of_0 rfl ?_
  refine aw_aload_n dX11_of_1 rfl ?_
  refine aw_get dX11_of_2 fX11_7 rfl ha (by rfl) ?_
  refine aw_ialdN dX11_of_5 hT hk (by decide) ?_
  refine aw_ireturn dX11_of_6 rfl ?_
  exact ⟨rfl, rfl⟩
set_option maxHeartbeats 4000000 in
theorem xq_not {G : aw_G} {h : aw_H} {a b T f : Nat} {r : Int32} (ha : h a = some (aw_o 8 [.ref b])) (hC : xp_C G h b T f r) : aw_Met G yX9_of cX9_of 2 (some .int) (f+2) 0 0 [.ref (a), .ref (T)] h (fun v9 h9 => v9 = some (.int (nI (aw_t (r = 0)))) ∧ h9 = h) := by
  refine aw_Met.of (by decide +kernel) (Nat.le_of_ble_eq_true rfl) ?_
  show AW G (aw_rm (f+2) 0 0) yX9_of cX9_of 2 (some .int) (aw_N G (fun v9 h9 => v9 = some (.int (nI (aw_t (r = 0)))) ∧ h9 = h) 0 0) 0 0 h 0 [(0, .ref (a)), (1, .ref (T))] []
  refine aw_aload_n dX9_of_0 rfl ?_
  refine aw_get dX9_of_1 fX9_7 rfl ha (by rfl) ?_
  refine aw_aload_n dX9_of_4 rfl ?_
  refine xp_call dX9_of_5 sX9_13_X9 sX9_13_X10 sX9_13_X11 sX9_13_X12 rfl hC ⟨Nat.le_succ _, by show _ ≤ 64 * (f + 2); omega⟩ (by exact Nat.le_of_ble_eq_true rfl) ?_
  refine aw_if_ne (tgt := 15) dX9_of_8 (by decide) (fun c_8 => ?_) (fun c_8 => ?_)
  · refine aw_iconst (v := nI 0) dX9_of_15 rfl ?_
    refine aw_ireturn dX9_of_16 rfl ?_
    refine ⟨?_, rfl⟩
    unfold aw_t
    simp [*]
  · refine aw_iconst (v := nI 1) dX9_of_11 rfl ?_
    refine aw_goto (tgt := 16) dX9_of_12 (by decide) ?_
    refine aw_ireturn dX9_of_16 rfl ?_
    refine ⟨?_, rfl⟩
    unfold aw_t
    simp [*]
set_option maxHeartbeats 4000000 in
theorem xq_is {v : Nat} (hv : v < 2) : aw_Pu yX12_is cX12_is 1 (some .int) 0 [.int (nI (v))] (.int (nI (v))) := by
  refine fun G h => aw_Met.of (by decide +kernel) (Nat.le_of_ble_eq_true rfl) ?_
  show AW G (aw_rm 0 0 0) yX12_is cX12_is 1 (some .int) (aw_N G (fun v9 h9 => v9 = some (.int (nI (v))) ∧ h9 = h) 0 0) 0 0 h 0 [(0, .int (nI (v)))] []
  refine aw_iload_n dX12_is_0 rfl ?_
  refine aw_if_eqN (tgt := 8) dX12_is_1 (by decide) (by omega) (fun c_1 => ?_) (fun c_1 => ?_)
  · refine aw_iconst (v := nI 0) dX12_is_8 rfl ?_
    refine aw_ireturn dX12_is_9 rfl ?_
    refine ⟨?_, rfl⟩
    first
      | (rw [show v = 0 by omega]; done)
      | (rw [show v = 1 by omega]; done)
  · refine aw_iconst (v := nI 1) dX12_is_4 rfl ?_
    refine aw_goto (tgt := 9) dX12_is_5 (by decide) ?_
    refine aw_ireturn dX12_is_9 rfl ?_
    refine ⟨?_, rfl⟩
    first
      | (rw [show v = 0 by omega]; done)
      | (rw [show v = 1 by omega]; done)
set_option maxHeartbeats 4000000 in
theorem xq_two {G : aw_G} {h : aw_H} {a b c T f sg : Nat} {x z : Int32} (ha : h a = some (aw_o 11 [.int (nI sg), .ref b, .ref c])) (hs : sp_sg sg) (hb : xp_C G h b T f x) (hc : xp_C G h c T f z) : aw_Met G yX12_of cX12_of 4 (some .int) (f+2) 0 0 [.ref (a), .ref (T)] h (fun v9 h9 => v9 = some (.int (sp_done sg x z)) ∧ h9 = h) := by
  refine aw_Met.of (by decide +kernel) (Nat.le_of_ble_eq_true rfl) ?_
  show AW G (aw_rm (f+2) 0 0) yX12_of cX12_of 4 (some .int) (aw_N G (fun v9 h9 => v9 = some (.int (sp_done sg x z)) ∧ h9 = h) 0 0) 0 0 h 0 [(0, .ref (a)), (1, .ref (T))] []
  unfold sp_sg at hs
  refine aw_aload_n dX12_of_0 rfl ?_
  refine aw_get dX12_of_1 fX12_13 rfl ha (by rfl) ?_
  refine aw_aload_n dX12_of_4 rfl ?_
  refine xp_call dX12_of_5 sX12_20_X9 sX12_20_X10 sX12_20_X11 sX12_20_X12 rfl hb ⟨Nat.le_succ _, by show _ ≤ 64 * (f + 2); omega⟩ (by exact Nat.le_of_ble_eq_true rfl) ?_
  refine aw_istore_n dX12_of_8 (by decide) rfl rfl ?_
  refine aw_aload_n dX12_of_9 rfl ?_
  refine aw_get dX12_of_10 fX12_17 rfl ha (by rfl) ?_
  refine aw_aload_n dX12_of_13 rfl ?_
  refine xp_call dX12_of_14 sX12_20_X9 sX12_20_X10 sX12_20_X11 sX12_20_X12 rfl hc ⟨Nat.le_succ _, by show _ ≤ 64 * (f + 2); omega⟩ (by exact Nat.le_of_ble_eq_true rfl) ?_
  refine aw_istore_n dX12_of_17 (by decide) rfl rfl ?_
  refine aw_aload_n dX12_of_18 rfl ?_
  refine aw_get dX12_of_19 fX12_7 rfl ha (by rfl) ?_
  rcases hs with rfl | rfl | rfl | rfl | rfl | rfl | rfl | rfl | rfl | rfl
  · refine aw_tableIn (off := 118) (tgt := 140) dX12_of_22 (by decide) (by decide) (by decide) (by decide) ?_
    refine aw_iload_n dX12_of_140 rfl ?_
    refine aw_iload_n dX12_of_141 rfl ?_
    refine aw_iadd dX12_of_142 ?_
    refine aw_ireturn dX12_of_143 rfl ?_
    exact ⟨rfl, rfl⟩
  · refine aw_tableIn (off := 122) (tgt := 144) dX12_of_22 (by decide) (by decide) (by decide) (by decide) ?_
    refine aw_iload_n dX12_of_144 rfl ?_
    refine aw_iload_n dX12_of_145 rfl ?_
    refine aw_isub dX12_of_146 ?_
    refine aw_ireturn dX12_of_147 rfl ?_
    exact ⟨rfl, rfl⟩
  · refine aw_tableIn (off := 126) (tgt := 148) dX12_of_22 (by decide) (by decide) (by decide) (by decide) ?_
    refine aw_iload_n dX12_of_148 rfl ?_
    refine aw_iload_n dX12_of_149 rfl ?_
    refine aw_imul dX12_of_150 ?_
    refine aw_ireturn dX12_of_151 rfl ?_
    exact ⟨rfl, rfl⟩
  · refine aw_tableIn (off := 130) (tgt := 152) dX12_of_22 (by decide) (by decide) (by decide) (by decide) ?_
    refine aw_iload_n dX12_of_152 rfl ?_
    refine aw_if_ne (tgt := 160) dX12_of_153 (by decide) (fun c_153 => ?_) (fun c_153 => ?_)
    · refine aw_iload_n dX12_of_160 rfl ?_
      refine aw_iload_n dX12_of_161 rfl ?_
      refine aw_idiv dX12_of_162 (by assumption) ?_
      refine aw_ireturn dX12_of_163 rfl ?_
      exact ⟨by first | (rw [sp_d47, if_pos c_153]; rfl) | rw [sp_d47, if_neg c_153], rfl⟩
    · refine aw_iconst (v := nI 0) dX12_of_156 rfl ?_
      refine aw_goto (tgt := 163) dX12_of_157 (by decide) ?_
      refine aw_ireturn dX12_of_163 rfl ?_
      exact ⟨by first | (rw [sp_d47, if_pos c_153]; rfl) | rw [sp_d47, if_neg c_153], rfl⟩
  · refine aw_tableIn (off := 142) (tgt := 164) dX12_of_22 (by decide) (by decide) (by decide) (by decide) ?_
    refine aw_iload_n dX12_of_164 rfl ?_
    refine aw_if_ne (tgt := 172) dX12_of_165 (by decide) (fun c_165 => ?_) (fun c_165 => ?_)
    · refine aw_iload_n dX12_of_172 rfl ?_
      refine aw_iload_n dX12_of_173 rfl ?_
      refine aw_irem dX12_of_174 (by assumption) ?_
      refine aw_ireturn dX12_of_175 rfl ?_
      exact ⟨by first | (rw [sp_d37, if_pos c_165]; rfl) | rw [sp_d37, if_neg c_165], rfl⟩
    · refine aw_iconst (v := nI 0) dX12_of_168 rfl ?_
      refine aw_goto (tgt := 175) dX12_of_169 (by decide) ?_
      refine aw_ireturn dX12_of_175 rfl ?_
      exact ⟨by first | (rw [sp_d37, if_pos c_165]; rfl) | rw [sp_d37, if_neg c_165], rfl⟩
  · refine aw_tableIn (off := 154) (tgt := 176) dX12_of_22 (by decide) (by decide) (by decide) (by decide) ?_
    refine aw_iload_n dX12_of_176 rfl ?_
    refine aw_iload_n dX12_of_177 rfl ?_
    refine aw_icmp_ge (tgt := 185) dX12_of_178 (by decide) (fun c_178 => ?_) (fun c_178 => ?_)
    · refine aw_iconst (v := nI 0) dX12_of_185 rfl ?_
      refine aw_callP (r := _) dX12_of_186 sX12_24 rfl (xq_is (by first | omega | assumption | exact aw_t_lt)) rfl rfl ⟨Nat.le_of_ble_eq_true rfl, Nat.le_of_ble_eq_true rfl⟩ (Nat.le_of_ble_eq_true rfl) ?_
      refine aw_ireturn dX12_of_189 rfl ?_
      exact ⟨by first | rw [sp_d60, aw_t0 (Int32.not_lt.mpr c_178)] | rw [sp_d60, aw_t1 (Int32.not_le.mp c_178)], rfl⟩
    · refine aw_iconst (v := nI 1) dX12_of_181 rfl ?_
      refine aw_goto (tgt := 186) dX12_of_182 (by decide) ?_
      refine aw_callP (r := _) dX12_of_186 sX12_24 rfl (xq_is (by first | omega | assumption | exact aw_t_lt)) rfl rfl ⟨Nat.le_of_ble_eq_true rfl, Nat.le_of_ble_eq_true rfl⟩ (Nat.le_of_ble_eq_true rfl) ?_
      refine aw_ireturn dX12_of_189 rfl ?_
      exact ⟨by first | rw [sp_d60, aw_t0 (Int32.not_lt.mpr c_178)] | rw [sp_d60, aw_t1 (Int32.not_le.mp c_178)], rfl⟩
  · refine aw_tableIn (off := 168) (tgt := 190) dX12_of_22 (by decide) (by decide) (by decide) (by decide) ?_
    refine aw_iload_n dX12_of_190 rfl ?_
    refine aw_iload_n dX12_of_191 rfl ?_
    refine aw_icmp_le (tgt := 199) dX12_of_192 (by decide) (fun c_192 => ?_) (fun c_192 => ?_)
    · refine aw_iconst (v := nI 0) dX12_of_199 rfl ?_
      refine aw_callP (r := _) dX12_of_200 sX12_24 rfl (xq_is (by first | omega | assumption | exact aw_t_lt)) rfl rfl ⟨Nat.le_of_ble_eq_true rfl, Nat.le_of_ble_eq_true rfl⟩ (Nat.le_of_ble_eq_true rfl) ?_
      refine aw_ireturn dX12_of_203 rfl ?_
      exact ⟨by first | rw [sp_d62, aw_t0 (Int32.not_lt.mpr c_192)] | rw [sp_d62, aw_t1 (Int32.not_le.mp c_192)], rfl⟩
    · refine aw_iconst (v := nI 1) dX12_of_195 rfl ?_
      refine aw_goto (tgt := 200) dX12_of_196 (by decide) ?_
      refine aw_callP (r := _) dX12_of_200 sX12_24 rfl (xq_is (by first | omega | assumption | exact aw_t_lt)) rfl rfl ⟨Nat.le_of_ble_eq_true rfl, Nat.le_of_ble_eq_true rfl⟩ (Nat.le_of_ble_eq_true rfl) ?_
      refine aw_ireturn dX12_of_203 rfl ?_
      exact ⟨by first | rw [sp_d62, aw_t0 (Int32.not_lt.mpr c_192)] | rw [sp_d62, aw_t1 (Int32.not_le.mp c_192)], rfl⟩
  · refine aw_tableIn (off := 182) (tgt := 204) dX12_of_22 (by decide) (by decide) (by decide) (by decide) ?_
    refine aw_iload_n dX12_of_204 rfl ?_
    refine aw_iload_n dX12_of_205 rfl ?_
    refine aw_icmp_ne (tgt := 213) dX12_of_206 (by decide) (fun c_206 => ?_) (fun c_206 => ?_)
    · refine aw_iconst (v := nI 0) dX12_of_213 rfl ?_
      refine aw_callP (r := _) dX12_of_214 sX12_24 rfl (xq_is (by first | omega | assumption | exact aw_t_lt)) rfl rfl ⟨Nat.le_of_ble_eq_true rfl, Nat.le_of_ble_eq_true rfl⟩ (Nat.le_of_ble_eq_true rfl) ?_
      refine aw_ireturn dX12_of_217 rfl ?_
      exact ⟨by first | rw [sp_d61, aw_t0 c_206] | rw [sp_d61, aw_t1 c_206], rfl⟩
    · refine aw_iconst (v := nI 1) dX12_of_209 rfl ?_
      refine aw_goto (tgt := 214) dX12_of_210 (by decide) ?_
      refine aw_callP (r := _) dX12_of_214 sX12_24 rfl (xq_is (by first | omega | assumption | exact aw_t_lt)) rfl rfl ⟨Nat.le_of_ble_eq_true rfl, Nat.le_of_ble_eq_true rfl⟩ (Nat.le_of_ble_eq_true rfl) ?_
      refine aw_ireturn dX12_of_217 rfl ?_
      exact ⟨by first | rw [sp_d61, aw_t0 c_206] | rw [sp_d61, aw_t1 c_206], rfl⟩
  · refine aw_tableIn (off := 196) (tgt := 218) dX12_of_22 (by decide) (by decide) (by decide) (by decide) ?_
    refine aw_iload_n dX12_of_218 rfl ?_
    refine aw_if_eq (tgt := 230) dX12_of_219 (by decide) (fun c_219 => ?_) (fun c_219 => ?_)
    · refine aw_iconst (v := nI 0) dX12_of_230 rfl ?_
      refine aw_callP (r := _) dX12_of_231 sX12_24 rfl (xq_is (by first | omega | assumption | exact aw_t_lt)) rfl rfl ⟨Nat.le_of_ble_eq_true rfl, Nat.le_of_ble_eq_true rfl⟩ (Nat.le_of_ble_eq_true rfl) ?_
      refine aw_ireturn dX12_of_234 rfl ?_
      refine ⟨?_, rfl⟩
      rw [sp_d38]
      unfold aw_t
      simp [*]
    · refine aw_iload_n dX12_of_222 rfl ?_
      refine aw_if_eq (tgt := 230) dX12_of_223 (by decide) (fun c_223 => ?_) (fun c_223 => ?_)
      · refine aw_iconst (v := nI 0) dX12_of_230 rfl ?_
        refine aw_callP (r := _) dX12_of_231 sX12_24 rfl (xq_is (by first | omega | assumption | exact aw_t_lt)) rfl rfl ⟨Nat.le_of_ble_eq_true rfl, Nat.le_of_ble_eq_true rfl⟩ (Nat.le_of_ble_eq_true rfl) ?_
        refine aw_ireturn dX12_of_234 rfl ?_
        refine ⟨?_, rfl⟩
        rw [sp_d38]
        unfold aw_t
        simp [*]
      · refine aw_iconst (v := nI 1) dX12_of_226 rfl ?_
        refine aw_goto (tgt := 231) dX12_of_227 (by decide) ?_
        refine aw_callP (r := _) dX12_of_231 sX12_24 rfl (xq_is (by first | omega | assumption | exact aw_t_lt)) rfl rfl ⟨Nat.le_of_ble_eq_true rfl, Nat.le_of_ble_eq_true rfl⟩ (Nat.le_of_ble_eq_true rfl) ?_
        refine aw_ireturn dX12_of_234 rfl ?_
        refine ⟨?_, rfl⟩
        rw [sp_d38]
        unfold aw_t
        simp [*]
  · refine aw_tableOut (tgt := 235) dX12_of_22 (by decide) (by decide) ?_
    refine aw_iload_n dX12_of_235 rfl ?_
    refine aw_if_ne (tgt := 243) dX12_of_236 (by decide) (fun c_236 => ?_) (fun c_236 => ?_)
    · refine aw_iconst (v := nI 1) dX12_of_243 rfl ?_
      refine aw_goto (tgt := 248) dX12_of_244 (by decide) ?_
      refine aw_callP (r := _) dX12_of_248 sX12_24 rfl (xq_is (by first | omega | assumption | exact aw_t_lt)) rfl rfl ⟨Nat.le_of_ble_eq_true rfl, Nat.le_of_ble_eq_true rfl⟩ (Nat.le_of_ble_eq_true rfl) ?_
      refine aw_ireturn dX12_of_251 rfl ?_
      refine ⟨?_, rfl⟩
      rw [sp_d124]
      unfold aw_t
      simp [*]
    · refine aw_iload_n dX12_of_239 rfl ?_
      refine aw_if_eq (tgt := 247) dX12_of_240 (by decide) (fun c_240 => ?_) (fun c_240 => ?_)
      · refine aw_iconst (v := nI 0) dX12_of_247 rfl ?_
        refine aw_callP (r := _) dX12_of_248 sX12_24 rfl (xq_is (by first | omega | assumption | exact aw_t_lt)) rfl rfl ⟨Nat.le_of_ble_eq_true rfl, Nat.le_of_ble_eq_true rfl⟩ (Nat.le_of_ble_eq_true rfl) ?_
        refine aw_ireturn dX12_of_251 rfl ?_
        refine ⟨?_, rfl⟩
        rw [sp_d124]
        unfold aw_t
        simp [*]
      · refine aw_iconst (v := nI 1) dX12_of_243 rfl ?_
        refine aw_goto (tgt := 248) dX12_of_244 (by decide) ?_
        refine aw_callP (r := _) dX12_of_248 sX12_24 rfl (xq_is (by first | omega | assumption | exact aw_t_lt)) rfl rfl ⟨Nat.le_of_ble_eq_true rfl, Nat.le_of_ble_eq_true rfl⟩ (Nat.le_of_ble_eq_true rfl) ?_
        refine aw_ireturn dX12_of_251 rfl ?_
        refine ⟨?_, rfl⟩
        rw [sp_d124]
        unfold aw_t
        simp [*]
/-- A TREE ASKED answers what its steps come to -/
theorem xp_ev {G : aw_G} {T : Nat} {ask : Nat → Nat} : ∀ (n a : Nat) (F : List (Nat × Nat)) (h : aw_H), xp_is h n a F → h T = some (aw_I G 6 (fun j => nI (ask j))) → ∃ r : Int32, (∀ L, sp_run F ask L = r :: L) ∧ xp_C G h a T (2 * n) r := by
  intro n
  induction n with
  | zero => intro a F h z _; exact z.elim
  | succ n ih =>
    intro a F h z hT
    rcases z with ⟨v, e, z⟩ | ⟨k, e, hk, z⟩ | ⟨b, F1, e, y, z⟩ | ⟨g, b, c, F1, F2, e, hg, y1, y2, z⟩
    · refine ⟨nI v, fun L => ?_, Or.inl ⟨_, z, xq_num z⟩⟩
      rw [e]; rfl
    · refine ⟨nI (ask k), fun L => ?_, Or.inr (Or.inl ⟨_, z, xq_nam z hk hT⟩)⟩
      rw [e]; rfl
    · obtain ⟨r, h1, h2⟩ := ih b F1 h y hT
      refine ⟨nI (aw_t (r = 0)), fun L => ?_, Or.inr (Or.inr (Or.inl ⟨_, z, xq_not z h2⟩))⟩
      rw [e, sp_run_app, h1]
      rfl
    · obtain ⟨r, h1, h2⟩ := ih b F1 h y1 hT
      obtain ⟨x, h3, h4⟩ := ih c F2 h y2 hT
      refine ⟨sp_done g r x, fun L => ?_, Or.inr (Or.inr (Or.inr ⟨_, z, xq_two z hg h2 h4⟩))⟩
      rw [e, sp_run_app, sp_run_app, h1, h3]
      rfl

