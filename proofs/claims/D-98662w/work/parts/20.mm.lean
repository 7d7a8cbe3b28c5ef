/-! THE MODEL's WORLD: numbers that aren't negative (n, arrays a), the place of a fault, the word, arrays of any numbers (v), names -/
set_option maxRecDepth 100000
abbrev mm_S : Type := (Nat → Nat) × Int32 × Int64 × (Nat → Nat → Nat) × (Nat → Nat → Int32) × (Nat → Int64)
abbrev mm_n (s : mm_S) (k : Nat) : Nat := s.1 k
abbrev mm_fp (s : mm_S) : Int32 := s.2.1
abbrev mm_w (s : mm_S) : Int64 := s.2.2.1
abbrev mm_a (s : mm_S) (k j : Nat) : Nat := s.2.2.2.1 k j
abbrev mm_v (s : mm_S) (k j : Nat) : Int32 := s.2.2.2.2.1 k j
abbrev mm_nm (s : mm_S) (j : Nat) : Int64 := s.2.2.2.2.2 j
/-- a function with one place changed -/
def aw_u {α : Type} (f : Nat → α) (k : Nat) (v : α) : Nat → α := fun j => if j = k then v else f j
theorem aw_u_s {α : Type} (f : Nat → α) (k : Nat) (v : α) : aw_u f k v k = v := if_pos rfl
theorem aw_u_n {α : Type} {f : Nat → α} {k j : Nat} {v : α} (h : j ≠ k) : aw_u f k v j = f j := if_neg h
def mm_setN (s : mm_S) (k v : Nat) : mm_S := (aw_u s.1 k v, s.2)
def mm_setFp (s : mm_S) (v : Int32) : mm_S := (s.1, v, s.2.2)
def mm_setW (s : mm_S) (v : Int64) : mm_S := (s.1, s.2.1, v, s.2.2.2)
def mm_setA (s : mm_S) (k : Nat) (f : Nat → Nat) : mm_S := (s.1, s.2.1, s.2.2.1, aw_u s.2.2.2.1 k f, s.2.2.2.2)
def mm_setV (s : mm_S) (k : Nat) (f : Nat → Int32) : mm_S := (s.1, s.2.1, s.2.2.1, s.2.2.2.1, aw_u s.2.2.2.2.1 k f, s.2.2.2.2.2)
def mm_setNm (s : mm_S) (f : Nat → Int64) : mm_S := (s.1, s.2.1, s.2.2.1, s.2.2.2.1, s.2.2.2.2.1, f)
/-- where the model lies: the object, its arrays by their field -/
abbrev mm_Wd : Type := Nat × (Nat → Nat)
def mm_F (w : mm_Wd) (s : mm_S) : List Value := [.ref (w.2 0), .int (nI (mm_n s 1)), .int (nI (mm_n s 2)), .int (mm_fp s), .int (nI (mm_n s 4)), .int (nI (mm_n s 5)), .int (nI (mm_n s 6)), .int (nI (mm_n s 7)), .int (nI (mm_n s 8)), .long (mm_w s), .ref (w.2 10), .ref (w.2 11), .ref (w.2 12), .ref (w.2 13), .ref (w.2 14), .ref (w.2 15), .ref (w.2 16), .ref (w.2 17), .ref (w.2 18), .ref (w.2 19), .int (nI (mm_n s 20)), .int (nI (mm_n s 21)), .int (nI (mm_n s 22)), .int (nI (mm_n s 23)), .int (nI (mm_n s 24)), .int (nI (mm_n s 25)), .ref (w.2 26), .ref (w.2 27), .ref (w.2 28), .ref (w.2 29), .ref (w.2 30), .ref (w.2 31), .ref (w.2 32), .ref (w.2 33), .ref (w.2 34), .ref (w.2 35), .ref (w.2 36), .int (nI (mm_n s 37)), .int (nI (mm_n s 38)), .int (nI (mm_n s 39)), .int (nI (mm_n s 40)), .int (nI (mm_n s 41)), .int (nI (mm_n s 42)), .int (nI (mm_n s 43)), .int (nI (mm_n s 44)), .ref (w.2 45), .ref (w.2 46), .ref (w.2 47), .int (nI (mm_n s 48)), .int (nI (mm_n s 49)), .ref (w.2 50), .ref (w.2 51), .int (nI (mm_n s 52)), .ref (w.2 53), .ref (w.2 54), .ref (w.2 55), .ref (w.2 56), .ref (w.2 57), .ref (w.2 58), .ref (w.2 59), .ref (w.2 60), .ref (w.2 61), .ref (w.2 62), .ref (w.2 63), .int (nI (mm_n s 64)), .int (nI (mm_n s 65)), .ref (w.2 66), .ref (w.2 67), .ref (w.2 68)]
def mm_il : Nat → Option Nat
  | 0 => some 1600
  | 11 => some 640
  | 12 => some 640
  | 13 => some 2
  | 14 => some 640
  | 15 => some 640
  | 16 => some 2
  | 17 => some 160
  | 27 => some 8
  | 28 => some 8
  | 29 => some 8
  | 30 => some 8
  | 31 => some 8
  | 32 => some 8
  | 33 => some 8
  | 34 => some 8
  | 35 => some 8
  | 36 => some 8
  | 45 => some 28
  | 46 => some 28
  | 47 => some 1120
  | 50 => some 8
  | 53 => some 2304
  | 54 => some 2304
  | 55 => some 8
  | 57 => some 8
  | 58 => some 41
  | 59 => some 30
  | 60 => some 30
  | 61 => some 30
  | 66 => some 21
  | 68 => some 84
  | _ => none
def mm_zl : Nat → Option Nat
  | 19 => some 2
  | 56 => some 64
  | 63 => some 30
  | 67 => some 3
  | _ => none
def mm_vl : Nat → Option Nat
  | 51 => some 8
  | 62 => some 30
  | _ => none
def mm_sl : Nat → Option Nat
  | 18 => some 64
  | 26 => some 6
  | _ => none
def mm_isA (k : Nat) : Prop := (mm_il k).isSome ∨ (mm_zl k).isSome ∨ (mm_vl k).isSome ∨ (mm_sl k).isSome ∨ k = 10
/-- the heap h holds the model in the state s -/
def mm_R (G : aw_G) (w : mm_Wd) (h : aw_H) (s : mm_S) : Prop := h w.1 = some (aw_o 5 (mm_F w s)) ∧ (∀ k n, mm_il k = some n → h (w.2 k) = some (aw_I G n (fun j => nI (mm_a s k j)))) ∧ (∀ k n, mm_zl k = some n → h (w.2 k) = some (aw_Z G n (fun j => nI (mm_a s k j)))) ∧ (∀ k n, mm_vl k = some n → h (w.2 k) = some (aw_I G n (fun j => mm_v s k j))) ∧ h (w.2 10) = some (aw_J G 8 (fun j => mm_nm s j)) ∧ ∀ k n, mm_sl k = some n → ∃ f, h (w.2 k) = some (aw_I G n f)
/-- the model's cells: ours, all apart -/
def mm_W (G : aw_G) (w : mm_Wd) : Prop := aw_b G ≤ w.1 ∧ (∀ k, mm_isA k → aw_b G ≤ w.2 k ∧ w.2 k ≠ w.1) ∧ ∀ k j, mm_isA k → mm_isA j → w.2 k = w.2 j → k = j
def mm_reg (w : mm_Wd) (a : Nat) : Prop := a = w.1 ∨ ∃ k, mm_isA k ∧ a = w.2 k
/-- outside the model's cells nothing is new -/
def mm_same (w : mm_Wd) (h0 h : aw_H) : Prop := ∀ a, ¬ mm_reg w a → h a = h0 a
theorem mm_same.rf {w : mm_Wd} {h : aw_H} : mm_same w h h := fun _ _ => rfl
theorem mm_same.tr {w : mm_Wd} {h0 h1 h2 : aw_H} (a : mm_same w h0 h1) (b : mm_same w h1 h2) : mm_same w h0 h2 := fun q hq => (b q hq).trans (a q hq)
theorem mm_same.obj {w : mm_Wd} {h0 h : aw_H} {e : va_E} (a : mm_same w h0 h) : mm_same w h0 (aw_up h w.1 e) := fun q hq => (aw_up_n (fun z => hq (Or.inl z))).trans (a q hq)
theorem mm_same.arr {w : mm_Wd} {h0 h : aw_H} {e : va_E} {k : Nat} (hk : mm_isA k) (a : mm_same w h0 h) : mm_same w h0 (aw_up h (w.2 k) e) := fun q hq => (aw_up_n (fun z => hq (Or.inr ⟨k, hk, z⟩))).trans (a q hq)
section MMR
variable {G : aw_G} {w : mm_Wd} {h : aw_H} {s s' : mm_S}
theorem mm_R.obj (hW : mm_W G w) (hR : mm_R G w h s) (e1 : s'.2.2.2 = s.2.2.2) : mm_R G w (aw_up h w.1 (aw_o 5 (mm_F w s'))) s' := by
  obtain ⟨h1, h2, h3, h4, h5, h6⟩ := hR
  have ea : ∀ k j, mm_a s' k j = mm_a s k j := fun k j => by show s'.2.2.2.1 k j = _; rw [e1]
  have ev : ∀ k j, mm_v s' k j = mm_v s k j := fun k j => by show s'.2.2.2.2.1 k j = _; rw [e1]
  have em : ∀ j, mm_nm s' j = mm_nm s j := fun j => by show s'.2.2.2.2.2 j = _; rw [e1]
  refine ⟨aw_up_s _ _ _, fun k n hk => ?_, fun k n hk => ?_, fun k n hk => ?_, ?_, fun k n hk => ?_⟩
  · rw [aw_up_n (hW.2.1 k (Or.inl (by rw [hk]; rfl))).2, h2 k n hk]; simp only [ea]
  · rw [aw_up_n (hW.2.1 k (Or.inr (Or.inl (by rw [hk]; rfl)))).2, h3 k n hk]; simp only [ea]
  · rw [aw_up_n (hW.2.1 k (Or.inr (Or.inr (Or.inl (by rw [hk]; rfl))))).2, h4 k n hk]; simp only [ev]
  · rw [aw_up_n (hW.2.1 10 (Or.inr (Or.inr (Or.inr (Or.inr rfl))))).2, h5]; simp only [em]
  · rw [aw_up_n (hW.2.1 k (Or.inr (Or.inr (Or.inr (Or.inl (by rw [hk]; rfl)))))).2]; exact h6 k n hk
theorem mm_il_ne {k j n m : Nat} (h : mm_il k = some n) (h2 : mm_zl j = some m) : k ≠ j := by
  intro e; subst e; unfold mm_il at h; unfold mm_zl at h2; split at h <;> simp_all
theorem mm_il_vl {k j n m : Nat} (h : mm_il k = some n) (h2 : mm_vl j = some m) : k ≠ j := by
  intro e; subst e; unfold mm_il at h; unfold mm_vl at h2; split at h <;> simp_all
theorem mm_zl_vl {k j n m : Nat} (h : mm_zl k = some n) (h2 : mm_vl j = some m) : k ≠ j := by
  intro e; subst e; unfold mm_zl at h; unfold mm_vl at h2; split at h <;> simp_all
theorem mm_il_sl {k j n m : Nat} (h : mm_il k = some n) (h2 : mm_sl j = some m) : k ≠ j := by
  intro e; subst e; unfold mm_il at h; unfold mm_sl at h2; split at h <;> simp_all
theorem mm_zl_sl {k j n m : Nat} (h : mm_zl k = some n) (h2 : mm_sl j = some m) : k ≠ j := by
  intro e; subst e; unfold mm_zl at h; unfold mm_sl at h2; split at h <;> simp_all
theorem mm_vl_sl {k j n m : Nat} (h : mm_vl k = some n) (h2 : mm_sl j = some m) : k ≠ j := by
  intro e; subst e; unfold mm_vl at h; unfold mm_sl at h2; split at h <;> simp_all
theorem mm_F_arr (hs : s'.1 = s.1) (h2 : s'.2.1 = s.2.1) (h3 : s'.2.2.1 = s.2.2.1) : mm_F w s' = mm_F w s := by
  unfold mm_F mm_n mm_fp mm_w
  rw [hs, h2, h3]
theorem mm_R.setA (hW : mm_W G w) (hR : mm_R G w h s) {k n : Nat} {f : Nat → Nat} (hk : mm_il k = some n) : mm_R G w (aw_up h (w.2 k) (aw_I G n (fun j => nI (f j)))) (mm_setA s k f) := by
  obtain ⟨h1, h2, h3, h4, h5, h6⟩ := hR
  have ik : mm_isA k := Or.inl (by rw [hk]; rfl)
  have hne : ∀ j, mm_isA j → j ≠ k → w.2 j ≠ w.2 k := fun j ij n z => n (hW.2.2 j k ij ik z)
  refine ⟨?_, fun j m hj => ?_, fun j m hj => ?_, fun j m hj => ?_, ?_, fun j m hj => ?_⟩
  · rw [aw_up_n (fun z => (hW.2.1 k ik).2 z.symm), h1]; rfl
  · by_cases e : j = k
    · subst e
      have : n = m := Option.some.inj (hk.symm.trans hj)
      subst this
      rw [aw_up_s]
      simp only [mm_a, mm_setA, aw_u_s]
    · rw [aw_up_n (hne j (Or.inl (by rw [hj]; rfl)) e), h2 j m hj]
      simp only [mm_a, mm_setA, aw_u_n e]
  · have e : j ≠ k := fun z => mm_il_ne hk hj z.symm
    rw [aw_up_n (hne j (Or.inr (Or.inl (by rw [hj]; rfl))) e), h3 j m hj]
    simp only [mm_a, mm_setA, aw_u_n e]
  · have e : j ≠ k := fun z => mm_il_vl hk hj z.symm
    rw [aw_up_n (hne j (Or.inr (Or.inr (Or.inl (by rw [hj]; rfl)))) e), h4 j m hj]
    rfl
  · have e : 10 ≠ k := fun z => by subst z; cases hk
    rw [aw_up_n (hne 10 (Or.inr (Or.inr (Or.inr (Or.inr rfl)))) e), h5]
    rfl

  · rw [aw_up_n (hne j (Or.inr (Or.inr (Or.inr (Or.inl (by rw [hj]; rfl))))) (fun z => mm_il_sl hk hj z.symm))]; exact h6 j m hj
theorem mm_R.setZ (hW : mm_W G w) (hR : mm_R G w h s) {k n : Nat} {f : Nat → Nat} (hk : mm_zl k = some n) : mm_R G w (aw_up h (w.2 k) (aw_Z G n (fun j => nI (f j)))) (mm_setA s k f) := by
  obtain ⟨h1, h2, h3, h4, h5, h6⟩ := hR
  have ik : mm_isA k := Or.inr (Or.inl (by rw [hk]; rfl))
  have hne : ∀ j, mm_isA j → j ≠ k → w.2 j ≠ w.2 k := fun j ij n z => n (hW.2.2 j k ij ik z)
  refine ⟨?_, fun j m hj => ?_, fun j m hj => ?_, fun j m hj => ?_, ?_, fun j m hj => ?_⟩
  · rw [aw_up_n (fun z => (hW.2.1 k ik).2 z.symm), h1]; rfl
  · have e : j ≠ k := mm_il_ne hj hk
    rw [aw_up_n (hne j (Or.inl (by rw [hj]; rfl)) e), h2 j m hj]
    simp only [mm_a, mm_setA, aw_u_n e]
  · by_cases e : j = k
    · subst e
      have : n = m := Option.some.inj (hk.symm.trans hj)
      subst this
      rw [aw_up_s]
      simp only [mm_a, mm_setA, aw_u_s]
    · rw [aw_up_n (hne j (Or.inr (Or.inl (by rw [hj]; rfl))) e), h3 j m hj]
      simp only [mm_a, mm_setA, aw_u_n e]
  · have e : j ≠ k := fun z => mm_zl_vl hk hj z.symm
    rw [aw_up_n (hne j (Or.inr (Or.inr (Or.inl (by rw [hj]; rfl)))) e), h4 j m hj]
    rfl
  · have e : 10 ≠ k := fun z => by subst z; cases hk
    rw [aw_up_n (hne 10 (Or.inr (Or.inr (Or.inr (Or.inr rfl)))) e), h5]
    rfl

  · rw [aw_up_n (hne j (Or.inr (Or.inr (Or.inr (Or.inl (by rw [hj]; rfl))))) (fun z => mm_zl_sl hk hj z.symm))]; exact h6 j m hj
theorem mm_R.setV (hW : mm_W G w) (hR : mm_R G w h s) {k n : Nat} {f : Nat → Int32} (hk : mm_vl k = some n) : mm_R G w (aw_up h (w.2 k) (aw_I G n (fun j => f j))) (mm_setV s k f) := by
  obtain ⟨h1, h2, h3, h4, h5, h6⟩ := hR
  have ik : mm_isA k := Or.inr (Or.inr (Or.inl (by rw [hk]; rfl)))
  have hne : ∀ j, mm_isA j → j ≠ k → w.2 j ≠ w.2 k := fun j ij n z => n (hW.2.2 j k ij ik z)
  refine ⟨?_, fun j m hj => ?_, fun j m hj => ?_, fun j m hj => ?_, ?_, fun j m hj => ?_⟩
  · rw [aw_up_n (fun z => (hW.2.1 k ik).2 z.symm), h1]; rfl
  · have e : j ≠ k := mm_il_vl hj hk
    rw [aw_up_n (hne j (Or.inl (by rw [hj]; rfl)) e), h2 j m hj]
    rfl
  · have e : j ≠ k := mm_zl_vl hj hk
    rw [aw_up_n (hne j (Or.inr (Or.inl (by rw [hj]; rfl))) e), h3 j m hj]
    rfl
  · by_cases e : j = k
    · subst e
      have : n = m := Option.some.inj (hk.symm.trans hj)
      subst this
      rw [aw_up_s]
      simp only [mm_v, mm_setV, aw_u_s]
    · rw [aw_up_n (hne j (Or.inr (Or.inr (Or.inl (by rw [hj]; rfl)))) e), h4 j m hj]
      simp only [mm_v, mm_setV, aw_u_n e]
  · have e : 10 ≠ k := fun z => by subst z; cases hk
    rw [aw_up_n (hne 10 (Or.inr (Or.inr (Or.inr (Or.inr rfl)))) e), h5]
    rfl

  · rw [aw_up_n (hne j (Or.inr (Or.inr (Or.inr (Or.inl (by rw [hj]; rfl))))) (fun z => mm_vl_sl hk hj z.symm))]; exact h6 j m hj
theorem mm_R.setNm (hW : mm_W G w) (hR : mm_R G w h s) {f : Nat → Int64} : mm_R G w (aw_up h (w.2 10) (aw_J G 8 (fun j => f j))) (mm_setNm s f) := by
  obtain ⟨h1, h2, h3, h4, h5, h6⟩ := hR
  have ik : mm_isA 10 := Or.inr (Or.inr (Or.inr (Or.inr rfl)))
  have hne : ∀ j, mm_isA j → j ≠ 10 → w.2 j ≠ w.2 10 := fun j ij n z => n (hW.2.2 j 10 ij ik z)
  refine ⟨?_, fun j m hj => ?_, fun j m hj => ?_, fun j m hj => ?_, ?_, fun j m hj => ?_⟩
  · rw [aw_up_n (fun z => (hW.2.1 10 ik).2 z.symm), h1]; rfl
  · rw [aw_up_n (hne j (Or.inl (by rw [hj]; rfl)) (fun e => by subst e; cases hj)), h2 j m hj]
    rfl
  · rw [aw_up_n (hne j (Or.inr (Or.inl (by rw [hj]; rfl))) (fun e => by subst e; cases hj)), h3 j m hj]
    rfl
  · rw [aw_up_n (hne j (Or.inr (Or.inr (Or.inl (by rw [hj]; rfl)))) (fun e => by subst e; cases hj)), h4 j m hj]
    rfl
  · rw [aw_up_s]
    rfl
  · rw [aw_up_n (hne j (Or.inr (Or.inr (Or.inr (Or.inl (by rw [hj]; rfl))))) (fun z => by subst z; cases hj))]; exact h6 j m hj
theorem mm_R.scr (hW : mm_W G w) (hR : mm_R G w h s) {k n : Nat} {f : Nat → Int32} (hk : mm_sl k = some n) : mm_R G w (aw_up h (w.2 k) (aw_I G n f)) s := by
  obtain ⟨h1, h2, h3, h4, h5, h6⟩ := hR
  have ik : mm_isA k := Or.inr (Or.inr (Or.inr (Or.inl (by rw [hk]; rfl))))
  have hne : ∀ j, mm_isA j → j ≠ k → w.2 j ≠ w.2 k := fun j ij n z => n (hW.2.2 j k ij ik z)
  refine ⟨?_, fun j m hj => ?_, fun j m hj => ?_, fun j m hj => ?_, ?_, fun j m hj => ?_⟩
  · rw [aw_up_n (fun z => (hW.2.1 k ik).2 z.symm), h1]
  · rw [aw_up_n (hne j (Or.inl (by rw [hj]; rfl)) (mm_il_sl hj hk)), h2 j m hj]
  · rw [aw_up_n (hne j (Or.inr (Or.inl (by rw [hj]; rfl))) (mm_zl_sl hj hk)), h3 j m hj]
  · rw [aw_up_n (hne j (Or.inr (Or.inr (Or.inl (by rw [hj]; rfl)))) (mm_vl_sl hj hk)), h4 j m hj]
  · rw [aw_up_n (hne 10 (Or.inr (Or.inr (Or.inr (Or.inr rfl)))) (fun e => by subst e; cases hk)), h5]
  · by_cases e : j = k
    · subst e
      have : n = m := Option.some.inj (hk.symm.trans hj)
      subst this
      exact ⟨f, aw_up_s _ _ _⟩
    · rw [aw_up_n (hne j (Or.inr (Or.inr (Or.inr (Or.inl (by rw [hj]; rfl))))) e)]
      exact h6 j m hj
end MMR
theorem mm_F_set1 (w : mm_Wd) (s : mm_S) (v : Nat) : (mm_F w s).set 1 (.int (nI v)) = mm_F w (mm_setN s 1 v) := rfl
theorem mm_F_set2 (w : mm_Wd) (s : mm_S) (v : Nat) : (mm_F w s).set 2 (.int (nI v)) = mm_F w (mm_setN s 2 v) := rfl
theorem mm_F_set3 (w : mm_Wd) (s : mm_S) (v : Int32) : (mm_F w s).set 3 (.int v) = mm_F w (mm_setFp s v) := rfl
theorem mm_F_set4 (w : mm_Wd) (s : mm_S) (v : Nat) : (mm_F w s).set 4 (.int (nI v)) = mm_F w (mm_setN s 4 v) := rfl
theorem mm_F_set5 (w : mm_Wd) (s : mm_S) (v : Nat) : (mm_F w s).set 5 (.int (nI v)) = mm_F w (mm_setN s 5 v) := rfl
theorem mm_F_set6 (w : mm_Wd) (s : mm_S) (v : Nat) : (mm_F w s).set 6 (.int (nI v)) = mm_F w (mm_setN s 6 v) := rfl
theorem mm_F_set7 (w : mm_Wd) (s : mm_S) (v : Nat) : (mm_F w s).set 7 (.int (nI v)) = mm_F w (mm_setN s 7 v) := rfl
theorem mm_F_set8 (w : mm_Wd) (s : mm_S) (v : Nat) : (mm_F w s).set 8 (.int (nI v)) = mm_F w (mm_setN s 8 v) := rfl
theorem mm_F_set9 (w : mm_Wd) (s : mm_S) (v : Int64) : (mm_F w s).set 9 (.long v) = mm_F w (mm_setW s v) := rfl
theorem mm_F_set20 (w : mm_Wd) (s : mm_S) (v : Nat) : (mm_F w s).set 20 (.int (nI v)) = mm_F w (mm_setN s 20 v) := rfl
theorem mm_F_set21 (w : mm_Wd) (s : mm_S) (v : Nat) : (mm_F w s).set 21 (.int (nI v)) = mm_F w (mm_setN s 21 v) := rfl
theorem mm_F_set22 (w : mm_Wd) (s : mm_S) (v : Nat) : (mm_F w s).set 22 (.int (nI v)) = mm_F w (mm_setN s 22 v) := rfl
theorem mm_F_set23 (w : mm_Wd) (s : mm_S) (v : Nat) : (mm_F w s).set 23 (.int (nI v)) = mm_F w (mm_setN s 23 v) := rfl
theorem mm_F_set24 (w : mm_Wd) (s : mm_S) (v : Nat) : (mm_F w s).set 24 (.int (nI v)) = mm_F w (mm_setN s 24 v) := rfl
theorem mm_F_set25 (w : mm_Wd) (s : mm_S) (v : Nat) : (mm_F w s).set 25 (.int (nI v)) = mm_F w (mm_setN s 25 v) := rfl
theorem mm_F_set37 (w : mm_Wd) (s : mm_S) (v : Nat) : (mm_F w s).set 37 (.int (nI v)) = mm_F w (mm_setN s 37 v) := rfl
theorem mm_F_set38 (w : mm_Wd) (s : mm_S) (v : Nat) : (mm_F w s).set 38 (.int (nI v)) = mm_F w (mm_setN s 38 v) := rfl
theorem mm_F_set39 (w : mm_Wd) (s : mm_S) (v : Nat) : (mm_F w s).set 39 (.int (nI v)) = mm_F w (mm_setN s 39 v) := rfl
theorem mm_F_set40 (w : mm_Wd) (s : mm_S) (v : Nat) : (mm_F w s).set 40 (.int (nI v)) = mm_F w (mm_setN s 40 v) := rfl
theorem mm_F_set41 (w : mm_Wd) (s : mm_S) (v : Nat) : (mm_F w s).set 41 (.int (nI v)) = mm_F w (mm_setN s 41 v) := rfl
theorem mm_F_set42 (w : mm_Wd) (s : mm_S) (v : Nat) : (mm_F w s).set 42 (.int (nI v)) = mm_F w (mm_setN s 42 v) := rfl
theorem mm_F_set43 (w : mm_Wd) (s : mm_S) (v : Nat) : (mm_F w s).set 43 (.int (nI v)) = mm_F w (mm_setN s 43 v) := rfl
theorem mm_F_set44 (w : mm_Wd) (s : mm_S) (v : Nat) : (mm_F w s).set 44 (.int (nI v)) = mm_F w (mm_setN s 44 v) := rfl
theorem mm_F_set48 (w : mm_Wd) (s : mm_S) (v : Nat) : (mm_F w s).set 48 (.int (nI v)) = mm_F w (mm_setN s 48 v) := rfl
theorem mm_F_set49 (w : mm_Wd) (s : mm_S) (v : Nat) : (mm_F w s).set 49 (.int (nI v)) = mm_F w (mm_setN s 49 v) := rfl
theorem mm_F_set52 (w : mm_Wd) (s : mm_S) (v : Nat) : (mm_F w s).set 52 (.int (nI v)) = mm_F w (mm_setN s 52 v) := rfl
theorem mm_F_set64 (w : mm_Wd) (s : mm_S) (v : Nat) : (mm_F w s).set 64 (.int (nI v)) = mm_F w (mm_setN s 64 v) := rfl
theorem mm_F_set65 (w : mm_Wd) (s : mm_S) (v : Nat) : (mm_F w s).set 65 (.int (nI v)) = mm_F w (mm_setN s 65 v) := rfl
