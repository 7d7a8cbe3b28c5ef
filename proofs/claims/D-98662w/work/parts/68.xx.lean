set_option maxRecDepth 100000
/-! THE COMPONENT's WORLD: the cells that change, told by the model's own state (mm_S); beside it what doesn't change. n70 fewestStoreys, n71 leastApart, n72, n73 the fault's kind, place; a46 then, a72 trial, a73 cared, a74 countsOn; what is told to formulas (cell 15) isn't kept -/
abbrev xx_Wd : Type := (Nat → Nat) × (Nat → Value)
def xx_a8 (G : aw_G) (f : Nat → Nat) : va_E := aw_I G 8 (fun j => if j < 8 then nI (f j) else 0)
def xx_st (w : Nat → Nat) (c : Nat) (A : Nat → Nat) : va_E := aw_o 2 [.ref (w (c + 1)), .ref (w (c + 2)), .ref (w (c + 3)), .int (nI (A 24)), .int (nI (A 25)), .int (nI (A 26)), .int (nI (A 27))]
def xx_F0 (w : xx_Wd) (s : mm_S) : List Value := [.ref (w.1 16), .ref (w.1 1), .ref (w.1 5), .ref (w.1 9), .ref (w.1 10), .int (nI (mm_n s 1)), .int (nI (mm_n s 65)), .int (nI (mm_n s 2)), .int (mm_fp s), .ref (w.1 17), .ref (w.1 18), .ref (w.1 11), .ref (w.1 12), .int (nI (mm_n s 52)), .int (nI (mm_n s 70)), .ref (w.1 13), .ref (w.1 14), .int (nI (mm_n s 71)), .ref (w.1 19), .ref (w.1 20)]
def xx_F10 (w : xx_Wd) (s : mm_S) : List Value := [w.2 0, w.2 1, w.2 2, w.2 3, w.2 4, w.2 5, .int (nI (mm_n s 72)), .int (nI (mm_n s 73))]
def xx_cell (G : aw_G) (w : xx_Wd) (s : mm_S) : Nat → va_E
  | 0 => aw_o 0 (xx_F0 w s)
  | 1 => xx_st w.1 1 (mm_a s 45)
  | 2 => xx_a8 G (fun j => mm_a s 45 (8 * 0 + j))
  | 3 => xx_a8 G (fun j => mm_a s 45 (8 * 1 + j))
  | 4 => xx_a8 G (fun j => mm_a s 45 (8 * 2 + j))
  | 5 => xx_st w.1 5 (mm_a s 46)
  | 6 => xx_a8 G (fun j => mm_a s 46 (8 * 0 + j))
  | 7 => xx_a8 G (fun j => mm_a s 46 (8 * 1 + j))
  | 8 => xx_a8 G (fun j => mm_a s 46 (8 * 2 + j))
  | 9 => aw_B G 1600 (fun j => (nI (mm_a s 0 j)).toInt8.toInt32)
  | 10 => aw_o 3 (xx_F10 w s)
  | 11 => aw_I G 8 (fun j => mm_v s 51 j)
  | 12 => aw_I G 8 (fun j => nI (mm_a s 72 j))
  | 13 => aw_I G 2304 (fun j => nI (mm_a s 73 j))
  | 14 => aw_I G 41 (fun j => nI (mm_a s 74 j))
  | _ => aw_I G 6 (fun j => nI (mm_a s 75 j))
/-- the heap h holds the component's changing cells in the state s -/
def XC (G : aw_G) (w : xx_Wd) (h : aw_H) (s : mm_S) : Prop := (∀ c, c < 15 → h (w.1 c) = some (xx_cell G w s c)) ∧ ∃ f : Nat → Nat, h (w.1 15) = some (aw_I G 6 (fun j => nI (f j)))
def xx_W (G : aw_G) (w : xx_Wd) : Prop := (∀ c, c < 16 → aw_b G ≤ w.1 c) ∧ ∀ c d, c < 16 → d < 16 → w.1 c = w.1 d → c = d
/-- what was there and isn't one of those cells is as it was -/
def xx_same (w : xx_Wd) (h0 h : aw_H) : Prop := ∀ a, h0 a ≠ none → (∀ c, c < 16 → a ≠ w.1 c) → h a = h0 a
theorem xx_same.rf {w : xx_Wd} {h : aw_H} : xx_same w h h := fun _ _ _ => rfl
theorem xx_same.tr {w : xx_Wd} {h0 h1 h2 : aw_H} (a : xx_same w h0 h1) (b : xx_same w h1 h2) : xx_same w h0 h2 := fun q g1 g2 => (b q (by rw [a q g1 g2]; exact g1) g2).trans (a q g1 g2)
theorem xx_same.up {w : xx_Wd} {h0 h : aw_H} {c : Nat} {e : va_E} (hc : c < 16) (a : xx_same w h0 h) : xx_same w h0 (aw_up h (w.1 c) e) := fun q g1 g2 => (aw_up_n (g2 c hc)).trans (a q g1 g2)
/-- a new cell -/
theorem xx_same.new {w : xx_Wd} {h0 h : aw_H} {q : Nat} {e : va_E} (hq : h q = none) (a : xx_same w h0 h) : xx_same w h0 (aw_up h q e) := fun z g1 g2 => (aw_up_n (fun y => by
  have := a z g1 g2
  rw [y, hq] at this
  rw [y] at g1
  exact g1 this.symm)).trans (a z g1 g2)
theorem XC.new {G : aw_G} {w : xx_Wd} {h : aw_H} {s : mm_S} {q : Nat} {e : va_E} (hX : XC G w h s) (hq : h q = none) : XC G w (aw_up h q e) s := ⟨fun c hc => (aw_up_n (aw_ne hq (hX.1 c hc))).trans (hX.1 c hc), by
  obtain ⟨f, hf⟩ := hX.2
  exact ⟨f, (aw_up_n (aw_ne hq hf)).trans hf⟩⟩
theorem XC.up {G : aw_G} {w : xx_Wd} {h : aw_H} {s s' : mm_S} {c : Nat} (hW : xx_W G w) (hX : XC G w h s) (hc : c < 15) (e : ∀ d, d < 16 → d ≠ c → xx_cell G w s' d = xx_cell G w s d) : XC G w (aw_up h (w.1 c) (xx_cell G w s' c)) s' := by
  refine ⟨fun d hd => ?_, ?_⟩
  · by_cases z : d = c
    · rw [z, aw_up_s]
    · rw [aw_up_n (fun y => z (hW.2 d c (by omega) (by omega) y)), e d (by omega) z]
      exact hX.1 d hd
  · obtain ⟨f, hf⟩ := hX.2
    refine ⟨f, ?_⟩
    rw [aw_up_n (fun y => by have := hW.2 15 c (by omega) (by omega) y; omega)]
    exact hf
theorem XC.told {G : aw_G} {w : xx_Wd} {h : aw_H} {s : mm_S} {f : Nat → Nat} (hW : xx_W G w) (hX : XC G w h s) : XC G w (aw_up h (w.1 15) (aw_I G 6 (fun j => nI (f j)))) s :=
  ⟨fun d hd => by
    rw [aw_up_n (fun y => by have := hW.2 d 15 (by omega) (by omega) y; omega)]
    exact hX.1 d hd, f, aw_up_s _ _ _⟩
/-- sixteen -/
theorem xx_16 {P : Nat → Prop} (h0 : P 0) (h1 : P 1) (h2 : P 2) (h3 : P 3) (h4 : P 4) (h5 : P 5) (h6 : P 6) (h7 : P 7) (h8 : P 8) (h9 : P 9) (h10 : P 10) (h11 : P 11) (h12 : P 12) (h13 : P 13) (h14 : P 14) (h15 : P 15) (d : Nat) (hd : d < 16) : P d := by
  rcases (show d = 0 ∨ d = 1 ∨ d = 2 ∨ d = 3 ∨ d = 4 ∨ d = 5 ∨ d = 6 ∨ d = 7 ∨ d = 8 ∨ d = 9 ∨ d = 10 ∨ d = 11 ∨ d = 12 ∨ d = 13 ∨ d = 14 ∨ d = 15 by omega) with rfl | rfl | rfl | rfl | rfl | rfl | rfl | rfl | rfl | rfl | rfl | rfl | rfl | rfl | rfl | rfl <;> assumption
theorem XC.ne {G : aw_G} {w : xx_Wd} {h : aw_H} {s : mm_S} {q ci : Nat} {fs : List Value} (hX : XC G w h s) (hq : h q = some (aw_o ci fs)) (n0 : ci ≠ 0) (n2 : ci ≠ 2) (n3 : ci ≠ 3) : ∀ c, c < 16 → q ≠ w.1 c := by
  have k : ∀ c, c < 16 → xx_cell G w s c ≠ aw_o ci fs := by
    apply xx_16
    all_goals
      intro z
      first
        | (injection z with z; injection z with z1 z2; omega)
        | cases z
  intro c hc z
  by_cases h15 : c = 15
  · obtain ⟨f, hf⟩ := hX.2
    rw [← h15, ← z, hq] at hf
    cases hf
  have := hX.1 c (by omega)
  rw [← z, hq] at this
  exact k c hc (Option.some.inj this).symm
theorem XC.neO {G : aw_G} {w : xx_Wd} {h : aw_H} {s : mm_S} {q n : Nat} {f : Nat → Option Nat} (hX : XC G w h s) (hq : h q = some (aw_O G n f)) : ∀ c, c < 16 → q ≠ w.1 c := by
  have k : ∀ c, c < 16 → xx_cell G w s c ≠ aw_O G n f := by
    apply xx_16
    all_goals
      intro z
      first
        | cases z
        | (injection z with z; injection z with z1 z2; injection z2 with z3 z4; cases z4)
  intro c hc z
  by_cases h15 : c = 15
  · obtain ⟨f2, hf⟩ := hX.2
    rw [← h15, ← z, hq] at hf
    injection hf with hf; injection hf with hf; injection hf with z1 z2; injection z2 with z3 z4; cases z4
  have := hX.1 c (by omega)
  rw [← z, hq] at this
  exact k c hc (Option.some.inj this).symm
theorem xx_same.ob {G : aw_G} {w : xx_Wd} {h0 h : aw_H} {s : mm_S} {q ci : Nat} {fs : List Value} (hs : xx_same w h0 h) (hX : XC G w h0 s) (hq : h0 q = some (aw_o ci fs)) (n0 : ci ≠ 0) (n2 : ci ≠ 2) (n3 : ci ≠ 3) : h q = some (aw_o ci fs) := (hs q (by rw [hq]; exact fun z => by cases z) (hX.ne hq n0 n2 n3)).trans hq
theorem xx_same.ar {G : aw_G} {w : xx_Wd} {h0 h : aw_H} {s : mm_S} {q n : Nat} {f : Nat → Option Nat} (hs : xx_same w h0 h) (hX : XC G w h0 s) (hq : h0 q = some (aw_O G n f)) : h q = some (aw_O G n f) := (hs q (by rw [hq]; exact fun z => by cases z) (hX.neO hq)).trans hq
/-- a formula told, or none -/
def xx_P (h : aw_H) (c : Option Nat) (F : List (Nat × Nat)) : Prop := (c = none ∧ F = []) ∨ ∃ p, c = some p ∧ F ≠ [] ∧ xp_is h 300 p F
/-- THE HOUSE H, u units, in the heap -/
def XHq (G : aw_G) (w : xx_Wd) (h : aw_H) (H : sp_H) (u : Nat) (tl te cap : Nat) (m : Int32) (f : Nat → Option Nat) (tn : Nat → Nat) (nm : Nat → Int64) (c mo : Option Nat) (D : Nat → Int32) : Prop := h (w.1 16) = some (aw_o 1 [.ref tl, va_rf c, va_rf mo, .int (D 0), .int (nI u), .int (D 1), .int (nI (sp_hs H)), .int (D 2), .int (D 3), .ref (w.1 15)]) ∧ h tl = some (jl_o m te (sp_hn H)) ∧ h te = some (aw_O G cap f) ∧ sp_hn H ≤ cap ∧ cap ≤ 49 ∧ (∀ t, t < sp_hn H → f t = some (tn t) ∧ h (tn t) = some (aw_o 7 [.long (nm t), .int (nI (sp_lv H t)), .int (nI (sp_sg8 H t)), .int (nI (sp_hv H t)), .int (nI (sp_ow H t)), .int (nI (sp_fl H t))])) ∧ xx_P h c (sp_F0 H) ∧ xx_P h mo (sp_F1 H)
def XHs (G : aw_G) (w : xx_Wd) (h : aw_H) (H : sp_H) (u : Nat) : Prop := ∃ tl te cap m f tn nm c mo D, XHq G w h H u tl te cap m f tn nm c mo D
theorem xx_P.mv {G : aw_G} {w : xx_Wd} {h0 h : aw_H} {s : mm_S} {c : Option Nat} {F : List (Nat × Nat)} (hs : xx_same w h0 h) (hX : XC G w h0 s) (hP : xx_P h0 c F) : xx_P h c F := by
  rcases hP with z | ⟨p, e, n, z⟩
  · exact Or.inl z
  · exact Or.inr ⟨p, e, n, xp_is.mv (fun q ci fs hc hq => hs.ob hX hq (by omega) (by omega) (by omega)) _ _ _ z⟩
theorem XHq.mv {G : aw_G} {w : xx_Wd} {h0 h : aw_H} {s : mm_S} {H : sp_H} {u tl te cap : Nat} {m : Int32} {f : Nat → Option Nat} {tn : Nat → Nat} {nm : Nat → Int64} {c mo : Option Nat} {D : Nat → Int32} (hs : xx_same w h0 h) (hX : XC G w h0 s) (hH : XHq G w h0 H u tl te cap m f tn nm c mo D) : XHq G w h H u tl te cap m f tn nm c mo D := by
  obtain ⟨h1, h2, h3, h4, h5, h6, h7, h8⟩ := hH
  exact ⟨hs.ob hX h1 (by decide) (by decide) (by decide), hs.ob hX h2 (by decide) (by decide) (by decide), hs.ar hX h3, h4, h5, fun t ht => ⟨(h6 t ht).1, hs.ob hX (h6 t ht).2 (by decide) (by decide) (by decide)⟩, h7.mv hs hX, h8.mv hs hX⟩
theorem XHs.mv {G : aw_G} {w : xx_Wd} {h0 h : aw_H} {s : mm_S} {H : sp_H} {u : Nat} (hs : xx_same w h0 h) (hX : XC G w h0 s) (hH : XHs G w h0 H u) : XHs G w h H u := by
  obtain ⟨tl, te, cap, m, f, tn, nm, c, mo, D, q⟩ := hH
  exact ⟨tl, te, cap, m, f, tn, nm, c, mo, D, q.mv hs hX⟩
