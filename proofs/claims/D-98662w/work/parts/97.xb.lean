set_option maxRecDepth 100000
/-! the component's lists on the way: a bundle that each list's call takes on -/
theorem aw_csK : ("SoManyStairs$Kept", "java/lang/Object") ∈ aw_cs := List.mem_of_getElem? (i := 17) rfl
theorem aw_isK {h : aw_H} {q : Nat} {fs : List Value} (hq : h q = some (aw_o 4 fs)) : aw_isO h q := ⟨4, fs, _, _, _, hq, aw_cl4, aw_csK⟩
theorem aw_csC : ("SoManyStairs$Chalk", "java/lang/Object") ∈ aw_cs := List.mem_of_getElem? (i := 11) rfl
theorem aw_csT : ("SoManyStairs$Tread", "java/lang/Object") ∈ aw_cs := List.mem_of_getElem? (i := 13) rfl
theorem aw_isM {h : aw_H} {q : Nat} {a : Nat} {fs : List Value} (ha : a ≤ 1) (hq : h q = some (aw_o (12 + a) fs)) : aw_isO h q := by
  rcases (show a = 0 ∨ a = 1 by omega) with rfl | rfl
  · exact ⟨12, fs, _, _, _, hq, aw_cl12, aw_csC⟩
  · exact ⟨13, fs, _, _, _, hq, aw_cl13, aw_csT⟩
/-- all that is there stays -/
def xe_f (h h' : aw_H) : Prop := ∀ q v, h q = some v → h' q = some v
theorem xe_f.k {h h' : aw_H} (hf : xe_f h h') : xk_fr h h' := fun q v z _ => hf q v z
theorem xe_f.tr {h h' h2 : aw_H} (a : xe_f h h') (b : xe_f h' h2) : xe_f h h2 := fun q v z => b q v (a q v z)
theorem xe_f.new {h : aw_H} {a : Nat} {e : va_E} (ha : h a = none) : xe_f h (aw_up h a e) := fun q v z => (aw_up_n (aw_ne ha z)).trans z
def xb_3 {α : Type} (a b c : α) : Nat → α := fun i => if i = 0 then a else if i = 1 then b else c
theorem xb_c3 {P : Nat → Prop} (h0 : P 0) (h1 : P 1) (h2 : P 2) (i : Nat) (hi : i < 3) : P i := by
  rcases (show i = 0 ∨ i = 1 ∨ i = 2 by omega) with rfl | rfl | rfl <;> assumption
def XB (Z : Nat → Prop) (G : aw_G) (w : xx_Wd) (h : aw_H) (s : mm_S) (H : sp_H) (u tl te : Nat) (e cap n : Nat → Nat) (x : Nat → Nat → Nat) (K B M : Nat → Nat) : Prop := XC G w h s ∧ (∃ hcap m f tn nm c mo D, XHq G w h H u tl te hcap m f tn nm c mo D) ∧ (∀ i, i < 3 → xl_L G h (w.1 (17 + i)) (e i) (cap i) (n i) (x i)) ∧ XRk Z G w h s K B M ∧ XRd G w h e cap B tl te ∧ ∀ q, Z q → ∃ v, h q = some v ∧ xr_im v
theorem xr_W.d {G : aw_G} {w : xx_Wd} (hV : xr_W G w) {i j : Nat} (hi : i < 3) (hj : j < 3) (n : i ≠ j) : w.1 (17 + i) ≠ w.1 (17 + j) := by
  obtain ⟨-, h1, h2, h3⟩ := hV
  rcases (show i = 0 ∨ i = 1 ∨ i = 2 by omega) with rfl | rfl | rfl <;> rcases (show j = 0 ∨ j = 1 ∨ j = 2 by omega) with rfl | rfl | rfl
  all_goals first
    | exact absurd rfl n
    | exact h1
    | exact h2
    | exact h3
    | exact Ne.symm h1
    | exact Ne.symm h2
    | exact Ne.symm h3
theorem xr_W.b {G : aw_G} {w : xx_Wd} (hV : xr_W G w) {i : Nat} (hi : i < 3) : aw_b G ≤ w.1 (17 + i) := by
  obtain ⟨⟨h1, h2, h3⟩, -⟩ := hV
  exact xb_c3 (P := fun i => aw_b G ≤ w.1 (17 + i)) h1 h2 h3 i hi
theorem xl_L.ex {G : aw_G} {h h' : aw_H} {L e cap n : Nat} {x : Nat → Nat} (hf : xe_f h h') (hx : xl_L G h L e cap n x) : xl_L G h' L e cap n x := by
  obtain ⟨⟨m, f, g1, g2, g3⟩, g4⟩ := hx
  exact ⟨⟨m, f, hf _ _ g1, hf _ _ g2, g3⟩, g4⟩
theorem XRd.ex {G : aw_G} {w : xx_Wd} {h h' : aw_H} {e cap B : Nat → Nat} {tl te : Nat} (hf : xe_f h h') (hd : XRd G w h e cap B tl te) : XRd G w h' e cap B tl te := hd.g (S := fun _ => False) (fun q v z _ => hf q v z) id id id id
theorem XHq.ex {G : aw_G} {w : xx_Wd} {h h' : aw_H} {H : sp_H} {u tl te cap : Nat} {m : Int32} {f : Nat → Option Nat} {tn : Nat → Nat} {nm : Nat → Int64} {c mo : Option Nat} {D : Nat → Int32} (hf : xe_f h h') (hH : XHq G w h H u tl te cap m f tn nm c mo D) : XHq G w h' H u tl te cap m f tn nm c mo D := hf.k.XHq ((hf _ _ hH.2.1).trans hH.2.1.symm) ((hf _ _ hH.2.2.1).trans hH.2.2.1.symm) hH
/-- new cells -/
theorem XB.ex {Z : Nat → Prop} {G : aw_G} {w : xx_Wd} {h h' : aw_H} {s : mm_S} {H : sp_H} {u tl te : Nat} {e cap n : Nat → Nat} {x : Nat → Nat → Nat} {K B M : Nat → Nat} (hf : xe_f h h') (hB : XB Z G w h s H u tl te e cap n x K B M) : XB Z G w h' s H u tl te e cap n x K B M := by
  obtain ⟨b1, ⟨hcap, m, f, tn, nm, c, mo, D, b2⟩, b3, b4, b5, b6⟩ := hB
  refine ⟨hf.k.XC b1, ⟨hcap, m, f, tn, nm, c, mo, D, b2.ex hf⟩, fun i hi => (b3 i hi).ex hf, b4.fr hf.k, b5.ex hf, fun q hq => ?_⟩
  obtain ⟨v, z1, z2⟩ := b6 q hq
  exact ⟨v, hf _ _ z1, z2⟩
/-- one list changes, its array stays -/
theorem XB.l {Z : Nat → Prop} {G : aw_G} {w : xx_Wd} {h h' : aw_H} {s : mm_S} {H : sp_H} {u tl te : Nat} {e cap n : Nat → Nat} {x : Nat → Nat → Nat} {K B M : Nat → Nat} {i n' : Nat} {x' : Nat → Nat} (hV : xr_W G w) (hB : XB Z G w h s H u tl te e cap n x K B M) (hi : i < 3) (hx' : xl_L G h' (w.1 (17 + i)) (e i) (cap i) n' x') (hf : xl_fr h h' (w.1 (17 + i)) (e i) (cap i)) : XB Z G w h' s H u tl te e cap (aw_u n i n') (aw_u x i x') K B M := by
  obtain ⟨b1, ⟨hcap, m, f, tn, nm, c, mo, D, b2⟩, b3, b4, b5, b6⟩ := hB
  have hx := b3 i hi
  have k := hf.k hx
  obtain ⟨d1, ⟨fk, d2, d3⟩, d4, ⟨nn, mm, fs, d5, d6⟩, d7, d8, d9⟩ := b5
  have ht : tl ≠ w.1 (17 + i) := xb_c3 (P := fun i => tl ≠ w.1 (17 + i)) d8.1 d8.2.1 d8.2.2 i hi
  have htl : h' tl = h tl := hf tl (by rw [d6]; exact fun z => by cases z) ht (fun z => by
    obtain ⟨⟨m1, f1, g1, g2, -⟩, -⟩ := hx
    rw [← z, d6] at g2
    cases g2)
  have hte : h' te = h te := hf te d7 (fun z => by
    obtain ⟨⟨m1, f1, g1, g2, -⟩, -⟩ := hx
    rw [← z, b2.2.2.1] at g1
    cases g1) (d9 i hi)
  refine ⟨k.XC b1, ⟨hcap, m, f, tn, nm, c, mo, D, k.XHq htl hte b2⟩, fun j hj => ?_, b4.fr k, ⟨d1, ⟨fk, ?_, d3⟩, d4, ⟨nn, mm, fs, k _ _ d5 (xk_o (by decide)), htl.trans d6⟩, by rw [hte]; exact d7, d8, d9⟩, fun q hq => ?_⟩
  · by_cases z : j = i
    · subst z
      rw [aw_u_s, aw_u_s]
      exact hx'
    · rw [aw_u_n z, aw_u_n z]
      have hy := b3 j hj
      refine hy.fr (hf _ hy.eL.1 (hV.d hj hi z) (fun y => ?_)) (hf _ hy.eL.2.1 (fun y => ?_) (fun y => d1 i j hi hj (Ne.symm z) y.symm))
      · obtain ⟨⟨m1, f1, g1, g2, -⟩, -⟩ := hx
        obtain ⟨⟨m2, f2, g3, g4, -⟩, -⟩ := hy
        rw [y, g2] at g3
        cases g3
      · obtain ⟨⟨m1, f1, g1, g2, -⟩, -⟩ := hx
        obtain ⟨⟨m2, f2, g3, g4, -⟩, -⟩ := hy
        rw [y, g1] at g4
        cases g4
  · rw [hf (w.1 20) (by rw [d2]; exact fun z => by cases z) (fun z => ?_) (d4 i hi)]
    · exact d2
    · obtain ⟨⟨m1, f1, g1, g2, -⟩, -⟩ := hx
      rw [← z, d2] at g1
      cases g1
  · obtain ⟨v, z1, z2⟩ := b6 q hq
    exact ⟨v, k _ _ z1 z2.k, z2⟩
theorem XB.lists {Z : Nat → Prop} {G : aw_G} {w : xx_Wd} {h : aw_H} {s : mm_S} {H : sp_H} {u tl te : Nat} {e cap n : Nat → Nat} {x : Nat → Nat → Nat} {K B M : Nat → Nat} (hB : XB Z G w h s H u tl te e cap n x K B M) {i : Nat} (hi : i < 3) : xl_L G h (w.1 (17 + i)) (e i) (cap i) (n i) (x i) := hB.2.2.1 i hi
/-- one list grows -/
theorem XB.add {Z : Nat → Prop} {G : aw_G} {w : xx_Wd} {h h' : aw_H} {s : mm_S} {H : sp_H} {u tl te : Nat} {e cap n : Nat → Nat} {x : Nat → Nat → Nat} {K B M : Nat → Nat} {i n' e' c' : Nat} {x' : Nat → Nat} (hV : xr_W G w) (hB : XB Z G w h s H u tl te e cap n x K B M) (hi : i < 3) (hx' : xl_L G h' (w.1 (17 + i)) e' c' n' x') (g : (e' = e i ∧ 0 < cap i) ∨ h e' = none) (hf : xl_fr h h' (w.1 (17 + i)) (e i) (cap i)) : XB Z G w h' s H u tl te (aw_u e i e') (aw_u cap i c') (aw_u n i n') (aw_u x i x') K B M := by
  have hd2 := hB.2.2.2.2.1.up (c' := c') hi (fun j hj => (hB.lists hj).eL.2.1) g
  obtain ⟨b1, ⟨hcap, m, f, tn, nm, c, mo, D, b2⟩, b3, b4, b5, b6⟩ := hB
  have hx := b3 i hi
  have k := hf.k hx
  obtain ⟨d1, ⟨fk, d2, d3⟩, d4, ⟨nn, mm, fs, d5, d6⟩, d7, d8, d9⟩ := b5
  have ht : tl ≠ w.1 (17 + i) := xb_c3 (P := fun i => tl ≠ w.1 (17 + i)) d8.1 d8.2.1 d8.2.2 i hi
  have htl : h' tl = h tl := hf tl (by rw [d6]; exact fun z => by cases z) ht (fun z => by
    obtain ⟨⟨m1, f1, g1, g2, -⟩, -⟩ := hx
    rw [← z, d6] at g2
    cases g2)
  have hte : h' te = h te := hf te d7 (fun z => by
    obtain ⟨⟨m1, f1, g1, g2, -⟩, -⟩ := hx
    rw [← z, b2.2.2.1] at g1
    cases g1) (d9 i hi)
  have h20 : h' (w.1 20) = h (w.1 20) := hf (w.1 20) (by rw [d2]; exact fun z => by cases z) (fun z => by
    obtain ⟨⟨m1, f1, g1, g2, -⟩, -⟩ := hx
    rw [← z, d2] at g1
    cases g1) (d4 i hi)
  refine ⟨k.XC b1, ⟨hcap, m, f, tn, nm, c, mo, D, k.XHq htl hte b2⟩, fun j hj => ?_, b4.fr k, ?_, fun q hq => ?_⟩
  · by_cases z : j = i
    · subst z
      rw [aw_u_s, aw_u_s, aw_u_s, aw_u_s]
      exact hx'
    · rw [aw_u_n z, aw_u_n z, aw_u_n z, aw_u_n z]
      have hy := b3 j hj
      refine hy.fr (hf _ hy.eL.1 (hV.d hj hi z) (fun y => ?_)) (hf _ hy.eL.2.1 (fun y => ?_) (fun y => d1 i j hi hj (Ne.symm z) y.symm))
      · obtain ⟨⟨m1, f1, g1, g2, -⟩, -⟩ := hx
        obtain ⟨⟨m2, f2, g3, g4, -⟩, -⟩ := hy
        rw [y, g2] at g3
        cases g3
      · obtain ⟨⟨m1, f1, g1, g2, -⟩, -⟩ := hx
        obtain ⟨⟨m2, f2, g3, g4, -⟩, -⟩ := hy
        rw [y, g1] at g4
        cases g4
  · exact hd2.g (S := fun q => q ≠ w.1 20 ∧ q ≠ w.1 16 ∧ q ≠ tl ∧ q ≠ te) (fun q v hq hn => by
      by_cases y1 : q = w.1 20
      · rw [y1, h20, ← y1]; exact hq
      · by_cases y2 : q = w.1 16
        · rw [y2] at hq ⊢
          rw [d5] at hq
          cases hq
          exact k _ _ d5 (xk_o (by decide))
        · by_cases y3 : q = tl
          · rw [y3, htl, ← y3]; exact hq
          · by_cases y4 : q = te
            · rw [y4, hte, ← y4]; exact hq
            · exact absurd ⟨y1, y2, y3, y4⟩ hn) (fun z => z.1 rfl) (fun z => z.2.1 rfl) (fun z => z.2.2.1 rfl) (fun z => z.2.2.2 rfl)
  · obtain ⟨v, z1, z2⟩ := b6 q hq
    exact ⟨v, k _ _ z1 z2.k, z2⟩
/-- the bundle as it is at first -/
theorem XB.of {Z : Nat → Prop} {G : aw_G} {w : xx_Wd} {h : aw_H} {s : mm_S} {H : sp_H} {u : Nat} (hI : xa_I Z G w h s H u) : ∃ tl te e cap K B M, XB Z G w h s H u tl te e cap (xb_3 (mm_n s 48) (mm_n s 49) (mm_n s 64)) (xb_3 K (fun i => K (mm_n s 48 + mm_n s 49 - 1 - i)) M) K B M ∧ XRi s K B M ∧ mm_n s 48 + mm_n s 49 ≤ 40 ∧ mm_n s 64 ≤ 30 := by
  obtain ⟨⟨i1, i2, i3⟩, i4, ⟨tl, te, hcap, m, f, tn, nm, c, mo, D, hq⟩, e, cap, K, B, M, tl2, te2, ⟨l1, l2, l3, l4, l5⟩, hk, hi9, hd⟩ := hI
  obtain ⟨rfl, rfl⟩ : tl2 = tl ∧ te2 = te := by
    obtain ⟨_, _, _, ⟨n, m, fs, d5, d6⟩, _⟩ := hd
    exact hq.te d5 d6
  exact ⟨tl2, te2, e, cap, K, B, M, ⟨i4, ⟨hcap, m, f, tn, nm, c, mo, D, hq⟩, fun i hi => xb_c3 (P := fun i => xl_L G h (w.1 (17 + i)) (e i) (cap i) (xb_3 (mm_n s 48) (mm_n s 49) (mm_n s 64) i) (xb_3 K (fun i => K (mm_n s 48 + mm_n s 49 - 1 - i)) M i)) l1 l2 l3 i hi, hk, hd, fun q hq => (i3 q hq).1⟩, hi9, l4, l5⟩
/-- and at last: the state is another one -/
theorem XB.fin {Z : Nat → Prop} {G : aw_G} {w : xx_Wd} {h : aw_H} {s s2 : mm_S} {H : sp_H} {u tl te : Nat} {e cap n : Nat → Nat} {x : Nat → Nat → Nat} {K B M K2 B2 M2 : Nat → Nat} (hB : XB Z G w h s H u tl te e cap n x K B M) (hW : xx_W G w) (hV : xr_W G w) (hZ : ∀ q, Z q → ∀ c, c < 16 → q ≠ w.1 c) (hX : XC G w h s2)
    (l0 : n 0 = mm_n s2 48 ∧ ∀ k, k < mm_n s2 48 → x 0 k = K2 k) (l1 : n 1 = mm_n s2 49 ∧ ∀ i, i < mm_n s2 49 → x 1 i = K2 (mm_n s2 48 + mm_n s2 49 - 1 - i)) (l2 : n 2 = mm_n s2 64 ∧ ∀ i, i < mm_n s2 64 → x 2 i = M2 i) (l3 : mm_n s2 48 + mm_n s2 49 ≤ 40) (l4 : mm_n s2 64 ≤ 30) (hk : XRk Z G w h s2 K2 B2 M2) (hi : XRi s2 K2 B2 M2) (hb : ∀ i, i < 3 → B2 i = B i) : xa_I Z G w h s2 H u := by
  obtain ⟨b1, ⟨hcap, m, f, tn, nm, c, mo, D, b2⟩, b3, b4, b5, b6⟩ := hB
  refine ⟨⟨hW, hV, fun q hq => ⟨b6 q hq, hZ q hq⟩⟩, hX, ⟨tl, te, hcap, m, f, tn, nm, c, mo, D, b2⟩, e, cap, K2, B2, M2, tl, te, ⟨(b3 0 (by decide)).xe l0.1 (fun i hi => l0.2 i (by rw [← l0.1]; exact hi)), (b3 1 (by decide)).xe l1.1 (fun i hi => l1.2 i (by rw [← l1.1]; exact hi)), (b3 2 (by decide)).xe l2.1 (fun i hi => l2.2 i (by rw [← l2.1]; exact hi)), l3, l4⟩, hk, hi, ?_⟩
  obtain ⟨d1, ⟨fk, d2, d3⟩, d4⟩ := b5
  exact ⟨d1, ⟨fk, d2, fun i hi => by rw [d3 i hi, hb i hi]⟩, d4⟩
