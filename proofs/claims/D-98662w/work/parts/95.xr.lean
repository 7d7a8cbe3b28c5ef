set_option maxRecDepth 100000
/-! THE COMPONENT's LISTS (acts, undone, marks) and boxes -/
def xl_cap (c : Nat) : Prop := c = 0 ∨ c = 10 ∨ c = 15 ∨ c = 22 ∨ c = 33 ∨ c = 49
/-- a list at L with the n elements x; its array e with room for cap -/
def xl_L (G : aw_G) (h : aw_H) (L e cap n : Nat) (x : Nat → Nat) : Prop := (∃ m f, h L = some (jl_o m e n) ∧ h e = some (aw_O G cap f) ∧ ∀ i, i < n → f i = some (x i)) ∧ n ≤ cap ∧ xl_cap cap ∧ (cap = 0 → e = aw_ad G 0) ∧ (0 < cap → aw_b G ≤ e)
theorem xl_L.fr {G : aw_G} {h h' : aw_H} {L e cap n : Nat} {x : Nat → Nat} (hx : xl_L G h L e cap n x) (h1 : h' L = h L) (h2 : h' e = h e) : xl_L G h' L e cap n x := by
  obtain ⟨⟨m, f, g1, g2, g3⟩, g4⟩ := hx
  exact ⟨⟨m, f, h1.trans g1, h2.trans g2, g3⟩, g4⟩
theorem xl_L.xe {G : aw_G} {h : aw_H} {L e cap n n' : Nat} {x z : Nat → Nat} (hx : xl_L G h L e cap n x) (hn : n = n') (hz : ∀ i, i < n → x i = z i) : xl_L G h L e cap n' z := by
  subst hn
  obtain ⟨⟨m, f, g1, g2, g3⟩, g4⟩ := hx
  exact ⟨⟨m, f, g1, g2, fun i hi => by rw [g3 i hi, hz i hi]⟩, g4⟩
theorem xl_L.c49 {G : aw_G} {h : aw_H} {L e cap n : Nat} {x : Nat → Nat} (hx : xl_L G h L e cap n x) : cap ≤ 49 := by
  obtain ⟨_, _, z, _⟩ := hx
  unfold xl_cap at z
  omega
theorem xl_L.eL {G : aw_G} {h : aw_H} {L e cap n : Nat} {x : Nat → Nat} (hx : xl_L G h L e cap n x) : h L ≠ none ∧ h e ≠ none ∧ e ≠ L := by
  obtain ⟨⟨m, f, g1, g2, -⟩, -⟩ := hx
  exact ⟨fun z => (by rw [z] at g1; cases g1), fun z => (by rw [z] at g2; cases g2), fun z => (by rw [z, g1] at g2; cases g2)⟩
/-- what a list's call leaves alone -/
def xl_fr (h h' : aw_H) (L e cap : Nat) : Prop := ∀ q, h q ≠ none → q ≠ L → (q = e → cap = 0) → h' q = h q
theorem xl_size {G : aw_G} {h : aw_H} {L e cap n : Nat} {x : Nat → Nat} (hx : xl_L G h L e cap n x) : aw_Met G yJ2_size cJ2_size 1 (some .int) 0 0 0 [.ref L] h (fun v9 h9 => v9 = some (.int (nI n)) ∧ h9 = h) := by
  obtain ⟨⟨m, f, g1, g2, g3⟩, g4⟩ := hx
  exact jl_size g1
theorem xl_isE {G : aw_G} {h : aw_H} {L e cap n : Nat} {x : Nat → Nat} (hx : xl_L G h L e cap n x) : aw_Met G yJ2_isEmpty cJ2_isEmpty 1 (some .boolean) 0 0 0 [.ref L] h (fun v9 h9 => v9 = some (.int (nI (aw_t (n = 0)))) ∧ h9 = h) := by
  have := hx.c49
  obtain ⟨⟨m, f, g1, g2, g3⟩, g4⟩ := hx
  exact jl_isE g1 (by omega)
theorem xl_get {G : aw_G} {h : aw_H} {L e cap n i : Nat} {x : Nat → Nat} (hx : xl_L G h L e cap n x) (hi : i < n) : aw_Met G yJ2_get cJ2_get 2 (some (.object "java/lang/Object")) 2 0 0 [.ref L, .int (nI i)] h (fun v9 h9 => v9 = some (.ref (x i)) ∧ h9 = h) := by
  have := hx.c49
  obtain ⟨⟨m, f, g1, g2, g3⟩, g4, -⟩ := hx
  exact jl_get g1 g2 hi g4 (by omega) (g3 i hi)
theorem xl_add {G : aw_G} {h : aw_H} {L e cap n v ci N0 : Nat} {x : Nat → Nat} {fs : List Value} {C : String} {T : u_T} (hLb : aw_b G ≤ L) (hx : xl_L G h L e cap n x) (hn : n < 49) (hel : ∀ i, i < n → aw_isO h (x i)) (hvb : aw_b G ≤ v) (hv : h v = some (aw_o ci fs)) (h14 : ci ≠ 14) (hci : aw_cl[ci]? = some (C, T, N0)) (hcs : (C, "java/lang/Object") ∈ aw_cs) : aw_Met G yJ2_add cJ2_add 2 (some .boolean) 7 1 64 [.ref L, .ref v] h (fun v9 h9 => v9 = some (.int (nI 1)) ∧ ∃ e' cap', xl_L G h9 L e' cap' (n + 1) (aw_u x n v) ∧ ((e' = e ∧ 0 < cap) ∨ h e' = none) ∧ 0 < cap' ∧ xl_fr h h9 L e cap) := by
  obtain ⟨⟨m, f, h1, h2, h3⟩, h4, h5, h6, h7⟩ := hx
  have h49 : cap ≤ 49 := by unfold xl_cap at h5; omega
  have hc : n < cap ∨ cap ≤ 33 := by unfold xl_cap at h5; omega
  refine aw_Met.imp (jl_add hLb h1 h2 h4 h49 hc h6 h7 (fun i hi q hq => by rw [h3 i hi] at hq; cases hq; exact hel i hi) hvb (fun z => by rw [z, h1] at hv; cases hv; exact h14 rfl) hv hci hcs) (fun v9 h9 z => ?_)
  obtain ⟨z1, m', e', cap', f', g1, g2, g3, g4, g5, g6, g7, g8, g9⟩ := z
  refine ⟨z1, e', cap', ⟨⟨m', f', g1, g2, fun i hi => ?_⟩, g3, ?_, fun z => by omega, fun _ => g5⟩, ?_, by omega, g9⟩
  · by_cases z : i = n
    · rw [z, aw_u_s]
      exact g7
    · rw [aw_u_n z, g8 i (by omega)]
      exact h3 i (by omega)
  · obtain ⟨g40, g41⟩ := g4
    rcases g41 with z | z
    · rw [z]; exact h5
    · subst z
      unfold xl_cap at h5 ⊢
      unfold jl_nx at g40 ⊢
      rcases h5 with rfl | rfl | rfl | rfl | rfl | rfl
      all_goals first
        | decide
        | exact absurd g40 (by decide)
  · rcases g6 with z | z
    · refine Or.inl ⟨z, Nat.pos_of_ne_zero (fun c0 => ?_)⟩
      subst z
      rw [g9 e' (by rw [h2]; exact fun z => by cases z) (fun y => by rw [y, h1] at h2; cases h2) (fun _ => c0), h2] at g2
      injection g2 with g2; injection g2 with g2; injection g2 with _ g2; injection g2 with g2 _
      omega
    · exact Or.inr z
theorem xl_clear {G : aw_G} {h : aw_H} {L e cap n : Nat} {x : Nat → Nat} (z : Nat → Nat) (hLb : aw_b G ≤ L) (hx : xl_L G h L e cap n x) : aw_Met G yJ2_clear cJ2_clear 4 none 0 0 0 [.ref L] h (fun v9 h9 => v9 = none ∧ xl_L G h9 L e cap 0 z ∧ xl_fr h h9 L e cap) := by
  have h49 := hx.c49
  obtain ⟨⟨m, f, h1, h2, h3⟩, h4, h5, h6, h7⟩ := hx
  refine aw_Met.imp (jl_clear hLb h1 h2 h4 (by omega) h7) (fun v9 h9 q => ?_)
  obtain ⟨q1, ⟨m', f', q2, q3⟩, q4⟩ := q
  exact ⟨q1, ⟨⟨m', f', q2, q3, fun i hi => absurd hi (Nat.not_lt_zero _)⟩, Nat.zero_le _, h5, h6, h7⟩, fun a _ z2 z3 => q4 a z2 z3⟩
theorem xl_rem {G : aw_G} {h : aw_H} {L e cap n i : Nat} {x : Nat → Nat} (hLb : aw_b G ≤ L) (hx : xl_L G h L e cap (n + 1) x) (hi : i ≤ n) (hel : ∀ i, i < n + 1 → aw_isO h (x i)) : aw_Met G yJ2_remove cJ2_remove 4 (some (.object "java/lang/Object")) 2 0 0 [.ref L, .int (nI i)] h (fun v9 h9 => v9 = some (.ref (x i)) ∧ xl_L G h9 L e cap n (fun j => if j < i then x j else x (j + 1)) ∧ xl_fr h h9 L e cap) := by
  have h49 := hx.c49
  obtain ⟨⟨m, f, h1, h2, h3⟩, h4, h5, h6, h7⟩ := hx
  refine aw_Met.imp (jl_rem hLb h1 h2 h4 (by omega) (h7 (by omega)) hi (h3 i (by omega)) (fun i hi q hq => by rw [h3 i hi] at hq; cases hq; exact hel i hi)) (fun v9 h9 q => ?_)
  obtain ⟨q1, ⟨m', f', q2, q3, q4⟩, q5⟩ := q
  refine ⟨q1, ⟨⟨m', f', q2, q3, fun j hj => ?_⟩, by omega, h5, h6, h7⟩, fun a _ z2 z3 => q5 a z2 (fun z => by have := z3 z; omega)⟩
  rw [q4 j hj]
  show _ = some (if j < i then x j else x (j + 1))
  split
  · exact h3 j (by omega)
  · exact h3 (j + 1) (by omega)
/-- cells that no list's call changes -/
def xk_n (v : va_E) : Prop := (∃ ci fs, v = aw_o ci fs ∧ ci ≠ 14) ∨ (∃ c n f, v = .inl (c, n, .inl f)) ∨ ∃ c n f, v = .inl (c, n, .inr (.inl f))
def xk_fr (h h' : aw_H) : Prop := ∀ q v, h q = some v → xk_n v → h' q = some v
theorem xk_fr.rf {h : aw_H} : xk_fr h h := fun _ _ z _ => z
theorem xk_fr.tr {h h' h2 : aw_H} (a : xk_fr h h') (b : xk_fr h' h2) : xk_fr h h2 := fun q v z k => b q v (a q v z k) k
theorem xk_fr.new {h : aw_H} {a : Nat} {e : va_E} (ha : h a = none) : xk_fr h (aw_up h a e) := fun q v z _ => (aw_up_n (aw_ne ha z)).trans z
theorem xk_o {ci : Nat} {fs : List Value} (h : ci ≠ 14) : xk_n (aw_o ci fs) := Or.inl ⟨_, _, rfl, h⟩
theorem xk_I {G : aw_G} {n : Nat} {f : Nat → Int32} : xk_n (aw_I G n f) := Or.inr (Or.inl ⟨_, _, _, rfl⟩)
theorem xl_fr.k {G : aw_G} {h h' : aw_H} {L e cap n : Nat} {x : Nat → Nat} (hf : xl_fr h h' L e cap) (hx : xl_L G h L e cap n x) : xk_fr h h' := by
  obtain ⟨⟨m, f, g1, g2, -⟩, -⟩ := hx
  intro q v hq hv
  have n1 : q ≠ L := fun z => by
    rw [z, g1] at hq
    rcases hv with ⟨ci, fs, e, n⟩ | ⟨_, _, _, e⟩ | ⟨_, _, _, e⟩
    · rw [e] at hq; cases hq; exact n rfl
    · rw [e] at hq; cases hq
    · rw [e] at hq; cases hq
  have n2 : q ≠ e := fun z => by
    rw [z, g2] at hq
    rcases hv with ⟨ci, fs, e, n⟩ | ⟨_, _, _, e⟩ | ⟨_, _, _, e⟩
    · rw [e] at hq; cases hq
    · rw [e] at hq; injection hq with hq; injection hq with hq; injection hq with _ hq; injection hq with _ hq; cases hq
    · rw [e] at hq; injection hq with hq; injection hq with hq; injection hq with _ hq; injection hq with _ hq; injection hq with hq; cases hq
  rw [hf q (by rw [hq]; exact fun z => by cases z) n1 (fun z => absurd z n2), hq]
theorem xk_fr.XC {G : aw_G} {w : xx_Wd} {h h' : aw_H} {s : mm_S} (hf : xk_fr h h') (hX : XC G w h s) : XC G w h' s := by
  have k : ∀ c, c < 16 → xk_n (xx_cell G w s c) := by
    apply xx_16
    all_goals first
      | exact Or.inl ⟨_, _, rfl, by decide⟩
      | exact Or.inr (Or.inl ⟨_, _, _, rfl⟩)
  obtain ⟨f, hf2⟩ := hX.2
  exact ⟨fun c hc => hf _ _ (hX.1 c hc) (k c (by omega)), f, hf _ _ hf2 xk_I⟩
theorem xk_fr.pI {h h' : aw_H} (hf : xk_fr h h') {c : Option Nat} {F : List (Nat × Nat)} (hP : xx_P h c F) : xx_P h' c F := by
  rcases hP with z | ⟨p, e, n, z⟩
  · exact Or.inl z
  · exact Or.inr ⟨p, e, n, xp_is.mv (fun q ci fs hc hq => hf q _ hq (xk_o (by omega))) _ _ _ z⟩
theorem xk_fr.XHq {G : aw_G} {w : xx_Wd} {h h' : aw_H} {H : sp_H} {u tl te cap : Nat} {m : Int32} {f : Nat → Option Nat} {tn : Nat → Nat} {nm : Nat → Int64} {c mo : Option Nat} {D : Nat → Int32} (hf : xk_fr h h') (h1 : h' tl = h tl) (h2 : h' te = h te) (hH : XHq G w h H u tl te cap m f tn nm c mo D) : XHq G w h' H u tl te cap m f tn nm c mo D := by
  obtain ⟨g1, g2, g3, g4, g5, g6, g7, g8⟩ := hH
  exact ⟨hf _ _ g1 (xk_o (by decide)), h1.trans g2, h2.trans g3, g4, g5, fun t ht => ⟨(g6 t ht).1, hf _ _ (g6 t ht).2 (xk_o (by decide))⟩, hf.pI g7, hf.pI g8⟩
/-- outside of what changes, and of a foreign region Z -/
def xo_out (Z : Nat → Prop) (w : xx_Wd) (q : Nat) : Prop := ¬ Z q ∧ ∀ c, c < 16 → q ≠ w.1 c
/-- a State kept at a -/
def xo_S (Z : Nat → Prop) (G : aw_G) (w : xx_Wd) (h : aw_H) (a : Nat) (A : Nat → Nat) : Prop := ∃ a1 a2 a3, xx_Sh G h a a1 a2 a3 A ∧ (xo_out Z w a ∧ xo_out Z w a1 ∧ xo_out Z w a2 ∧ xo_out Z w a3) ∧ aw_b G ≤ a1 ∧ aw_b G ≤ a2 ∧ aw_b G ≤ a3
/-- what may not change outside of the changing cells -/
def xr_im (v : va_E) : Prop := (∃ ci fs, v = aw_o ci fs ∧ ci ≠ 4 ∧ ci ≠ 12 ∧ ci ≠ 13 ∧ ci ≠ 14) ∨ (∃ c n f, v = .inl (c, n, .inl f)) ∨ ∃ c n f, v = .inl (c, n, .inr (.inl f))
def xr_fr (w : xx_Wd) (h h' : aw_H) : Prop := ∀ q v, h q = some v → xr_im v → (∀ c, c < 16 → q ≠ w.1 c) → h' q = some v
theorem xr_fr.rf {w : xx_Wd} {h : aw_H} : xr_fr w h h := fun _ _ z _ _ => z
theorem xr_fr.tr {w : xx_Wd} {h h' h2 : aw_H} (a : xr_fr w h h') (b : xr_fr w h' h2) : xr_fr w h h2 := fun q v z k o => b q v (a q v z k o) k o
theorem xr_im.k {v : va_E} (h : xr_im v) : xk_n v := by
  rcases h with ⟨ci, fs, e, _, _, _, n⟩ | z | z
  · exact Or.inl ⟨ci, fs, e, n⟩
  · exact Or.inr (Or.inl z)
  · exact Or.inr (Or.inr z)
theorem xk_fr.r {w : xx_Wd} {h h' : aw_H} (hf : xk_fr h h') : xr_fr w h h' := fun q v z k _ => hf q v z k.k
theorem xx_same.r {w : xx_Wd} {h h' : aw_H} (hs : xx_same w h h') : xr_fr w h h' := fun q v z _ o => (hs q (by rw [z]; exact fun z => by cases z) o).trans z
theorem xr_I {G : aw_G} {n : Nat} {f : Nat → Int32} : xr_im (aw_I G n f) := Or.inr (Or.inl ⟨_, _, _, rfl⟩)
theorem xo_S.fr {Z : Nat → Prop} {G : aw_G} {w : xx_Wd} {h h' : aw_H} {a : Nat} {A : Nat → Nat} (hf : xr_fr w h h') (hS : xo_S Z G w h a A) : xo_S Z G w h' a A := by
  obtain ⟨a1, a2, a3, ⟨s0, s1, s2, s3⟩, ⟨o0, o1, o2, o3⟩, hb⟩ := hS
  exact ⟨a1, a2, a3, ⟨hf _ _ s0 (Or.inl ⟨_, _, rfl, by decide⟩) o0.2, hf _ _ s1 xr_I o1.2, hf _ _ s2 xr_I o2.2, hf _ _ s3 xr_I o3.2⟩, ⟨o0, o1, o2, o3⟩, hb⟩
theorem xo_S.ext {Z : Nat → Prop} {G : aw_G} {w : xx_Wd} {h : aw_H} {a : Nat} {A B : Nat → Nat} (hS : xo_S Z G w h a A) (e : ∀ j, j < 28 → A j = B j) : xo_S Z G w h a B := by
  obtain ⟨a1, a2, a3, ⟨s0, s1, s2, s3⟩, o⟩ := hS
  refine ⟨a1, a2, a3, ⟨?_, ?_, ?_, ?_⟩, o⟩
  · rw [s0, e 24 (by decide), e 25 (by decide), e 26 (by decide), e 27 (by decide)]
  · rw [s1, xx_a8c (fun j hj => e _ (by omega))]
  · rw [s2, xx_a8c (fun j hj => e _ (by omega))]
  · rw [s3, xx_a8c (fun j hj => e _ (by omega))]
/-- a mark -/
def xm_at (w : xx_Wd) (s : mm_S) (i : Nat) : va_E := aw_o (12 + mm_a s 59 i) [.int (nI (mm_a s 61 i)), .int (nI (mm_a s 63 i)), .int (mm_v s 62 i), .ref (w.1 0), .int (nI (mm_a s 60 i)), .ref (w.1 0)]
/-- the lists -/
def XRl (G : aw_G) (w : xx_Wd) (h : aw_H) (s : mm_S) (e cap K M : Nat → Nat) : Prop := xl_L G h (w.1 17) (e 0) (cap 0) (mm_n s 48) K ∧ xl_L G h (w.1 18) (e 1) (cap 1) (mm_n s 49) (fun i => K (mm_n s 48 + mm_n s 49 - 1 - i)) ∧ xl_L G h (w.1 19) (e 2) (cap 2) (mm_n s 64) M ∧ mm_n s 48 + mm_n s 49 ≤ 40 ∧ mm_n s 64 ≤ 30
/-- what they hold, and the boxes' -/
def XRk (Z : Nat → Prop) (G : aw_G) (w : xx_Wd) (h : aw_H) (s : mm_S) (K B M : Nat → Nat) : Prop := (∀ k, k < mm_n s 48 + mm_n s 49 → aw_b G ≤ K k ∧ ∃ a, h (K k) = some (aw_o 4 [.ref a]) ∧ xo_S Z G w h a (fun j => mm_a s 47 (28 * k + j))) ∧ (∀ i, i < 3 → aw_b G ≤ B i ∧ ∃ c, h (B i) = some (aw_o 4 [va_rf c]) ∧ ((mm_a s 67 i = 0 ∧ c = none) ∨ (mm_a s 67 i = 1 ∧ ∃ a, c = some a ∧ xo_S Z G w h a (fun j => mm_a s 68 (28 * i + j))))) ∧ ∀ i, i < mm_n s 64 → aw_b G ≤ M i ∧ mm_a s 59 i ≤ 1 ∧ h (M i) = some (xm_at w s i)
/-- all are apart -/
def XRi (s : mm_S) (K B M : Nat → Nat) : Prop := (∀ k l, k < mm_n s 48 + mm_n s 49 → l < mm_n s 48 + mm_n s 49 → K k = K l → k = l) ∧ (∀ i j, i < 3 → j < 3 → B i = B j → i = j) ∧ (∀ k i, k < mm_n s 48 + mm_n s 49 → i < 3 → K k ≠ B i) ∧ ∀ i j, i < mm_n s 64 → j < mm_n s 64 → M i = M j → i = j
/-- the lists' arrays are apart, also from the house's -/
def XRd (G : aw_G) (w : xx_Wd) (h : aw_H) (e cap B : Nat → Nat) (tl te : Nat) : Prop := (∀ i j, i < 3 → j < 3 → i ≠ j → e i = e j → cap i = 0) ∧ (∃ f, h (w.1 20) = some (aw_Kp G 3 f) ∧ ∀ i, i < 3 → f i = some (B i)) ∧ (∀ i, i < 3 → w.1 20 = e i → cap i = 0) ∧ (∃ n m fs, h (w.1 16) = some (aw_o 1 (.ref tl :: fs)) ∧ h tl = some (jl_o m te n)) ∧ h te ≠ none ∧ (tl ≠ w.1 17 ∧ tl ≠ w.1 18 ∧ tl ≠ w.1 19) ∧ ∀ i, i < 3 → te = e i → cap i = 0
def XR (Z : Nat → Prop) (G : aw_G) (w : xx_Wd) (h : aw_H) (s : mm_S) : Prop := ∃ e cap K B M tl te, XRl G w h s e cap K M ∧ XRk Z G w h s K B M ∧ XRi s K B M ∧ XRd G w h e cap B tl te
def xr_W (G : aw_G) (w : xx_Wd) : Prop := (aw_b G ≤ w.1 17 ∧ aw_b G ≤ w.1 18 ∧ aw_b G ≤ w.1 19) ∧ w.1 17 ≠ w.1 18 ∧ w.1 17 ≠ w.1 19 ∧ w.1 18 ≠ w.1 19
/-- the parts of the state that XR speaks of -/
def xr_eq (s t : mm_S) : Prop := mm_n s 48 = mm_n t 48 ∧ mm_n s 49 = mm_n t 49 ∧ mm_n s 64 = mm_n t 64 ∧ mm_a s 47 = mm_a t 47 ∧ mm_a s 59 = mm_a t 59 ∧ mm_a s 60 = mm_a t 60 ∧ mm_a s 61 = mm_a t 61 ∧ mm_a s 63 = mm_a t 63 ∧ mm_a s 67 = mm_a t 67 ∧ mm_a s 68 = mm_a t 68 ∧ mm_v s 62 = mm_v t 62
theorem xr_eq.rf {s : mm_S} : xr_eq s s := ⟨rfl, rfl, rfl, rfl, rfl, rfl, rfl, rfl, rfl, rfl, rfl⟩
theorem xr_eq.tr {s t u : mm_S} (a : xr_eq s t) (b : xr_eq t u) : xr_eq s u := by
  obtain ⟨a1, a2, a3, a4, a5, a6, a7, a8, a9, a10, a11⟩ := a
  obtain ⟨b1, b2, b3, b4, b5, b6, b7, b8, b9, b10, b11⟩ := b
  exact ⟨a1.trans b1, a2.trans b2, a3.trans b3, a4.trans b4, a5.trans b5, a6.trans b6, a7.trans b7, a8.trans b8, a9.trans b9, a10.trans b10, a11.trans b11⟩
theorem mm_core.r {s t : mm_S} (h : mm_core s t) : xr_eq s t := ⟨h.1 48 rfl, h.1 49 rfl, h.1 64 rfl, h.2.2.1 47 rfl, h.2.2.1 59 rfl, h.2.2.1 60 rfl, h.2.2.1 61 rfl, h.2.2.1 63 rfl, h.2.2.1 67 rfl, h.2.2.1 68 rfl, h.2.2.2 62 rfl⟩
theorem XR.cg {Z : Nat → Prop} {G : aw_G} {w : xx_Wd} {h : aw_H} {s t : mm_S} (e : xr_eq s t) (hR : XR Z G w h s) : XR Z G w h t := by
  obtain ⟨e1, e2, e3, e4, e5, e6, e7, e8, e9, e10, e11⟩ := e
  obtain ⟨e, cap, K, B, M, tl, te, h1, h2, h3, h4⟩ := hR
  refine ⟨e, cap, K, B, M, tl, te, ?_, ?_, ?_, h4⟩
  · unfold XRl at h1 ⊢
    rw [← e1, ← e2, ← e3]
    exact h1
  · unfold XRk xm_at at h2 ⊢
    rw [← e1, ← e2, ← e3, ← e4, ← e5, ← e6, ← e7, ← e8, ← e9, ← e10, ← e11]
    exact h2
  · unfold XRi at h3 ⊢
    rw [← e1, ← e2, ← e3]
    exact h3
theorem xl_L.mv {G : aw_G} {w : xx_Wd} {h0 h : aw_H} {s : mm_S} {L e cap n : Nat} {x : Nat → Nat} (hs : xx_same w h0 h) (hX : XC G w h0 s) (hx : xl_L G h0 L e cap n x) : xl_L G h L e cap n x := by
  obtain ⟨⟨m, f, g1, g2, g3⟩, g4⟩ := hx
  exact ⟨⟨m, f, hs.ob hX g1 (by decide) (by decide) (by decide), hs.ar hX g2, g3⟩, g4⟩
theorem XC.neK {G : aw_G} {w : xx_Wd} {h : aw_H} {s : mm_S} {q n : Nat} {f : Nat → Option Nat} (hX : XC G w h s) (hq : h q = some (aw_Kp G n f)) : ∀ c, c < 16 → q ≠ w.1 c := by
  have k : ∀ c, c < 16 → xx_cell G w s c ≠ aw_Kp G n f := by
    apply xx_16
    all_goals
      intro z
      first
        | cases z
        | (injection z with z; injection z with z1 z2; injection z2 with z3 z4; cases z4)
  intro c hc z
  by_cases h15 : c = 15
  · obtain ⟨f2, hf⟩ := hX.2
    rw [← h15, ← z, hq] at hf
    injection hf with hf; injection hf with hf; injection hf with z1 z2; injection z2 with z3 z4; cases z4
  have := hX.1 c (by omega)
  rw [← z, hq] at this
  exact k c hc (Option.some.inj this).symm
theorem xx_same.kp {G : aw_G} {w : xx_Wd} {h0 h : aw_H} {s : mm_S} {q n : Nat} {f : Nat → Option Nat} (hs : xx_same w h0 h) (hX : XC G w h0 s) (hq : h0 q = some (aw_Kp G n f)) : h q = some (aw_Kp G n f) := (hs q (by rw [hq]; exact fun z => by cases z) (hX.neK hq)).trans hq
theorem XHq.te {G : aw_G} {w : xx_Wd} {h : aw_H} {H : sp_H} {u tl te cap tl2 te2 n2 : Nat} {m m2 : Int32} {f : Nat → Option Nat} {tn : Nat → Nat} {nm : Nat → Int64} {c mo : Option Nat} {D : Nat → Int32} {fs : List Value} (hH : XHq G w h H u tl te cap m f tn nm c mo D) (h1 : h (w.1 16) = some (aw_o 1 (.ref tl2 :: fs))) (h2 : h tl2 = some (jl_o m2 te2 n2)) : tl2 = tl ∧ te2 = te := by
  have e1 : tl2 = tl := by
    have z := hH.1
    rw [h1] at z
    injection z with z; injection z with z; injection z with z1 z2; injection z2 with z3 z4; injection z3
  subst e1
  have z := hH.2.1
  rw [h2] at z
  injection z with z; injection z with z; injection z with z1 z2; injection z2 with z3 z4; injection z4 with z5 z6; injection z5 with z7
  exact ⟨rfl, z7⟩
/-- behind a call that changes the changing cells alone -/
theorem XR.mv {Z : Nat → Prop} {G : aw_G} {w : xx_Wd} {h0 h : aw_H} {s s0 : mm_S} {H : sp_H} {u : Nat} (hs : xx_same w h0 h) (hX : XC G w h0 s0) (hH : XHs G w h0 H u) (hR : XR Z G w h0 s) : XR Z G w h s := by
  obtain ⟨e, cap, K, B, M, tl, te, ⟨l1, l2, l3, l4⟩, ⟨k1, k2, k3⟩, h3, d1, ⟨f, d2, d3⟩, d4, ⟨n, m, fs, d5, d6⟩, d7, d8⟩ := hR
  have dte : h te ≠ none := by
    obtain ⟨tl', te', cap', m', f', tn, nm, c, mo, D, hq⟩ := hH
    obtain ⟨e1, e2⟩ := hq.te d5 d6
    rw [e2, hs.ar hX hq.2.2.1]
    exact fun z => by cases z
  refine ⟨e, cap, K, B, M, tl, te, ⟨l1.mv hs hX, l2.mv hs hX, l3.mv hs hX, l4⟩, ⟨fun k hk => ?_, fun i hi => ?_, fun i hi => ?_⟩, h3, d1, ⟨f, hs.kp hX d2, d3⟩, d4, ⟨n, m, fs, hs.ob hX d5 (by decide) (by decide) (by decide), hs.ob hX d6 (by decide) (by decide) (by decide)⟩, dte, d8⟩
  · obtain ⟨b, a, g1, g2⟩ := k1 k hk
    exact ⟨b, a, hs.ob hX g1 (by decide) (by decide) (by decide), g2.fr hs.r⟩
  · obtain ⟨b, c, g1, g2⟩ := k2 i hi
    refine ⟨b, c, hs.ob hX g1 (by decide) (by decide) (by decide), ?_⟩
    rcases g2 with z | ⟨z, a, z2, z3⟩
    · exact Or.inl z
    · exact Or.inr ⟨z, a, z2, z3.fr hs.r⟩
  · obtain ⟨b, g1, g2⟩ := k3 i hi
    exact ⟨b, g1, hs.ob hX g2 (by omega) (by omega) (by omega)⟩
/-- what the lists hold, behind a list's call -/
theorem XRk.fr {Z : Nat → Prop} {G : aw_G} {w : xx_Wd} {h h' : aw_H} {s : mm_S} {K B M : Nat → Nat} (hf : xk_fr h h') (hR : XRk Z G w h s K B M) : XRk Z G w h' s K B M := by
  obtain ⟨k1, k2, k3⟩ := hR
  refine ⟨fun k hk => ?_, fun i hi => ?_, fun i hi => ?_⟩
  · obtain ⟨b, a, g1, g2⟩ := k1 k hk
    exact ⟨b, a, hf _ _ g1 (xk_o (by decide)), g2.fr hf.r⟩
  · obtain ⟨b, c, g1, g2⟩ := k2 i hi
    refine ⟨b, c, hf _ _ g1 (xk_o (by decide)), ?_⟩
    rcases g2 with z | ⟨z, a, z2, z3⟩
    · exact Or.inl z
    · exact Or.inr ⟨z, a, z2, z3.fr hf.r⟩
  · obtain ⟨b, g1, g2⟩ := k3 i hi
    exact ⟨b, g1, hf _ _ g2 (xk_o (by omega))⟩
/-- ALL OF THE COMPONENT, in the state s with the house H; Z: a foreign region -/
def xa_I (Z : Nat → Prop) (G : aw_G) (w : xx_Wd) (h : aw_H) (s : mm_S) (H : sp_H) (u : Nat) : Prop := (xx_W G w ∧ xr_W G w ∧ ∀ q, Z q → (∃ v, h q = some v ∧ xr_im v) ∧ ∀ c, c < 16 → q ≠ w.1 c) ∧ XC G w h s ∧ XHs G w h H u ∧ XR Z G w h s
def xa_Po (Z : Nat → Prop) (G : aw_G) (w : xx_Wd) (h : aw_H) (H : sp_H) (u : Nat) (r : Option Value) (s2 : mm_S) : Option Value → aw_H → Prop := fun v9 h9 => v9 = r ∧ ∃ s3, mm_core s2 s3 ∧ xa_I Z G w h9 s3 H u ∧ xr_fr w h h9
/-- A PUBLIC CALL's CONTRACT -/
def xa_Met (y : MethodName) (cc : ByteArray) (nL : Nat) (ret : Option FieldType) (f mc ms : Nat) (args : xx_Wd → List Value) (s : mm_S) (H : sp_H) (u : Nat) (r : Option Value) (s2 : mm_S) : Prop := ∀ (Z : Nat → Prop) (G : aw_G) (w : xx_Wd) (h : aw_H), xa_I Z G w h s H u → aw_Met G y cc nL ret f mc ms (args w) h (xa_Po Z G w h H u r s2)
theorem xa_Met.of {y : MethodName} {cc : ByteArray} {nL : Nat} {ret : Option FieldType} {f mc ms : Nat} {args : xx_Wd → List Value} {s : mm_S} {H : sp_H} {u : Nat} {r : Option Value} {s2 : mm_S} (hy : plainName y.cls = true) (hl : ∀ w, (lg_sl (args w)).length ≤ nL) (k : ∀ (Z : Nat → Prop) (G : aw_G) (w : xx_Wd) (h : aw_H), xa_I Z G w h s H u → AW G (aw_rm f mc ms) y cc nL ret (aw_N G (xa_Po Z G w h H u r s2) mc ms) mc ms h 0 (lv_args 0 (args w)) []) : xa_Met y cc nL ret f mc ms args s H u r s2 := fun Z G w h hI => aw_Met.of hy (hl w) (k Z G w h hI)
theorem xa_I.mv {Z : Nat → Prop} {G : aw_G} {w : xx_Wd} {h0 h : aw_H} {s s2 : mm_S} {H : sp_H} {u : Nat} (hI : xa_I Z G w h0 s H u) (hs : xx_same w h0 h) (hX : XC G w h s2) (e : xr_eq s s2) : xa_I Z G w h s2 H u := by
  obtain ⟨⟨w1, w2, w3⟩, i1, i2, i3⟩ := hI
  refine ⟨⟨w1, w2, fun q hq => ?_⟩, hX, i2.mv hs i1, (i3.mv hs i1 i2).cg e⟩
  obtain ⟨⟨v, g1, g2⟩, g3⟩ := w3 q hq
  exact ⟨⟨v, hs.r q v g1 g2 g3, g2⟩, g3⟩
/-- a call that doesn't touch the lists -/
theorem xx_Op.a {y : MethodName} {cc : ByteArray} {nL : Nat} {ret : Option FieldType} {f mc ms : Nat} {args : xx_Wd → List Value} {s : mm_S} {H : sp_H} {u : Nat} {r : Option Value} {s2 : mm_S} (hO : xx_Op y cc nL ret f mc ms args s H u r s2) (e : xr_eq s s2) : xa_Met y cc nL ret f mc ms args s H u r s2 := by
  intro Z G w h hI
  refine aw_Met.imp (hO G w h hI.1.1 hI.2.1 hI.2.2.1) (fun v9 h9 z => ?_)
  obtain ⟨z1, s3, z2, z3, z4⟩ := z
  exact ⟨z1, s3, z2, hI.mv z4 z3 (e.tr z2.r), z4.r⟩
/-- what is there and doesn't lie in S stays -/
def xg_f (S : Nat → Prop) (h h' : aw_H) : Prop := ∀ q v, h q = some v → ¬ S q → h' q = some v
theorem xg_f.tr {S : Nat → Prop} {h h' h2 : aw_H} (a : xg_f S h h') (b : xg_f S h' h2) : xg_f S h h2 := fun q v z n => b q v (a q v z n) n
theorem xg_f.new {S : Nat → Prop} {h : aw_H} {a : Nat} {e : va_E} (ha : h a = none) : xg_f S h (aw_up h a e) := fun q v z _ => (aw_up_n (aw_ne ha z)).trans z
theorem xl_fr.g {S : Nat → Prop} {h h' : aw_H} {L e cap : Nat} (hf : xl_fr h h' L e cap) (h1 : S L) (h2 : cap ≠ 0 → S e) : xg_f S h h' := fun q v hq hn => by
  rw [hf q (by rw [hq]; exact fun z => by cases z) (fun z => hn (by rw [z]; exact h1)) (fun z => Decidable.byContradiction (fun k => hn (by rw [z]; exact h2 k)))]
  exact hq
theorem xl_L.g {S : Nat → Prop} {G : aw_G} {h h' : aw_H} {L e cap n : Nat} {x : Nat → Nat} (hf : xg_f S h h') (hx : xl_L G h L e cap n x) (h1 : ¬ S L) (h2 : ¬ S e) : xl_L G h' L e cap n x := by
  obtain ⟨⟨m, f, g1, g2, g3⟩, g4⟩ := hx
  exact ⟨⟨m, f, hf _ _ g1 h1, hf _ _ g2 h2, g3⟩, g4⟩
theorem XRd.g {S : Nat → Prop} {G : aw_G} {w : xx_Wd} {h h' : aw_H} {e cap B : Nat → Nat} {tl te : Nat} (hf : xg_f S h h') (hd : XRd G w h e cap B tl te) (h1 : ¬ S (w.1 20)) (h2 : ¬ S (w.1 16)) (h3 : ¬ S tl) (h4 : ¬ S te) : XRd G w h' e cap B tl te := by
  obtain ⟨d1, ⟨f, d2, d3⟩, d4, ⟨n, m, fs, d5, d6⟩, d7, d8⟩ := hd
  refine ⟨d1, ⟨f, hf _ _ d2 h1, d3⟩, d4, ⟨n, m, fs, hf _ _ d5 h2, hf _ _ d6 h3⟩, ?_, d8⟩
  cases z : h te with
  | none => exact absurd z d7
  | some v => rw [hf te v z h4]; exact fun z => by cases z
/-- a list's array may be another one -/
theorem XRd.up {G : aw_G} {w : xx_Wd} {h : aw_H} {e cap B : Nat → Nat} {tl te k e' c' : Nat} (hd : XRd G w h e cap B tl te) (hk : k < 3) (ex : ∀ j, j < 3 → h (e j) ≠ none) (g : (e' = e k ∧ 0 < cap k) ∨ h e' = none) : XRd G w h (aw_u e k e') (aw_u cap k c') B tl te := by
  obtain ⟨d1, ⟨f, d2, d3⟩, d4, ⟨n, m, fs, d5, d6⟩, d7, d8, d9⟩ := hd
  have dist : ∀ q, h q ≠ none → (q = e k → cap k = 0) → q ≠ e' := by
    intro q z1 z2 z3
    rcases g with ⟨y1, y2⟩ | y
    · have := z2 (z3.trans y1)
      omega
    · rw [z3] at z1
      exact z1 y
  refine ⟨fun i j hi hj hij he => ?_, ⟨f, d2, d3⟩, fun i hi he => ?_, ⟨n, m, fs, d5, d6⟩, d7, d8, fun i hi he => ?_⟩
  · by_cases z : i = k
    · subst z
      rw [aw_u_s, aw_u_n (Ne.symm hij)] at he
      exact absurd he.symm (dist _ (ex j hj) (fun q => d1 i j hi hj hij q.symm))
    · rw [aw_u_n z] at he ⊢
      by_cases z2 : j = k
      · subst z2
        rw [aw_u_s] at he
        rcases g with ⟨y1, y2⟩ | y
        · exact d1 i j hi hj hij (he.trans y1)
        · rw [← he] at y
          exact absurd y (ex i hi)
      · rw [aw_u_n z2] at he
        exact d1 i j hi hj hij he
  · by_cases z : i = k
    · subst z
      rw [aw_u_s] at he
      exact absurd he (dist _ (by rw [d2]; exact fun z => by cases z) (d4 i hi))
    · rw [aw_u_n z] at he ⊢
      exact d4 i hi he
  · by_cases z : i = k
    · subst z
      rw [aw_u_s] at he
      exact absurd he (dist _ d7 (d9 i hi))
    · rw [aw_u_n z] at he ⊢
      exact d9 i hi he
theorem XC.cells {G : aw_G} {w : xx_Wd} {h : aw_H} {s s' : mm_S} (hX : XC G w h s) (e : ∀ d, d < 16 → xx_cell G w s' d = xx_cell G w s d) : XC G w h s' := ⟨fun d hd => by rw [e d (by omega)]; exact hX.1 d hd, hX.2⟩
/-- an exact contract, and its call -/
def xa_PoX (Z : Nat → Prop) (G : aw_G) (w : xx_Wd) (h : aw_H) (H : sp_H) (u : Nat) (r : Option Value) (s2 : mm_S) : Option Value → aw_H → Prop := fun v9 h9 => v9 = r ∧ xa_I Z G w h9 s2 H u ∧ xr_fr w h h9
def xa_MetX (y : MethodName) (cc : ByteArray) (nL : Nat) (ret : Option FieldType) (f mc ms : Nat) (args : xx_Wd → List Value) (s : mm_S) (H : sp_H) (u : Nat) (r : Option Value) (s2 : mm_S) : Prop := ∀ (Z : Nat → Prop) (G : aw_G) (w : xx_Wd) (h : aw_H), xa_I Z G w h s H u → aw_Met G y cc nL ret f mc ms (args w) h (xa_PoX Z G w h H u r s2)
theorem xa_MetX.of {y : MethodName} {cc : ByteArray} {nL : Nat} {ret : Option FieldType} {f mc ms : Nat} {args : xx_Wd → List Value} {s : mm_S} {H : sp_H} {u : Nat} {r : Option Value} {s2 : mm_S} (hy : plainName y.cls = true) (hl : ∀ w, (lg_sl (args w)).length ≤ nL) (k : ∀ (Z : Nat → Prop) (G : aw_G) (w : xx_Wd) (h : aw_H), xa_I Z G w h s H u → AW G (aw_rm f mc ms) y cc nL ret (aw_N G (xa_PoX Z G w h H u r s2) mc ms) mc ms h 0 (lv_args 0 (args w)) []) : xa_MetX y cc nL ret f mc ms args s H u r s2 := fun Z G w h hI => aw_Met.of hy (hl w) (k Z G w h hI)
theorem xa_MetX.a {y : MethodName} {cc : ByteArray} {nL : Nat} {ret : Option FieldType} {f mc ms : Nat} {args : xx_Wd → List Value} {s : mm_S} {H : sp_H} {u : Nat} {r : Option Value} {s2 : mm_S} (h9 : xa_MetX y cc nL ret f mc ms args s H u r s2) : xa_Met y cc nL ret f mc ms args s H u r s2 := fun Z G w h hI => aw_Met.imp (h9 Z G w h hI) (fun v9 h9 z => ⟨z.1, s2, mm_core.rf, z.2.1, z.2.2⟩)
theorem xa_callX {Z : Nat → Prop} {G : aw_G} {R : Room} {y : MethodName} {cc : ByteArray} {nL : Nat} {ret : Option FieldType} {Qf : List Frame → Array Value → State → State → Prop} {kc ks : Nat} {h0 h : aw_H} {pc : Nat} {ls : List (Nat × Value)} {st : List Value} {w : xx_Wd} {s : mm_S} {own : String} {y2 : MethodName} {cc2 : ByteArray} {nL2 n index ci b f2 mc2 ms2 u : Nat} {ret2 : Option FieldType} {args : xx_Wd → List Value} {H : sp_H} {fs As rest : List Value} {r : Option Value} {s2 : mm_S} (d : decode cc pc = .ok (.invokevirtual index, 3)) (S : aw_SV own index y2 cc2 nL2 ret2 n ci) (ho : own = y.cls) (hI : xa_I Z G w h s H u) (hr : xr_fr w h0 h) (hM : xa_MetX y2 cc2 nL2 ret2 f2 mc2 ms2 args s H u r s2) (ha : args w = .ref b :: As) (hb : h b = some (aw_o ci fs)) (hst : st = As.reverse ++ .ref b :: rest) (hn : As.length = n) (hR : f2 + 1 ≤ R.frames ∧ 8 + (nL2 + 11) + 64 * f2 ≤ R.locals) (hc : (rest.map fun v => v.category).sum ≤ 8)
    (kk : ∀ h', xa_I Z G w h' s2 H u → xr_fr w h0 h' → AW G R y cc nL ret Qf kc ks h' (pc + 3) ls (r.toList ++ rest)) : AW G R y cc nL ret Qf (kc + mc2) (ks + ms2) h pc ls st := by
  have M := hM Z G w h hI
  rw [ha] at M
  exact aw_callV d S ho M hb hst hn hR hc (fun v h' q => by obtain ⟨rfl, q2, q3⟩ := q; exact kk h' q2 (hr.tr q3))
theorem xa_end {Z : Nat → Prop} {G : aw_G} {w : xx_Wd} {h0 h1 h : aw_H} {s1 s2 s3 : mm_S} {H : sp_H} {u : Nat} {r r' : Option Value} (hI : xa_I Z G w h1 s1 H u) (hr : xr_fr w h0 h1) (hs : xx_same w h1 h) (hX : XC G w h s3) (e : xr_eq s1 s3) (hc : mm_core s2 s3) (er : r' = r) : xa_Po Z G w h0 H u r s2 r' h := ⟨er, s3, hc, hI.mv hs hX e, hr.tr hs.r⟩
