/-! orders of homes: the next one, none between -/
set_option maxRecDepth 100000
def sp_ct (f : Nat → Nat) (v n : Nat) : Nat := sp_sum (fun i => if f i = v then 1 else 0) n
/-- as often the same numbers -/
def sp_pm (n : Nat) (f g : Nat → Nat) : Prop := ∀ v, sp_ct f v n = sp_ct g v n
def sp_cd (f : Nat → Nat) : Nat → Nat
  | 0 => 0
  | n + 1 => 21 * sp_cd f n + f n
theorem sp_pm.rf {n : Nat} {f : Nat → Nat} : sp_pm n f f := fun _ => rfl
theorem sp_pm.tr {n : Nat} {f g h : Nat → Nat} (a : sp_pm n f g) (b : sp_pm n g h) : sp_pm n f h := fun v => (a v).trans (b v)
theorem sp_pm.sy {n : Nat} {f g : Nat → Nat} (a : sp_pm n f g) : sp_pm n g f := fun v => (a v).symm
theorem sp_sum_u {F : Nat → Nat} {k x n : Nat} (hk : k < n) : sp_sum (aw_u F k x) n + F k = sp_sum F n + x := by
  induction n with
  | zero => omega
  | succ n ih =>
    show sp_sum (aw_u F k x) n + aw_u F k x n + F k = sp_sum F n + F n + x
    by_cases e : k = n
    · subst e
      have h : ∀ m, m ≤ k → sp_sum (aw_u F k x) m = sp_sum F m := by
        intro m
        induction m with
        | zero => intro _; rfl
        | succ m ihm =>
          intro hm
          show sp_sum (aw_u F k x) m + aw_u F k x m = sp_sum F m + F m
          rw [ihm (by omega), aw_u_n (by omega)]
      rw [h k (Nat.le_refl _), aw_u_s]
      omega
    · have := ih (by omega)
      rw [aw_u_n (by omega)]
      omega
theorem sp_ct_u {f : Nat → Nat} {k x v n : Nat} (hk : k < n) : sp_ct (aw_u f k x) v n + (if f k = v then 1 else 0) = sp_ct f v n + (if x = v then 1 else 0) := by
  have e : (fun i => if aw_u f k x i = v then 1 else 0 : Nat → Nat) = aw_u (fun i => if f i = v then 1 else 0) k (if x = v then 1 else 0) := by
    funext i
    unfold aw_u
    by_cases h : i = k
    · rw [if_pos h, if_pos h]
    · rw [if_neg h, if_neg h]
  unfold sp_ct
  rw [e]
  exact sp_sum_u (F := fun i => if f i = v then 1 else 0) hk
theorem sp_pm_swap {n a b : Nat} {f : Nat → Nat} (ha : a < n) (hb : b < n) : sp_pm n (sp_swap f a b) f := by
  intro v
  have h1 := @sp_ct_u f a (f b) v n ha
  have h2 := @sp_ct_u (aw_u f a (f b)) b (f a) v n hb
  have e : aw_u f a (f b) b = f b := by
    unfold aw_u
    split <;> rfl
  rw [e] at h2
  show sp_ct (aw_u (aw_u f a (f b)) b (f a)) v n = _
  omega
theorem sp_rv_pm {n : Nat} : ∀ (m : Nat) (f : Nat → Nat) (a b : Nat), b < n → sp_pm n (sp_rv m f a b) f := by
  intro m
  induction m with
  | zero => intro f a b _; exact sp_pm.rf
  | succ m ih =>
    intro f a b hb
    unfold sp_rv
    split
    · exact (ih _ _ _ (by omega)).tr (sp_pm_swap (by omega) hb)
    · exact sp_pm.rf
theorem sp_swap_at {f : Nat → Nat} {a b i : Nat} : sp_swap f a b i = if i = b then f a else if i = a then f b else f i := rfl
theorem sp_rv_at : ∀ (m : Nat) (f : Nat → Nat) (a b i : Nat), b ≤ m + a → sp_rv m f a b i = if a ≤ i ∧ i ≤ b then f (a + b - i) else f i := by
  intro m
  induction m with
  | zero =>
    intro f a b i hb
    show f i = _
    by_cases h : a ≤ i ∧ i ≤ b
    · rw [if_pos h, show a + b - i = i by omega]
    · rw [if_neg h]
  | succ m ih =>
    intro f a b i hb
    unfold sp_rv
    by_cases z : a < b
    · rw [if_pos z, ih _ _ _ _ (by omega), sp_swap_at, sp_swap_at]
      by_cases h : a ≤ i ∧ i ≤ b
      · rw [if_pos h]
        by_cases h2 : a + 1 ≤ i ∧ i ≤ b - 1
        · rw [if_pos h2, if_neg (by omega), if_neg (by omega), show a + 1 + (b - 1) - i = a + b - i by omega]
        · rw [if_neg h2]
          by_cases h3 : i = b
          · rw [if_pos h3, show a + b - i = a by omega]
          · rw [if_neg h3, if_pos (by omega), show a + b - i = b by omega]
      · rw [if_neg h, if_neg (by omega), if_neg (by omega), if_neg (by omega)]
    · rw [if_neg z]
      by_cases h : a ≤ i ∧ i ≤ b
      · rw [if_pos h, show a + b - i = i by omega]
      · rw [if_neg h]
theorem sp_cd_c {f g : Nat → Nat} : ∀ {n}, (∀ i, i < n → f i = g i) → sp_cd f n = sp_cd g n := by
  intro n
  induction n with
  | zero => intro _; rfl
  | succ n ih =>
    intro h
    show 21 * sp_cd f n + f n = 21 * sp_cd g n + g n
    rw [ih (fun i hi => h i (by omega)), h n (by omega)]
theorem sp_cd_lt {f g : Nat → Nat} {p : Nat} : ∀ {n}, p < n → (∀ i, i < p → f i = g i) → f p < g p → (∀ i, i < n → f i ≤ 20) → sp_cd f n < sp_cd g n := by
  intro n
  induction n with
  | zero => intro h; omega
  | succ n ih =>
    intro hp he hl hf
    show 21 * sp_cd f n + f n < 21 * sp_cd g n + g n
    by_cases e : p = n
    · subst e
      rw [sp_cd_c he]
      omega
    · have := ih (by omega) he hl (fun i hi => hf i (by omega))
      have := hf n (by omega)
      omega
theorem sp_diff {f g : Nat → Nat} : ∀ n, (∀ i, i < n → f i = g i) ∨ ∃ p, p < n ∧ (∀ i, i < p → f i = g i) ∧ f p ≠ g p := by
  intro n
  induction n with
  | zero => exact Or.inl (fun i hi => by omega)
  | succ n ih =>
    rcases ih with h | ⟨p, h1, h2, h3⟩
    · by_cases e : f n = g n
      · exact Or.inl (fun i hi => by by_cases z : i = n; rw [z, e]; exact h i (by omega))
      · exact Or.inr ⟨n, by omega, h, e⟩
    · exact Or.inr ⟨p, by omega, h2, h3⟩
theorem sp_ct_c {f g : Nat → Nat} {v p : Nat} (h : ∀ i, i < p → f i = g i) : sp_ct f v p = sp_ct g v p := by
  induction p with
  | zero => rfl
  | succ p ih =>
    show sp_ct f v p + (if f p = v then 1 else 0) = sp_ct g v p + (if g p = v then 1 else 0)
    rw [ih (fun i hi => h i (by omega)), h p (by omega)]
theorem sp_ct_mo {f : Nat → Nat} {v p : Nat} : ∀ {n}, p ≤ n → sp_ct f v p ≤ sp_ct f v n := by
  intro n
  induction n with
  | zero => intro h; rw [show p = 0 by omega]; exact Nat.le_refl _
  | succ n ih =>
    intro h
    by_cases e : p = n + 1
    · rw [e]; exact Nat.le_refl _
    · exact Nat.le_trans (ih (by omega)) (Nat.le_add_right _ _)
theorem sp_ct_in {f : Nat → Nat} {v p i n : Nat} (h1 : p ≤ i) (h2 : i < n) (h3 : f i = v) : sp_ct f v p < sp_ct f v n := by
  have a := @sp_ct_mo f v p i h1
  have b := @sp_ct_mo f v (i + 1) n (by omega)
  have c : sp_ct f v (i + 1) = sp_ct f v i + 1 := by show sp_ct f v i + (if f i = v then 1 else 0) = _; rw [if_pos h3]
  omega
theorem sp_ct_ex {f : Nat → Nat} {v p : Nat} : ∀ {n}, sp_ct f v p < sp_ct f v n → ∃ i, p ≤ i ∧ i < n ∧ f i = v := by
  intro n
  induction n with
  | zero => intro h; exact absurd h (Nat.not_lt_zero _)
  | succ n ih =>
    intro h
    have e : sp_ct f v (n + 1) = sp_ct f v n + (if f n = v then 1 else 0) := rfl
    by_cases z : f n = v
    · by_cases y : p ≤ n
      · exact ⟨n, y, by omega, z⟩
      · exact absurd (Nat.lt_of_lt_of_le h (sp_ct_mo (show n + 1 ≤ p by omega))) (Nat.lt_irrefl _)
    · rw [if_neg z] at e
      obtain ⟨i, h1, h2, h3⟩ := ih (by omega)
      exact ⟨i, h1, by omega, h3⟩
/-- what stands at p of the one stands at p or behind in the other -/
theorem sp_pm_at {f g : Nat → Nat} {p n : Nat} (h : sp_pm n f g) (hp : p < n) (he : ∀ i, i < p → f i = g i) : ∃ i, p ≤ i ∧ i < n ∧ f i = g p := by
  have a := @sp_ct_in g (g p) p p n (Nat.le_refl _) hp rfl
  rw [← h (g p), ← sp_ct_c he] at a
  exact sp_ct_ex a
theorem sp_desc {f : Nat → Nat} {p n : Nat} (hd : ∀ i, p ≤ i → i + 1 < n → f (i + 1) ≤ f i) : ∀ d, p + d < n → f (p + d) ≤ f p := by
  intro d
  induction d with
  | zero => intro _; exact Nat.le_refl _
  | succ d ih => intro h; exact Nat.le_trans (hd (p + d) (by omega) (by omega)) (ih (by omega))
theorem sp_asc {f : Nat → Nat} {p n : Nat} (hd : ∀ i, p ≤ i → i + 1 < n → f i ≤ f (i + 1)) : ∀ d, p + d < n → f p ≤ f (p + d) := by
  intro d
  induction d with
  | zero => intro _; exact Nat.le_refl _
  | succ d ih => intro h; exact Nat.le_trans (ih (by omega)) (hd (p + d) (by omega) (by omega))
theorem sp_pm_desc {f g : Nat → Nat} {p n : Nat} (h : sp_pm n f g) (hp : p < n) (he : ∀ i, i < p → f i = g i) (hd : ∀ i, p ≤ i → i + 1 < n → f (i + 1) ≤ f i) : g p ≤ f p := by
  obtain ⟨i, h1, h2, h3⟩ := sp_pm_at h hp he
  rw [← h3, show i = p + (i - p) by omega]
  exact sp_desc hd _ (by omega)
theorem sp_pm_asc {f g : Nat → Nat} {p n : Nat} (h : sp_pm n f g) (hp : p < n) (he : ∀ i, i < p → f i = g i) (hd : ∀ i, p ≤ i → i + 1 < n → f i ≤ f (i + 1)) : f p ≤ g p := by
  obtain ⟨i, h1, h2, h3⟩ := sp_pm_at h hp he
  rw [← h3, show i = p + (i - p) by omega]
  exact sp_asc hd _ (by omega)
theorem sp_pm_20 {f g : Nat → Nat} {n : Nat} (h : sp_pm n f g) (hf : ∀ i, i < n → f i ≤ 20) : ∀ i, i < n → g i ≤ 20 := by
  intro i hi
  have a := @sp_ct_in g (g i) 0 i n (Nat.zero_le _) hi rfl
  rw [← h (g i)] at a
  obtain ⟨j, h1, h2, h3⟩ := sp_ct_ex (f := f) (v := g i) (p := 0) (n := n) (Nat.lt_of_le_of_lt (Nat.le_refl _) a)
  rw [← h3]
  exact hf j h2
/-- the order that rises is the first -/
theorem sp_first {f g : Nat → Nat} {n : Nat} (h : sp_pm n f g) (hf : ∀ i, i < n → f i ≤ 20) (hd : ∀ i, i + 1 < n → f i ≤ f (i + 1)) : sp_cd f n ≤ sp_cd g n := by
  rcases sp_diff (f := f) (g := g) n with e | ⟨p, h1, h2, h3⟩
  · rw [sp_cd_c e]; exact Nat.le_refl _
  · have := sp_pm_asc h h1 h2 (fun i _ hi => hd i hi)
    exact Nat.le_of_lt (sp_cd_lt h1 h2 (by omega) hf)
/-- the order that falls is the last -/
theorem sp_last {f g : Nat → Nat} {n : Nat} (h : sp_pm n f g) (hf : ∀ i, i < n → f i ≤ 20) (hd : ∀ i, i + 1 < n → f (i + 1) ≤ f i) : sp_cd g n ≤ sp_cd f n := by
  rcases sp_diff (f := f) (g := g) n with e | ⟨p, h1, h2, h3⟩
  · rw [sp_cd_c e]; exact Nat.le_refl _
  · have := sp_pm_desc h h1 h2 (fun i _ hi => hd i hi)
    exact Nat.le_of_lt (sp_cd_lt h1 (fun i hi => (h2 i hi).symm) (by omega) (sp_pm_20 h hf))
theorem sp_cd_in {f g : Nat → Nat} {n : Nat} (hf : ∀ i, i < n → f i ≤ 20) (hg : ∀ i, i < n → g i ≤ 20) (h : sp_cd f n = sp_cd g n) : ∀ i, i < n → f i = g i := by
  rcases sp_diff (f := f) (g := g) n with e | ⟨p, h1, h2, h3⟩
  · exact e
  · rcases Nat.lt_or_gt_of_ne h3 with z | z
    · exact absurd h (Nat.ne_of_lt (sp_cd_lt h1 h2 z hf))
    · exact absurd h.symm (Nat.ne_of_lt (sp_cd_lt h1 (fun i hi => (h2 i hi).symm) z hg))
theorem sp_nxt_ok {f : Nat → Nat} {n k : Nat} (hf : ∀ i, i < n → f i ≤ 20) (hk : sp_nk f (n - 1) = k + 1) : sp_pm n f (sp_nxt n f) ∧ sp_cd f n < sp_cd (sp_nxt n f) n ∧ ∀ g, sp_pm n f g → sp_cd f n < sp_cd g n → sp_cd (sp_nxt n f) n ≤ sp_cd g n := by
  obtain ⟨k1, k2, k3⟩ := sp_nk_some hk
  obtain ⟨j, hj⟩ : ∃ j, j = sp_nj f (f k) (n - 1) := ⟨_, rfl⟩
  obtain ⟨j1, j2, j3, j4⟩ := sp_nj_at (f := f) (v := f k) (a := k + 1) (c := n - 1) (by omega) (by omega) k2
  rw [← hj] at j1 j2 j3 j4
  have en : sp_nxt n f = sp_rv n (sp_swap f k j) (k + 1) (n - 1) := by unfold sp_nxt; rw [hk, Nat.add_sub_cancel, hj]
  have pm : sp_pm n f (sp_nxt n f) := by
    rw [en]
    exact ((sp_rv_pm n (sp_swap f k j) (k + 1) (n - 1) (by omega)).tr (sp_pm_swap (by omega) (by omega))).sy
  have at1 : ∀ i, i < k → sp_nxt n f i = f i := fun i hi => by
    rw [en, sp_rv_at _ _ _ _ _ (by omega), if_neg (by omega), sp_swap_at, if_neg (by omega), if_neg (by omega)]
  have at2 : sp_nxt n f k = f j := by
    rw [en, sp_rv_at _ _ _ _ _ (by omega), if_neg (by omega), sp_swap_at, if_neg (by omega), if_pos rfl]
  have at3 : ∀ i, k < i → i < n → sp_nxt n f i = sp_swap f k j (k + n - i) := fun i h1 h2 => by
    rw [en, sp_rv_at _ _ _ _ _ (by omega), if_pos (by omega), show k + 1 + (n - 1) - i = k + n - i by omega]
  have de : ∀ a d, k < a → a + d < n → f (a + d) ≤ f a := fun a d h1 h2 => sp_desc (f := f) (p := a) (n := n) (fun i h3 h4 => k3 i (by omega) (by omega)) d h2
  have de2 : ∀ a b, k < a → a ≤ b → b < n → f b ≤ f a := fun a b h1 h2 h3 => by
    have := de a (b - a) h1 (by omega)
    rw [show a + (b - a) = b by omega] at this
    exact this
  have sd : ∀ a b, k < a → a ≤ b → b < n → sp_swap f k j b ≤ sp_swap f k j a := fun a b h1 h2 h3 => by
    rw [sp_swap_at, sp_swap_at]
    by_cases z1 : b = j
    · rw [if_pos z1]
      by_cases z2 : a = j
      · rw [if_pos z2]; exact Nat.le_refl _
      · rw [if_neg z2, if_neg (by omega)]
        have := de2 a j h1 (by omega) (by omega)
        omega
    · rw [if_neg z1, if_neg (show ¬ b = k by omega)]
      by_cases z2 : a = j
      · rw [if_pos z2]; exact j4 b (by omega) (by omega)
      · rw [if_neg z2, if_neg (by omega)]; exact de2 a b h1 h2 h3
  have asc : ∀ i, k < i → i + 1 < n → sp_nxt n f i ≤ sp_nxt n f (i + 1) := fun i h1 h2 => by
    rw [at3 i h1 (by omega), at3 (i + 1) (by omega) h2]
    exact sd _ _ (by omega) (by omega) (by omega)
  have h20 := sp_pm_20 pm hf
  refine ⟨pm, sp_cd_lt (p := k) (by omega) (fun i hi => (at1 i hi).symm) (by rw [at2]; exact j3) hf, fun g hg hlt => ?_⟩
  have g20 := sp_pm_20 hg hf
  rcases sp_diff (f := f) (g := g) n with e | ⟨p, p1, p2, p3⟩
  · rw [sp_cd_c e] at hlt; omega
  · have lt : f p < g p := by
      rcases Nat.lt_or_gt_of_ne p3 with z | z
      · exact z
      · have := sp_cd_lt p1 (fun i hi => (p2 i hi).symm) z g20
        omega
    rcases Nat.lt_trichotomy p k with z | z | z
    · exact Nat.le_of_lt (sp_cd_lt p1 (fun i hi => by rw [at1 i (by omega)]; exact p2 i hi) (by rw [at1 p z]; exact lt) h20)
    · subst z
      obtain ⟨i, i1, i2, i3⟩ := sp_pm_at hg p1 p2
      have ip : i ≠ p := fun e => by rw [e] at i3; omega
      have ij : f j ≤ f i := by
        by_cases e : i ≤ j
        · exact de2 i j (by omega) e (by omega)
        · have := j4 i (by omega) (by omega)
          omega
      by_cases e : sp_nxt n f p < g p
      · exact Nat.le_of_lt (sp_cd_lt p1 (fun i hi => by rw [at1 i hi]; exact p2 i hi) e h20)
      · have eq : sp_nxt n f p = g p := by rw [at2] at e ⊢; omega
        rcases sp_diff (f := sp_nxt n f) (g := g) n with e2 | ⟨q, q1, q2, q3⟩
        · rw [sp_cd_c e2]; exact Nat.le_refl _
        · have qp : p < q := by
            rcases Nat.lt_trichotomy q p with y | y | y
            · exact absurd ((at1 q y).trans (p2 q y)) q3
            · rw [y] at q3; exact absurd eq q3
            · exact y
          have := sp_pm_asc (pm.sy.tr hg) q1 q2 (fun i h1 h2 => asc i (by omega) h2)
          exact Nat.le_of_lt (sp_cd_lt q1 q2 (by omega) h20)
    · have := sp_pm_desc hg p1 p2 (fun i h1 h2 => k3 i (by omega) (by omega))
      omega
theorem sp_cd_b {f : Nat → Nat} : ∀ {n}, (∀ i, i < n → f i ≤ 20) → sp_cd f n < 21 ^ n := by
  intro n
  induction n with
  | zero => intro _; exact Nat.one_pos
  | succ n ih =>
    intro h
    show 21 * sp_cd f n + f n < 21 ^ n * 21
    have := ih (fun i hi => h i (by omega))
    have := h n (by omega)
    omega
/-- the order of least unevenness, of these the first -/
def sp_bs (n : Nat) (U : (Nat → Nat) → Nat) (lv L : Nat → Nat) : Prop := sp_pm n lv L ∧ (∀ g, sp_pm n lv g → U L ≤ U g ∧ (U g = U L → sp_cd L n ≤ sp_cd g n)) ∧ ∀ j, n ≤ j → L j = 0
theorem sp_bs_1 {n : Nat} {U : (Nat → Nat) → Nat} {lv L M : Nat → Nat} (h20 : ∀ i, i < n → lv i ≤ 20) (hL : sp_bs n U lv L) (hM : sp_bs n U lv M) : L = M := by
  obtain ⟨l1, l2, l3⟩ := hL
  obtain ⟨m1, m2, m3⟩ := hM
  have a := l2 M m1
  have b := m2 L l1
  have e : U L = U M := Nat.le_antisymm a.1 b.1
  have c := sp_cd_in (sp_pm_20 l1 h20) (sp_pm_20 m1 h20) (Nat.le_antisymm (a.2 e.symm) (b.2 e))
  funext j
  by_cases z : j < n
  · exact c j z
  · rw [l3 j (by omega), m3 j (by omega)]
noncomputable def sp_let (n : Nat) (U : (Nat → Nat) → Nat) (lv : Nat → Nat) : Nat → Nat := @Classical.epsilon _ ⟨fun _ => 0⟩ (sp_bs n U lv)
theorem sp_let_eq {n : Nat} {U : (Nat → Nat) → Nat} {lv L : Nat → Nat} (h20 : ∀ i, i < n → lv i ≤ 20) (hL : sp_bs n U lv L) : sp_let n U lv = L :=
  sp_bs_1 h20 (@Classical.epsilon_spec _ (sp_bs n U lv) ⟨L, hL⟩) hL
