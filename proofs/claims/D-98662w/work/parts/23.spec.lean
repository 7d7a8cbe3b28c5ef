/-! WHAT BOTH SIDES COMPUTE, in plain words of numbers. A house: storeys, tenants, where they live, how strong, how heavy, what they owe, how often they fail, the two formulas as steps. A state st: 0.. breath, 8.. paid, 16.. debt, 24 climbed, 25 lift, 26 week, 27 seed. -/
set_option maxRecDepth 100000
abbrev sp_H : Type := Nat × Nat × (Nat → Nat) × (Nat → Nat) × (Nat → Nat) × (Nat → Nat) × (Nat → Nat) × List (Nat × Nat) × List (Nat × Nat)
abbrev sp_hs (H : sp_H) : Nat := H.1
abbrev sp_hn (H : sp_H) : Nat := H.2.1
abbrev sp_lv (H : sp_H) (t : Nat) : Nat := H.2.2.1 t
abbrev sp_sg8 (H : sp_H) (t : Nat) : Nat := H.2.2.2.1 t
abbrev sp_hv (H : sp_H) (t : Nat) : Nat := H.2.2.2.2.1 t
abbrev sp_ow (H : sp_H) (t : Nat) : Nat := H.2.2.2.2.2.1 t
abbrev sp_fl (H : sp_H) (t : Nat) : Nat := H.2.2.2.2.2.2.1 t
abbrev sp_F0 (H : sp_H) : List (Nat × Nat) := H.2.2.2.2.2.2.2.1
abbrev sp_F1 (H : sp_H) : List (Nat × Nat) := H.2.2.2.2.2.2.2.2
/-- one step of a formula on a stack -/
def sp_step (q : Nat × Nat) (ask : Nat → Nat) (L : List Int32) : List Int32 := if q.1 = 0 then nI q.2 :: L else if q.1 = 1 then nI (ask q.2) :: L else if q.1 = 2 then (match L with | x :: r => nI (aw_t (x = 0)) :: r | [] => []) else (match L with | y :: x :: r => sp_done q.2 x y :: r | _ => [])
def sp_run : List (Nat × Nat) → (Nat → Nat) → List Int32 → List Int32
  | [], _, L => L
  | q :: t, ask, L => sp_run t ask (sp_step q ask L)
/-- the steps fit a stack of d numbers, and leave one -/
def sp_okF : List (Nat × Nat) → Nat → Prop
  | [], d => d = 1
  | q :: t, d => (q.1 = 0 ∧ d < 64 ∧ sp_okF t (d + 1)) ∨ (q.1 = 1 ∧ q.2 < 6 ∧ d < 64 ∧ sp_okF t (d + 1)) ∨ (q.1 = 2 ∧ 1 ≤ d ∧ sp_okF t d) ∨ (q.1 = 3 ∧ 2 ≤ d ∧ sp_sg q.2 ∧ sp_okF t (d - 1))
/-- a formula told, or none -/
def sp_fok (F : List (Nat × Nat)) : Prop := F.length ≤ 320 ∧ (F = [] ∨ sp_okF F 0)
def sp_val (F : List (Nat × Nat)) (ask : Nat → Nat) (o : Int32) : Int32 := if F = [] then o else (sp_run F ask []).headD 0
def sp_ask (s c nt : Nat) (A : Nat → Nat) : Nat → Nat := fun k => if k = 0 then s else if k = 1 then c else if k = 2 then nt else if k = 3 then A 26 else if k = 4 then A 24 else A 25
def sp_sum (f : Nat → Nat) : Nat → Nat
  | 0 => 0
  | n + 1 => sp_sum f n + f n
/-- what a climb of s storeys counts, somebody of weight c carried -/
def sp_cnt (H : sp_H) (A : Nat → Nat) (s c nt : Nat) : Nat := min (sp_val (sp_F0 H) (sp_ask s c nt A) (nI (10 * s))).toNatClampNeg 999
def sp_pull (H : sp_H) (A : Nat → Nat) : Int32 := sp_val (sp_F1 H) (sp_ask (sp_hs H) (sp_sum (sp_hv H) (sp_hn H)) 0 A) (nI (A 24 / 10))
def sp_lift (H : sp_H) (A : Nat → Nat) : Nat := min (nI (A 25) + sp_pull H A).toNatClampNeg (sp_hs H)
def sp_due (H : sp_H) (A : Nat → Nat) (t : Nat) : Nat := sp_ow H t + A (16 + t)
def sp_lack (H : sp_H) (A : Nat → Nat) (t : Nat) : Nat := sp_due H A t - A (8 + t)
/-- how much breath s storeys take; c: one more than who is carried, 0 for nobody -/
def sp_brc (H : sp_H) (c : Nat) : Nat := if c = 0 then 1 else 1 + sp_hv H (c - 1) / 3
def sp_hvc (H : sp_H) (c : Nat) : Nat := if c = 0 then 0 else sp_hv H (c - 1)
/-- a climb -/
def sp_climb (H : sp_H) (A : Nat → Nat) (t s c its : Nat) : Nat → Nat := fun j => if j = t then A t - s * sp_brc H c else if j = 8 + t then min (A (8 + t) + its) 9999 else if j = 24 then A 24 + s else A j
/-- a week: of the first k tenants -/
def sp_wk (k : Nat) (H : sp_H) (A : Nat → Nat) : Nat → Nat := fun j =>
  if j < 8 then (if j < k then sp_sg8 H j else A j)
  else if j < 16 then (if j - 8 < k ∧ (A 26 + 1) % 4 = 0 then A j - min (A j) (A (j + 8) + sp_ow H (j - 8)) else A j)
  else if j < 24 then (if j - 16 < k ∧ (A 26 + 1) % 4 = 0 then A j + sp_ow H (j - 16) - min (A (j - 8)) (A j + sp_ow H (j - 16)) else A j)
  else if j = 24 then 0 else if j = 25 then sp_lift H A else if j = 26 then A 26 + 1 else A j
def sp_week (H : sp_H) (A : Nat → Nat) : Nat → Nat := sp_wk (sp_hn H) H A
def sp_weeks (H : sp_H) : Nat → (Nat → Nat) → (Nat → Nat)
  | 0, A => A
  | n + 1, A => sp_week H (sp_weeks H n A)
/-- a house as it can be -/
def sp_okH (H : sp_H) : Prop := (1 ≤ sp_hs H ∧ sp_hs H ≤ 20) ∧ sp_hn H ≤ 8 ∧ (∀ t, t < 8 → sp_lv H t ≤ 20 ∧ sp_sg8 H t ≤ 40 ∧ sp_hv H t ≤ 9 ∧ sp_ow H t ≤ 999 ∧ sp_fl H t ≤ 100) ∧ sp_fok (sp_F0 H) ∧ sp_fok (sp_F1 H)
/-- a state as it can be, N: a bound that grows -/
def sp_okA (N : Nat) (A : Nat → Nat) : Prop := (∀ t, t < 8 → A t ≤ 40 ∧ A (8 + t) ≤ 9999 ∧ A (16 + t) ≤ N) ∧ A 24 ≤ N ∧ A 25 ≤ 20 ∧ A 26 ≤ N ∧ A 27 ≤ 999
theorem sp_okA.mono {N M : Nat} {A : Nat → Nat} (h : sp_okA N A) (hm : N ≤ M) : sp_okA M A := by
  obtain ⟨h1, h2, h3, h4, h5⟩ := h
  exact ⟨fun t ht => ⟨(h1 t ht).1, (h1 t ht).2.1, Nat.le_trans (h1 t ht).2.2 hm⟩, Nat.le_trans h2 hm, h3, Nat.le_trans h4 hm, h5⟩
/-! the model's house -/
def mm_steps (s : mm_S) (f : Nat) : List (Nat × Nat) := (List.range (mm_a s 16 f)).map (fun k => (mm_a s 14 (320 * f + k), mm_a s 15 (320 * f + k)))
def mm_H (s : mm_S) : sp_H := (mm_n s 41, mm_n s 42, (fun t => mm_a s 32 t), (fun t => mm_a s 33 t), (fun t => mm_a s 34 t), (fun t => mm_a s 35 t), (fun t => mm_a s 36 t), mm_steps s 0, mm_steps s 1)
/-! setters and readers -/
theorem mm_n_N (s : mm_S) (k v j : Nat) : mm_n (mm_setN s k v) j = if j = k then v else mm_n s j := rfl
theorem mm_n_A (s : mm_S) (k : Nat) (f : Nat → Nat) (j : Nat) : mm_n (mm_setA s k f) j = mm_n s j := rfl
theorem mm_n_V (s : mm_S) (k : Nat) (f : Nat → Int32) (j : Nat) : mm_n (mm_setV s k f) j = mm_n s j := rfl
theorem mm_n_Fp (s : mm_S) (v : Int32) (j : Nat) : mm_n (mm_setFp s v) j = mm_n s j := rfl
theorem mm_n_W (s : mm_S) (v : Int64) (j : Nat) : mm_n (mm_setW s v) j = mm_n s j := rfl
theorem mm_n_Nm (s : mm_S) (f : Nat → Int64) (j : Nat) : mm_n (mm_setNm s f) j = mm_n s j := rfl
theorem mm_a_N (s : mm_S) (k v i : Nat) : mm_a (mm_setN s k v) i = mm_a s i := rfl
theorem mm_a_A (s : mm_S) (k : Nat) (f : Nat → Nat) (i : Nat) : mm_a (mm_setA s k f) i = if i = k then f else mm_a s i := rfl
theorem mm_a_V (s : mm_S) (k : Nat) (f : Nat → Int32) (i : Nat) : mm_a (mm_setV s k f) i = mm_a s i := rfl
theorem mm_a_Fp (s : mm_S) (v : Int32) (i : Nat) : mm_a (mm_setFp s v) i = mm_a s i := rfl
theorem mm_a_W (s : mm_S) (v : Int64) (i : Nat) : mm_a (mm_setW s v) i = mm_a s i := rfl
theorem mm_a_Nm (s : mm_S) (f : Nat → Int64) (i : Nat) : mm_a (mm_setNm s f) i = mm_a s i := rfl
theorem mm_v_N (s : mm_S) (k v i : Nat) : mm_v (mm_setN s k v) i = mm_v s i := rfl
theorem mm_v_A (s : mm_S) (k : Nat) (f : Nat → Nat) (i : Nat) : mm_v (mm_setA s k f) i = mm_v s i := rfl
theorem mm_v_V (s : mm_S) (k : Nat) (f : Nat → Int32) (i : Nat) : mm_v (mm_setV s k f) i = if i = k then f else mm_v s i := rfl
theorem mm_fp_N (s : mm_S) (k v : Nat) : mm_fp (mm_setN s k v) = mm_fp s := rfl
theorem mm_fp_A (s : mm_S) (k : Nat) (f : Nat → Nat) : mm_fp (mm_setA s k f) = mm_fp s := rfl
theorem mm_fp_Fp (s : mm_S) (v : Int32) : mm_fp (mm_setFp s v) = v := rfl
theorem mm_w_N (s : mm_S) (k v : Nat) : mm_w (mm_setN s k v) = mm_w s := rfl
theorem mm_w_W (s : mm_S) (v : Int64) : mm_w (mm_setW s v) = v := rfl
theorem mm_A_A (s : mm_S) (k : Nat) (f g : Nat → Nat) : mm_setA (mm_setA s k f) k g = mm_setA s k g := by
  unfold mm_setA
  dsimp only
  congr 4
  funext j
  unfold aw_u
  split <;> rfl
theorem mm_V_V (s : mm_S) (k : Nat) (f g : Nat → Int32) : mm_setV (mm_setV s k f) k g = mm_setV s k g := by
  unfold mm_setV
  dsimp only
  congr 5
  funext j
  unfold aw_u
  split <;> rfl
theorem mm_N_N (s : mm_S) (k u v : Nat) : mm_setN (mm_setN s k u) k v = mm_setN s k v := by
  unfold mm_setN
  dsimp only
  congr 1
  funext j
  unfold aw_u
  split <;> rfl
theorem mm_A_self (s : mm_S) (k : Nat) : mm_setA s k (mm_a s k) = s := by
  unfold mm_setA mm_a
  obtain ⟨a, b, c, d, e⟩ := s
  dsimp only
  congr 4
  funext j
  unfold aw_u
  split
  · rename_i h; rw [h]
  · rfl
theorem mm_H_A (s : mm_S) (k : Nat) (f : Nat → Nat) (h1 : k ≠ 14) (h2 : k ≠ 15) (h3 : k ≠ 16) (h4 : k < 32 ∨ 36 < k) : mm_H (mm_setA s k f) = mm_H s := by
  unfold mm_H mm_steps
  simp only [mm_a_A, mm_n_A, if_neg (Ne.symm h1), if_neg (Ne.symm h2), if_neg (Ne.symm h3), if_neg (show ¬ 32 = k by omega), if_neg (show ¬ 33 = k by omega), if_neg (show ¬ 34 = k by omega), if_neg (show ¬ 35 = k by omega), if_neg (show ¬ 36 = k by omega)]
theorem mm_H_N (s : mm_S) (k v : Nat) (h1 : k ≠ 41) (h2 : k ≠ 42) : mm_H (mm_setN s k v) = mm_H s := by
  unfold mm_H mm_steps
  simp only [mm_a_N, mm_n_N, if_neg (Ne.symm h1), if_neg (Ne.symm h2)]
theorem mm_H_45 (s : mm_S) (f : Nat → Nat) : mm_H (mm_setA s 45 f) = mm_H s := rfl
theorem mm_H_46 (s : mm_S) (f : Nat → Nat) : mm_H (mm_setA s 46 f) = mm_H s := rfl
theorem mm_H_47 (s : mm_S) (f : Nat → Nat) : mm_H (mm_setA s 47 f) = mm_H s := rfl
theorem mm_H_50 (s : mm_S) (f : Nat → Nat) : mm_H (mm_setA s 50 f) = mm_H s := rfl
theorem mm_H_53 (s : mm_S) (f : Nat → Nat) : mm_H (mm_setA s 53 f) = mm_H s := rfl
theorem mm_H_54 (s : mm_S) (f : Nat → Nat) : mm_H (mm_setA s 54 f) = mm_H s := rfl
theorem mm_H_55 (s : mm_S) (f : Nat → Nat) : mm_H (mm_setA s 55 f) = mm_H s := rfl
theorem mm_H_56 (s : mm_S) (f : Nat → Nat) : mm_H (mm_setA s 56 f) = mm_H s := rfl
theorem mm_H_57 (s : mm_S) (f : Nat → Nat) : mm_H (mm_setA s 57 f) = mm_H s := rfl
theorem mm_H_58 (s : mm_S) (f : Nat → Nat) : mm_H (mm_setA s 58 f) = mm_H s := rfl
theorem mm_H_66 (s : mm_S) (f : Nat → Nat) : mm_H (mm_setA s 66 f) = mm_H s := rfl
theorem mm_H_67 (s : mm_S) (f : Nat → Nat) : mm_H (mm_setA s 67 f) = mm_H s := rfl
theorem mm_H_68 (s : mm_S) (f : Nat → Nat) : mm_H (mm_setA s 68 f) = mm_H s := rfl
theorem mm_H_V (s : mm_S) (k : Nat) (f : Nat → Int32) : mm_H (mm_setV s k f) = mm_H s := rfl
theorem mm_eq {G : aw_G} {w : mm_Wd} {h : aw_H} {s s' : mm_S} (hR : mm_R G w h s) (e : s = s') : mm_R G w h s' := e ▸ hR
/-! another picture of the same cell -/
theorem aw_R.ext {G : aw_G} {h : aw_H} {H : Heap} {a : Nat} {e e1 : va_E} (R : aw_R G h H) (hab : aw_b G ≤ a) (he : h a = some e) (hs : ∀ H : Heap, va_at G.2.1 aw_cl (a, e) H → va_at G.2.1 aw_cl (a, e1) H) : aw_R G (aw_up h a e1) H := by
  obtain ⟨ws, g1, hP, hD, g4⟩ := R
  obtain ⟨q0, hq⟩ := List.mem_iff_getElem?.mp ((g1 a _ hab).mp he)
  exact aw_R.put g1 g4 hq (hP.set hD hq (hs H (hP q0 _ hq)) (fun _ _ => rfl)) hD (hD.set hq) (fun _ _ _ => rfl)
theorem aw_I_ext {G : aw_G} {a n : Nat} {f f' : Nat → Int32} (hf : ∀ j, j < n → f j = f' j) (H : Heap) (h : va_at G.2.1 aw_cl (a, aw_I G n f) H) : va_at G.2.1 aw_cl (a, aw_I G n f') H := by
  have h : H[a]? = some (vp_cell (aw_ca G 0) (n, .inl f)) := h
  show H[a]? = some (vp_cell (aw_ca G 0) (n, .inl f'))
  have e : ∀ c : ClassId, arrV c n (fun j => .int (f j)) = arrV c n (fun j => .int (f' j)) := by
    intro c
    unfold arrV
    congr 1
    apply Array.ext
    · simp
    · intro i h1 h2
      have : i < n := by simpa using h1
      simp only [Array.getElem_ofFn]
      rw [hf i this]
  rw [h, vp_cell_i, vp_cell_i, e]
section EXT
variable {G : aw_G} {R : Room} {y : MethodName} {cc : ByteArray} {nL : Nat} {ret : Option FieldType} {Qf : List Frame → Array Value → State → State → Prop} {kc ks : Nat} {h : aw_H} {pc : Nat} {ls : List (Nat × Value)} {st : List Value}
theorem aw_ext {a n : Nat} {f f' : Nat → Int32} (hab : aw_b G ≤ a) (he : h a = some (aw_I G n f)) (hf : ∀ j, j < n → f j = f' j) (k : AW G R y cc nL ret Qf kc ks (aw_up h a (aw_I G n f')) pc ls st) : AW G R y cc nL ret Qf kc ks h pc ls st := by
  intro p e s m args below meth c H locs cells slots lsA X hR hS hlv h1 h2
  exact k p e s m args below meth c H locs cells slots lsA X (hR.ext hab he (aw_I_ext hf)) hS hlv h1 h2
theorem mm_ext {w : mm_Wd} {h0 : aw_H} {s : mm_S} (hW : mm_W G w) (hR : mm_R G w h s) (hs : mm_same w h0 h) (k n : Nat) (hk : mm_il k = some n) (f : Nat → Nat) (hf : ∀ j, j < n → mm_a s k j = f j) (kk : ∀ h', mm_R G w h' (mm_setA s k f) → mm_same w h0 h' → AW G R y cc nL ret Qf kc ks h' pc ls st) : AW G R y cc nL ret Qf kc ks h pc ls st := by
  have ik : mm_isA k := Or.inl (by rw [hk]; rfl)
  exact aw_ext (f' := fun j => nI (f j)) (hW.2.1 k ik).1 (hR.2.1 k n hk) (fun j hj => by rw [hf j hj]) (kk _ (hR.setA hW hk) (hs.arr ik))
end EXT
