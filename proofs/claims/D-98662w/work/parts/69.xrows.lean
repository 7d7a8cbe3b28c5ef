set_option maxRecDepth 100000
/-! rows over the component's changing cells -/
theorem xx_stc {w : Nat → Nat} {c : Nat} {A B : Nat → Nat} (h : ∀ k, k < 4 → A (24 + k) = B (24 + k)) : xx_st w c A = xx_st w c B := by
  unfold xx_st
  rw [show A 24 = B 24 from h 0 (by decide), show A 25 = B 25 from h 1 (by decide), show A 26 = B 26 from h 2 (by decide), show A 27 = B 27 from h 3 (by decide)]
theorem xx_a8c {G : aw_G} {f g : Nat → Nat} (h : ∀ j, j < 8 → f j = g j) : xx_a8 G f = xx_a8 G g := by
  unfold xx_a8
  congr 1
  funext j
  split
  · rename_i z; rw [h j z]
  · rfl
/-- another state of the same cells -/
theorem xx_c45 {G : aw_G} {w : xx_Wd} {s : mm_S} {F : Nat → Nat} {x : Nat} (hx : ∀ j, j ≠ x → F j = mm_a s 45 j) (d c : Nat) (hd : d < 16) (hn : d ≠ c) (hc : (c = 1 ∧ 24 ≤ x) ∨ (c = 2 ∧ x < 8) ∨ (c = 3 ∧ 8 ≤ x ∧ x < 16) ∨ (c = 4 ∧ 16 ≤ x ∧ x < 24)) : xx_cell G w (mm_setA s 45 F) d = xx_cell G w s d := by
  revert hn
  revert d
  apply xx_16
  all_goals intro hn
  all_goals first
    | rfl
    | exact xx_stc (fun k hk => hx _ (by omega))
    | exact xx_a8c (fun j hj => hx _ (by omega))
theorem xx_c46 {G : aw_G} {w : xx_Wd} {s : mm_S} {F : Nat → Nat} {x : Nat} (hx : ∀ j, j ≠ x → F j = mm_a s 46 j) (d c : Nat) (hd : d < 16) (hn : d ≠ c) (hc : (c = 5 ∧ 24 ≤ x) ∨ (c = 6 ∧ x < 8) ∨ (c = 7 ∧ 8 ≤ x ∧ x < 16) ∨ (c = 8 ∧ 16 ≤ x ∧ x < 24)) : xx_cell G w (mm_setA s 46 F) d = xx_cell G w s d := by
  revert hn
  revert d
  apply xx_16
  all_goals intro hn
  all_goals first
    | rfl
    | exact xx_stc (fun k hk => hx _ (by omega))
    | exact xx_a8c (fun j hj => hx _ (by omega))
theorem XC.st {G : aw_G} {w : xx_Wd} {h : aw_H} {s : mm_S} {i : Nat} (hX : XC G w h s) (hi : i < 2) : h (w.1 (1 + 4 * i)) = some (xx_st w.1 (1 + 4 * i) (mm_a s (45 + i))) := by
  rcases (show i = 0 ∨ i = 1 by omega) with rfl | rfl
  · exact hX.1 1 (by decide)
  · exact hX.1 5 (by decide)
theorem XC.sa {G : aw_G} {w : xx_Wd} {h : aw_H} {s : mm_S} {i b : Nat} (hX : XC G w h s) (hi : i < 2) (hb : b < 3) : h (w.1 (1 + 4 * i + 1 + b)) = some (xx_a8 G (fun j => mm_a s (45 + i) (8 * b + j))) := by
  rcases (show i = 0 ∨ i = 1 by omega) with rfl | rfl
  · rcases (show b = 0 ∨ b = 1 ∨ b = 2 by omega) with rfl | rfl | rfl
    · exact hX.1 2 (by decide)
    · exact hX.1 3 (by decide)
    · exact hX.1 4 (by decide)
  · rcases (show b = 0 ∨ b = 1 ∨ b = 2 by omega) with rfl | rfl | rfl
    · exact hX.1 6 (by decide)
    · exact hX.1 7 (by decide)
    · exact hX.1 8 (by decide)
/-- the arrays of numbers -/
def xx_al : Nat → Option (Nat × Nat)
  | 12 => some (72, 8)
  | 13 => some (73, 2304)
  | 14 => some (74, 41)
  | _ => none
theorem xx_al_c {c k n : Nat} (h : xx_al c = some (k, n)) : (c = 12 ∧ k = 72 ∧ n = 8) ∨ (c = 13 ∧ k = 73 ∧ n = 2304) ∨ (c = 14 ∧ k = 74 ∧ n = 41) := by
  unfold xx_al at h
  split at h
  all_goals first
    | (cases h; omega)
    | cases h
theorem XC.al {G : aw_G} {w : xx_Wd} {h : aw_H} {s : mm_S} {c k n : Nat} (hX : XC G w h s) (hc : xx_al c = some (k, n)) : h (w.1 c) = some (aw_I G n (fun j => nI (mm_a s k j))) := by
  rcases xx_al_c hc with ⟨rfl, rfl, rfl⟩ | ⟨rfl, rfl, rfl⟩ | ⟨rfl, rfl, rfl⟩
  · exact hX.1 12 (by decide)
  · exact hX.1 13 (by decide)
  · exact hX.1 14 (by decide)
section XRO
variable {G : aw_G} {R : Room} {y : MethodName} {cc : ByteArray} {nL : Nat} {ret : Option FieldType} {Qf : List Frame → Array Value → State → State → Prop} {kc ks : Nat} {h0 h : aw_H} {pc : Nat} {ls : List (Nat × Value)} {st : List Value} {w : xx_Wd} {s : mm_S}
theorem xx_ialdS {i b j : Nat} (d : decode cc pc = .ok (.iaload, 1)) (hX : XC G w h s) (hi : i < 2) (hb : b < 3) (hj : j < 8) (kk : AW G R y cc nL ret Qf kc ks h (pc + 1) ls (.int (nI (mm_a s (45 + i) (8 * b + j))) :: st)) : AW G R y cc nL ret Qf kc ks h pc ls (.int (nI j) :: .ref (w.1 (1 + 4 * i + 1 + b)) :: st) := by
  refine aw_ialdN d (hX.sa hi hb) hj (by decide) ?_
  dsimp only
  rw [if_pos hj]
  exact kk
theorem xx_ialdA {c k n j : Nat} (d : decode cc pc = .ok (.iaload, 1)) (hX : XC G w h s) (hc : xx_al c = some (k, n)) (hj : j < n) (kk : AW G R y cc nL ret Qf kc ks h (pc + 1) ls (.int (nI (mm_a s k j)) :: st)) : AW G R y cc nL ret Qf kc ks h pc ls (.int (nI j) :: .ref (w.1 c) :: st) := by
  have hn : n < 2 ^ 31 := by rcases xx_al_c hc with ⟨-, -, rfl⟩ | ⟨-, -, rfl⟩ | ⟨-, -, rfl⟩ <;> decide
  exact aw_ialdN d (hX.al hc) hj hn kk
/-- a scalar of a State: 24 climbed, 25 lift, 26 week, 27 seed -/
theorem xx_putS {own nm : String} {index i k v : Nat} (hW : xx_W G w) (hX : XC G w h s) (hs : xx_same w h0 h) (hi : i < 2) (hk : k < 4) (d : decode cc pc = .ok (.putfield index, 3)) (F : aw_Pl own index 2 (3 + k) nm .int) (ho : own = y.cls) (hnm : nm = y.name) (kk : ∀ h', XC G w h' (mm_setA s (45 + i) (aw_u (mm_a s (45 + i)) (24 + k) v)) → xx_same w h0 h' → AW G R y cc nL ret Qf kc ks h' (pc + 3) ls st) : AW G R y cc nL ret Qf kc ks h pc ls (.int (nI v) :: .ref (w.1 (1 + 4 * i)) :: st) := by
  have e : xx_cell G w (mm_setA s (45 + i) (aw_u (mm_a s (45 + i)) (24 + k) v)) (1 + 4 * i) = aw_o 2 (List.set [.ref (w.1 (1 + 4 * i + 1)), .ref (w.1 (1 + 4 * i + 2)), .ref (w.1 (1 + 4 * i + 3)), .int (nI (mm_a s (45 + i) 24)), .int (nI (mm_a s (45 + i) 25)), .int (nI (mm_a s (45 + i) 26)), .int (nI (mm_a s (45 + i) 27))] (3 + k) (.int (nI v))) := by
    rcases (show i = 0 ∨ i = 1 by omega) with rfl | rfl
    · rcases (show k = 0 ∨ k = 1 ∨ k = 2 ∨ k = 3 by omega) with rfl | rfl | rfl | rfl <;> rfl
    · rcases (show k = 0 ∨ k = 1 ∨ k = 2 ∨ k = 3 by omega) with rfl | rfl | rfl | rfl <;> rfl
  have e2 : ∀ dd, dd < 16 → dd ≠ 1 + 4 * i → xx_cell G w (mm_setA s (45 + i) (aw_u (mm_a s (45 + i)) (24 + k) v)) dd = xx_cell G w s dd := by
    rcases (show i = 0 ∨ i = 1 by omega) with rfl | rfl
    · exact fun dd h1 h2 => xx_c45 (x := 24 + k) (fun j hj => aw_u_n hj) dd 1 h1 h2 (Or.inl ⟨rfl, by omega⟩)
    · exact fun dd h1 h2 => xx_c46 (x := 24 + k) (fun j hj => aw_u_n hj) dd 5 h1 h2 (Or.inl ⟨rfl, by omega⟩)
  refine aw_put d F ho hnm (hW.1 _ (by omega)) (hX.st hi) (show 3 + k < 7 by omega) rfl rfl ?_
  rw [← e]
  exact kk _ (hX.up hW (by omega) e2) (hs.up (by omega))
/-- breath (b = 0), paid, debt of a State -/
theorem xx_stS {i b j v : Nat} (hW : xx_W G w) (hX : XC G w h s) (hs : xx_same w h0 h) (d : decode cc pc = .ok (.iastore, 1)) (hi : i < 2) (hb : b < 3) (hj : j < 8) (kk : ∀ h', XC G w h' (mm_setA s (45 + i) (aw_u (mm_a s (45 + i)) (8 * b + j) v)) → xx_same w h0 h' → AW G R y cc nL ret Qf kc ks h' (pc + 1) ls st) : AW G R y cc nL ret Qf kc ks h pc ls (.int (nI v) :: .int (nI j) :: .ref (w.1 (1 + 4 * i + 1 + b)) :: st) := by
  have e0 : (upd (fun q => if q < 8 then nI (mm_a s (45 + i) (8 * b + q)) else 0) (nI j).toNatClampNeg (nI v)) = fun q => if q < 8 then nI (aw_u (mm_a s (45 + i)) (8 * b + j) v (8 * b + q)) else 0 := by
    rw [nI_clamp (by omega)]
    funext q
    unfold upd aw_u
    by_cases z : q = j
    · rw [if_pos z, if_pos (by omega), if_pos (by omega)]
    · rw [if_neg z]
      dsimp only
      by_cases z2 : q < 8
      · rw [if_pos z2, if_pos z2, if_neg (by omega)]
      · rw [if_neg z2, if_neg z2]
  have e : xx_cell G w (mm_setA s (45 + i) (aw_u (mm_a s (45 + i)) (8 * b + j) v)) (1 + 4 * i + 1 + b) = xx_a8 G (fun q => aw_u (mm_a s (45 + i)) (8 * b + j) v (8 * b + q)) := by
    rcases (show i = 0 ∨ i = 1 by omega) with rfl | rfl
    · rcases (show b = 0 ∨ b = 1 ∨ b = 2 by omega) with rfl | rfl | rfl <;> rfl
    · rcases (show b = 0 ∨ b = 1 ∨ b = 2 by omega) with rfl | rfl | rfl <;> rfl
  have e2 : ∀ dd, dd < 16 → dd ≠ 1 + 4 * i + 1 + b → xx_cell G w (mm_setA s (45 + i) (aw_u (mm_a s (45 + i)) (8 * b + j) v)) dd = xx_cell G w s dd := by
    rcases (show i = 0 ∨ i = 1 by omega) with rfl | rfl
    · exact fun dd h1 h2 => xx_c45 (x := 8 * b + j) (fun j hj => aw_u_n hj) dd _ h1 h2 (by omega)
    · exact fun dd h1 h2 => xx_c46 (x := 8 * b + j) (fun j hj => aw_u_n hj) dd _ h1 h2 (by omega)
  refine aw_iast d (hW.1 _ (by omega)) (hX.sa hi hb) (vp_in_nI hj (by decide)) ?_
  rw [e0]
  have k := kk (aw_up h (w.1 (1 + 4 * i + 1 + b)) (xx_cell G w (mm_setA s (45 + i) (aw_u (mm_a s (45 + i)) (8 * b + j) v)) (1 + 4 * i + 1 + b))) (hX.up hW (by omega) e2) (hs.up (by omega))
  rw [e] at k
  exact k
theorem xx_stA {c k n j v : Nat} (hW : xx_W G w) (hX : XC G w h s) (hs : xx_same w h0 h) (d : decode cc pc = .ok (.iastore, 1)) (hc : xx_al c = some (k, n)) (hj : j < n) (kk : ∀ h', XC G w h' (mm_setA s k (aw_u (mm_a s k) j v)) → xx_same w h0 h' → AW G R y cc nL ret Qf kc ks h' (pc + 1) ls st) : AW G R y cc nL ret Qf kc ks h pc ls (.int (nI v) :: .int (nI j) :: .ref (w.1 c) :: st) := by
  have hn : n < 2 ^ 31 := by rcases xx_al_c hc with ⟨-, -, rfl⟩ | ⟨-, -, rfl⟩ | ⟨-, -, rfl⟩ <;> decide
  have h15 : c < 15 := by rcases xx_al_c hc with ⟨rfl, -⟩ | ⟨rfl, -⟩ | ⟨rfl, -⟩ <;> decide
  have h16 : c < 16 := by omega
  have e : xx_cell G w (mm_setA s k (aw_u (mm_a s k) j v)) c = aw_I G n (fun q => nI (aw_u (mm_a s k) j v q)) := by
    rcases xx_al_c hc with ⟨rfl, rfl, rfl⟩ | ⟨rfl, rfl, rfl⟩ | ⟨rfl, rfl, rfl⟩ <;> rfl
  have e2 : ∀ dd, dd < 16 → dd ≠ c → xx_cell G w (mm_setA s k (aw_u (mm_a s k) j v)) dd = xx_cell G w s dd := by
    rcases xx_al_c hc with ⟨rfl, rfl, rfl⟩ | ⟨rfl, rfl, rfl⟩ | ⟨rfl, rfl, rfl⟩
    all_goals
      apply xx_16
      all_goals
        intro hn
        first
          | rfl
          | exact absurd rfl hn
  refine aw_iast d (hW.1 _ h16) (hX.al hc) (vp_in_nI hj hn) ?_
  rw [aw_upd_nI (n := n) (nI_clamp (Nat.lt_trans hj hn))]
  have k2 := kk (aw_up h (w.1 c) (xx_cell G w (mm_setA s k (aw_u (mm_a s k) j v)) c)) (hX.up hW h15 e2) (hs.up h16)
  rw [e] at k2
  exact k2
/-- laidRow -/
theorem xx_stV {j : Nat} {v : Int32} (hW : xx_W G w) (hX : XC G w h s) (hs : xx_same w h0 h) (d : decode cc pc = .ok (.iastore, 1)) (hj : j < 8) (kk : ∀ h', XC G w h' (mm_setV s 51 (aw_u (mm_v s 51) j v)) → xx_same w h0 h' → AW G R y cc nL ret Qf kc ks h' (pc + 1) ls st) : AW G R y cc nL ret Qf kc ks h pc ls (.int v :: .int (nI j) :: .ref (w.1 11) :: st) := by
  have e2 : ∀ dd, dd < 16 → dd ≠ 11 → xx_cell G w (mm_setV s 51 (aw_u (mm_v s 51) j v)) dd = xx_cell G w s dd := by
    apply xx_16
    all_goals
      intro hn
      first
        | rfl
        | exact absurd rfl hn
  refine aw_iast d (hW.1 _ (by decide)) (hX.1 11 (by decide)) (vp_in_nI hj (by decide)) ?_
  have e : upd (fun j => mm_v s 51 j) (nI j).toNatClampNeg v = fun q => aw_u (mm_v s 51) j v q := by
    rw [nI_clamp (Nat.lt_trans hj (by decide))]; rfl
  rw [e]
  exact kk (aw_up h (w.1 11) (xx_cell G w (mm_setV s 51 (aw_u (mm_v s 51) j v)) 11)) (hX.up hW (by decide) e2) (hs.up (by decide))
/-- a number of the great object -/
theorem xx_put0 {own nm : String} {index f k v : Nat} (hW : xx_W G w) (hX : XC G w h s) (hs : xx_same w h0 h) (d : decode cc pc = .ok (.putfield index, 3)) (F : aw_Pl own index 0 f nm .int) (ho : own = y.cls) (hnm : nm = y.name) (hf : f < 20) (h72 : k ≠ 72) (h73 : k ≠ 73) (e : (xx_F0 w s).set f (.int (nI v)) = xx_F0 w (mm_setN s k v)) (kk : ∀ h', XC G w h' (mm_setN s k v) → xx_same w h0 h' → AW G R y cc nL ret Qf kc ks h' (pc + 3) ls st) : AW G R y cc nL ret Qf kc ks h pc ls (.int (nI v) :: .ref (w.1 0) :: st) := by
  have e2 : ∀ dd, dd < 16 → dd ≠ 0 → xx_cell G w (mm_setN s k v) dd = xx_cell G w s dd := by
    apply xx_16
    all_goals
      intro hn
      first
        | rfl
        | exact absurd rfl hn
        | (show aw_o 3 (xx_F10 w (mm_setN s k v)) = aw_o 3 (xx_F10 w s)
           unfold xx_F10
           rw [mm_n_N, mm_n_N, if_neg (Ne.symm h72), if_neg (Ne.symm h73)])
  refine aw_put d F ho hnm (hW.1 _ (by decide)) (hX.1 0 (by decide)) (show f < 20 from hf) rfl rfl ?_
  rw [e]
  exact kk (aw_up h (w.1 0) (xx_cell G w (mm_setN s k v) 0)) (hX.up hW (by decide) e2) (hs.up (by decide))
theorem xx_putFp {own nm : String} {index : Nat} {v : Int32} (hW : xx_W G w) (hX : XC G w h s) (hs : xx_same w h0 h) (d : decode cc pc = .ok (.putfield index, 3)) (F : aw_Pl own index 0 8 nm .int) (ho : own = y.cls) (hnm : nm = y.name) (kk : ∀ h', XC G w h' (mm_setFp s v) → xx_same w h0 h' → AW G R y cc nL ret Qf kc ks h' (pc + 3) ls st) : AW G R y cc nL ret Qf kc ks h pc ls (.int v :: .ref (w.1 0) :: st) := by
  have e2 : ∀ dd, dd < 16 → dd ≠ 0 → xx_cell G w (mm_setFp s v) dd = xx_cell G w s dd := by
    apply xx_16
    all_goals
      intro hn
      first
        | rfl
        | exact absurd rfl hn
  exact aw_put d F ho hnm (hW.1 _ (by decide)) (hX.1 0 (by decide)) (show 8 < 20 by decide) rfl rfl (kk (aw_up h (w.1 0) (xx_cell G w (mm_setFp s v) 0)) (hX.up hW (by decide) e2) (hs.up (by decide)))
end XRO
