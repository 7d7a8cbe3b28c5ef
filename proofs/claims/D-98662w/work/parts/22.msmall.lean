set_option maxRecDepth 100000
/-! the model: static methods, small ones -/
def sp_done (sg : Nat) (x y : Int32) : Int32 := if sg = 43 then x + y else if sg = 45 then x - y else if sg = 42 then x * y else if sg = 47 then (if y = 0 then 0 else x / y) else if sg = 37 then (if y = 0 then 0 else x - x / y * y) else if sg = 60 then nI (aw_t (x < y)) else if sg = 62 then nI (aw_t (y < x)) else if sg = 61 then nI (aw_t (x = y)) else if sg = 38 then nI (aw_t (x ≠ 0 ∧ y ≠ 0)) else nI (aw_t (x ≠ 0 ∨ y ≠ 0))
/-- the signs that a formula may hold -/
def sp_sg (sg : Nat) : Prop := sg = 43 ∨ sg = 45 ∨ sg = 42 ∨ sg = 47 ∨ sg = 37 ∨ sg = 60 ∨ sg = 62 ∨ sg = 61 ∨ sg = 38 ∨ sg = 124
/-- how many of the first n bits are set -/
def sp_bits : Nat → Nat → Nat
  | 0, _ => 0
  | n + 1, v => sp_bits n v + v / 2 ^ n % 2
def sp_tight (s : Nat) : Nat := if s = 124 then 1 else if s = 38 then 2 else if s = 21 then 3 else if s = 60 then 4 else if s = 62 then 4 else if s = 61 then 4 else if s = 43 then 5 else if s = 45 then 5 else 6
def sp_sign (c : Int) : Prop := c = 59 ∨ c = 40 ∨ c = 41 ∨ c = 60 ∨ c = 62 ∨ c = 61 ∨ c = 43 ∨ c = 45 ∨ c = 42 ∨ c = 47 ∨ c = 37
theorem aw_ti {n : Nat} (h : n < 2147483648) : (nI n).toInt = (n : Int) := nI_toInt (by omega)
theorem aw_eqi {x : Int32} {n : Nat} (h : n < 2147483648) : x = nI n ↔ x.toInt = (n : Int) := by rw [← aw_ti h]; exact Int32.toInt_inj.symm
set_option maxHeartbeats 4000000 in
theorem mp_isIn {v a b : Int32} : aw_Pu yX5_isIn cX5_isIn 3 (some .boolean) 0 [.int (v), .int (a), .int (b)] (.int (nI (aw_t (a.toInt ≤ v.toInt ∧ v.toInt ≤ b.toInt)))) := by
  refine fun G h => aw_Met.of (by decide +kernel) (Nat.le_of_ble_eq_true rfl) ?_
  show AW G (aw_rm 0 0 0) yX5_isIn cX5_isIn 3 (some .boolean) (aw_N G (fun v9 h9 => v9 = some (.int (nI (aw_t (a.toInt ≤ v.toInt ∧ v.toInt ≤ b.toInt)))) ∧ h9 = h) 0 0) 0 0 h 0 [(0, .int (v)), (1, .int (a)), (2, .int (b))] []
  refine aw_iload_n dX5_isIn_0 rfl ?_
  refine aw_iload_n dX5_isIn_1 rfl ?_
  refine aw_icmp_lt (tgt := 14) dX5_isIn_2 (by decide) (fun c_2 => ?_) (fun c_2 => ?_)
  · refine aw_iconst (v := nI 0) dX5_isIn_14 rfl ?_
    refine aw_zreturn dX5_isIn_15 rfl rfl ?_
    refine ⟨?_, rfl⟩
    simp only [Int32.lt_iff_toInt_lt] at *
    first | rw [aw_t0 (by omega)] | rw [aw_t1 (by omega)]
  · refine aw_iload_n dX5_isIn_5 rfl ?_
    refine aw_iload_n dX5_isIn_6 rfl ?_
    refine aw_icmp_gt (tgt := 14) dX5_isIn_7 (by decide) (fun c_7 => ?_) (fun c_7 => ?_)
    · refine aw_iconst (v := nI 0) dX5_isIn_14 rfl ?_
      refine aw_zreturn dX5_isIn_15 rfl rfl ?_
      refine ⟨?_, rfl⟩
      simp only [Int32.lt_iff_toInt_lt] at *
      first | rw [aw_t0 (by omega)] | rw [aw_t1 (by omega)]
    · refine aw_iconst (v := nI 1) dX5_isIn_10 rfl ?_
      refine aw_goto (tgt := 15) dX5_isIn_11 (by decide) ?_
      refine aw_zreturn dX5_isIn_15 rfl rfl ?_
      refine ⟨?_, rfl⟩
      simp only [Int32.lt_iff_toInt_lt] at *
      first | rw [aw_t0 (by omega)] | rw [aw_t1 (by omega)]
set_option maxHeartbeats 4000000 in
theorem mp_truth {v : Nat} (hv : v < 2) : aw_Pu yX5_truth cX5_truth 1 (some .int) 0 [.int (nI (v))] (.int (nI (v))) := by
  refine fun G h => aw_Met.of (by decide +kernel) (Nat.le_of_ble_eq_true rfl) ?_
  show AW G (aw_rm 0 0 0) yX5_truth cX5_truth 1 (some .int) (aw_N G (fun v9 h9 => v9 = some (.int (nI (v))) ∧ h9 = h) 0 0) 0 0 h 0 [(0, .int (nI (v)))] []
  refine aw_iload_n dX5_truth_0 rfl ?_
  refine aw_if_eqN (tgt := 8) dX5_truth_1 (by decide) (by omega) (fun c_1 => ?_) (fun c_1 => ?_)
  · refine aw_iconst (v := nI 0) dX5_truth_8 rfl ?_
    refine aw_ireturn dX5_truth_9 rfl ?_
    exact ⟨by first | rw [show v = 0 by omega] | rw [show v = 1 by omega], rfl⟩
  · refine aw_iconst (v := nI 1) dX5_truth_4 rfl ?_
    refine aw_goto (tgt := 9) dX5_truth_5 (by decide) ?_
    refine aw_ireturn dX5_truth_9 rfl ?_
    exact ⟨by first | rw [show v = 0 by omega] | rw [show v = 1 by omega], rfl⟩
set_option maxHeartbeats 4000000 in
theorem mp_isLetter {c : Int32} : aw_Pu yX5_isLetter cX5_isLetter 1 (some .boolean) 0 [.int (c)] (.int (nI (aw_t (97 ≤ c.toInt ∧ c.toInt ≤ 122)))) := by
  refine fun G h => aw_Met.of (by decide +kernel) (Nat.le_of_ble_eq_true rfl) ?_
  show AW G (aw_rm 0 0 0) yX5_isLetter cX5_isLetter 1 (some .boolean) (aw_N G (fun v9 h9 => v9 = some (.int (nI (aw_t (97 ≤ c.toInt ∧ c.toInt ≤ 122)))) ∧ h9 = h) 0 0) 0 0 h 0 [(0, .int (c))] []
  refine aw_iload_n dX5_isLetter_0 rfl ?_
  refine aw_bipush (v := nI 97) dX5_isLetter_1 rfl ?_
  refine aw_icmp_lt (tgt := 16) dX5_isLetter_3 (by decide) (fun c_3 => ?_) (fun c_3 => ?_)
  · refine aw_iconst (v := nI 0) dX5_isLetter_16 rfl ?_
    refine aw_zreturn dX5_isLetter_17 rfl rfl ?_
    refine ⟨?_, rfl⟩
    simp only [Int32.lt_iff_toInt_lt, aw_ti (n := 97) (by decide), aw_ti (n := 122) (by decide)] at *
    first | rw [aw_t0 (by omega)] | rw [aw_t1 (by omega)]
  · refine aw_iload_n dX5_isLetter_6 rfl ?_
    refine aw_bipush (v := nI 122) dX5_isLetter_7 rfl ?_
    refine aw_icmp_gt (tgt := 16) dX5_isLetter_9 (by decide) (fun c_9 => ?_) (fun c_9 => ?_)
    · refine aw_iconst (v := nI 0) dX5_isLetter_16 rfl ?_
      refine aw_zreturn dX5_isLetter_17 rfl rfl ?_
      refine ⟨?_, rfl⟩
      simp only [Int32.lt_iff_toInt_lt, aw_ti (n := 97) (by decide), aw_ti (n := 122) (by decide)] at *
      first | rw [aw_t0 (by omega)] | rw [aw_t1 (by omega)]
    · refine aw_iconst (v := nI 1) dX5_isLetter_12 rfl ?_
      refine aw_goto (tgt := 17) dX5_isLetter_13 (by decide) ?_
      refine aw_zreturn dX5_isLetter_17 rfl rfl ?_
      refine ⟨?_, rfl⟩
      simp only [Int32.lt_iff_toInt_lt, aw_ti (n := 97) (by decide), aw_ti (n := 122) (by decide)] at *
      first | rw [aw_t0 (by omega)] | rw [aw_t1 (by omega)]
set_option maxHeartbeats 4000000 in
theorem mp_isDigit {c : Int32} : aw_Pu yX5_isDigit cX5_isDigit 1 (some .boolean) 0 [.int (c)] (.int (nI (aw_t (48 ≤ c.toInt ∧ c.toInt ≤ 57)))) := by
  refine fun G h => aw_Met.of (by decide +kernel) (Nat.le_of_ble_eq_true rfl) ?_
  show AW G (aw_rm 0 0 0) yX5_isDigit cX5_isDigit 1 (some .boolean) (aw_N G (fun v9 h9 => v9 = some (.int (nI (aw_t (48 ≤ c.toInt ∧ c.toInt ≤ 57)))) ∧ h9 = h) 0 0) 0 0 h 0 [(0, .int (c))] []
  refine aw_iload_n dX5_isDigit_0 rfl ?_
  refine aw_bipush (v := nI 48) dX5_isDigit_1 rfl ?_
  refine aw_icmp_lt (tgt := 16) dX5_isDigit_3 (by decide) (fun c_3 => ?_) (fun c_3 => ?_)
  · refine aw_iconst (v := nI 0) dX5_isDigit_16 rfl ?_
    refine aw_zreturn dX5_isDigit_17 rfl rfl ?_
    refine ⟨?_, rfl⟩
    simp only [Int32.lt_iff_toInt_lt, aw_ti (n := 48) (by decide), aw_ti (n := 57) (by decide)] at *
    first | rw [aw_t0 (by omega)] | rw [aw_t1 (by omega)]
  · refine aw_iload_n dX5_isDigit_6 rfl ?_
    refine aw_bipush (v := nI 57) dX5_isDigit_7 rfl ?_
    refine aw_icmp_gt (tgt := 16) dX5_isDigit_9 (by decide) (fun c_9 => ?_) (fun c_9 => ?_)
    · refine aw_iconst (v := nI 0) dX5_isDigit_16 rfl ?_
      refine aw_zreturn dX5_isDigit_17 rfl rfl ?_
      refine ⟨?_, rfl⟩
      simp only [Int32.lt_iff_toInt_lt, aw_ti (n := 48) (by decide), aw_ti (n := 57) (by decide)] at *
      first | rw [aw_t0 (by omega)] | rw [aw_t1 (by omega)]
    · refine aw_iconst (v := nI 1) dX5_isDigit_12 rfl ?_
      refine aw_goto (tgt := 17) dX5_isDigit_13 (by decide) ?_
      refine aw_zreturn dX5_isDigit_17 rfl rfl ?_
      refine ⟨?_, rfl⟩
      simp only [Int32.lt_iff_toInt_lt, aw_ti (n := 48) (by decide), aw_ti (n := 57) (by decide)] at *
      first | rw [aw_t0 (by omega)] | rw [aw_t1 (by omega)]
noncomputable def sp_signD (c : Int) : Decidable (sp_sign c) := Classical.propDecidable _
set_option maxHeartbeats 4000000 in
theorem mp_isSign {c : Int32} {dc : Decidable (sp_sign c.toInt)} : aw_Pu yX5_isSign cX5_isSign 1 (some .boolean) 0 [.int (c)] (.int (nI (aw_t (sp_sign c.toInt)))) := by
  refine fun G h => aw_Met.of (by decide +kernel) (Nat.le_of_ble_eq_true rfl) ?_
  show AW G (aw_rm 0 0 0) yX5_isSign cX5_isSign 1 (some .boolean) (aw_N G (fun v9 h9 => v9 = some (.int (nI (aw_t (sp_sign c.toInt)))) ∧ h9 = h) 0 0) 0 0 h 0 [(0, .int (c))] []
  refine aw_iload_n dX5_isSign_0 rfl ?_
  refine aw_bipush (v := nI 59) dX5_isSign_1 rfl ?_
  refine aw_icmp_eq (tgt := 66) dX5_isSign_3 (by decide) (fun c_3 => ?_) (fun c_3 => ?_)
  · refine aw_iconst (v := nI 1) dX5_isSign_66 rfl ?_
    refine aw_goto (tgt := 71) dX5_isSign_67 (by decide) ?_
    refine aw_zreturn dX5_isSign_71 rfl rfl ?_
    refine ⟨?_, rfl⟩
    simp only [aw_eqi (n := 59) (by decide), aw_eqi (n := 40) (by decide), aw_eqi (n := 41) (by decide), aw_eqi (n := 60) (by decide), aw_eqi (n := 62) (by decide), aw_eqi (n := 61) (by decide), aw_eqi (n := 43) (by decide), aw_eqi (n := 45) (by decide), aw_eqi (n := 42) (by decide), aw_eqi (n := 47) (by decide), aw_eqi (n := 37) (by decide)] at *
    first | rw [aw_t0 (by unfold sp_sign; omega)] | rw [aw_t1 (by unfold sp_sign; omega)]
  · refine aw_iload_n dX5_isSign_6 rfl ?_
    refine aw_bipush (v := nI 40) dX5_isSign_7 rfl ?_
    refine aw_icmp_eq (tgt := 66) dX5_isSign_9 (by decide) (fun c_9 => ?_) (fun c_9 => ?_)
    · refine aw_iconst (v := nI 1) dX5_isSign_66 rfl ?_
      refine aw_goto (tgt := 71) dX5_isSign_67 (by decide) ?_
      refine aw_zreturn dX5_isSign_71 rfl rfl ?_
      refine ⟨?_, rfl⟩
      simp only [aw_eqi (n := 59) (by decide), aw_eqi (n := 40) (by decide), aw_eqi (n := 41) (by decide), aw_eqi (n := 60) (by decide), aw_eqi (n := 62) (by decide), aw_eqi (n := 61) (by decide), aw_eqi (n := 43) (by decide), aw_eqi (n := 45) (by decide), aw_eqi (n := 42) (by decide), aw_eqi (n := 47) (by decide), aw_eqi (n := 37) (by decide)] at *
      first | rw [aw_t0 (by unfold sp_sign; omega)] | rw [aw_t1 (by unfold sp_sign; omega)]
    · refine aw_iload_n dX5_isSign_12 rfl ?_
      refine aw_bipush (v := nI 41) dX5_isSign_13 rfl ?_
      refine aw_icmp_eq (tgt := 66) dX5_isSign_15 (by decide) (fun c_15 => ?_) (fun c_15 => ?_)
      · refine aw_iconst (v := nI 1) dX5_isSign_66 rfl ?_
        refine aw_goto (tgt := 71) dX5_isSign_67 (by decide) ?_
        refine aw_zreturn dX5_isSign_71 rfl rfl ?_
        refine ⟨?_, rfl⟩
        simp only [aw_eqi (n := 59) (by decide), aw_eqi (n := 40) (by decide), aw_eqi (n := 41) (by decide), aw_eqi (n := 60) (by decide), aw_eqi (n := 62) (by decide), aw_eqi (n := 61) (by decide), aw_eqi (n := 43) (by decide), aw_eqi (n := 45) (by decide), aw_eqi (n := 42) (by decide), aw_eqi (n := 47) (by decide), aw_eqi (n := 37) (by decide)] at *
        first | rw [aw_t0 (by unfold sp_sign; omega)] | rw [aw_t1 (by unfold sp_sign; omega)]
      · refine aw_iload_n dX5_isSign_18 rfl ?_
        refine aw_bipush (v := nI 60) dX5_isSign_19 rfl ?_
        refine aw_icmp_eq (tgt := 66) dX5_isSign_21 (by decide) (fun c_21 => ?_) (fun c_21 => ?_)
        · refine aw_iconst (v := nI 1) dX5_isSign_66 rfl ?_
          refine aw_goto (tgt := 71) dX5_isSign_67 (by decide) ?_
          refine aw_zreturn dX5_isSign_71 rfl rfl ?_
          refine ⟨?_, rfl⟩
          simp only [aw_eqi (n := 59) (by decide), aw_eqi (n := 40) (by decide), aw_eqi (n := 41) (by decide), aw_eqi (n := 60) (by decide), aw_eqi (n := 62) (by decide), aw_eqi (n := 61) (by decide), aw_eqi (n := 43) (by decide), aw_eqi (n := 45) (by decide), aw_eqi (n := 42) (by decide), aw_eqi (n := 47) (by decide), aw_eqi (n := 37) (by decide)] at *
          first | rw [aw_t0 (by unfold sp_sign; omega)] | rw [aw_t1 (by unfold sp_sign; omega)]
        · refine aw_iload_n dX5_isSign_24 rfl ?_
          refine aw_bipush (v := nI 62) dX5_isSign_25 rfl ?_
          refine aw_icmp_eq (tgt := 66) dX5_isSign_27 (by decide) (fun c_27 => ?_) (fun c_27 => ?_)
          · refine aw_iconst (v := nI 1) dX5_isSign_66 rfl ?_
            refine aw_goto (tgt := 71) dX5_isSign_67 (by decide) ?_
            refine aw_zreturn dX5_isSign_71 rfl rfl ?_
            refine ⟨?_, rfl⟩
            simp only [aw_eqi (n := 59) (by decide), aw_eqi (n := 40) (by decide), aw_eqi (n := 41) (by decide), aw_eqi (n := 60) (by decide), aw_eqi (n := 62) (by decide), aw_eqi (n := 61) (by decide), aw_eqi (n := 43) (by decide), aw_eqi (n := 45) (by decide), aw_eqi (n := 42) (by decide), aw_eqi (n := 47) (by decide), aw_eqi (n := 37) (by decide)] at *
            first | rw [aw_t0 (by unfold sp_sign; omega)] | rw [aw_t1 (by unfold sp_sign; omega)]
          · refine aw_iload_n dX5_isSign_30 rfl ?_
            refine aw_bipush (v := nI 61) dX5_isSign_31 rfl ?_
            refine aw_icmp_eq (tgt := 66) dX5_isSign_33 (by decide) (fun c_33 => ?_) (fun c_33 => ?_)
            · refine aw_iconst (v := nI 1) dX5_isSign_66 rfl ?_
              refine aw_goto (tgt := 71) dX5_isSign_67 (by decide) ?_
              refine aw_zreturn dX5_isSign_71 rfl rfl ?_
              refine ⟨?_, rfl⟩
              simp only [aw_eqi (n := 59) (by decide), aw_eqi (n := 40) (by decide), aw_eqi (n := 41) (by decide), aw_eqi (n := 60) (by decide), aw_eqi (n := 62) (by decide), aw_eqi (n := 61) (by decide), aw_eqi (n := 43) (by decide), aw_eqi (n := 45) (by decide), aw_eqi (n := 42) (by decide), aw_eqi (n := 47) (by decide), aw_eqi (n := 37) (by decide)] at *
              first | rw [aw_t0 (by unfold sp_sign; omega)] | rw [aw_t1 (by unfold sp_sign; omega)]
            · refine aw_iload_n dX5_isSign_36 rfl ?_
              refine aw_bipush (v := nI 43) dX5_isSign_37 rfl ?_
              refine aw_icmp_eq (tgt := 66) dX5_isSign_39 (by decide) (fun c_39 => ?_) (fun c_39 => ?_)
              · refine aw_iconst (v := nI 1) dX5_isSign_66 rfl ?_
                refine aw_goto (tgt := 71) dX5_isSign_67 (by decide) ?_
                refine aw_zreturn dX5_isSign_71 rfl rfl ?_
                refine ⟨?_, rfl⟩
                simp only [aw_eqi (n := 59) (by decide), aw_eqi (n := 40) (by decide), aw_eqi (n := 41) (by decide), aw_eqi (n := 60) (by decide), aw_eqi (n := 62) (by decide), aw_eqi (n := 61) (by decide), aw_eqi (n := 43) (by decide), aw_eqi (n := 45) (by decide), aw_eqi (n := 42) (by decide), aw_eqi (n := 47) (by decide), aw_eqi (n := 37) (by decide)] at *
                first | rw [aw_t0 (by unfold sp_sign; omega)] | rw [aw_t1 (by unfold sp_sign; omega)]
              · refine aw_iload_n dX5_isSign_42 rfl ?_
                refine aw_bipush (v := nI 45) dX5_isSign_43 rfl ?_
                refine aw_icmp_eq (tgt := 66) dX5_isSign_45 (by decide) (fun c_45 => ?_) (fun c_45 => ?_)
                · refine aw_iconst (v := nI 1) dX5_isSign_66 rfl ?_
                  refine aw_goto (tgt := 71) dX5_isSign_67 (by decide) ?_
                  refine aw_zreturn dX5_isSign_71 rfl rfl ?_
                  refine ⟨?_, rfl⟩
                  simp only [aw_eqi (n := 59) (by decide), aw_eqi (n := 40) (by decide), aw_eqi (n := 41) (by decide), aw_eqi (n := 60) (by decide), aw_eqi (n := 62) (by decide), aw_eqi (n := 61) (by decide), aw_eqi (n := 43) (by decide), aw_eqi (n := 45) (by decide), aw_eqi (n := 42) (by decide), aw_eqi (n := 47) (by decide), aw_eqi (n := 37) (by decide)] at *
                  first | rw [aw_t0 (by unfold sp_sign; omega)] | rw [aw_t1 (by unfold sp_sign; omega)]
                · refine aw_iload_n dX5_isSign_48 rfl ?_
                  refine aw_bipush (v := nI 42) dX5_isSign_49 rfl ?_
                  refine aw_icmp_eq (tgt := 66) dX5_isSign_51 (by decide) (fun c_51 => ?_) (fun c_51 => ?_)
                  · refine aw_iconst (v := nI 1) dX5_isSign_66 rfl ?_
                    refine aw_goto (tgt := 71) dX5_isSign_67 (by decide) ?_
                    refine aw_zreturn dX5_isSign_71 rfl rfl ?_
                    refine ⟨?_, rfl⟩
                    simp only [aw_eqi (n := 59) (by decide), aw_eqi (n := 40) (by decide), aw_eqi (n := 41) (by decide), aw_eqi (n := 60) (by decide), aw_eqi (n := 62) (by decide), aw_eqi (n := 61) (by decide), aw_eqi (n := 43) (by decide), aw_eqi (n := 45) (by decide), aw_eqi (n := 42) (by decide), aw_eqi (n := 47) (by decide), aw_eqi (n := 37) (by decide)] at *
                    first | rw [aw_t0 (by unfold sp_sign; omega)] | rw [aw_t1 (by unfold sp_sign; omega)]
                  · refine aw_iload_n dX5_isSign_54 rfl ?_
                    refine aw_bipush (v := nI 47) dX5_isSign_55 rfl ?_
                    refine aw_icmp_eq (tgt := 66) dX5_isSign_57 (by decide) (fun c_57 => ?_) (fun c_57 => ?_)
                    · refine aw_iconst (v := nI 1) dX5_isSign_66 rfl ?_
                      refine aw_goto (tgt := 71) dX5_isSign_67 (by decide) ?_
                      refine aw_zreturn dX5_isSign_71 rfl rfl ?_
                      refine ⟨?_, rfl⟩
                      simp only [aw_eqi (n := 59) (by decide), aw_eqi (n := 40) (by decide), aw_eqi (n := 41) (by decide), aw_eqi (n := 60) (by decide), aw_eqi (n := 62) (by decide), aw_eqi (n := 61) (by decide), aw_eqi (n := 43) (by decide), aw_eqi (n := 45) (by decide), aw_eqi (n := 42) (by decide), aw_eqi (n := 47) (by decide), aw_eqi (n := 37) (by decide)] at *
                      first | rw [aw_t0 (by unfold sp_sign; omega)] | rw [aw_t1 (by unfold sp_sign; omega)]
                    · refine aw_iload_n dX5_isSign_60 rfl ?_
                      refine aw_bipush (v := nI 37) dX5_isSign_61 rfl ?_
                      refine aw_icmp_ne (tgt := 70) dX5_isSign_63 (by decide) (fun c_63 => ?_) (fun c_63 => ?_)
                      · refine aw_iconst (v := nI 0) dX5_isSign_70 rfl ?_
                        refine aw_zreturn dX5_isSign_71 rfl rfl ?_
                        refine ⟨?_, rfl⟩
                        simp only [aw_eqi (n := 59) (by decide), aw_eqi (n := 40) (by decide), aw_eqi (n := 41) (by decide), aw_eqi (n := 60) (by decide), aw_eqi (n := 62) (by decide), aw_eqi (n := 61) (by decide), aw_eqi (n := 43) (by decide), aw_eqi (n := 45) (by decide), aw_eqi (n := 42) (by decide), aw_eqi (n := 47) (by decide), aw_eqi (n := 37) (by decide)] at *
                        first | rw [aw_t0 (by unfold sp_sign; omega)] | rw [aw_t1 (by unfold sp_sign; omega)]
                      · refine aw_iconst (v := nI 1) dX5_isSign_66 rfl ?_
                        refine aw_goto (tgt := 71) dX5_isSign_67 (by decide) ?_
                        refine aw_zreturn dX5_isSign_71 rfl rfl ?_
                        refine ⟨?_, rfl⟩
                        simp only [aw_eqi (n := 59) (by decide), aw_eqi (n := 40) (by decide), aw_eqi (n := 41) (by decide), aw_eqi (n := 60) (by decide), aw_eqi (n := 62) (by decide), aw_eqi (n := 61) (by decide), aw_eqi (n := 43) (by decide), aw_eqi (n := 45) (by decide), aw_eqi (n := 42) (by decide), aw_eqi (n := 47) (by decide), aw_eqi (n := 37) (by decide)] at *
                        first | rw [aw_t0 (by unfold sp_sign; omega)] | rw [aw_t1 (by unfold sp_sign; omega)]
set_option maxHeartbeats 4000000 in
theorem mp_within {v : Int32} {m : Nat} (hm : m < 2147483648) : aw_Pu yX5_within cX5_within 2 (some .int) 0 [.int (v), .int (nI (m))] (.int (nI (min v.toNatClampNeg m))) := by
  refine fun G h => aw_Met.of (by decide +kernel) (Nat.le_of_ble_eq_true rfl) ?_
  show AW G (aw_rm 0 0 0) yX5_within cX5_within 2 (some .int) (aw_N G (fun v9 h9 => v9 = some (.int (nI (min v.toNatClampNeg m))) ∧ h9 = h) 0 0) 0 0 h 0 [(0, .int (v)), (1, .int (nI (m)))] []
  refine aw_iload_n dX5_within_0 rfl ?_
  refine aw_if_ge (tgt := 8) dX5_within_1 (by decide) (fun c_1 => ?_) (fun c_1 => ?_)
  · refine aw_iload_n dX5_within_8 rfl ?_
    refine aw_iload_n dX5_within_9 rfl ?_
    refine aw_icmp_le (tgt := 17) dX5_within_10 (by decide) (fun c_10 => ?_) (fun c_10 => ?_)
    · refine aw_iload_n dX5_within_17 rfl ?_
      refine aw_ireturn dX5_within_18 rfl ?_
      refine ⟨?_, rfl⟩
      have e : v.toNatClampNeg = v.toInt.toNat := rfl
      simp only [Int32.lt_iff_toInt_lt, Int32.le_iff_toInt_le, aw_ti hm, show (0 : Int32).toInt = 0 from rfl] at *
      first
        | rw [show min v.toNatClampNeg m = 0 by omega]
        | rw [show min v.toNatClampNeg m = m by omega]
        | (have h3 : v = nI v.toNatClampNeg := by
             rw [aw_eqi (by omega)]
             omega
           rw [show min v.toNatClampNeg m = v.toNatClampNeg by omega, ← h3])
    · refine aw_iload_n dX5_within_13 rfl ?_
      refine aw_goto (tgt := 18) dX5_within_14 (by decide) ?_
      refine aw_ireturn dX5_within_18 rfl ?_
      refine ⟨?_, rfl⟩
      have e : v.toNatClampNeg = v.toInt.toNat := rfl
      simp only [Int32.lt_iff_toInt_lt, Int32.le_iff_toInt_le, aw_ti hm, show (0 : Int32).toInt = 0 from rfl] at *
      first
        | rw [show min v.toNatClampNeg m = 0 by omega]
        | rw [show min v.toNatClampNeg m = m by omega]
        | (have h3 : v = nI v.toNatClampNeg := by
             rw [aw_eqi (by omega)]
             omega
           rw [show min v.toNatClampNeg m = v.toNatClampNeg by omega, ← h3])
  · refine aw_iconst (v := nI 0) dX5_within_4 rfl ?_
    refine aw_goto (tgt := 18) dX5_within_5 (by decide) ?_
    refine aw_ireturn dX5_within_18 rfl ?_
    refine ⟨?_, rfl⟩
    have e : v.toNatClampNeg = v.toInt.toNat := rfl
    simp only [Int32.lt_iff_toInt_lt, Int32.le_iff_toInt_le, aw_ti hm, show (0 : Int32).toInt = 0 from rfl] at *
    first
      | rw [show min v.toNatClampNeg m = 0 by omega]
      | rw [show min v.toNatClampNeg m = m by omega]
      | (have h3 : v = nI v.toNatClampNeg := by
           rw [aw_eqi (by omega)]
           omega
         rw [show min v.toNatClampNeg m = v.toNatClampNeg by omega, ← h3])
set_option maxHeartbeats 4000000 in
theorem mp_tight {s : Nat} (hs : s = 21 ∨ s = 38 ∨ s = 43 ∨ s = 45 ∨ s = 60 ∨ s = 61 ∨ s = 62 ∨ s = 124 ∨ s = 42 ∨ s = 47 ∨ s = 37 ∨ s = 20) : aw_Pu yX5_tight cX5_tight 1 (some .int) 0 [.int (nI (s))] (.int (nI (sp_tight s))) := by
  refine fun G h => aw_Met.of (by decide +kernel) (Nat.le_of_ble_eq_true rfl) ?_
  show AW G (aw_rm 0 0 0) yX5_tight cX5_tight 1 (some .int) (aw_N G (fun v9 h9 => v9 = some (.int (nI (sp_tight s))) ∧ h9 = h) 0 0) 0 0 h 0 [(0, .int (nI (s)))] []
  refine aw_iload_n dX5_tight_0 rfl ?_
  rcases hs with rfl | rfl | rfl | rfl | rfl | rfl | rfl | rfl | rfl | rfl | rfl | rfl
  · refine aw_lookup (off := 79) (tgt := 80) dX5_tight_1 (by decide) (by decide) (by decide) ?_
    refine aw_iconst (v := nI 3) dX5_tight_80 rfl ?_
    refine aw_ireturn dX5_tight_81 rfl ?_
    exact ⟨rfl, rfl⟩
  · refine aw_lookup (off := 77) (tgt := 78) dX5_tight_1 (by decide) (by decide) (by decide) ?_
    refine aw_iconst (v := nI 2) dX5_tight_78 rfl ?_
    refine aw_ireturn dX5_tight_79 rfl ?_
    exact ⟨rfl, rfl⟩
  · refine aw_lookup (off := 83) (tgt := 84) dX5_tight_1 (by decide) (by decide) (by decide) ?_
    refine aw_iconst (v := nI 5) dX5_tight_84 rfl ?_
    refine aw_ireturn dX5_tight_85 rfl ?_
    exact ⟨rfl, rfl⟩
  · refine aw_lookup (off := 83) (tgt := 84) dX5_tight_1 (by decide) (by decide) (by decide) ?_
    refine aw_iconst (v := nI 5) dX5_tight_84 rfl ?_
    refine aw_ireturn dX5_tight_85 rfl ?_
    exact ⟨rfl, rfl⟩
  · refine aw_lookup (off := 81) (tgt := 82) dX5_tight_1 (by decide) (by decide) (by decide) ?_
    refine aw_iconst (v := nI 4) dX5_tight_82 rfl ?_
    refine aw_ireturn dX5_tight_83 rfl ?_
    exact ⟨rfl, rfl⟩
  · refine aw_lookup (off := 81) (tgt := 82) dX5_tight_1 (by decide) (by decide) (by decide) ?_
    refine aw_iconst (v := nI 4) dX5_tight_82 rfl ?_
    refine aw_ireturn dX5_tight_83 rfl ?_
    exact ⟨rfl, rfl⟩
  · refine aw_lookup (off := 81) (tgt := 82) dX5_tight_1 (by decide) (by decide) (by decide) ?_
    refine aw_iconst (v := nI 4) dX5_tight_82 rfl ?_
    refine aw_ireturn dX5_tight_83 rfl ?_
    exact ⟨rfl, rfl⟩
  · refine aw_lookup (off := 75) (tgt := 76) dX5_tight_1 (by decide) (by decide) (by decide) ?_
    refine aw_iconst (v := nI 1) dX5_tight_76 rfl ?_
    refine aw_ireturn dX5_tight_77 rfl ?_
    exact ⟨rfl, rfl⟩
  · refine aw_lookup (off := 85) (tgt := 86) dX5_tight_1 (by decide) (by decide) (by decide) ?_
    refine aw_bipush (v := nI 6) dX5_tight_86 rfl ?_
    refine aw_ireturn dX5_tight_88 rfl ?_
    exact ⟨rfl, rfl⟩
  · refine aw_lookup (off := 85) (tgt := 86) dX5_tight_1 (by decide) (by decide) (by decide) ?_
    refine aw_bipush (v := nI 6) dX5_tight_86 rfl ?_
    refine aw_ireturn dX5_tight_88 rfl ?_
    exact ⟨rfl, rfl⟩
  · refine aw_lookup (off := 85) (tgt := 86) dX5_tight_1 (by decide) (by decide) (by decide) ?_
    refine aw_bipush (v := nI 6) dX5_tight_86 rfl ?_
    refine aw_ireturn dX5_tight_88 rfl ?_
    exact ⟨rfl, rfl⟩
  · refine aw_lookup (off := 85) (tgt := 86) dX5_tight_1 (by decide) (by decide) (by decide) ?_
    refine aw_bipush (v := nI 6) dX5_tight_86 rfl ?_
    refine aw_ireturn dX5_tight_88 rfl ?_
    exact ⟨rfl, rfl⟩
theorem sp_d43 (x z : Int32) : sp_done 43 x z = x + z := rfl
theorem sp_d45 (x z : Int32) : sp_done 45 x z = x - z := rfl
theorem sp_d42 (x z : Int32) : sp_done 42 x z = x * z := rfl
theorem sp_d47 (x z : Int32) : sp_done 47 x z = if z = 0 then 0 else x / z := rfl
theorem sp_d37 (x z : Int32) : sp_done 37 x z = if z = 0 then 0 else x - x / z * z := rfl
theorem sp_d60 (x z : Int32) : sp_done 60 x z = nI (aw_t (x < z)) := rfl
theorem sp_d62 (x z : Int32) : sp_done 62 x z = nI (aw_t (z < x)) := rfl
theorem sp_d61 (x z : Int32) : sp_done 61 x z = nI (aw_t (x = z)) := rfl
theorem sp_d38 (x z : Int32) : sp_done 38 x z = nI (aw_t (x ≠ 0 ∧ z ≠ 0)) := rfl
theorem sp_d124 (x z : Int32) : sp_done 124 x z = nI (aw_t (x ≠ 0 ∨ z ≠ 0)) := rfl
set_option maxHeartbeats 4000000 in
theorem mp_done {sg : Nat} {x z : Int32} (hs : sp_sg sg) : aw_Pu yX5_done cX5_done 3 (some .int) 1 [.int (nI (sg)), .int (x), .int (z)] (.int (sp_done sg x z)) := by
  refine fun G h => aw_Met.of (by decide +kernel) (Nat.le_of_ble_eq_true rfl) ?_
  show AW G (aw_rm 1 0 0) yX5_done cX5_done 3 (some .int) (aw_N G (fun v9 h9 => v9 = some (.int (sp_done sg x z)) ∧ h9 = h) 0 0) 0 0 h 0 [(0, .int (nI (sg))), (1, .int (x)), (2, .int (z))] []
  unfold sp_sg at hs
  refine aw_iload_n dX5_done_0 rfl ?_
  rcases hs with rfl | rfl | rfl | rfl | rfl | rfl | rfl | rfl | rfl | rfl
  · refine aw_tableIn (off := 119) (tgt := 120) dX5_done_1 (by decide) (by decide) (by decide) (by decide) ?_
    refine aw_iload_n dX5_done_120 rfl ?_
    refine aw_iload_n dX5_done_121 rfl ?_
    refine aw_iadd dX5_done_122 ?_
    refine aw_ireturn dX5_done_123 rfl ?_
    exact ⟨rfl, rfl⟩
  · refine aw_tableIn (off := 123) (tgt := 124) dX5_done_1 (by decide) (by decide) (by decide) (by decide) ?_
    refine aw_iload_n dX5_done_124 rfl ?_
    refine aw_iload_n dX5_done_125 rfl ?_
    refine aw_isub dX5_done_126 ?_
    refine aw_ireturn dX5_done_127 rfl ?_
    exact ⟨rfl, rfl⟩
  · refine aw_tableIn (off := 127) (tgt := 128) dX5_done_1 (by decide) (by decide) (by decide) (by decide) ?_
    refine aw_iload_n dX5_done_128 rfl ?_
    refine aw_iload_n dX5_done_129 rfl ?_
    refine aw_imul dX5_done_130 ?_
    refine aw_ireturn dX5_done_131 rfl ?_
    exact ⟨rfl, rfl⟩
  · refine aw_tableIn (off := 131) (tgt := 132) dX5_done_1 (by decide) (by decide) (by decide) (by decide) ?_
    refine aw_iload_n dX5_done_132 rfl ?_
    refine aw_if_ne (tgt := 140) dX5_done_133 (by decide) (fun c_133 => ?_) (fun c_133 => ?_)
    · refine aw_iload_n dX5_done_140 rfl ?_
      refine aw_iload_n dX5_done_141 rfl ?_
      refine aw_idiv dX5_done_142 (by assumption) ?_
      refine aw_ireturn dX5_done_143 rfl ?_
      exact ⟨by first | (rw [sp_d47, if_pos c_133]; rfl) | rw [sp_d47, if_neg c_133], rfl⟩
    · refine aw_iconst (v := nI 0) dX5_done_136 rfl ?_
      refine aw_goto (tgt := 143) dX5_done_137 (by decide) ?_
      refine aw_ireturn dX5_done_143 rfl ?_
      exact ⟨by first | (rw [sp_d47, if_pos c_133]; rfl) | rw [sp_d47, if_neg c_133], rfl⟩
  · refine aw_tableIn (off := 143) (tgt := 144) dX5_done_1 (by decide) (by decide) (by decide) (by decide) ?_
    refine aw_iload_n dX5_done_144 rfl ?_
    refine aw_if_ne (tgt := 152) dX5_done_145 (by decide) (fun c_145 => ?_) (fun c_145 => ?_)
    · refine aw_iload_n dX5_done_152 rfl ?_
      refine aw_iload_n dX5_done_153 rfl ?_
      refine aw_irem dX5_done_154 (by assumption) ?_
      refine aw_ireturn dX5_done_155 rfl ?_
      exact ⟨by first | (rw [sp_d37, if_pos c_145]; rfl) | rw [sp_d37, if_neg c_145], rfl⟩
    · refine aw_iconst (v := nI 0) dX5_done_148 rfl ?_
      refine aw_goto (tgt := 155) dX5_done_149 (by decide) ?_
      refine aw_ireturn dX5_done_155 rfl ?_
      exact ⟨by first | (rw [sp_d37, if_pos c_145]; rfl) | rw [sp_d37, if_neg c_145], rfl⟩
  · refine aw_tableIn (off := 155) (tgt := 156) dX5_done_1 (by decide) (by decide) (by decide) (by decide) ?_
    refine aw_iload_n dX5_done_156 rfl ?_
    refine aw_iload_n dX5_done_157 rfl ?_
    refine aw_icmp_ge (tgt := 165) dX5_done_158 (by decide) (fun c_158 => ?_) (fun c_158 => ?_)
    · refine aw_iconst (v := nI 0) dX5_done_165 rfl ?_
      refine aw_callP (r := _) dX5_done_166 sX5_304 rfl (mp_truth (by first | omega | assumption | exact aw_t_lt)) rfl rfl ⟨Nat.le_of_ble_eq_true rfl, Nat.le_of_ble_eq_true rfl⟩ (Nat.le_of_ble_eq_true rfl) ?_
      refine aw_ireturn dX5_done_169 rfl ?_
      exact ⟨by first | rw [sp_d60, aw_t0 (Int32.not_lt.mpr c_158)] | rw [sp_d60, aw_t1 (Int32.not_le.mp c_158)], rfl⟩
    · refine aw_iconst (v := nI 1) dX5_done_161 rfl ?_
      refine aw_goto (tgt := 166) dX5_done_162 (by decide) ?_
      refine aw_callP (r := _) dX5_done_166 sX5_304 rfl (mp_truth (by first | omega | assumption | exact aw_t_lt)) rfl rfl ⟨Nat.le_of_ble_eq_true rfl, Nat.le_of_ble_eq_true rfl⟩ (Nat.le_of_ble_eq_true rfl) ?_
      refine aw_ireturn dX5_done_169 rfl ?_
      exact ⟨by first | rw [sp_d60, aw_t0 (Int32.not_lt.mpr c_158)] | rw [sp_d60, aw_t1 (Int32.not_le.mp c_158)], rfl⟩
  · refine aw_tableIn (off := 169) (tgt := 170) dX5_done_1 (by decide) (by decide) (by decide) (by decide) ?_
    refine aw_iload_n dX5_done_170 rfl ?_
    refine aw_iload_n dX5_done_171 rfl ?_
    refine aw_icmp_le (tgt := 179) dX5_done_172 (by decide) (fun c_172 => ?_) (fun c_172 => ?_)
    · refine aw_iconst (v := nI 0) dX5_done_179 rfl ?_
      refine aw_callP (r := _) dX5_done_180 sX5_304 rfl (mp_truth (by first | omega | assumption | exact aw_t_lt)) rfl rfl ⟨Nat.le_of_ble_eq_true rfl, Nat.le_of_ble_eq_true rfl⟩ (Nat.le_of_ble_eq_true rfl) ?_
      refine aw_ireturn dX5_done_183 rfl ?_
      exact ⟨by first | rw [sp_d62, aw_t0 (Int32.not_lt.mpr c_172)] | rw [sp_d62, aw_t1 (Int32.not_le.mp c_172)], rfl⟩
    · refine aw_iconst (v := nI 1) dX5_done_175 rfl ?_
      refine aw_goto (tgt := 180) dX5_done_176 (by decide) ?_
      refine aw_callP (r := _) dX5_done_180 sX5_304 rfl (mp_truth (by first | omega | assumption | exact aw_t_lt)) rfl rfl ⟨Nat.le_of_ble_eq_true rfl, Nat.le_of_ble_eq_true rfl⟩ (Nat.le_of_ble_eq_true rfl) ?_
      refine aw_ireturn dX5_done_183 rfl ?_
      exact ⟨by first | rw [sp_d62, aw_t0 (Int32.not_lt.mpr c_172)] | rw [sp_d62, aw_t1 (Int32.not_le.mp c_172)], rfl⟩
  · refine aw_tableIn (off := 183) (tgt := 184) dX5_done_1 (by decide) (by decide) (by decide) (by decide) ?_
    refine aw_iload_n dX5_done_184 rfl ?_
    refine aw_iload_n dX5_done_185 rfl ?_
    refine aw_icmp_ne (tgt := 193) dX5_done_186 (by decide) (fun c_186 => ?_) (fun c_186 => ?_)
    · refine aw_iconst (v := nI 0) dX5_done_193 rfl ?_
      refine aw_callP (r := _) dX5_done_194 sX5_304 rfl (mp_truth (by first | omega | assumption | exact aw_t_lt)) rfl rfl ⟨Nat.le_of_ble_eq_true rfl, Nat.le_of_ble_eq_true rfl⟩ (Nat.le_of_ble_eq_true rfl) ?_
      refine aw_ireturn dX5_done_197 rfl ?_
      exact ⟨by first | rw [sp_d61, aw_t0 c_186] | rw [sp_d61, aw_t1 c_186], rfl⟩
    · refine aw_iconst (v := nI 1) dX5_done_189 rfl ?_
      refine aw_goto (tgt := 194) dX5_done_190 (by decide) ?_
      refine aw_callP (r := _) dX5_done_194 sX5_304 rfl (mp_truth (by first | omega | assumption | exact aw_t_lt)) rfl rfl ⟨Nat.le_of_ble_eq_true rfl, Nat.le_of_ble_eq_true rfl⟩ (Nat.le_of_ble_eq_true rfl) ?_
      refine aw_ireturn dX5_done_197 rfl ?_
      exact ⟨by first | rw [sp_d61, aw_t0 c_186] | rw [sp_d61, aw_t1 c_186], rfl⟩
  · refine aw_tableIn (off := 197) (tgt := 198) dX5_done_1 (by decide) (by decide) (by decide) (by decide) ?_
    refine aw_iload_n dX5_done_198 rfl ?_
    refine aw_if_eq (tgt := 210) dX5_done_199 (by decide) (fun c_199 => ?_) (fun c_199 => ?_)
    · refine aw_iconst (v := nI 0) dX5_done_210 rfl ?_
      refine aw_callP (r := _) dX5_done_211 sX5_304 rfl (mp_truth (by first | omega | assumption | exact aw_t_lt)) rfl rfl ⟨Nat.le_of_ble_eq_true rfl, Nat.le_of_ble_eq_true rfl⟩ (Nat.le_of_ble_eq_true rfl) ?_
      refine aw_ireturn dX5_done_214 rfl ?_
      refine ⟨?_, rfl⟩
      rw [sp_d38]
      unfold aw_t
      simp [*]
    · refine aw_iload_n dX5_done_202 rfl ?_
      refine aw_if_eq (tgt := 210) dX5_done_203 (by decide) (fun c_203 => ?_) (fun c_203 => ?_)
      · refine aw_iconst (v := nI 0) dX5_done_210 rfl ?_
        refine aw_callP (r := _) dX5_done_211 sX5_304 rfl (mp_truth (by first | omega | assumption | exact aw_t_lt)) rfl rfl ⟨Nat.le_of_ble_eq_true rfl, Nat.le_of_ble_eq_true rfl⟩ (Nat.le_of_ble_eq_true rfl) ?_
        refine aw_ireturn dX5_done_214 rfl ?_
        refine ⟨?_, rfl⟩
        rw [sp_d38]
        unfold aw_t
        simp [*]
      · refine aw_iconst (v := nI 1) dX5_done_206 rfl ?_
        refine aw_goto (tgt := 211) dX5_done_207 (by decide) ?_
        refine aw_callP (r := _) dX5_done_211 sX5_304 rfl (mp_truth (by first | omega | assumption | exact aw_t_lt)) rfl rfl ⟨Nat.le_of_ble_eq_true rfl, Nat.le_of_ble_eq_true rfl⟩ (Nat.le_of_ble_eq_true rfl) ?_
        refine aw_ireturn dX5_done_214 rfl ?_
        refine ⟨?_, rfl⟩
        rw [sp_d38]
        unfold aw_t
        simp [*]
  · refine aw_tableOut (tgt := 215) dX5_done_1 (by decide) (by decide) ?_
    refine aw_iload_n dX5_done_215 rfl ?_
    refine aw_if_ne (tgt := 223) dX5_done_216 (by decide) (fun c_216 => ?_) (fun c_216 => ?_)
    · refine aw_iconst (v := nI 1) dX5_done_223 rfl ?_
      refine aw_goto (tgt := 228) dX5_done_224 (by decide) ?_
      refine aw_callP (r := _) dX5_done_228 sX5_304 rfl (mp_truth (by first | omega | assumption | exact aw_t_lt)) rfl rfl ⟨Nat.le_of_ble_eq_true rfl, Nat.le_of_ble_eq_true rfl⟩ (Nat.le_of_ble_eq_true rfl) ?_
      refine aw_ireturn dX5_done_231 rfl ?_
      refine ⟨?_, rfl⟩
      rw [sp_d124]
      unfold aw_t
      simp [*]
    · refine aw_iload_n dX5_done_219 rfl ?_
      refine aw_if_eq (tgt := 227) dX5_done_220 (by decide) (fun c_220 => ?_) (fun c_220 => ?_)
      · refine aw_iconst (v := nI 0) dX5_done_227 rfl ?_
        refine aw_callP (r := _) dX5_done_228 sX5_304 rfl (mp_truth (by first | omega | assumption | exact aw_t_lt)) rfl rfl ⟨Nat.le_of_ble_eq_true rfl, Nat.le_of_ble_eq_true rfl⟩ (Nat.le_of_ble_eq_true rfl) ?_
        refine aw_ireturn dX5_done_231 rfl ?_
        refine ⟨?_, rfl⟩
        rw [sp_d124]
        unfold aw_t
        simp [*]
      · refine aw_iconst (v := nI 1) dX5_done_223 rfl ?_
        refine aw_goto (tgt := 228) dX5_done_224 (by decide) ?_
        refine aw_callP (r := _) dX5_done_228 sX5_304 rfl (mp_truth (by first | omega | assumption | exact aw_t_lt)) rfl rfl ⟨Nat.le_of_ble_eq_true rfl, Nat.le_of_ble_eq_true rfl⟩ (Nat.le_of_ble_eq_true rfl) ?_
        refine aw_ireturn dX5_done_231 rfl ?_
        refine ⟨?_, rfl⟩
        rw [sp_d124]
        unfold aw_t
        simp [*]
set_option maxHeartbeats 4000000 in
theorem mp_members {v : Nat} (hv : v < 2147483648) : aw_Pu yX5_members cX5_members 3 (some .int) 0 [.int (nI (v))] (.int (nI (sp_bits 8 v))) := by
  refine fun G h => aw_Met.of (by decide +kernel) (Nat.le_of_ble_eq_true rfl) ?_
  show AW G (aw_rm 0 0 0) yX5_members cX5_members 3 (some .int) (aw_N G (fun v9 h9 => v9 = some (.int (nI (sp_bits 8 v))) ∧ h9 = h) 0 0) 0 0 h 0 [(0, .int (nI (v)))] []
  have loop : ∀ (m k : Nat), 8 - k = m → k ≤ 8 → AW G (aw_rm 0 0 0) yX5_members cX5_members 3 (some .int) (aw_N G (fun v9 h9 => v9 = some (.int (nI (sp_bits 8 v))) ∧ h9 = h) 0 0) 0 0 h 4 [(0, .int (nI v)), (1, .int (nI (sp_bits k v))), (2, .int (nI k))] [] := by
    intro m
    induction m using Nat.strongRecOn with
    | _ m ih =>
      intro k hm hk
      refine aw_iload_n dX5_members_4 rfl ?_
      refine aw_bipush (v := nI 8) dX5_members_5 rfl ?_
      refine aw_icmp_geN (tgt := 24) dX5_members_7 (by decide) (by omega) (by omega) (fun c_7 => ?_) (fun c_7 => ?_)
      · refine aw_iload_n dX5_members_24 rfl ?_
        refine aw_ireturn dX5_members_25 rfl ?_
        exact ⟨by rw [show k = 8 by omega], rfl⟩
      · refine aw_iload_n dX5_members_10 rfl ?_
        refine aw_iload_n dX5_members_11 rfl ?_
        refine aw_iload_n dX5_members_12 rfl ?_
        refine aw_ishrN dX5_members_13 (by omega) (by omega) ?_
        refine aw_iconst (v := nI 1) dX5_members_14 rfl ?_
        refine aw_iandN dX5_members_15 ?_
        rw [Nat.and_one_is_mod]
        refine aw_iaddN dX5_members_16 ?_
        refine aw_istore_n dX5_members_17 (by decide) rfl rfl ?_
        refine aw_iincN (b := 1) dX5_members_18 rfl rfl (by decide) rfl rfl ?_
        refine aw_goto (tgt := 4) dX5_members_21 (by decide) ?_
        exact ih (8 - (k + 1)) (by omega) (k + 1) rfl (by omega)
  refine aw_iconst (v := nI 0) dX5_members_0 rfl ?_
  refine aw_istore_n dX5_members_1 (by decide) rfl rfl ?_
  refine aw_iconst (v := nI 0) dX5_members_2 rfl ?_
  refine aw_istore_n dX5_members_3 (by decide) rfl rfl ?_
  exact loop 8 0 rfl (Nat.zero_le _)
set_option maxHeartbeats 4000000 in
theorem mp_power {b n : Nat} (hn : n < 2147483648) : aw_Pu yX5_power cX5_power 4 (some .int) 0 [.int (nI (b)), .int (nI (n))] (.int (nI (b ^ n))) := by
  refine fun G h => aw_Met.of (by decide +kernel) (Nat.le_of_ble_eq_true rfl) ?_
  show AW G (aw_rm 0 0 0) yX5_power cX5_power 4 (some .int) (aw_N G (fun v9 h9 => v9 = some (.int (nI (b ^ n))) ∧ h9 = h) 0 0) 0 0 h 0 [(0, .int (nI (b))), (1, .int (nI (n)))] []
  have loop : ∀ (m k : Nat), n - k = m → k ≤ n → AW G (aw_rm 0 0 0) yX5_power cX5_power 4 (some .int) (aw_N G (fun v9 h9 => v9 = some (.int (nI (b ^ n))) ∧ h9 = h) 0 0) 0 0 h 4 [(0, .int (nI b)), (1, .int (nI n)), (2, .int (nI (b ^ k))), (3, .int (nI k))] [] := by
    intro m
    induction m using Nat.strongRecOn with
    | _ m ih =>
      intro k hm hk
      refine aw_iload_n dX5_power_4 rfl ?_
      refine aw_iload_n dX5_power_5 rfl ?_
      refine aw_icmp_geN (tgt := 19) dX5_power_6 (by decide) (by omega) (by omega) (fun c_6 => ?_) (fun c_6 => ?_)
      · refine aw_iload_n dX5_power_19 rfl ?_
        refine aw_ireturn dX5_power_20 rfl ?_
        exact ⟨by rw [show k = n by omega], rfl⟩
      · refine aw_iload_n dX5_power_9 rfl ?_
        refine aw_iload_n dX5_power_10 rfl ?_
        refine aw_imulN dX5_power_11 ?_
        refine aw_istore_n dX5_power_12 (by decide) rfl rfl ?_
        refine aw_iincN (b := 1) dX5_power_13 rfl rfl (by decide) rfl rfl ?_
        refine aw_goto (tgt := 4) dX5_power_16 (by decide) ?_
        exact ih (n - (k + 1)) (by omega) (k + 1) rfl (by omega)
  refine aw_iconst (v := nI 1) dX5_power_0 rfl ?_
  refine aw_istore_n dX5_power_1 (by decide) rfl rfl ?_
  refine aw_iconst (v := nI 0) dX5_power_2 rfl ?_
  refine aw_istore_n dX5_power_3 (by decide) rfl rfl ?_
  exact loop n 0 rfl (Nat.zero_le _)
set_option maxHeartbeats 4000000 in
theorem mp_divisor {a b : Nat} (ha : a < 2147483648) (hb : b < 2147483648) : aw_Pu yX5_divisor cX5_divisor 5 (some .int) 0 [.int (nI (a)), .int (nI (b))] (.int (nI (Nat.gcd a b))) := by
  refine fun G h => aw_Met.of (by decide +kernel) (Nat.le_of_ble_eq_true rfl) ?_
  show AW G (aw_rm 0 0 0) yX5_divisor cX5_divisor 5 (some .int) (aw_N G (fun v9 h9 => v9 = some (.int (nI (Nat.gcd a b))) ∧ h9 = h) 0 0) 0 0 h 0 [(0, .int (nI (a))), (1, .int (nI (b)))] []
  have loop : ∀ (m x z : Nat) (ls4 : List (Nat × Value)), (ls4 = [] ∨ ∃ q, ls4 = [(4, .int q)]) → z = m → x < 2147483648 → z < 2147483648 → Nat.gcd x z = Nat.gcd a b → AW G (aw_rm 0 0 0) yX5_divisor cX5_divisor 5 (some .int) (aw_N G (fun v9 h9 => v9 = some (.int (nI (Nat.gcd a b))) ∧ h9 = h) 0 0) 0 0 h 4 ((0, .int (nI a)) :: (1, .int (nI b)) :: (2, .int (nI x)) :: (3, .int (nI z)) :: ls4) [] := by
    intro m
    induction m using Nat.strongRecOn with
    | _ m ih =>
      intro x z ls4 h4 hm hx hz hg
      have go : ∀ q : Int32, AW G (aw_rm 0 0 0) yX5_divisor cX5_divisor 5 (some .int) (aw_N G (fun v9 h9 => v9 = some (.int (nI (Nat.gcd a b))) ∧ h9 = h) 0 0) 0 0 h 18 [(0, .int (nI a)), (1, .int (nI b)), (2, .int (nI z)), (3, .int (nI (x % z))), (4, .int q)] [] ∨ z = 0 := by
        intro q
        by_cases h0 : z = 0
        · exact Or.inr h0
        · left
          have hlt : x % z < z := Nat.mod_lt _ (by omega)
          refine aw_goto (tgt := 4) dX5_divisor_18 (by decide) ?_
          exact ih (x % z) (by omega) z (x % z) [(4, .int q)] (Or.inr ⟨q, rfl⟩) rfl hz (by omega) (by rw [← hg, Nat.gcd_comm x z, Nat.gcd_rec z x, Nat.gcd_comm])
      rcases h4 with rfl | ⟨q, rfl⟩
      ·
        refine aw_iload_n dX5_divisor_4 rfl ?_
        refine aw_if_leN (tgt := 21) dX5_divisor_5 (by decide) (by omega) (fun c_5 => ?_) (fun c_5 => ?_)
        · refine aw_iload_n dX5_divisor_21 rfl ?_
          refine aw_ireturn dX5_divisor_22 rfl ?_
          exact ⟨by rw [← hg, show z = 0 by omega, Nat.gcd_zero_right], rfl⟩
        · refine aw_iload_n dX5_divisor_8 rfl ?_
          refine aw_iload_n dX5_divisor_9 rfl ?_
          refine aw_iremN dX5_divisor_10 (by omega) (by omega) (by omega) ?_
          refine aw_istore dX5_divisor_11 (by decide) rfl rfl ?_
          refine aw_iload_n dX5_divisor_13 rfl ?_
          refine aw_istore_n dX5_divisor_14 (by decide) rfl rfl ?_
          refine aw_iload dX5_divisor_15 rfl ?_
          refine aw_istore_n dX5_divisor_17 (by decide) rfl rfl ?_
          exact (go _).resolve_right (by omega)
      ·
        refine aw_iload_n dX5_divisor_4 rfl ?_
        refine aw_if_leN (tgt := 21) dX5_divisor_5 (by decide) (by omega) (fun c_5 => ?_) (fun c_5 => ?_)
        · refine aw_iload_n dX5_divisor_21 rfl ?_
          refine aw_ireturn dX5_divisor_22 rfl ?_
          exact ⟨by rw [← hg, show z = 0 by omega, Nat.gcd_zero_right], rfl⟩
        · refine aw_iload_n dX5_divisor_8 rfl ?_
          refine aw_iload_n dX5_divisor_9 rfl ?_
          refine aw_iremN dX5_divisor_10 (by omega) (by omega) (by omega) ?_
          refine aw_istore dX5_divisor_11 (by decide) rfl rfl ?_
          refine aw_iload_n dX5_divisor_13 rfl ?_
          refine aw_istore_n dX5_divisor_14 (by decide) rfl rfl ?_
          refine aw_iload dX5_divisor_15 rfl ?_
          refine aw_istore_n dX5_divisor_17 (by decide) rfl rfl ?_
          exact (go _).resolve_right (by omega)
  refine aw_iload_n dX5_divisor_0 rfl ?_
  refine aw_istore_n dX5_divisor_1 (by decide) rfl rfl ?_
  refine aw_iload_n dX5_divisor_2 rfl ?_
  refine aw_istore_n dX5_divisor_3 (by decide) rfl rfl ?_
  exact loop b a b [] (Or.inl rfl) rfl ha hb rfl
set_option maxHeartbeats 4000000 in
theorem mp_isMore {n c t d : Nat} (h1 : n < 2147483648) (h2 : c < 2147483648) (h3 : t < 2147483648) (h4 : d < 2147483648) : aw_Pu yX5_isMore cX5_isMore 4 (some .boolean) 0 [.int (nI (n)), .int (nI (c)), .int (nI (t)), .int (nI (d))] (.int (nI (aw_t (t < n ∨ (n = t ∧ c < d))))) := by
  refine fun G h => aw_Met.of (by decide +kernel) (Nat.le_of_ble_eq_true rfl) ?_
  show AW G (aw_rm 0 0 0) yX5_isMore cX5_isMore 4 (some .boolean) (aw_N G (fun v9 h9 => v9 = some (.int (nI (aw_t (t < n ∨ (n = t ∧ c < d))))) ∧ h9 = h) 0 0) 0 0 h 0 [(0, .int (nI (n))), (1, .int (nI (c))), (2, .int (nI (t))), (3, .int (nI (d)))] []
  refine aw_iload_n dX5_isMore_0 rfl ?_
  refine aw_iload_n dX5_isMore_1 rfl ?_
  refine aw_icmp_gtN (tgt := 15) dX5_isMore_2 (by decide) (by omega) (by omega) (fun c_2 => ?_) (fun c_2 => ?_)
  · refine aw_iconst (v := nI 1) dX5_isMore_15 rfl ?_
    refine aw_goto (tgt := 20) dX5_isMore_16 (by decide) ?_
    refine aw_zreturn dX5_isMore_20 rfl rfl ?_
    exact ⟨by rw [aw_t1 (by omega)], rfl⟩
  · refine aw_iload_n dX5_isMore_5 rfl ?_
    refine aw_iload_n dX5_isMore_6 rfl ?_
    refine aw_icmp_neN (tgt := 19) dX5_isMore_7 (by decide) (by omega) (by omega) (fun c_7 => ?_) (fun c_7 => ?_)
    · refine aw_iconst (v := nI 0) dX5_isMore_19 rfl ?_
      refine aw_zreturn dX5_isMore_20 rfl rfl ?_
      exact ⟨by rw [aw_t0 (by omega)], rfl⟩
    · refine aw_iload_n dX5_isMore_10 rfl ?_
      refine aw_iload_n dX5_isMore_11 rfl ?_
      refine aw_icmp_geN (tgt := 19) dX5_isMore_12 (by decide) (by omega) (by omega) (fun c_12 => ?_) (fun c_12 => ?_)
      · refine aw_iconst (v := nI 0) dX5_isMore_19 rfl ?_
        refine aw_zreturn dX5_isMore_20 rfl rfl ?_
        exact ⟨by rw [aw_t0 (by omega)], rfl⟩
      · refine aw_iconst (v := nI 1) dX5_isMore_15 rfl ?_
        refine aw_goto (tgt := 20) dX5_isMore_16 (by decide) ?_
        refine aw_zreturn dX5_isMore_20 rfl rfl ?_
        exact ⟨by rw [aw_t1 (by omega)], rfl⟩
set_option maxHeartbeats 4000000 in
theorem mp_isBox {b : Int32} : aw_Pu yX5_isBox cX5_isBox 1 (some .boolean) 0 [.int (b)] (.int (nI (aw_t (0 ≤ b.toInt ∧ b.toInt < 3)))) := by
  refine fun G h => aw_Met.of (by decide +kernel) (Nat.le_of_ble_eq_true rfl) ?_
  show AW G (aw_rm 0 0 0) yX5_isBox cX5_isBox 1 (some .boolean) (aw_N G (fun v9 h9 => v9 = some (.int (nI (aw_t (0 ≤ b.toInt ∧ b.toInt < 3)))) ∧ h9 = h) 0 0) 0 0 h 0 [(0, .int (b))] []
  refine aw_iload_n dX5_isBox_0 rfl ?_
  refine aw_if_lt (tgt := 13) dX5_isBox_1 (by decide) (fun c_1 => ?_) (fun c_1 => ?_)
  · refine aw_iconst (v := nI 0) dX5_isBox_13 rfl ?_
    refine aw_zreturn dX5_isBox_14 rfl rfl ?_
    refine ⟨?_, rfl⟩
    simp only [Int32.lt_iff_toInt_lt, Int32.le_iff_toInt_le, aw_ti (n := 3) (by decide), show (0 : Int32).toInt = 0 from rfl] at *
    first | rw [aw_t0 (by omega)] | rw [aw_t1 (by omega)]
  · refine aw_iload_n dX5_isBox_4 rfl ?_
    refine aw_iconst (v := nI 3) dX5_isBox_5 rfl ?_
    refine aw_icmp_ge (tgt := 13) dX5_isBox_6 (by decide) (fun c_6 => ?_) (fun c_6 => ?_)
    · refine aw_iconst (v := nI 0) dX5_isBox_13 rfl ?_
      refine aw_zreturn dX5_isBox_14 rfl rfl ?_
      refine ⟨?_, rfl⟩
      simp only [Int32.lt_iff_toInt_lt, Int32.le_iff_toInt_le, aw_ti (n := 3) (by decide), show (0 : Int32).toInt = 0 from rfl] at *
      first | rw [aw_t0 (by omega)] | rw [aw_t1 (by omega)]
    · refine aw_iconst (v := nI 1) dX5_isBox_9 rfl ?_
      refine aw_goto (tgt := 14) dX5_isBox_10 (by decide) ?_
      refine aw_zreturn dX5_isBox_14 rfl rfl ?_
      refine ⟨?_, rfl⟩
      simp only [Int32.lt_iff_toInt_lt, Int32.le_iff_toInt_le, aw_ti (n := 3) (by decide), show (0 : Int32).toInt = 0 from rfl] at *
      first | rw [aw_t0 (by omega)] | rw [aw_t1 (by omega)]

