/-! DECODE ROWS BY BYTES: one lemma an opcode; a method's code is cut into short pieces once, and a row reads its own piece alone. -/
set_option maxRecDepth 100000
/-- the code has just these bytes from pc on -/
def DkAt (code : ByteArray) (pc : Nat) (bs : List UInt8) : Prop := ∀ (j : Nat) (b : UInt8), bs[j]? = some b → code.data.toList[pc + j]? = some b
/-- the piece W has the bytes bs from its place j on -/
def dkIn (W : List UInt8) (j : Nat) (bs : List UInt8) : Bool := decide ((W.drop j).take bs.length = bs)
theorem dk_seg {l W T : List UInt8} {o o2 : Nat} (h : l.drop o = W ++ T) (n : Nat) (hn : W.length = n) (ho : o + n = o2) : l.drop o2 = T := by
  subst ho
  rw [← List.drop_drop, h, List.drop_left' hn]
theorem dk_at {code : ByteArray} {W T bs : List UInt8} {o pc : Nat} (h : code.data.toList.drop o = W ++ T) (j : Nat) (hp : o + j = pc) (hw : dkIn W j bs = true) : DkAt code pc bs := by
  subst hp
  intro i b e
  have h1 := of_decide_eq_true hw
  have h2 : i < bs.length := (List.getElem?_eq_some_iff.mp e).1
  have h3 : W[j + i]? = some b := by
    rw [← h1, List.getElem?_take, if_pos h2, List.getElem?_drop] at e
    exact e
  have h4 : j + i < W.length := (List.getElem?_eq_some_iff.mp h3).1
  have h5 : (code.data.toList.drop o)[j + i]? = some b := by
    rw [h, List.getElem?_append_left h4]
    exact h3
  rw [List.getElem?_drop, ← Nat.add_assoc] at h5
  exact h5
theorem dk_u1 {A : ByteArray} {p : Nat} {b : UInt8} (h : A.data.toList[p]? = some b) : (Reader.u1 : Reader DecodeError Nat) A p = .ok (b.toNat, p + 1) := by
  obtain ⟨h1, h2⟩ := List.getElem?_eq_some_iff.mp h
  have h3 : p < A.size := by simpa using h1
  have h4 : A[p]'h3 = b := h2
  have e : (Reader.u1 : Reader DecodeError Nat) A p = (if h : p < A.size then .ok (A[p].toNat, p + 1) else .error (HasTruncated.truncated p)) := by
    show (do if h : p < A.size then do set (p + 1); Pure.pure A[p].toNat else MonadExcept.throw (HasTruncated.truncated p) : Reader DecodeError Nat) A p = _
    by_cases hi : p < A.size
    · rw [dif_pos hi, dif_pos hi]; rfl
    · rw [dif_neg hi, dif_neg hi]; rfl
  rw [e, dif_pos h3, h4]
theorem dk_bind {α β : Type} {r : Reader DecodeError α} {f : α → Reader DecodeError β} {A : ByteArray} {p s : Nat} {a : α} (h : r A p = .ok (a, s)) : (r >>= f) A p = f a A s := by
  show (do let (a, s) ← r A p; f a A s : Except DecodeError (β × Nat)) = _
  rw [h]
  rfl
theorem dk_map {α β : Type} {r : Reader DecodeError α} {g : α → β} {A : ByteArray} {p s : Nat} {a : α} (h : r A p = .ok (a, s)) : (g <$> r) A p = .ok (g a, s) := by
  show (do let (a, s) ← r A p; .ok (g a, s) : Except DecodeError (β × Nat)) = _
  rw [h]
  rfl
theorem dk_u2 {A : ByteArray} {p : Nat} {a b : UInt8} (h : A.data.toList[p]? = some a) (h2 : A.data.toList[p + 1]? = some b) : (Reader.u2 : Reader DecodeError Nat) A p = .ok (a.toNat * 256 + b.toNat, p + 2) := by
  show (Reader.u1 >>= fun hi => Reader.u1 >>= fun lo => Pure.pure (hi * 256 + lo) : Reader DecodeError Nat) A p = _
  rw [dk_bind (dk_u1 h), dk_bind (dk_u1 h2)]
  rfl
theorem dk_of {code : ByteArray} {pc n : Nat} {i : Instr} (h : Decoder.instr pc code pc = .ok (i, pc + n)) : decode code pc = .ok (i, n) := by
  have e : decode code pc = (match Decoder.instr pc code pc with | .error x => .error x | .ok (j, s) => .ok (j, s - pc)) := by
    show (do let (j, s) ← Decoder.instr pc code pc; Pure.pure (j, s - pc) : Except DecodeError (Instr × Nat)) = _
    cases Decoder.instr pc code pc <;> rfl
  rw [e, h]
  show Except.ok (i, pc + n - pc) = _
  rw [Nat.add_sub_cancel_left]
theorem dk_1 {code : ByteArray} {pc : Nat} (h : DkAt code pc [1]) : decode code pc = .ok (.aconst_null, 1) := dk_of ((dk_bind (dk_u1 (h 0 _ rfl))).trans rfl)
theorem dk_2 {code : ByteArray} {pc : Nat} (h : DkAt code pc [2]) : decode code pc = .ok (.iconst (-1), 1) := dk_of ((dk_bind (dk_u1 (h 0 _ rfl))).trans rfl)
theorem dk_3 {code : ByteArray} {pc : Nat} (h : DkAt code pc [3]) : decode code pc = .ok (.iconst 0, 1) := dk_of ((dk_bind (dk_u1 (h 0 _ rfl))).trans rfl)
theorem dk_4 {code : ByteArray} {pc : Nat} (h : DkAt code pc [4]) : decode code pc = .ok (.iconst 1, 1) := dk_of ((dk_bind (dk_u1 (h 0 _ rfl))).trans rfl)
theorem dk_5 {code : ByteArray} {pc : Nat} (h : DkAt code pc [5]) : decode code pc = .ok (.iconst 2, 1) := dk_of ((dk_bind (dk_u1 (h 0 _ rfl))).trans rfl)
theorem dk_6 {code : ByteArray} {pc : Nat} (h : DkAt code pc [6]) : decode code pc = .ok (.iconst 3, 1) := dk_of ((dk_bind (dk_u1 (h 0 _ rfl))).trans rfl)
theorem dk_7 {code : ByteArray} {pc : Nat} (h : DkAt code pc [7]) : decode code pc = .ok (.iconst 4, 1) := dk_of ((dk_bind (dk_u1 (h 0 _ rfl))).trans rfl)
theorem dk_8 {code : ByteArray} {pc : Nat} (h : DkAt code pc [8]) : decode code pc = .ok (.iconst 5, 1) := dk_of ((dk_bind (dk_u1 (h 0 _ rfl))).trans rfl)
theorem dk_9 {code : ByteArray} {pc : Nat} (h : DkAt code pc [9]) : decode code pc = .ok (.lconst 0, 1) := dk_of ((dk_bind (dk_u1 (h 0 _ rfl))).trans rfl)
theorem dk_16 {code : ByteArray} {pc : Nat} (a : UInt8) (h : DkAt code pc [16, a]) : decode code pc = .ok (.bipush (Reader.signed 8 a.toNat), 2) := dk_of ((dk_bind (dk_u1 (h 0 _ rfl))).trans ((dk_bind (dk_map (dk_u1 (h 1 _ rfl)))).trans rfl))
theorem dk_17 {code : ByteArray} {pc : Nat} (a b : UInt8) (h : DkAt code pc [17, a, b]) : decode code pc = .ok (.sipush (Reader.signed 16 (a.toNat * 256 + b.toNat)), 3) := dk_of ((dk_bind (dk_u1 (h 0 _ rfl))).trans ((dk_bind (dk_map (dk_u2 (h 1 _ rfl) (h 2 _ rfl)))).trans rfl))
theorem dk_18 {code : ByteArray} {pc : Nat} (a : UInt8) (h : DkAt code pc [18, a]) : decode code pc = .ok (.ldc a.toNat, 2) := dk_of ((dk_bind (dk_u1 (h 0 _ rfl))).trans ((dk_bind (dk_u1 (h 1 _ rfl))).trans rfl))
theorem dk_19 {code : ByteArray} {pc : Nat} (a b : UInt8) (h : DkAt code pc [19, a, b]) : decode code pc = .ok (.ldc_w (a.toNat * 256 + b.toNat), 3) := dk_of ((dk_bind (dk_u1 (h 0 _ rfl))).trans ((dk_bind (dk_u2 (h 1 _ rfl) (h 2 _ rfl))).trans rfl))
theorem dk_20 {code : ByteArray} {pc : Nat} (a b : UInt8) (h : DkAt code pc [20, a, b]) : decode code pc = .ok (.ldc2_w (a.toNat * 256 + b.toNat), 3) := dk_of ((dk_bind (dk_u1 (h 0 _ rfl))).trans ((dk_bind (dk_u2 (h 1 _ rfl) (h 2 _ rfl))).trans rfl))
theorem dk_21 {code : ByteArray} {pc : Nat} (a : UInt8) (h : DkAt code pc [21, a]) : decode code pc = .ok (.iload a.toNat, 2) := dk_of ((dk_bind (dk_u1 (h 0 _ rfl))).trans ((dk_bind (dk_u1 (h 1 _ rfl))).trans rfl))
theorem dk_25 {code : ByteArray} {pc : Nat} (a : UInt8) (h : DkAt code pc [25, a]) : decode code pc = .ok (.aload a.toNat, 2) := dk_of ((dk_bind (dk_u1 (h 0 _ rfl))).trans ((dk_bind (dk_u1 (h 1 _ rfl))).trans rfl))
theorem dk_26 {code : ByteArray} {pc : Nat} (h : DkAt code pc [26]) : decode code pc = .ok (.iload_n 0, 1) := dk_of ((dk_bind (dk_u1 (h 0 _ rfl))).trans rfl)
theorem dk_27 {code : ByteArray} {pc : Nat} (h : DkAt code pc [27]) : decode code pc = .ok (.iload_n 1, 1) := dk_of ((dk_bind (dk_u1 (h 0 _ rfl))).trans rfl)
theorem dk_28 {code : ByteArray} {pc : Nat} (h : DkAt code pc [28]) : decode code pc = .ok (.iload_n 2, 1) := dk_of ((dk_bind (dk_u1 (h 0 _ rfl))).trans rfl)
theorem dk_29 {code : ByteArray} {pc : Nat} (h : DkAt code pc [29]) : decode code pc = .ok (.iload_n 3, 1) := dk_of ((dk_bind (dk_u1 (h 0 _ rfl))).trans rfl)
theorem dk_31 {code : ByteArray} {pc : Nat} (h : DkAt code pc [31]) : decode code pc = .ok (.lload_n 1, 1) := dk_of ((dk_bind (dk_u1 (h 0 _ rfl))).trans rfl)
theorem dk_42 {code : ByteArray} {pc : Nat} (h : DkAt code pc [42]) : decode code pc = .ok (.aload_n 0, 1) := dk_of ((dk_bind (dk_u1 (h 0 _ rfl))).trans rfl)
theorem dk_43 {code : ByteArray} {pc : Nat} (h : DkAt code pc [43]) : decode code pc = .ok (.aload_n 1, 1) := dk_of ((dk_bind (dk_u1 (h 0 _ rfl))).trans rfl)
theorem dk_44 {code : ByteArray} {pc : Nat} (h : DkAt code pc [44]) : decode code pc = .ok (.aload_n 2, 1) := dk_of ((dk_bind (dk_u1 (h 0 _ rfl))).trans rfl)
theorem dk_45 {code : ByteArray} {pc : Nat} (h : DkAt code pc [45]) : decode code pc = .ok (.aload_n 3, 1) := dk_of ((dk_bind (dk_u1 (h 0 _ rfl))).trans rfl)
theorem dk_46 {code : ByteArray} {pc : Nat} (h : DkAt code pc [46]) : decode code pc = .ok (.iaload, 1) := dk_of ((dk_bind (dk_u1 (h 0 _ rfl))).trans rfl)
theorem dk_47 {code : ByteArray} {pc : Nat} (h : DkAt code pc [47]) : decode code pc = .ok (.laload, 1) := dk_of ((dk_bind (dk_u1 (h 0 _ rfl))).trans rfl)
theorem dk_50 {code : ByteArray} {pc : Nat} (h : DkAt code pc [50]) : decode code pc = .ok (.aaload, 1) := dk_of ((dk_bind (dk_u1 (h 0 _ rfl))).trans rfl)
theorem dk_51 {code : ByteArray} {pc : Nat} (h : DkAt code pc [51]) : decode code pc = .ok (.baload, 1) := dk_of ((dk_bind (dk_u1 (h 0 _ rfl))).trans rfl)
theorem dk_54 {code : ByteArray} {pc : Nat} (a : UInt8) (h : DkAt code pc [54, a]) : decode code pc = .ok (.istore a.toNat, 2) := dk_of ((dk_bind (dk_u1 (h 0 _ rfl))).trans ((dk_bind (dk_u1 (h 1 _ rfl))).trans rfl))
theorem dk_58 {code : ByteArray} {pc : Nat} (a : UInt8) (h : DkAt code pc [58, a]) : decode code pc = .ok (.astore a.toNat, 2) := dk_of ((dk_bind (dk_u1 (h 0 _ rfl))).trans ((dk_bind (dk_u1 (h 1 _ rfl))).trans rfl))
theorem dk_59 {code : ByteArray} {pc : Nat} (h : DkAt code pc [59]) : decode code pc = .ok (.istore_n 0, 1) := dk_of ((dk_bind (dk_u1 (h 0 _ rfl))).trans rfl)
theorem dk_60 {code : ByteArray} {pc : Nat} (h : DkAt code pc [60]) : decode code pc = .ok (.istore_n 1, 1) := dk_of ((dk_bind (dk_u1 (h 0 _ rfl))).trans rfl)
theorem dk_61 {code : ByteArray} {pc : Nat} (h : DkAt code pc [61]) : decode code pc = .ok (.istore_n 2, 1) := dk_of ((dk_bind (dk_u1 (h 0 _ rfl))).trans rfl)
theorem dk_62 {code : ByteArray} {pc : Nat} (h : DkAt code pc [62]) : decode code pc = .ok (.istore_n 3, 1) := dk_of ((dk_bind (dk_u1 (h 0 _ rfl))).trans rfl)
theorem dk_76 {code : ByteArray} {pc : Nat} (h : DkAt code pc [76]) : decode code pc = .ok (.astore_n 1, 1) := dk_of ((dk_bind (dk_u1 (h 0 _ rfl))).trans rfl)
theorem dk_77 {code : ByteArray} {pc : Nat} (h : DkAt code pc [77]) : decode code pc = .ok (.astore_n 2, 1) := dk_of ((dk_bind (dk_u1 (h 0 _ rfl))).trans rfl)
theorem dk_78 {code : ByteArray} {pc : Nat} (h : DkAt code pc [78]) : decode code pc = .ok (.astore_n 3, 1) := dk_of ((dk_bind (dk_u1 (h 0 _ rfl))).trans rfl)
theorem dk_79 {code : ByteArray} {pc : Nat} (h : DkAt code pc [79]) : decode code pc = .ok (.iastore, 1) := dk_of ((dk_bind (dk_u1 (h 0 _ rfl))).trans rfl)
theorem dk_80 {code : ByteArray} {pc : Nat} (h : DkAt code pc [80]) : decode code pc = .ok (.lastore, 1) := dk_of ((dk_bind (dk_u1 (h 0 _ rfl))).trans rfl)
theorem dk_83 {code : ByteArray} {pc : Nat} (h : DkAt code pc [83]) : decode code pc = .ok (.aastore, 1) := dk_of ((dk_bind (dk_u1 (h 0 _ rfl))).trans rfl)
theorem dk_84 {code : ByteArray} {pc : Nat} (h : DkAt code pc [84]) : decode code pc = .ok (.bastore, 1) := dk_of ((dk_bind (dk_u1 (h 0 _ rfl))).trans rfl)
theorem dk_87 {code : ByteArray} {pc : Nat} (h : DkAt code pc [87]) : decode code pc = .ok (.pop, 1) := dk_of ((dk_bind (dk_u1 (h 0 _ rfl))).trans rfl)
theorem dk_89 {code : ByteArray} {pc : Nat} (h : DkAt code pc [89]) : decode code pc = .ok (.dup, 1) := dk_of ((dk_bind (dk_u1 (h 0 _ rfl))).trans rfl)
theorem dk_90 {code : ByteArray} {pc : Nat} (h : DkAt code pc [90]) : decode code pc = .ok (.dup_x1, 1) := dk_of ((dk_bind (dk_u1 (h 0 _ rfl))).trans rfl)
theorem dk_92 {code : ByteArray} {pc : Nat} (h : DkAt code pc [92]) : decode code pc = .ok (.dup2, 1) := dk_of ((dk_bind (dk_u1 (h 0 _ rfl))).trans rfl)
theorem dk_96 {code : ByteArray} {pc : Nat} (h : DkAt code pc [96]) : decode code pc = .ok (.iadd, 1) := dk_of ((dk_bind (dk_u1 (h 0 _ rfl))).trans rfl)
theorem dk_100 {code : ByteArray} {pc : Nat} (h : DkAt code pc [100]) : decode code pc = .ok (.isub, 1) := dk_of ((dk_bind (dk_u1 (h 0 _ rfl))).trans rfl)
theorem dk_104 {code : ByteArray} {pc : Nat} (h : DkAt code pc [104]) : decode code pc = .ok (.imul, 1) := dk_of ((dk_bind (dk_u1 (h 0 _ rfl))).trans rfl)
theorem dk_108 {code : ByteArray} {pc : Nat} (h : DkAt code pc [108]) : decode code pc = .ok (.idiv, 1) := dk_of ((dk_bind (dk_u1 (h 0 _ rfl))).trans rfl)
theorem dk_112 {code : ByteArray} {pc : Nat} (h : DkAt code pc [112]) : decode code pc = .ok (.irem, 1) := dk_of ((dk_bind (dk_u1 (h 0 _ rfl))).trans rfl)
theorem dk_120 {code : ByteArray} {pc : Nat} (h : DkAt code pc [120]) : decode code pc = .ok (.ishl, 1) := dk_of ((dk_bind (dk_u1 (h 0 _ rfl))).trans rfl)
theorem dk_121 {code : ByteArray} {pc : Nat} (h : DkAt code pc [121]) : decode code pc = .ok (.lshl, 1) := dk_of ((dk_bind (dk_u1 (h 0 _ rfl))).trans rfl)
theorem dk_122 {code : ByteArray} {pc : Nat} (h : DkAt code pc [122]) : decode code pc = .ok (.ishr, 1) := dk_of ((dk_bind (dk_u1 (h 0 _ rfl))).trans rfl)
theorem dk_124 {code : ByteArray} {pc : Nat} (h : DkAt code pc [124]) : decode code pc = .ok (.iushr, 1) := dk_of ((dk_bind (dk_u1 (h 0 _ rfl))).trans rfl)
theorem dk_126 {code : ByteArray} {pc : Nat} (h : DkAt code pc [126]) : decode code pc = .ok (.iand, 1) := dk_of ((dk_bind (dk_u1 (h 0 _ rfl))).trans rfl)
theorem dk_128 {code : ByteArray} {pc : Nat} (h : DkAt code pc [128]) : decode code pc = .ok (.ior, 1) := dk_of ((dk_bind (dk_u1 (h 0 _ rfl))).trans rfl)
theorem dk_129 {code : ByteArray} {pc : Nat} (h : DkAt code pc [129]) : decode code pc = .ok (.lor, 1) := dk_of ((dk_bind (dk_u1 (h 0 _ rfl))).trans rfl)
theorem dk_132 {code : ByteArray} {pc : Nat} (a b : UInt8) (h : DkAt code pc [132, a, b]) : decode code pc = .ok (.iinc a.toNat (Reader.signed 8 b.toNat), 3) := dk_of ((dk_bind (dk_u1 (h 0 _ rfl))).trans ((dk_bind (dk_u1 (h 1 _ rfl))).trans ((dk_bind (dk_map (dk_u1 (h 2 _ rfl)))).trans rfl)))
theorem dk_133 {code : ByteArray} {pc : Nat} (h : DkAt code pc [133]) : decode code pc = .ok (.i2l, 1) := dk_of ((dk_bind (dk_u1 (h 0 _ rfl))).trans rfl)
theorem dk_145 {code : ByteArray} {pc : Nat} (h : DkAt code pc [145]) : decode code pc = .ok (.i2b, 1) := dk_of ((dk_bind (dk_u1 (h 0 _ rfl))).trans rfl)
theorem dk_146 {code : ByteArray} {pc : Nat} (h : DkAt code pc [146]) : decode code pc = .ok (.i2c, 1) := dk_of ((dk_bind (dk_u1 (h 0 _ rfl))).trans rfl)
theorem dk_148 {code : ByteArray} {pc : Nat} (h : DkAt code pc [148]) : decode code pc = .ok (.lcmp, 1) := dk_of ((dk_bind (dk_u1 (h 0 _ rfl))).trans rfl)
theorem dk_153 {code : ByteArray} {pc : Nat} (a b : UInt8) (h : DkAt code pc [153, a, b]) : decode code pc = .ok (.ifCond .eq (Reader.signed 16 (a.toNat * 256 + b.toNat)), 3) := dk_of ((dk_bind (dk_u1 (h 0 _ rfl))).trans ((dk_bind (dk_map (dk_u2 (h 1 _ rfl) (h 2 _ rfl)))).trans rfl))
theorem dk_154 {code : ByteArray} {pc : Nat} (a b : UInt8) (h : DkAt code pc [154, a, b]) : decode code pc = .ok (.ifCond .ne (Reader.signed 16 (a.toNat * 256 + b.toNat)), 3) := dk_of ((dk_bind (dk_u1 (h 0 _ rfl))).trans ((dk_bind (dk_map (dk_u2 (h 1 _ rfl) (h 2 _ rfl)))).trans rfl))
theorem dk_155 {code : ByteArray} {pc : Nat} (a b : UInt8) (h : DkAt code pc [155, a, b]) : decode code pc = .ok (.ifCond .lt (Reader.signed 16 (a.toNat * 256 + b.toNat)), 3) := dk_of ((dk_bind (dk_u1 (h 0 _ rfl))).trans ((dk_bind (dk_map (dk_u2 (h 1 _ rfl) (h 2 _ rfl)))).trans rfl))
theorem dk_156 {code : ByteArray} {pc : Nat} (a b : UInt8) (h : DkAt code pc [156, a, b]) : decode code pc = .ok (.ifCond .ge (Reader.signed 16 (a.toNat * 256 + b.toNat)), 3) := dk_of ((dk_bind (dk_u1 (h 0 _ rfl))).trans ((dk_bind (dk_map (dk_u2 (h 1 _ rfl) (h 2 _ rfl)))).trans rfl))
theorem dk_157 {code : ByteArray} {pc : Nat} (a b : UInt8) (h : DkAt code pc [157, a, b]) : decode code pc = .ok (.ifCond .gt (Reader.signed 16 (a.toNat * 256 + b.toNat)), 3) := dk_of ((dk_bind (dk_u1 (h 0 _ rfl))).trans ((dk_bind (dk_map (dk_u2 (h 1 _ rfl) (h 2 _ rfl)))).trans rfl))
theorem dk_158 {code : ByteArray} {pc : Nat} (a b : UInt8) (h : DkAt code pc [158, a, b]) : decode code pc = .ok (.ifCond .le (Reader.signed 16 (a.toNat * 256 + b.toNat)), 3) := dk_of ((dk_bind (dk_u1 (h 0 _ rfl))).trans ((dk_bind (dk_map (dk_u2 (h 1 _ rfl) (h 2 _ rfl)))).trans rfl))
theorem dk_159 {code : ByteArray} {pc : Nat} (a b : UInt8) (h : DkAt code pc [159, a, b]) : decode code pc = .ok (.if_icmp .eq (Reader.signed 16 (a.toNat * 256 + b.toNat)), 3) := dk_of ((dk_bind (dk_u1 (h 0 _ rfl))).trans ((dk_bind (dk_map (dk_u2 (h 1 _ rfl) (h 2 _ rfl)))).trans rfl))
theorem dk_160 {code : ByteArray} {pc : Nat} (a b : UInt8) (h : DkAt code pc [160, a, b]) : decode code pc = .ok (.if_icmp .ne (Reader.signed 16 (a.toNat * 256 + b.toNat)), 3) := dk_of ((dk_bind (dk_u1 (h 0 _ rfl))).trans ((dk_bind (dk_map (dk_u2 (h 1 _ rfl) (h 2 _ rfl)))).trans rfl))
theorem dk_161 {code : ByteArray} {pc : Nat} (a b : UInt8) (h : DkAt code pc [161, a, b]) : decode code pc = .ok (.if_icmp .lt (Reader.signed 16 (a.toNat * 256 + b.toNat)), 3) := dk_of ((dk_bind (dk_u1 (h 0 _ rfl))).trans ((dk_bind (dk_map (dk_u2 (h 1 _ rfl) (h 2 _ rfl)))).trans rfl))
theorem dk_162 {code : ByteArray} {pc : Nat} (a b : UInt8) (h : DkAt code pc [162, a, b]) : decode code pc = .ok (.if_icmp .ge (Reader.signed 16 (a.toNat * 256 + b.toNat)), 3) := dk_of ((dk_bind (dk_u1 (h 0 _ rfl))).trans ((dk_bind (dk_map (dk_u2 (h 1 _ rfl) (h 2 _ rfl)))).trans rfl))
theorem dk_163 {code : ByteArray} {pc : Nat} (a b : UInt8) (h : DkAt code pc [163, a, b]) : decode code pc = .ok (.if_icmp .gt (Reader.signed 16 (a.toNat * 256 + b.toNat)), 3) := dk_of ((dk_bind (dk_u1 (h 0 _ rfl))).trans ((dk_bind (dk_map (dk_u2 (h 1 _ rfl) (h 2 _ rfl)))).trans rfl))
theorem dk_164 {code : ByteArray} {pc : Nat} (a b : UInt8) (h : DkAt code pc [164, a, b]) : decode code pc = .ok (.if_icmp .le (Reader.signed 16 (a.toNat * 256 + b.toNat)), 3) := dk_of ((dk_bind (dk_u1 (h 0 _ rfl))).trans ((dk_bind (dk_map (dk_u2 (h 1 _ rfl) (h 2 _ rfl)))).trans rfl))
theorem dk_165 {code : ByteArray} {pc : Nat} (a b : UInt8) (h : DkAt code pc [165, a, b]) : decode code pc = .ok (.if_acmp .eq (Reader.signed 16 (a.toNat * 256 + b.toNat)), 3) := dk_of ((dk_bind (dk_u1 (h 0 _ rfl))).trans ((dk_bind (dk_map (dk_u2 (h 1 _ rfl) (h 2 _ rfl)))).trans rfl))
theorem dk_166 {code : ByteArray} {pc : Nat} (a b : UInt8) (h : DkAt code pc [166, a, b]) : decode code pc = .ok (.if_acmp .ne (Reader.signed 16 (a.toNat * 256 + b.toNat)), 3) := dk_of ((dk_bind (dk_u1 (h 0 _ rfl))).trans ((dk_bind (dk_map (dk_u2 (h 1 _ rfl) (h 2 _ rfl)))).trans rfl))
theorem dk_167 {code : ByteArray} {pc : Nat} (a b : UInt8) (h : DkAt code pc [167, a, b]) : decode code pc = .ok (.goto (Reader.signed 16 (a.toNat * 256 + b.toNat)), 3) := dk_of ((dk_bind (dk_u1 (h 0 _ rfl))).trans ((dk_bind (dk_map (dk_u2 (h 1 _ rfl) (h 2 _ rfl)))).trans rfl))
theorem dk_172 {code : ByteArray} {pc : Nat} (h : DkAt code pc [172]) : decode code pc = .ok (.ireturn, 1) := dk_of ((dk_bind (dk_u1 (h 0 _ rfl))).trans rfl)
theorem dk_176 {code : ByteArray} {pc : Nat} (h : DkAt code pc [176]) : decode code pc = .ok (.areturn, 1) := dk_of ((dk_bind (dk_u1 (h 0 _ rfl))).trans rfl)
theorem dk_177 {code : ByteArray} {pc : Nat} (h : DkAt code pc [177]) : decode code pc = .ok (.return_, 1) := dk_of ((dk_bind (dk_u1 (h 0 _ rfl))).trans rfl)
theorem dk_178 {code : ByteArray} {pc : Nat} (a b : UInt8) (h : DkAt code pc [178, a, b]) : decode code pc = .ok (.getstatic (a.toNat * 256 + b.toNat), 3) := dk_of ((dk_bind (dk_u1 (h 0 _ rfl))).trans ((dk_bind (dk_u2 (h 1 _ rfl) (h 2 _ rfl))).trans rfl))
theorem dk_180 {code : ByteArray} {pc : Nat} (a b : UInt8) (h : DkAt code pc [180, a, b]) : decode code pc = .ok (.getfield (a.toNat * 256 + b.toNat), 3) := dk_of ((dk_bind (dk_u1 (h 0 _ rfl))).trans ((dk_bind (dk_u2 (h 1 _ rfl) (h 2 _ rfl))).trans rfl))
theorem dk_181 {code : ByteArray} {pc : Nat} (a b : UInt8) (h : DkAt code pc [181, a, b]) : decode code pc = .ok (.putfield (a.toNat * 256 + b.toNat), 3) := dk_of ((dk_bind (dk_u1 (h 0 _ rfl))).trans ((dk_bind (dk_u2 (h 1 _ rfl) (h 2 _ rfl))).trans rfl))
theorem dk_182 {code : ByteArray} {pc : Nat} (a b : UInt8) (h : DkAt code pc [182, a, b]) : decode code pc = .ok (.invokevirtual (a.toNat * 256 + b.toNat), 3) := dk_of ((dk_bind (dk_u1 (h 0 _ rfl))).trans ((dk_bind (dk_u2 (h 1 _ rfl) (h 2 _ rfl))).trans rfl))
theorem dk_183 {code : ByteArray} {pc : Nat} (a b : UInt8) (h : DkAt code pc [183, a, b]) : decode code pc = .ok (.invokespecial (a.toNat * 256 + b.toNat), 3) := dk_of ((dk_bind (dk_u1 (h 0 _ rfl))).trans ((dk_bind (dk_u2 (h 1 _ rfl) (h 2 _ rfl))).trans rfl))
theorem dk_184 {code : ByteArray} {pc : Nat} (a b : UInt8) (h : DkAt code pc [184, a, b]) : decode code pc = .ok (.invokestatic (a.toNat * 256 + b.toNat), 3) := dk_of ((dk_bind (dk_u1 (h 0 _ rfl))).trans ((dk_bind (dk_u2 (h 1 _ rfl) (h 2 _ rfl))).trans rfl))
theorem dk_187 {code : ByteArray} {pc : Nat} (a b : UInt8) (h : DkAt code pc [187, a, b]) : decode code pc = .ok (.new (a.toNat * 256 + b.toNat), 3) := dk_of ((dk_bind (dk_u1 (h 0 _ rfl))).trans ((dk_bind (dk_u2 (h 1 _ rfl) (h 2 _ rfl))).trans rfl))
theorem dk_188_4 {code : ByteArray} {pc : Nat} (h : DkAt code pc [188, 4]) : decode code pc = .ok (.newarray .boolean, 2) := dk_of ((dk_bind (dk_u1 (h 0 _ rfl))).trans ((dk_bind (dk_u1 (h 1 _ rfl))).trans rfl))
theorem dk_188_8 {code : ByteArray} {pc : Nat} (h : DkAt code pc [188, 8]) : decode code pc = .ok (.newarray .byte, 2) := dk_of ((dk_bind (dk_u1 (h 0 _ rfl))).trans ((dk_bind (dk_u1 (h 1 _ rfl))).trans rfl))
theorem dk_188_10 {code : ByteArray} {pc : Nat} (h : DkAt code pc [188, 10]) : decode code pc = .ok (.newarray .int, 2) := dk_of ((dk_bind (dk_u1 (h 0 _ rfl))).trans ((dk_bind (dk_u1 (h 1 _ rfl))).trans rfl))
theorem dk_188_11 {code : ByteArray} {pc : Nat} (h : DkAt code pc [188, 11]) : decode code pc = .ok (.newarray .long, 2) := dk_of ((dk_bind (dk_u1 (h 0 _ rfl))).trans ((dk_bind (dk_u1 (h 1 _ rfl))).trans rfl))
theorem dk_189 {code : ByteArray} {pc : Nat} (a b : UInt8) (h : DkAt code pc [189, a, b]) : decode code pc = .ok (.anewarray (a.toNat * 256 + b.toNat), 3) := dk_of ((dk_bind (dk_u1 (h 0 _ rfl))).trans ((dk_bind (dk_u2 (h 1 _ rfl) (h 2 _ rfl))).trans rfl))
theorem dk_190 {code : ByteArray} {pc : Nat} (h : DkAt code pc [190]) : decode code pc = .ok (.arraylength, 1) := dk_of ((dk_bind (dk_u1 (h 0 _ rfl))).trans rfl)
theorem dk_191 {code : ByteArray} {pc : Nat} (h : DkAt code pc [191]) : decode code pc = .ok (.athrow, 1) := dk_of ((dk_bind (dk_u1 (h 0 _ rfl))).trans rfl)
theorem dk_192 {code : ByteArray} {pc : Nat} (a b : UInt8) (h : DkAt code pc [192, a, b]) : decode code pc = .ok (.checkcast (a.toNat * 256 + b.toNat), 3) := dk_of ((dk_bind (dk_u1 (h 0 _ rfl))).trans ((dk_bind (dk_u2 (h 1 _ rfl) (h 2 _ rfl))).trans rfl))
theorem dk_199 {code : ByteArray} {pc : Nat} (a b : UInt8) (h : DkAt code pc [199, a, b]) : decode code pc = .ok (.ifnonnull (Reader.signed 16 (a.toNat * 256 + b.toNat)), 3) := dk_of ((dk_bind (dk_u1 (h 0 _ rfl))).trans ((dk_bind (dk_map (dk_u2 (h 1 _ rfl) (h 2 _ rfl)))).trans rfl))

/-! java/util/AbstractCollection -/
set_option maxRecDepth 100000
def RJ0 : String := "java/util/AbstractCollection"
abbrev cJ0_init : ByteArray := prog_33_method_1_code
def yJ0_init : MethodName := ⟨RJ0, "<init>", "()V"⟩
theorem dJ0_init_0 : decode cJ0_init 0 = .ok (.aload_n 0, 1) := by decide +kernel
theorem dJ0_init_1 : decode cJ0_init 1 = .ok (.invokespecial 1, 3) := by decide +kernel
theorem dJ0_init_4 : decode cJ0_init 4 = .ok (.return_, 1) := by decide +kernel
theorem q120 : (Jvm.Cond.initialized "java/util/AbstractCollection") ∈ lw_all := lw_g (lw_at lw_m1 3 rfl) rfl
theorem q173 : (Jvm.Cond.instanceMethod ({ cls := "java/util/AbstractCollection", name := "<init>", desc := "()V" } : Jvm.MethodName)) ∈ lw_all := lw_g (lw_at lw_m1 56 rfl) rfl
theorem q174 : (Jvm.Cond.code ({ cls := "java/util/AbstractCollection", name := "<init>", desc := "()V" } : Jvm.MethodName) prog_33_method_1_code (1 : Nat) (Option.none : Option Jvm.ClassFile.FieldType)) ∈ lw_all := lw_g (lw_at lw_m1 57 rfl) rfl
theorem q175 : (Jvm.Cond.methodLink "java/util/AbstractCollection" (1 : Nat) ({ cls := "java/lang/Object", name := "<init>", desc := "()V" } : Jvm.MethodName)) ∈ lw_all := lw_g (lw_at lw_m1 58 rfl) rfl

/-! java/util/AbstractList -/
set_option maxRecDepth 100000
def RJ1 : String := "java/util/AbstractList"
abbrev cJ1_init : ByteArray := prog_34_method_1_code
def yJ1_init : MethodName := ⟨RJ1, "<init>", "()V"⟩
def dkwJ1_init_0 : List UInt8 := [42, 183, 0, 1, 42, 3, 181, 0, 7, 177]
abbrev dktJ1_init_0 : List UInt8 := dkwJ1_init_0 ++ []
theorem dksJ1_init_0 : cJ1_init.data.toList.drop 0 = dktJ1_init_0 := by decide +kernel
theorem dJ1_init_0 : decode cJ1_init 0 = .ok (.aload_n 0, 1) := dk_42 (dk_at dksJ1_init_0 0 rfl rfl)
theorem dJ1_init_1 : decode cJ1_init 1 = .ok (.invokespecial 1, 3) := dk_183 0 1 (dk_at dksJ1_init_0 1 rfl rfl)
theorem dJ1_init_4 : decode cJ1_init 4 = .ok (.aload_n 0, 1) := dk_42 (dk_at dksJ1_init_0 4 rfl rfl)
theorem dJ1_init_5 : decode cJ1_init 5 = .ok (.iconst 0, 1) := dk_3 (dk_at dksJ1_init_0 5 rfl rfl)
theorem dJ1_init_6 : decode cJ1_init 6 = .ok (.putfield 7, 3) := dk_181 0 7 (dk_at dksJ1_init_0 6 rfl rfl)
theorem dJ1_init_9 : decode cJ1_init 9 = .ok (.return_, 1) := dk_177 (dk_at dksJ1_init_0 9 rfl rfl)
theorem q121 : (Jvm.Cond.initialized "java/util/AbstractList") ∈ lw_all := lw_g (lw_at lw_m1 4 rfl) rfl
theorem q170 : (Jvm.Cond.instanceMethod ({ cls := "java/util/AbstractList", name := "<init>", desc := "()V" } : Jvm.MethodName)) ∈ lw_all := lw_g (lw_at lw_m1 53 rfl) rfl
theorem q171 : (Jvm.Cond.code ({ cls := "java/util/AbstractList", name := "<init>", desc := "()V" } : Jvm.MethodName) prog_34_method_1_code (1 : Nat) (Option.none : Option Jvm.ClassFile.FieldType)) ∈ lw_all := lw_g (lw_at lw_m1 54 rfl) rfl
theorem q172 : (Jvm.Cond.methodLink "java/util/AbstractList" (1 : Nat) ({ cls := "java/util/AbstractCollection", name := "<init>", desc := "()V" } : Jvm.MethodName)) ∈ lw_all := lw_g (lw_at lw_m1 55 rfl) rfl
theorem q182 : (Jvm.Cond.fieldLink "java/util/AbstractList" (7 : Nat) "java/util/AbstractList" "modCount" "I") ∈ lw_all := lw_g (lw_at lw_m1 65 rfl) rfl
theorem q191 : (Jvm.Cond.soleField "java/util/AbstractList" "modCount") ∈ lw_all := lw_g (lw_at lw_m1 74 rfl) rfl

/-! java/util/ArrayList$Itr -/
set_option maxRecDepth 100000
def RJ10 : String := "java/util/ArrayList$Itr"
def TJ10 : u_T := fun k => match k with
  | 0 => ("java/util/ArrayList$Itr", "cursor", "I", false)
  | 1 => ("java/util/ArrayList$Itr", "lastRet", "I", false)
  | 2 => ("java/util/ArrayList$Itr", "expectedModCount", "I", false)
  | _ => ("java/util/ArrayList$Itr", "this$0", "Ljava/util/ArrayList;", true)
def tyJ10 : Nat → FieldType := fun k => match k with
  | 0 => .int
  | 1 => .int
  | 2 => .int
  | _ => .object "java/util/ArrayList"
abbrev wsJ100 : List Cond := u_ws RJ10 TJ10 4
theorem nmJ10 : ∀ a, a < 4 → ∀ b, b < 4 → a ≠ b → (TJ10 a).2.1 ≠ (TJ10 b).2.1 := by decide +kernel
theorem tyJ10_ok : ∀ k, k < 4 → parseFieldDescriptor (TJ10 k).2.2.1 = some (tyJ10 k) := by decide +kernel
abbrev cJ10_init : ByteArray := prog_36_method_1_code
def yJ10_init : MethodName := ⟨RJ10, "<init>", "(Ljava/util/ArrayList;)V"⟩
def dkwJ10_init_1 : List UInt8 := [181, 0, 22, 177]
abbrev dktJ10_init_1 : List UInt8 := dkwJ10_init_1 ++ []
def dkwJ10_init_0 : List UInt8 := [42, 43, 181, 0, 1, 42, 183, 0, 7, 42, 2, 181, 0, 13, 42, 42, 180, 0, 1, 180, 0, 17]
abbrev dktJ10_init_0 : List UInt8 := dkwJ10_init_0 ++ dktJ10_init_1
theorem dksJ10_init_0 : cJ10_init.data.toList.drop 0 = dktJ10_init_0 := by decide +kernel
theorem dksJ10_init_1 : cJ10_init.data.toList.drop 22 = dktJ10_init_1 := dk_seg dksJ10_init_0 22 rfl rfl
theorem dJ10_init_0 : decode cJ10_init 0 = .ok (.aload_n 0, 1) := dk_42 (dk_at dksJ10_init_0 0 rfl rfl)
theorem dJ10_init_1 : decode cJ10_init 1 = .ok (.aload_n 1, 1) := dk_43 (dk_at dksJ10_init_0 1 rfl rfl)
theorem dJ10_init_2 : decode cJ10_init 2 = .ok (.putfield 1, 3) := dk_181 0 1 (dk_at dksJ10_init_0 2 rfl rfl)
theorem dJ10_init_5 : decode cJ10_init 5 = .ok (.aload_n 0, 1) := dk_42 (dk_at dksJ10_init_0 5 rfl rfl)
theorem dJ10_init_6 : decode cJ10_init 6 = .ok (.invokespecial 7, 3) := dk_183 0 7 (dk_at dksJ10_init_0 6 rfl rfl)
theorem dJ10_init_9 : decode cJ10_init 9 = .ok (.aload_n 0, 1) := dk_42 (dk_at dksJ10_init_0 9 rfl rfl)
theorem dJ10_init_10 : decode cJ10_init 10 = .ok (.iconst (-1), 1) := dk_2 (dk_at dksJ10_init_0 10 rfl rfl)
theorem dJ10_init_11 : decode cJ10_init 11 = .ok (.putfield 13, 3) := dk_181 0 13 (dk_at dksJ10_init_0 11 rfl rfl)
theorem dJ10_init_14 : decode cJ10_init 14 = .ok (.aload_n 0, 1) := dk_42 (dk_at dksJ10_init_0 14 rfl rfl)
theorem dJ10_init_15 : decode cJ10_init 15 = .ok (.aload_n 0, 1) := dk_42 (dk_at dksJ10_init_0 15 rfl rfl)
theorem dJ10_init_16 : decode cJ10_init 16 = .ok (.getfield 1, 3) := dk_180 0 1 (dk_at dksJ10_init_0 16 rfl rfl)
theorem dJ10_init_19 : decode cJ10_init 19 = .ok (.getfield 17, 3) := dk_180 0 17 (dk_at dksJ10_init_0 19 rfl rfl)
theorem dJ10_init_22 : decode cJ10_init 22 = .ok (.putfield 22, 3) := dk_181 0 22 (dk_at dksJ10_init_1 0 rfl rfl)
theorem dJ10_init_25 : decode cJ10_init 25 = .ok (.return_, 1) := dk_177 (dk_at dksJ10_init_1 3 rfl rfl)
abbrev cJ10_hasNext : ByteArray := prog_36_method_2_code
def yJ10_hasNext : MethodName := ⟨RJ10, "hasNext", "()Z"⟩
def dkwJ10_hasNext_0 : List UInt8 := [42, 180, 0, 25, 42, 180, 0, 1, 180, 0, 28, 159, 0, 7, 4, 167, 0, 4, 3, 172]
abbrev dktJ10_hasNext_0 : List UInt8 := dkwJ10_hasNext_0 ++ []
theorem dksJ10_hasNext_0 : cJ10_hasNext.data.toList.drop 0 = dktJ10_hasNext_0 := by decide +kernel
theorem dJ10_hasNext_0 : decode cJ10_hasNext 0 = .ok (.aload_n 0, 1) := dk_42 (dk_at dksJ10_hasNext_0 0 rfl rfl)
theorem dJ10_hasNext_1 : decode cJ10_hasNext 1 = .ok (.getfield 25, 3) := dk_180 0 25 (dk_at dksJ10_hasNext_0 1 rfl rfl)
theorem dJ10_hasNext_4 : decode cJ10_hasNext 4 = .ok (.aload_n 0, 1) := dk_42 (dk_at dksJ10_hasNext_0 4 rfl rfl)
theorem dJ10_hasNext_5 : decode cJ10_hasNext 5 = .ok (.getfield 1, 3) := dk_180 0 1 (dk_at dksJ10_hasNext_0 5 rfl rfl)
theorem dJ10_hasNext_8 : decode cJ10_hasNext 8 = .ok (.getfield 28, 3) := dk_180 0 28 (dk_at dksJ10_hasNext_0 8 rfl rfl)
theorem dJ10_hasNext_11 : decode cJ10_hasNext 11 = .ok (.if_icmp .eq 7, 3) := dk_159 0 7 (dk_at dksJ10_hasNext_0 11 rfl rfl)
theorem dJ10_hasNext_14 : decode cJ10_hasNext 14 = .ok (.iconst 1, 1) := dk_4 (dk_at dksJ10_hasNext_0 14 rfl rfl)
theorem dJ10_hasNext_15 : decode cJ10_hasNext 15 = .ok (.goto 4, 3) := dk_167 0 4 (dk_at dksJ10_hasNext_0 15 rfl rfl)
theorem dJ10_hasNext_18 : decode cJ10_hasNext 18 = .ok (.iconst 0, 1) := dk_3 (dk_at dksJ10_hasNext_0 18 rfl rfl)
theorem dJ10_hasNext_19 : decode cJ10_hasNext 19 = .ok (.ireturn, 1) := dk_172 (dk_at dksJ10_hasNext_0 19 rfl rfl)
abbrev cJ10_next : ByteArray := prog_36_method_3_code
def yJ10_next : MethodName := ⟨RJ10, "next", "()Ljava/lang/Object;"⟩
def dkwJ10_next_2 : List UInt8 := [183, 0, 43, 191, 42, 27, 4, 96, 181, 0, 25, 44, 42, 27, 90, 181, 0, 13, 50, 176]
abbrev dktJ10_next_2 : List UInt8 := dkwJ10_next_2 ++ []
def dkwJ10_next_1 : List UInt8 := [183, 0, 36, 191, 42, 180, 0, 1, 180, 0, 37, 77, 27, 44, 190, 161, 0, 11, 187, 0, 41, 89]
abbrev dktJ10_next_1 : List UInt8 := dkwJ10_next_1 ++ dktJ10_next_2
def dkwJ10_next_0 : List UInt8 := [42, 182, 0, 31, 42, 180, 0, 25, 60, 27, 42, 180, 0, 1, 180, 0, 28, 161, 0, 11, 187, 0, 34, 89]
abbrev dktJ10_next_0 : List UInt8 := dkwJ10_next_0 ++ dktJ10_next_1
theorem dksJ10_next_0 : cJ10_next.data.toList.drop 0 = dktJ10_next_0 := by decide +kernel
theorem dksJ10_next_1 : cJ10_next.data.toList.drop 24 = dktJ10_next_1 := dk_seg dksJ10_next_0 24 rfl rfl
theorem dksJ10_next_2 : cJ10_next.data.toList.drop 46 = dktJ10_next_2 := dk_seg dksJ10_next_1 22 rfl rfl
theorem dJ10_next_0 : decode cJ10_next 0 = .ok (.aload_n 0, 1) := dk_42 (dk_at dksJ10_next_0 0 rfl rfl)
theorem dJ10_next_1 : decode cJ10_next 1 = .ok (.invokevirtual 31, 3) := dk_182 0 31 (dk_at dksJ10_next_0 1 rfl rfl)
theorem dJ10_next_4 : decode cJ10_next 4 = .ok (.aload_n 0, 1) := dk_42 (dk_at dksJ10_next_0 4 rfl rfl)
theorem dJ10_next_5 : decode cJ10_next 5 = .ok (.getfield 25, 3) := dk_180 0 25 (dk_at dksJ10_next_0 5 rfl rfl)
theorem dJ10_next_8 : decode cJ10_next 8 = .ok (.istore_n 1, 1) := dk_60 (dk_at dksJ10_next_0 8 rfl rfl)
theorem dJ10_next_9 : decode cJ10_next 9 = .ok (.iload_n 1, 1) := dk_27 (dk_at dksJ10_next_0 9 rfl rfl)
theorem dJ10_next_10 : decode cJ10_next 10 = .ok (.aload_n 0, 1) := dk_42 (dk_at dksJ10_next_0 10 rfl rfl)
theorem dJ10_next_11 : decode cJ10_next 11 = .ok (.getfield 1, 3) := dk_180 0 1 (dk_at dksJ10_next_0 11 rfl rfl)
theorem dJ10_next_14 : decode cJ10_next 14 = .ok (.getfield 28, 3) := dk_180 0 28 (dk_at dksJ10_next_0 14 rfl rfl)
theorem dJ10_next_17 : decode cJ10_next 17 = .ok (.if_icmp .lt 11, 3) := dk_161 0 11 (dk_at dksJ10_next_0 17 rfl rfl)
theorem dJ10_next_20 : decode cJ10_next 20 = .ok (.new 34, 3) := dk_187 0 34 (dk_at dksJ10_next_0 20 rfl rfl)
theorem dJ10_next_23 : decode cJ10_next 23 = .ok (.dup, 1) := dk_89 (dk_at dksJ10_next_0 23 rfl rfl)
theorem dJ10_next_24 : decode cJ10_next 24 = .ok (.invokespecial 36, 3) := dk_183 0 36 (dk_at dksJ10_next_1 0 rfl rfl)
theorem dJ10_next_27 : decode cJ10_next 27 = .ok (.athrow, 1) := dk_191 (dk_at dksJ10_next_1 3 rfl rfl)
theorem dJ10_next_28 : decode cJ10_next 28 = .ok (.aload_n 0, 1) := dk_42 (dk_at dksJ10_next_1 4 rfl rfl)
theorem dJ10_next_29 : decode cJ10_next 29 = .ok (.getfield 1, 3) := dk_180 0 1 (dk_at dksJ10_next_1 5 rfl rfl)
theorem dJ10_next_32 : decode cJ10_next 32 = .ok (.getfield 37, 3) := dk_180 0 37 (dk_at dksJ10_next_1 8 rfl rfl)
theorem dJ10_next_35 : decode cJ10_next 35 = .ok (.astore_n 2, 1) := dk_77 (dk_at dksJ10_next_1 11 rfl rfl)
theorem dJ10_next_36 : decode cJ10_next 36 = .ok (.iload_n 1, 1) := dk_27 (dk_at dksJ10_next_1 12 rfl rfl)
theorem dJ10_next_37 : decode cJ10_next 37 = .ok (.aload_n 2, 1) := dk_44 (dk_at dksJ10_next_1 13 rfl rfl)
theorem dJ10_next_38 : decode cJ10_next 38 = .ok (.arraylength, 1) := dk_190 (dk_at dksJ10_next_1 14 rfl rfl)
theorem dJ10_next_39 : decode cJ10_next 39 = .ok (.if_icmp .lt 11, 3) := dk_161 0 11 (dk_at dksJ10_next_1 15 rfl rfl)
theorem dJ10_next_42 : decode cJ10_next 42 = .ok (.new 41, 3) := dk_187 0 41 (dk_at dksJ10_next_1 18 rfl rfl)
theorem dJ10_next_45 : decode cJ10_next 45 = .ok (.dup, 1) := dk_89 (dk_at dksJ10_next_1 21 rfl rfl)
theorem dJ10_next_46 : decode cJ10_next 46 = .ok (.invokespecial 43, 3) := dk_183 0 43 (dk_at dksJ10_next_2 0 rfl rfl)
theorem dJ10_next_49 : decode cJ10_next 49 = .ok (.athrow, 1) := dk_191 (dk_at dksJ10_next_2 3 rfl rfl)
theorem dJ10_next_50 : decode cJ10_next 50 = .ok (.aload_n 0, 1) := dk_42 (dk_at dksJ10_next_2 4 rfl rfl)
theorem dJ10_next_51 : decode cJ10_next 51 = .ok (.iload_n 1, 1) := dk_27 (dk_at dksJ10_next_2 5 rfl rfl)
theorem dJ10_next_52 : decode cJ10_next 52 = .ok (.iconst 1, 1) := dk_4 (dk_at dksJ10_next_2 6 rfl rfl)
theorem dJ10_next_53 : decode cJ10_next 53 = .ok (.iadd, 1) := dk_96 (dk_at dksJ10_next_2 7 rfl rfl)
theorem dJ10_next_54 : decode cJ10_next 54 = .ok (.putfield 25, 3) := dk_181 0 25 (dk_at dksJ10_next_2 8 rfl rfl)
theorem dJ10_next_57 : decode cJ10_next 57 = .ok (.aload_n 2, 1) := dk_44 (dk_at dksJ10_next_2 11 rfl rfl)
theorem dJ10_next_58 : decode cJ10_next 58 = .ok (.aload_n 0, 1) := dk_42 (dk_at dksJ10_next_2 12 rfl rfl)
theorem dJ10_next_59 : decode cJ10_next 59 = .ok (.iload_n 1, 1) := dk_27 (dk_at dksJ10_next_2 13 rfl rfl)
theorem dJ10_next_60 : decode cJ10_next 60 = .ok (.dup_x1, 1) := dk_90 (dk_at dksJ10_next_2 14 rfl rfl)
theorem dJ10_next_61 : decode cJ10_next 61 = .ok (.putfield 13, 3) := dk_181 0 13 (dk_at dksJ10_next_2 15 rfl rfl)
theorem dJ10_next_64 : decode cJ10_next 64 = .ok (.aaload, 1) := dk_50 (dk_at dksJ10_next_2 18 rfl rfl)
theorem dJ10_next_65 : decode cJ10_next 65 = .ok (.areturn, 1) := dk_176 (dk_at dksJ10_next_2 19 rfl rfl)
abbrev cJ10_checkForComodification : ByteArray := prog_36_method_6_code
def yJ10_checkForComodification : MethodName := ⟨RJ10, "checkForComodification", "()V"⟩
def dkwJ10_checkForComodification_0 : List UInt8 := [42, 180, 0, 1, 180, 0, 17, 42, 180, 0, 22, 159, 0, 11, 187, 0, 41, 89, 183, 0, 43, 191, 177]
abbrev dktJ10_checkForComodification_0 : List UInt8 := dkwJ10_checkForComodification_0 ++ []
theorem dksJ10_checkForComodification_0 : cJ10_checkForComodification.data.toList.drop 0 = dktJ10_checkForComodification_0 := by decide +kernel
theorem dJ10_checkForComodification_0 : decode cJ10_checkForComodification 0 = .ok (.aload_n 0, 1) := dk_42 (dk_at dksJ10_checkForComodification_0 0 rfl rfl)
theorem dJ10_checkForComodification_1 : decode cJ10_checkForComodification 1 = .ok (.getfield 1, 3) := dk_180 0 1 (dk_at dksJ10_checkForComodification_0 1 rfl rfl)
theorem dJ10_checkForComodification_4 : decode cJ10_checkForComodification 4 = .ok (.getfield 17, 3) := dk_180 0 17 (dk_at dksJ10_checkForComodification_0 4 rfl rfl)
theorem dJ10_checkForComodification_7 : decode cJ10_checkForComodification 7 = .ok (.aload_n 0, 1) := dk_42 (dk_at dksJ10_checkForComodification_0 7 rfl rfl)
theorem dJ10_checkForComodification_8 : decode cJ10_checkForComodification 8 = .ok (.getfield 22, 3) := dk_180 0 22 (dk_at dksJ10_checkForComodification_0 8 rfl rfl)
theorem dJ10_checkForComodification_11 : decode cJ10_checkForComodification 11 = .ok (.if_icmp .eq 11, 3) := dk_159 0 11 (dk_at dksJ10_checkForComodification_0 11 rfl rfl)
theorem dJ10_checkForComodification_14 : decode cJ10_checkForComodification 14 = .ok (.new 41, 3) := dk_187 0 41 (dk_at dksJ10_checkForComodification_0 14 rfl rfl)
theorem dJ10_checkForComodification_17 : decode cJ10_checkForComodification 17 = .ok (.dup, 1) := dk_89 (dk_at dksJ10_checkForComodification_0 17 rfl rfl)
theorem dJ10_checkForComodification_18 : decode cJ10_checkForComodification 18 = .ok (.invokespecial 43, 3) := dk_183 0 43 (dk_at dksJ10_checkForComodification_0 18 rfl rfl)
theorem dJ10_checkForComodification_21 : decode cJ10_checkForComodification 21 = .ok (.athrow, 1) := dk_191 (dk_at dksJ10_checkForComodification_0 21 rfl rfl)
theorem dJ10_checkForComodification_22 : decode cJ10_checkForComodification 22 = .ok (.return_, 1) := dk_177 (dk_at dksJ10_checkForComodification_0 22 rfl rfl)
theorem q135 : (Jvm.Cond.initialized "java/util/ArrayList$Itr") ∈ lw_all := lw_g (lw_at lw_m1 18 rfl) rfl
theorem q179 : (Jvm.Cond.fieldLink "java/util/ArrayList$Itr" (37 : Nat) "java/util/ArrayList" "elementData" "[Ljava/lang/Object;") ∈ lw_all := lw_g (lw_at lw_m1 62 rfl) rfl
theorem q180 : (Jvm.Cond.fieldLinkNest "java/util/ArrayList$Itr" (28 : Nat) "java/util/ArrayList" "size" "I" "java/util/ArrayList") ∈ lw_tbl := lw_at lw_m1 63 rfl
theorem q183 : (Jvm.Cond.fieldLink "java/util/ArrayList$Itr" (17 : Nat) "java/util/ArrayList" "modCount" "I") ∈ lw_all := lw_g (lw_at lw_m1 66 rfl) rfl
theorem q633 : (Jvm.Cond.instantiable "java/util/ArrayList$Itr" (4 : Nat)) ∈ lw_all := lw_g (lw_at lw_m3 36 rfl) rfl
theorem q635 : (Jvm.Cond.instanceMethod ({ cls := "java/util/ArrayList$Itr", name := "<init>", desc := "(Ljava/util/ArrayList;)V" } : Jvm.MethodName)) ∈ lw_all := lw_g (lw_at lw_m3 38 rfl) rfl
theorem q636 : (Jvm.Cond.code ({ cls := "java/util/ArrayList$Itr", name := "<init>", desc := "(Ljava/util/ArrayList;)V" } : Jvm.MethodName) prog_36_method_1_code (2 : Nat) (Option.none : Option Jvm.ClassFile.FieldType)) ∈ lw_all := lw_g (lw_at lw_m3 39 rfl) rfl
theorem q637 : (Jvm.Cond.methodLink "java/util/ArrayList$Itr" (7 : Nat) ({ cls := "java/lang/Object", name := "<init>", desc := "()V" } : Jvm.MethodName)) ∈ lw_all := lw_g (lw_at lw_m3 40 rfl) rfl
theorem q638 : (Jvm.Cond.fieldLink "java/util/ArrayList$Itr" (25 : Nat) "java/util/ArrayList$Itr" "cursor" "I") ∈ lw_all := lw_g (lw_at lw_m3 41 rfl) rfl
theorem q639 : (Jvm.Cond.fieldLink "java/util/ArrayList$Itr" (13 : Nat) "java/util/ArrayList$Itr" "lastRet" "I") ∈ lw_all := lw_g (lw_at lw_m3 42 rfl) rfl
theorem q640 : (Jvm.Cond.fieldLink "java/util/ArrayList$Itr" (22 : Nat) "java/util/ArrayList$Itr" "expectedModCount" "I") ∈ lw_all := lw_g (lw_at lw_m3 43 rfl) rfl
theorem q641 : (Jvm.Cond.fieldLink "java/util/ArrayList$Itr" (1 : Nat) "java/util/ArrayList$Itr" "this$0" "Ljava/util/ArrayList;") ∈ lw_all := lw_g (lw_at lw_m3 44 rfl) rfl
theorem q642 : (Jvm.Cond.lays "java/util/ArrayList$Itr" "java/util/ArrayList$Itr" "cursor" "I") ∈ lw_all := lw_g (lw_at lw_m3 45 rfl) rfl
theorem q643 : (Jvm.Cond.soleField "java/util/ArrayList$Itr" "cursor") ∈ lw_all := lw_g (lw_at lw_m3 46 rfl) rfl
theorem q644 : (Jvm.Cond.lays "java/util/ArrayList$Itr" "java/util/ArrayList$Itr" "lastRet" "I") ∈ lw_all := lw_g (lw_at lw_m3 47 rfl) rfl
theorem q645 : (Jvm.Cond.soleField "java/util/ArrayList$Itr" "lastRet") ∈ lw_all := lw_g (lw_at lw_m3 48 rfl) rfl
theorem q646 : (Jvm.Cond.lays "java/util/ArrayList$Itr" "java/util/ArrayList$Itr" "expectedModCount" "I") ∈ lw_all := lw_g (lw_at lw_m3 49 rfl) rfl
theorem q647 : (Jvm.Cond.soleField "java/util/ArrayList$Itr" "expectedModCount") ∈ lw_all := lw_g (lw_at lw_m3 50 rfl) rfl
theorem q648 : (Jvm.Cond.laysFinal "java/util/ArrayList$Itr" "java/util/ArrayList$Itr" "this$0" "Ljava/util/ArrayList;") ∈ lw_all := lw_g (lw_at lw_m3 51 rfl) rfl
theorem q649 : (Jvm.Cond.soleField "java/util/ArrayList$Itr" "this$0") ∈ lw_all := lw_g (lw_at lw_m3 52 rfl) rfl
theorem q650 : (Jvm.Cond.superclass "java/util/ArrayList$Itr" "java/lang/Object") ∈ lw_all := lw_g (lw_at lw_m3 53 rfl) rfl
theorem q655 : (Jvm.Cond.castable "java/util/ArrayList$Itr" "java/util/Iterator") ∈ lw_tbl := lw_at lw_m3 58 rfl
theorem q656 : (Jvm.Cond.selects "java/util/ArrayList$Itr" ({ cls := "java/util/Iterator", name := "hasNext", desc := "()Z" } : Jvm.MethodName) ({ cls := "java/util/ArrayList$Itr", name := "hasNext", desc := "()Z" } : Jvm.MethodName)) ∈ lw_all := lw_g (lw_at lw_m3 59 rfl) rfl
theorem q657 : (Jvm.Cond.unhidden "java/util/ArrayList$Itr" "hasNext" "()Z") ∈ lw_tbl := lw_at lw_m3 60 rfl
theorem q658 : (Jvm.Cond.instanceMethod ({ cls := "java/util/ArrayList$Itr", name := "hasNext", desc := "()Z" } : Jvm.MethodName)) ∈ lw_all := lw_g (lw_at lw_m3 61 rfl) rfl
theorem q659 : (Jvm.Cond.publicMethod ({ cls := "java/util/ArrayList$Itr", name := "hasNext", desc := "()Z" } : Jvm.MethodName)) ∈ lw_tbl := lw_at lw_m3 62 rfl
theorem q660 : (Jvm.Cond.code ({ cls := "java/util/ArrayList$Itr", name := "hasNext", desc := "()Z" } : Jvm.MethodName) prog_36_method_2_code (1 : Nat) (Option.some Jvm.ClassFile.FieldType.boolean)) ∈ lw_all := lw_g (lw_at lw_m3 63 rfl) rfl
theorem q665 : (Jvm.Cond.selects "java/util/ArrayList$Itr" ({ cls := "java/util/Iterator", name := "next", desc := "()Ljava/lang/Object;" } : Jvm.MethodName) ({ cls := "java/util/ArrayList$Itr", name := "next", desc := "()Ljava/lang/Object;" } : Jvm.MethodName)) ∈ lw_all := lw_g (lw_at lw_m3 68 rfl) rfl
theorem q666 : (Jvm.Cond.unhidden "java/util/ArrayList$Itr" "next" "()Ljava/lang/Object;") ∈ lw_tbl := lw_at lw_m3 69 rfl
theorem q667 : (Jvm.Cond.instanceMethod ({ cls := "java/util/ArrayList$Itr", name := "next", desc := "()Ljava/lang/Object;" } : Jvm.MethodName)) ∈ lw_all := lw_g (lw_at lw_m3 70 rfl) rfl
theorem q668 : (Jvm.Cond.publicMethod ({ cls := "java/util/ArrayList$Itr", name := "next", desc := "()Ljava/lang/Object;" } : Jvm.MethodName)) ∈ lw_tbl := lw_at lw_m3 71 rfl
theorem q669 : (Jvm.Cond.code ({ cls := "java/util/ArrayList$Itr", name := "next", desc := "()Ljava/lang/Object;" } : Jvm.MethodName) prog_36_method_3_code (3 : Nat) (Option.some (Jvm.ClassFile.FieldType.object "java/lang/Object"))) ∈ lw_all := lw_g (lw_at lw_m3 72 rfl) rfl
theorem q670 : (Jvm.Cond.methodLink "java/util/ArrayList$Itr" (31 : Nat) ({ cls := "java/util/ArrayList$Itr", name := "checkForComodification", desc := "()V" } : Jvm.MethodName)) ∈ lw_all := lw_g (lw_at lw_m3 73 rfl) rfl
theorem q671 : (Jvm.Cond.instanceMethod ({ cls := "java/util/ArrayList$Itr", name := "checkForComodification", desc := "()V" } : Jvm.MethodName)) ∈ lw_all := lw_g (lw_at lw_m3 74 rfl) rfl
theorem q672 : (Jvm.Cond.selects "java/util/ArrayList$Itr" ({ cls := "java/util/ArrayList$Itr", name := "checkForComodification", desc := "()V" } : Jvm.MethodName) ({ cls := "java/util/ArrayList$Itr", name := "checkForComodification", desc := "()V" } : Jvm.MethodName)) ∈ lw_all := lw_g (lw_at lw_m3 75 rfl) rfl
theorem q673 : (Jvm.Cond.code ({ cls := "java/util/ArrayList$Itr", name := "checkForComodification", desc := "()V" } : Jvm.MethodName) prog_36_method_6_code (1 : Nat) (Option.none : Option Jvm.ClassFile.FieldType)) ∈ lw_all := lw_g (lw_at lw_m3 76 rfl) rfl
theorem q768 : (Jvm.Cond.selects "java/util/ArrayList$Itr" ({ cls := "java/lang/Object", name := "getClass", desc := "()Ljava/lang/Class;" } : Jvm.MethodName) ({ cls := "java/lang/Object", name := "getClass", desc := "()Ljava/lang/Class;" } : Jvm.MethodName)) ∈ lw_all := lw_g (lw_at lw_m3 171 rfl) rfl
theorem q2062 : (Jvm.Cond.castable "java/util/ArrayList$Itr" "java/lang/Object") ∈ lw_tbl := lw_at lw_m9 25 rfl
theorem in_J10 : ∀ w ∈ wsJ100, w ∈ lw_all := lw_in wsJ100 [642, 644, 646, 648] (by decide +kernel) (by decide +kernel)

/-! jdk/internal/util/ArraysSupport -/
set_option maxRecDepth 100000
def RJ11 : String := "jdk/internal/util/ArraysSupport"
abbrev cJ11_newLength : ByteArray := prog_44_method_27_code
def yJ11_newLength : MethodName := ⟨RJ11, "newLength", "(III)I"⟩
def dkwJ11_newLength_1 : List UInt8 := [184, 0, 201, 172]
abbrev dktJ11_newLength_1 : List UInt8 := dkwJ11_newLength_1 ++ []
def dkwJ11_newLength_0 : List UInt8 := [26, 27, 28, 184, 0, 194, 96, 62, 3, 29, 162, 0, 11, 29, 18, 200, 163, 0, 5, 29, 172, 26, 27]
abbrev dktJ11_newLength_0 : List UInt8 := dkwJ11_newLength_0 ++ dktJ11_newLength_1
theorem dksJ11_newLength_0 : cJ11_newLength.data.toList.drop 0 = dktJ11_newLength_0 := by decide +kernel
theorem dksJ11_newLength_1 : cJ11_newLength.data.toList.drop 23 = dktJ11_newLength_1 := dk_seg dksJ11_newLength_0 23 rfl rfl
theorem dJ11_newLength_0 : decode cJ11_newLength 0 = .ok (.iload_n 0, 1) := dk_26 (dk_at dksJ11_newLength_0 0 rfl rfl)
theorem dJ11_newLength_1 : decode cJ11_newLength 1 = .ok (.iload_n 1, 1) := dk_27 (dk_at dksJ11_newLength_0 1 rfl rfl)
theorem dJ11_newLength_2 : decode cJ11_newLength 2 = .ok (.iload_n 2, 1) := dk_28 (dk_at dksJ11_newLength_0 2 rfl rfl)
theorem dJ11_newLength_3 : decode cJ11_newLength 3 = .ok (.invokestatic 194, 3) := dk_184 0 194 (dk_at dksJ11_newLength_0 3 rfl rfl)
theorem dJ11_newLength_6 : decode cJ11_newLength 6 = .ok (.iadd, 1) := dk_96 (dk_at dksJ11_newLength_0 6 rfl rfl)
theorem dJ11_newLength_7 : decode cJ11_newLength 7 = .ok (.istore_n 3, 1) := dk_62 (dk_at dksJ11_newLength_0 7 rfl rfl)
theorem dJ11_newLength_8 : decode cJ11_newLength 8 = .ok (.iconst 0, 1) := dk_3 (dk_at dksJ11_newLength_0 8 rfl rfl)
theorem dJ11_newLength_9 : decode cJ11_newLength 9 = .ok (.iload_n 3, 1) := dk_29 (dk_at dksJ11_newLength_0 9 rfl rfl)
theorem dJ11_newLength_10 : decode cJ11_newLength 10 = .ok (.if_icmp .ge 11, 3) := dk_162 0 11 (dk_at dksJ11_newLength_0 10 rfl rfl)
theorem dJ11_newLength_13 : decode cJ11_newLength 13 = .ok (.iload_n 3, 1) := dk_29 (dk_at dksJ11_newLength_0 13 rfl rfl)
theorem dJ11_newLength_14 : decode cJ11_newLength 14 = .ok (.ldc 200, 2) := dk_18 200 (dk_at dksJ11_newLength_0 14 rfl rfl)
theorem dJ11_newLength_16 : decode cJ11_newLength 16 = .ok (.if_icmp .gt 5, 3) := dk_163 0 5 (dk_at dksJ11_newLength_0 16 rfl rfl)
theorem dJ11_newLength_19 : decode cJ11_newLength 19 = .ok (.iload_n 3, 1) := dk_29 (dk_at dksJ11_newLength_0 19 rfl rfl)
theorem dJ11_newLength_20 : decode cJ11_newLength 20 = .ok (.ireturn, 1) := dk_172 (dk_at dksJ11_newLength_0 20 rfl rfl)
theorem dJ11_newLength_21 : decode cJ11_newLength 21 = .ok (.iload_n 0, 1) := dk_26 (dk_at dksJ11_newLength_0 21 rfl rfl)
theorem dJ11_newLength_22 : decode cJ11_newLength 22 = .ok (.iload_n 1, 1) := dk_27 (dk_at dksJ11_newLength_0 22 rfl rfl)
theorem dJ11_newLength_23 : decode cJ11_newLength 23 = .ok (.invokestatic 201, 3) := dk_184 0 201 (dk_at dksJ11_newLength_1 0 rfl rfl)
theorem dJ11_newLength_26 : decode cJ11_newLength 26 = .ok (.ireturn, 1) := dk_172 (dk_at dksJ11_newLength_1 3 rfl rfl)
abbrev cJ11_hugeLength : ByteArray := prog_44_method_28_code
def yJ11_hugeLength : MethodName := ⟨RJ11, "hugeLength", "(II)I"⟩
def dkwJ11_hugeLength_2 : List UInt8 := [191, 28, 18, 200, 163, 0, 6, 18, 200, 172, 28, 172]
abbrev dktJ11_hugeLength_2 : List UInt8 := dkwJ11_hugeLength_2 ++ []
def dkwJ11_hugeLength_1 : List UInt8 := [26, 182, 0, 98, 18, 208, 182, 0, 94, 27, 182, 0, 98, 18, 210, 182, 0, 94, 182, 0, 101, 183, 0, 212]
abbrev dktJ11_hugeLength_1 : List UInt8 := dkwJ11_hugeLength_1 ++ dktJ11_hugeLength_2
def dkwJ11_hugeLength_0 : List UInt8 := [26, 27, 96, 61, 28, 156, 0, 44, 187, 0, 204, 89, 187, 0, 89, 89, 183, 0, 91, 18, 206, 182, 0, 94]
abbrev dktJ11_hugeLength_0 : List UInt8 := dkwJ11_hugeLength_0 ++ dktJ11_hugeLength_1
theorem dksJ11_hugeLength_0 : cJ11_hugeLength.data.toList.drop 0 = dktJ11_hugeLength_0 := by decide +kernel
theorem dksJ11_hugeLength_1 : cJ11_hugeLength.data.toList.drop 24 = dktJ11_hugeLength_1 := dk_seg dksJ11_hugeLength_0 24 rfl rfl
theorem dksJ11_hugeLength_2 : cJ11_hugeLength.data.toList.drop 48 = dktJ11_hugeLength_2 := dk_seg dksJ11_hugeLength_1 24 rfl rfl
theorem dJ11_hugeLength_0 : decode cJ11_hugeLength 0 = .ok (.iload_n 0, 1) := dk_26 (dk_at dksJ11_hugeLength_0 0 rfl rfl)
theorem dJ11_hugeLength_1 : decode cJ11_hugeLength 1 = .ok (.iload_n 1, 1) := dk_27 (dk_at dksJ11_hugeLength_0 1 rfl rfl)
theorem dJ11_hugeLength_2 : decode cJ11_hugeLength 2 = .ok (.iadd, 1) := dk_96 (dk_at dksJ11_hugeLength_0 2 rfl rfl)
theorem dJ11_hugeLength_3 : decode cJ11_hugeLength 3 = .ok (.istore_n 2, 1) := dk_61 (dk_at dksJ11_hugeLength_0 3 rfl rfl)
theorem dJ11_hugeLength_4 : decode cJ11_hugeLength 4 = .ok (.iload_n 2, 1) := dk_28 (dk_at dksJ11_hugeLength_0 4 rfl rfl)
theorem dJ11_hugeLength_5 : decode cJ11_hugeLength 5 = .ok (.ifCond .ge 44, 3) := dk_156 0 44 (dk_at dksJ11_hugeLength_0 5 rfl rfl)
theorem dJ11_hugeLength_8 : decode cJ11_hugeLength 8 = .ok (.new 204, 3) := dk_187 0 204 (dk_at dksJ11_hugeLength_0 8 rfl rfl)
theorem dJ11_hugeLength_11 : decode cJ11_hugeLength 11 = .ok (.dup, 1) := dk_89 (dk_at dksJ11_hugeLength_0 11 rfl rfl)
theorem dJ11_hugeLength_12 : decode cJ11_hugeLength 12 = .ok (.new 89, 3) := dk_187 0 89 (dk_at dksJ11_hugeLength_0 12 rfl rfl)
theorem dJ11_hugeLength_15 : decode cJ11_hugeLength 15 = .ok (.dup, 1) := dk_89 (dk_at dksJ11_hugeLength_0 15 rfl rfl)
theorem dJ11_hugeLength_16 : decode cJ11_hugeLength 16 = .ok (.invokespecial 91, 3) := dk_183 0 91 (dk_at dksJ11_hugeLength_0 16 rfl rfl)
theorem dJ11_hugeLength_19 : decode cJ11_hugeLength 19 = .ok (.ldc 206, 2) := dk_18 206 (dk_at dksJ11_hugeLength_0 19 rfl rfl)
theorem dJ11_hugeLength_21 : decode cJ11_hugeLength 21 = .ok (.invokevirtual 94, 3) := dk_182 0 94 (dk_at dksJ11_hugeLength_0 21 rfl rfl)
theorem dJ11_hugeLength_24 : decode cJ11_hugeLength 24 = .ok (.iload_n 0, 1) := dk_26 (dk_at dksJ11_hugeLength_1 0 rfl rfl)
theorem dJ11_hugeLength_25 : decode cJ11_hugeLength 25 = .ok (.invokevirtual 98, 3) := dk_182 0 98 (dk_at dksJ11_hugeLength_1 1 rfl rfl)
theorem dJ11_hugeLength_28 : decode cJ11_hugeLength 28 = .ok (.ldc 208, 2) := dk_18 208 (dk_at dksJ11_hugeLength_1 4 rfl rfl)
theorem dJ11_hugeLength_30 : decode cJ11_hugeLength 30 = .ok (.invokevirtual 94, 3) := dk_182 0 94 (dk_at dksJ11_hugeLength_1 6 rfl rfl)
theorem dJ11_hugeLength_33 : decode cJ11_hugeLength 33 = .ok (.iload_n 1, 1) := dk_27 (dk_at dksJ11_hugeLength_1 9 rfl rfl)
theorem dJ11_hugeLength_34 : decode cJ11_hugeLength 34 = .ok (.invokevirtual 98, 3) := dk_182 0 98 (dk_at dksJ11_hugeLength_1 10 rfl rfl)
theorem dJ11_hugeLength_37 : decode cJ11_hugeLength 37 = .ok (.ldc 210, 2) := dk_18 210 (dk_at dksJ11_hugeLength_1 13 rfl rfl)
theorem dJ11_hugeLength_39 : decode cJ11_hugeLength 39 = .ok (.invokevirtual 94, 3) := dk_182 0 94 (dk_at dksJ11_hugeLength_1 15 rfl rfl)
theorem dJ11_hugeLength_42 : decode cJ11_hugeLength 42 = .ok (.invokevirtual 101, 3) := dk_182 0 101 (dk_at dksJ11_hugeLength_1 18 rfl rfl)
theorem dJ11_hugeLength_45 : decode cJ11_hugeLength 45 = .ok (.invokespecial 212, 3) := dk_183 0 212 (dk_at dksJ11_hugeLength_1 21 rfl rfl)
theorem dJ11_hugeLength_48 : decode cJ11_hugeLength 48 = .ok (.athrow, 1) := dk_191 (dk_at dksJ11_hugeLength_2 0 rfl rfl)
theorem dJ11_hugeLength_49 : decode cJ11_hugeLength 49 = .ok (.iload_n 2, 1) := dk_28 (dk_at dksJ11_hugeLength_2 1 rfl rfl)
theorem dJ11_hugeLength_50 : decode cJ11_hugeLength 50 = .ok (.ldc 200, 2) := dk_18 200 (dk_at dksJ11_hugeLength_2 2 rfl rfl)
theorem dJ11_hugeLength_52 : decode cJ11_hugeLength 52 = .ok (.if_icmp .gt 6, 3) := dk_163 0 6 (dk_at dksJ11_hugeLength_2 4 rfl rfl)
theorem dJ11_hugeLength_55 : decode cJ11_hugeLength 55 = .ok (.ldc 200, 2) := dk_18 200 (dk_at dksJ11_hugeLength_2 7 rfl rfl)
theorem dJ11_hugeLength_57 : decode cJ11_hugeLength 57 = .ok (.ireturn, 1) := dk_172 (dk_at dksJ11_hugeLength_2 9 rfl rfl)
theorem dJ11_hugeLength_58 : decode cJ11_hugeLength 58 = .ok (.iload_n 2, 1) := dk_28 (dk_at dksJ11_hugeLength_2 10 rfl rfl)
theorem dJ11_hugeLength_59 : decode cJ11_hugeLength 59 = .ok (.ireturn, 1) := dk_172 (dk_at dksJ11_hugeLength_2 11 rfl rfl)
theorem q137 : (Jvm.Cond.initialized "jdk/internal/util/ArraysSupport") ∈ lw_all := lw_g (lw_at lw_m1 20 rfl) rfl
theorem q738 : (Jvm.Cond.static ({ cls := "jdk/internal/util/ArraysSupport", name := "newLength", desc := "(III)I" } : Jvm.MethodName)) ∈ lw_all := lw_g (lw_at lw_m3 141 rfl) rfl
theorem q739 : (Jvm.Cond.code ({ cls := "jdk/internal/util/ArraysSupport", name := "newLength", desc := "(III)I" } : Jvm.MethodName) prog_44_method_27_code (4 : Nat) (Option.some Jvm.ClassFile.FieldType.int)) ∈ lw_all := lw_g (lw_at lw_m3 142 rfl) rfl
theorem q740 : (Jvm.Cond.methodLink "jdk/internal/util/ArraysSupport" (194 : Nat) ({ cls := "java/lang/Math", name := "max", desc := "(II)I" } : Jvm.MethodName)) ∈ lw_all := lw_g (lw_at lw_m3 143 rfl) rfl
theorem q743 : (Jvm.Cond.constant "jdk/internal/util/ArraysSupport" (200 : Nat) (2147483639 : Int32)) ∈ lw_all := lw_g (lw_at lw_m3 146 rfl) rfl
theorem q744 : (Jvm.Cond.methodLink "jdk/internal/util/ArraysSupport" (201 : Nat) ({ cls := "jdk/internal/util/ArraysSupport", name := "hugeLength", desc := "(II)I" } : Jvm.MethodName)) ∈ lw_all := lw_g (lw_at lw_m3 147 rfl) rfl
theorem q745 : (Jvm.Cond.static ({ cls := "jdk/internal/util/ArraysSupport", name := "hugeLength", desc := "(II)I" } : Jvm.MethodName)) ∈ lw_all := lw_g (lw_at lw_m3 148 rfl) rfl
theorem q746 : (Jvm.Cond.code ({ cls := "jdk/internal/util/ArraysSupport", name := "hugeLength", desc := "(II)I" } : Jvm.MethodName) prog_44_method_28_code (3 : Nat) (Option.some Jvm.ClassFile.FieldType.int)) ∈ lw_all := lw_g (lw_at lw_m3 149 rfl) rfl

/-! java/lang/Math -/
set_option maxRecDepth 100000
def RJ12 : String := "java/lang/Math"
abbrev cJ12_max : ByteArray := prog_25_method_65_code
def yJ12_max : MethodName := ⟨RJ12, "max", "(II)I"⟩
def dkwJ12_max_0 : List UInt8 := [26, 27, 161, 0, 7, 26, 167, 0, 4, 27, 172]
abbrev dktJ12_max_0 : List UInt8 := dkwJ12_max_0 ++ []
theorem dksJ12_max_0 : cJ12_max.data.toList.drop 0 = dktJ12_max_0 := by decide +kernel
theorem dJ12_max_0 : decode cJ12_max 0 = .ok (.iload_n 0, 1) := dk_26 (dk_at dksJ12_max_0 0 rfl rfl)
theorem dJ12_max_1 : decode cJ12_max 1 = .ok (.iload_n 1, 1) := dk_27 (dk_at dksJ12_max_0 1 rfl rfl)
theorem dJ12_max_2 : decode cJ12_max 2 = .ok (.if_icmp .lt 7, 3) := dk_161 0 7 (dk_at dksJ12_max_0 2 rfl rfl)
theorem dJ12_max_5 : decode cJ12_max 5 = .ok (.iload_n 0, 1) := dk_26 (dk_at dksJ12_max_0 5 rfl rfl)
theorem dJ12_max_6 : decode cJ12_max 6 = .ok (.goto 4, 3) := dk_167 0 4 (dk_at dksJ12_max_0 6 rfl rfl)
theorem dJ12_max_9 : decode cJ12_max 9 = .ok (.iload_n 1, 1) := dk_27 (dk_at dksJ12_max_0 9 rfl rfl)
theorem dJ12_max_10 : decode cJ12_max 10 = .ok (.ireturn, 1) := dk_172 (dk_at dksJ12_max_0 10 rfl rfl)
abbrev cJ12_min : ByteArray := prog_25_method_69_code
def yJ12_min : MethodName := ⟨RJ12, "min", "(II)I"⟩
def dkwJ12_min_0 : List UInt8 := [26, 27, 163, 0, 7, 26, 167, 0, 4, 27, 172]
abbrev dktJ12_min_0 : List UInt8 := dkwJ12_min_0 ++ []
theorem dksJ12_min_0 : cJ12_min.data.toList.drop 0 = dktJ12_min_0 := by decide +kernel
theorem dJ12_min_0 : decode cJ12_min 0 = .ok (.iload_n 0, 1) := dk_26 (dk_at dksJ12_min_0 0 rfl rfl)
theorem dJ12_min_1 : decode cJ12_min 1 = .ok (.iload_n 1, 1) := dk_27 (dk_at dksJ12_min_0 1 rfl rfl)
theorem dJ12_min_2 : decode cJ12_min 2 = .ok (.if_icmp .gt 7, 3) := dk_163 0 7 (dk_at dksJ12_min_0 2 rfl rfl)
theorem dJ12_min_5 : decode cJ12_min 5 = .ok (.iload_n 0, 1) := dk_26 (dk_at dksJ12_min_0 5 rfl rfl)
theorem dJ12_min_6 : decode cJ12_min 6 = .ok (.goto 4, 3) := dk_167 0 4 (dk_at dksJ12_min_0 6 rfl rfl)
theorem dJ12_min_9 : decode cJ12_min 9 = .ok (.iload_n 1, 1) := dk_27 (dk_at dksJ12_min_0 9 rfl rfl)
theorem dJ12_min_10 : decode cJ12_min 10 = .ok (.ireturn, 1) := dk_172 (dk_at dksJ12_min_0 10 rfl rfl)
theorem q138 : (Jvm.Cond.initialized "java/lang/Math") ∈ lw_all := lw_g (lw_at lw_m1 21 rfl) rfl
theorem q741 : (Jvm.Cond.static ({ cls := "java/lang/Math", name := "max", desc := "(II)I" } : Jvm.MethodName)) ∈ lw_all := lw_g (lw_at lw_m3 144 rfl) rfl
theorem q742 : (Jvm.Cond.code ({ cls := "java/lang/Math", name := "max", desc := "(II)I" } : Jvm.MethodName) prog_25_method_65_code (2 : Nat) (Option.some Jvm.ClassFile.FieldType.int)) ∈ lw_all := lw_g (lw_at lw_m3 145 rfl) rfl
theorem q777 : (Jvm.Cond.static ({ cls := "java/lang/Math", name := "min", desc := "(II)I" } : Jvm.MethodName)) ∈ lw_all := lw_g (lw_at lw_m3 180 rfl) rfl
theorem q778 : (Jvm.Cond.code ({ cls := "java/lang/Math", name := "min", desc := "(II)I" } : Jvm.MethodName) prog_25_method_69_code (2 : Nat) (Option.some Jvm.ClassFile.FieldType.int)) ∈ lw_all := lw_g (lw_at lw_m3 181 rfl) rfl

/-! java/util/Arrays -/
set_option maxRecDepth 100000
def RJ13 : String := "java/util/Arrays"
abbrev cJ13_copyOf : ByteArray := prog_37_method_119_code
def yJ13_copyOf : MethodName := ⟨RJ13, "copyOf", "([Ljava/lang/Object;I)[Ljava/lang/Object;"⟩
def dkwJ13_copyOf_0 : List UInt8 := [42, 27, 42, 182, 0, 86, 184, 1, 44, 176]
abbrev dktJ13_copyOf_0 : List UInt8 := dkwJ13_copyOf_0 ++ []
theorem dksJ13_copyOf_0 : cJ13_copyOf.data.toList.drop 0 = dktJ13_copyOf_0 := by decide +kernel
theorem dJ13_copyOf_0 : decode cJ13_copyOf 0 = .ok (.aload_n 0, 1) := dk_42 (dk_at dksJ13_copyOf_0 0 rfl rfl)
theorem dJ13_copyOf_1 : decode cJ13_copyOf 1 = .ok (.iload_n 1, 1) := dk_27 (dk_at dksJ13_copyOf_0 1 rfl rfl)
theorem dJ13_copyOf_2 : decode cJ13_copyOf 2 = .ok (.aload_n 0, 1) := dk_42 (dk_at dksJ13_copyOf_0 2 rfl rfl)
theorem dJ13_copyOf_3 : decode cJ13_copyOf 3 = .ok (.invokevirtual 86, 3) := dk_182 0 86 (dk_at dksJ13_copyOf_0 3 rfl rfl)
theorem dJ13_copyOf_6 : decode cJ13_copyOf 6 = .ok (.invokestatic 300, 3) := dk_184 1 44 (dk_at dksJ13_copyOf_0 6 rfl rfl)
theorem dJ13_copyOf_9 : decode cJ13_copyOf 9 = .ok (.areturn, 1) := dk_176 (dk_at dksJ13_copyOf_0 9 rfl rfl)
abbrev cJ13_copyOf_2 : ByteArray := prog_37_method_120_code
def yJ13_copyOf_2 : MethodName := ⟨RJ13, "copyOf", "([Ljava/lang/Object;ILjava/lang/Class;)[Ljava/lang/Object;"⟩
def dkwJ13_copyOf_2_1 : List UInt8 := [78, 42, 3, 45, 3, 42, 190, 27, 184, 1, 48, 184, 0, 150, 45, 176]
abbrev dktJ13_copyOf_2_1 : List UInt8 := dkwJ13_copyOf_2_1 ++ []
def dkwJ13_copyOf_2_0 : List UInt8 := [44, 18, 110, 166, 0, 10, 27, 189, 0, 2, 167, 0, 14, 44, 182, 0, 90, 27, 184, 0, 95, 192, 0, 110]
abbrev dktJ13_copyOf_2_0 : List UInt8 := dkwJ13_copyOf_2_0 ++ dktJ13_copyOf_2_1
theorem dksJ13_copyOf_2_0 : cJ13_copyOf_2.data.toList.drop 0 = dktJ13_copyOf_2_0 := by decide +kernel
theorem dksJ13_copyOf_2_1 : cJ13_copyOf_2.data.toList.drop 24 = dktJ13_copyOf_2_1 := dk_seg dksJ13_copyOf_2_0 24 rfl rfl
theorem dJ13_copyOf_2_0 : decode cJ13_copyOf_2 0 = .ok (.aload_n 2, 1) := dk_44 (dk_at dksJ13_copyOf_2_0 0 rfl rfl)
theorem dJ13_copyOf_2_1 : decode cJ13_copyOf_2 1 = .ok (.ldc 110, 2) := dk_18 110 (dk_at dksJ13_copyOf_2_0 1 rfl rfl)
theorem dJ13_copyOf_2_3 : decode cJ13_copyOf_2 3 = .ok (.if_acmp .ne 10, 3) := dk_166 0 10 (dk_at dksJ13_copyOf_2_0 3 rfl rfl)
theorem dJ13_copyOf_2_6 : decode cJ13_copyOf_2 6 = .ok (.iload_n 1, 1) := dk_27 (dk_at dksJ13_copyOf_2_0 6 rfl rfl)
theorem dJ13_copyOf_2_7 : decode cJ13_copyOf_2 7 = .ok (.anewarray 2, 3) := dk_189 0 2 (dk_at dksJ13_copyOf_2_0 7 rfl rfl)
theorem dJ13_copyOf_2_10 : decode cJ13_copyOf_2 10 = .ok (.goto 14, 3) := dk_167 0 14 (dk_at dksJ13_copyOf_2_0 10 rfl rfl)
theorem dJ13_copyOf_2_13 : decode cJ13_copyOf_2 13 = .ok (.aload_n 2, 1) := dk_44 (dk_at dksJ13_copyOf_2_0 13 rfl rfl)
theorem dJ13_copyOf_2_14 : decode cJ13_copyOf_2 14 = .ok (.invokevirtual 90, 3) := dk_182 0 90 (dk_at dksJ13_copyOf_2_0 14 rfl rfl)
theorem dJ13_copyOf_2_17 : decode cJ13_copyOf_2 17 = .ok (.iload_n 1, 1) := dk_27 (dk_at dksJ13_copyOf_2_0 17 rfl rfl)
theorem dJ13_copyOf_2_18 : decode cJ13_copyOf_2 18 = .ok (.invokestatic 95, 3) := dk_184 0 95 (dk_at dksJ13_copyOf_2_0 18 rfl rfl)
theorem dJ13_copyOf_2_21 : decode cJ13_copyOf_2 21 = .ok (.checkcast 110, 3) := dk_192 0 110 (dk_at dksJ13_copyOf_2_0 21 rfl rfl)
theorem dJ13_copyOf_2_24 : decode cJ13_copyOf_2 24 = .ok (.astore_n 3, 1) := dk_78 (dk_at dksJ13_copyOf_2_1 0 rfl rfl)
theorem dJ13_copyOf_2_25 : decode cJ13_copyOf_2 25 = .ok (.aload_n 0, 1) := dk_42 (dk_at dksJ13_copyOf_2_1 1 rfl rfl)
theorem dJ13_copyOf_2_26 : decode cJ13_copyOf_2 26 = .ok (.iconst 0, 1) := dk_3 (dk_at dksJ13_copyOf_2_1 2 rfl rfl)
theorem dJ13_copyOf_2_27 : decode cJ13_copyOf_2 27 = .ok (.aload_n 3, 1) := dk_45 (dk_at dksJ13_copyOf_2_1 3 rfl rfl)
theorem dJ13_copyOf_2_28 : decode cJ13_copyOf_2 28 = .ok (.iconst 0, 1) := dk_3 (dk_at dksJ13_copyOf_2_1 4 rfl rfl)
theorem dJ13_copyOf_2_29 : decode cJ13_copyOf_2 29 = .ok (.aload_n 0, 1) := dk_42 (dk_at dksJ13_copyOf_2_1 5 rfl rfl)
theorem dJ13_copyOf_2_30 : decode cJ13_copyOf_2 30 = .ok (.arraylength, 1) := dk_190 (dk_at dksJ13_copyOf_2_1 6 rfl rfl)
theorem dJ13_copyOf_2_31 : decode cJ13_copyOf_2 31 = .ok (.iload_n 1, 1) := dk_27 (dk_at dksJ13_copyOf_2_1 7 rfl rfl)
theorem dJ13_copyOf_2_32 : decode cJ13_copyOf_2 32 = .ok (.invokestatic 304, 3) := dk_184 1 48 (dk_at dksJ13_copyOf_2_1 8 rfl rfl)
theorem dJ13_copyOf_2_35 : decode cJ13_copyOf_2 35 = .ok (.invokestatic 150, 3) := dk_184 0 150 (dk_at dksJ13_copyOf_2_1 11 rfl rfl)
theorem dJ13_copyOf_2_38 : decode cJ13_copyOf_2 38 = .ok (.aload_n 3, 1) := dk_45 (dk_at dksJ13_copyOf_2_1 14 rfl rfl)
theorem dJ13_copyOf_2_39 : decode cJ13_copyOf_2 39 = .ok (.areturn, 1) := dk_176 (dk_at dksJ13_copyOf_2_1 15 rfl rfl)
theorem q139 : (Jvm.Cond.initialized "java/util/Arrays") ∈ lw_all := lw_g (lw_at lw_m1 22 rfl) rfl
theorem q748 : (Jvm.Cond.static ({ cls := "java/util/Arrays", name := "copyOf", desc := "([Ljava/lang/Object;I)[Ljava/lang/Object;" } : Jvm.MethodName)) ∈ lw_all := lw_g (lw_at lw_m3 151 rfl) rfl
theorem q749 : (Jvm.Cond.code ({ cls := "java/util/Arrays", name := "copyOf", desc := "([Ljava/lang/Object;I)[Ljava/lang/Object;" } : Jvm.MethodName) prog_37_method_119_code (2 : Nat) (Option.some (Jvm.ClassFile.FieldType.array (Jvm.ClassFile.FieldType.object "java/lang/Object")))) ∈ lw_all := lw_g (lw_at lw_m3 152 rfl) rfl
theorem q750 : (Jvm.Cond.methodLink "java/util/Arrays" (86 : Nat) ({ cls := "java/lang/Object", name := "getClass", desc := "()Ljava/lang/Class;" } : Jvm.MethodName)) ∈ lw_all := lw_g (lw_at lw_m3 153 rfl) rfl
theorem q770 : (Jvm.Cond.methodLink "java/util/Arrays" (300 : Nat) ({ cls := "java/util/Arrays", name := "copyOf", desc := "([Ljava/lang/Object;ILjava/lang/Class;)[Ljava/lang/Object;" } : Jvm.MethodName)) ∈ lw_all := lw_g (lw_at lw_m3 173 rfl) rfl
theorem q771 : (Jvm.Cond.static ({ cls := "java/util/Arrays", name := "copyOf", desc := "([Ljava/lang/Object;ILjava/lang/Class;)[Ljava/lang/Object;" } : Jvm.MethodName)) ∈ lw_all := lw_g (lw_at lw_m3 174 rfl) rfl
theorem q772 : (Jvm.Cond.code ({ cls := "java/util/Arrays", name := "copyOf", desc := "([Ljava/lang/Object;ILjava/lang/Class;)[Ljava/lang/Object;" } : Jvm.MethodName) prog_37_method_120_code (4 : Nat) (Option.some (Jvm.ClassFile.FieldType.array (Jvm.ClassFile.FieldType.object "java/lang/Object")))) ∈ lw_all := lw_g (lw_at lw_m3 175 rfl) rfl
theorem q773 : (Jvm.Cond.classLink "java/util/Arrays" (110 : Nat) "[Ljava/lang/Object;") ∈ lw_all := lw_g (lw_at lw_m3 176 rfl) rfl
theorem q775 : (Jvm.Cond.classLink "java/util/Arrays" (2 : Nat) "java/lang/Object") ∈ lw_all := lw_g (lw_at lw_m3 178 rfl) rfl
theorem q776 : (Jvm.Cond.methodLink "java/util/Arrays" (304 : Nat) ({ cls := "java/lang/Math", name := "min", desc := "(II)I" } : Jvm.MethodName)) ∈ lw_all := lw_g (lw_at lw_m3 179 rfl) rfl
theorem q779 : (Jvm.Cond.methodLink "java/util/Arrays" (150 : Nat) ({ cls := "java/lang/System", name := "arraycopy", desc := "(Ljava/lang/Object;ILjava/lang/Object;II)V" } : Jvm.MethodName)) ∈ lw_all := lw_g (lw_at lw_m3 182 rfl) rfl

/-! java/lang/Integer -/
set_option maxRecDepth 100000
def RJ14 : String := "java/lang/Integer"
abbrev cJ14_bitCount : ByteArray := prog_23_method_49_code
def yJ14_bitCount : MethodName := ⟨RJ14, "bitCount", "(I)I"⟩
def dkwJ14_bitCount_2 : List UInt8 := [26, 16, 63, 126, 172]
abbrev dktJ14_bitCount_2 : List UInt8 := dkwJ14_bitCount_2 ++ []
def dkwJ14_bitCount_1 : List UInt8 := [26, 26, 7, 124, 96, 19, 1, 11, 126, 59, 26, 26, 16, 8, 124, 96, 59, 26, 26, 16, 16, 124, 96, 59]
abbrev dktJ14_bitCount_1 : List UInt8 := dkwJ14_bitCount_1 ++ dktJ14_bitCount_2
def dkwJ14_bitCount_0 : List UInt8 := [26, 26, 4, 124, 19, 1, 9, 126, 100, 59, 26, 19, 1, 10, 126, 26, 5, 124, 19, 1, 10, 126, 96, 59]
abbrev dktJ14_bitCount_0 : List UInt8 := dkwJ14_bitCount_0 ++ dktJ14_bitCount_1
theorem dksJ14_bitCount_0 : cJ14_bitCount.data.toList.drop 0 = dktJ14_bitCount_0 := by decide +kernel
theorem dksJ14_bitCount_1 : cJ14_bitCount.data.toList.drop 24 = dktJ14_bitCount_1 := dk_seg dksJ14_bitCount_0 24 rfl rfl
theorem dksJ14_bitCount_2 : cJ14_bitCount.data.toList.drop 48 = dktJ14_bitCount_2 := dk_seg dksJ14_bitCount_1 24 rfl rfl
theorem dJ14_bitCount_0 : decode cJ14_bitCount 0 = .ok (.iload_n 0, 1) := dk_26 (dk_at dksJ14_bitCount_0 0 rfl rfl)
theorem dJ14_bitCount_1 : decode cJ14_bitCount 1 = .ok (.iload_n 0, 1) := dk_26 (dk_at dksJ14_bitCount_0 1 rfl rfl)
theorem dJ14_bitCount_2 : decode cJ14_bitCount 2 = .ok (.iconst 1, 1) := dk_4 (dk_at dksJ14_bitCount_0 2 rfl rfl)
theorem dJ14_bitCount_3 : decode cJ14_bitCount 3 = .ok (.iushr, 1) := dk_124 (dk_at dksJ14_bitCount_0 3 rfl rfl)
theorem dJ14_bitCount_4 : decode cJ14_bitCount 4 = .ok (.ldc_w 265, 3) := dk_19 1 9 (dk_at dksJ14_bitCount_0 4 rfl rfl)
theorem dJ14_bitCount_7 : decode cJ14_bitCount 7 = .ok (.iand, 1) := dk_126 (dk_at dksJ14_bitCount_0 7 rfl rfl)
theorem dJ14_bitCount_8 : decode cJ14_bitCount 8 = .ok (.isub, 1) := dk_100 (dk_at dksJ14_bitCount_0 8 rfl rfl)
theorem dJ14_bitCount_9 : decode cJ14_bitCount 9 = .ok (.istore_n 0, 1) := dk_59 (dk_at dksJ14_bitCount_0 9 rfl rfl)
theorem dJ14_bitCount_10 : decode cJ14_bitCount 10 = .ok (.iload_n 0, 1) := dk_26 (dk_at dksJ14_bitCount_0 10 rfl rfl)
theorem dJ14_bitCount_11 : decode cJ14_bitCount 11 = .ok (.ldc_w 266, 3) := dk_19 1 10 (dk_at dksJ14_bitCount_0 11 rfl rfl)
theorem dJ14_bitCount_14 : decode cJ14_bitCount 14 = .ok (.iand, 1) := dk_126 (dk_at dksJ14_bitCount_0 14 rfl rfl)
theorem dJ14_bitCount_15 : decode cJ14_bitCount 15 = .ok (.iload_n 0, 1) := dk_26 (dk_at dksJ14_bitCount_0 15 rfl rfl)
theorem dJ14_bitCount_16 : decode cJ14_bitCount 16 = .ok (.iconst 2, 1) := dk_5 (dk_at dksJ14_bitCount_0 16 rfl rfl)
theorem dJ14_bitCount_17 : decode cJ14_bitCount 17 = .ok (.iushr, 1) := dk_124 (dk_at dksJ14_bitCount_0 17 rfl rfl)
theorem dJ14_bitCount_18 : decode cJ14_bitCount 18 = .ok (.ldc_w 266, 3) := dk_19 1 10 (dk_at dksJ14_bitCount_0 18 rfl rfl)
theorem dJ14_bitCount_21 : decode cJ14_bitCount 21 = .ok (.iand, 1) := dk_126 (dk_at dksJ14_bitCount_0 21 rfl rfl)
theorem dJ14_bitCount_22 : decode cJ14_bitCount 22 = .ok (.iadd, 1) := dk_96 (dk_at dksJ14_bitCount_0 22 rfl rfl)
theorem dJ14_bitCount_23 : decode cJ14_bitCount 23 = .ok (.istore_n 0, 1) := dk_59 (dk_at dksJ14_bitCount_0 23 rfl rfl)
theorem dJ14_bitCount_24 : decode cJ14_bitCount 24 = .ok (.iload_n 0, 1) := dk_26 (dk_at dksJ14_bitCount_1 0 rfl rfl)
theorem dJ14_bitCount_25 : decode cJ14_bitCount 25 = .ok (.iload_n 0, 1) := dk_26 (dk_at dksJ14_bitCount_1 1 rfl rfl)
theorem dJ14_bitCount_26 : decode cJ14_bitCount 26 = .ok (.iconst 4, 1) := dk_7 (dk_at dksJ14_bitCount_1 2 rfl rfl)
theorem dJ14_bitCount_27 : decode cJ14_bitCount 27 = .ok (.iushr, 1) := dk_124 (dk_at dksJ14_bitCount_1 3 rfl rfl)
theorem dJ14_bitCount_28 : decode cJ14_bitCount 28 = .ok (.iadd, 1) := dk_96 (dk_at dksJ14_bitCount_1 4 rfl rfl)
theorem dJ14_bitCount_29 : decode cJ14_bitCount 29 = .ok (.ldc_w 267, 3) := dk_19 1 11 (dk_at dksJ14_bitCount_1 5 rfl rfl)
theorem dJ14_bitCount_32 : decode cJ14_bitCount 32 = .ok (.iand, 1) := dk_126 (dk_at dksJ14_bitCount_1 8 rfl rfl)
theorem dJ14_bitCount_33 : decode cJ14_bitCount 33 = .ok (.istore_n 0, 1) := dk_59 (dk_at dksJ14_bitCount_1 9 rfl rfl)
theorem dJ14_bitCount_34 : decode cJ14_bitCount 34 = .ok (.iload_n 0, 1) := dk_26 (dk_at dksJ14_bitCount_1 10 rfl rfl)
theorem dJ14_bitCount_35 : decode cJ14_bitCount 35 = .ok (.iload_n 0, 1) := dk_26 (dk_at dksJ14_bitCount_1 11 rfl rfl)
theorem dJ14_bitCount_36 : decode cJ14_bitCount 36 = .ok (.bipush 8, 2) := dk_16 8 (dk_at dksJ14_bitCount_1 12 rfl rfl)
theorem dJ14_bitCount_38 : decode cJ14_bitCount 38 = .ok (.iushr, 1) := dk_124 (dk_at dksJ14_bitCount_1 14 rfl rfl)
theorem dJ14_bitCount_39 : decode cJ14_bitCount 39 = .ok (.iadd, 1) := dk_96 (dk_at dksJ14_bitCount_1 15 rfl rfl)
theorem dJ14_bitCount_40 : decode cJ14_bitCount 40 = .ok (.istore_n 0, 1) := dk_59 (dk_at dksJ14_bitCount_1 16 rfl rfl)
theorem dJ14_bitCount_41 : decode cJ14_bitCount 41 = .ok (.iload_n 0, 1) := dk_26 (dk_at dksJ14_bitCount_1 17 rfl rfl)
theorem dJ14_bitCount_42 : decode cJ14_bitCount 42 = .ok (.iload_n 0, 1) := dk_26 (dk_at dksJ14_bitCount_1 18 rfl rfl)
theorem dJ14_bitCount_43 : decode cJ14_bitCount 43 = .ok (.bipush 16, 2) := dk_16 16 (dk_at dksJ14_bitCount_1 19 rfl rfl)
theorem dJ14_bitCount_45 : decode cJ14_bitCount 45 = .ok (.iushr, 1) := dk_124 (dk_at dksJ14_bitCount_1 21 rfl rfl)
theorem dJ14_bitCount_46 : decode cJ14_bitCount 46 = .ok (.iadd, 1) := dk_96 (dk_at dksJ14_bitCount_1 22 rfl rfl)
theorem dJ14_bitCount_47 : decode cJ14_bitCount 47 = .ok (.istore_n 0, 1) := dk_59 (dk_at dksJ14_bitCount_1 23 rfl rfl)
theorem dJ14_bitCount_48 : decode cJ14_bitCount 48 = .ok (.iload_n 0, 1) := dk_26 (dk_at dksJ14_bitCount_2 0 rfl rfl)
theorem dJ14_bitCount_49 : decode cJ14_bitCount 49 = .ok (.bipush 63, 2) := dk_16 63 (dk_at dksJ14_bitCount_2 1 rfl rfl)
theorem dJ14_bitCount_51 : decode cJ14_bitCount 51 = .ok (.iand, 1) := dk_126 (dk_at dksJ14_bitCount_2 3 rfl rfl)
theorem dJ14_bitCount_52 : decode cJ14_bitCount 52 = .ok (.ireturn, 1) := dk_172 (dk_at dksJ14_bitCount_2 4 rfl rfl)
theorem q146 : (Jvm.Cond.initialized "java/lang/Integer") ∈ lw_all := lw_g (lw_at lw_m1 29 rfl) rfl
theorem q1101 : (Jvm.Cond.static ({ cls := "java/lang/Integer", name := "bitCount", desc := "(I)I" } : Jvm.MethodName)) ∈ lw_all := lw_g (lw_at lw_m5 24 rfl) rfl
theorem q1102 : (Jvm.Cond.code ({ cls := "java/lang/Integer", name := "bitCount", desc := "(I)I" } : Jvm.MethodName) prog_23_method_49_code (1 : Nat) (Option.some Jvm.ClassFile.FieldType.int)) ∈ lw_all := lw_g (lw_at lw_m5 25 rfl) rfl
theorem q1103 : (Jvm.Cond.constant "java/lang/Integer" (265 : Nat) (1431655765 : Int32)) ∈ lw_all := lw_g (lw_at lw_m5 26 rfl) rfl
theorem q1104 : (Jvm.Cond.constant "java/lang/Integer" (266 : Nat) (858993459 : Int32)) ∈ lw_all := lw_g (lw_at lw_m5 27 rfl) rfl
theorem q1105 : (Jvm.Cond.constant "java/lang/Integer" (267 : Nat) (252645135 : Int32)) ∈ lw_all := lw_g (lw_at lw_m5 28 rfl) rfl

/-! java/lang/Object -/
set_option maxRecDepth 100000
def RJ15 : String := "java/lang/Object"
abbrev cJ15_init : ByteArray := object_method_1_code
def yJ15_init : MethodName := ⟨RJ15, "<init>", "()V"⟩
theorem dJ15_init_0 : decode cJ15_init 0 = .ok (.return_, 1) := by decide +kernel
theorem q156 : (Jvm.Cond.instanceMethod ({ cls := "java/lang/Object", name := "<init>", desc := "()V" } : Jvm.MethodName)) ∈ lw_all := lw_g (lw_at lw_m1 39 rfl) rfl
theorem q157 : (Jvm.Cond.code ({ cls := "java/lang/Object", name := "<init>", desc := "()V" } : Jvm.MethodName) object_method_1_code (1 : Nat) (Option.none : Option Jvm.ClassFile.FieldType)) ∈ lw_all := lw_g (lw_at lw_m1 40 rfl) rfl
theorem q751 : (Jvm.Cond.instanceMethod ({ cls := "java/lang/Object", name := "getClass", desc := "()Ljava/lang/Class;" } : Jvm.MethodName)) ∈ lw_all := lw_g (lw_at lw_m3 154 rfl) rfl
theorem q752 : (Jvm.Cond.sameMethod "java/lang/Object" "java/lang/Object" "getClass" "()Ljava/lang/Class;") ∈ lw_all := lw_g (lw_at lw_m3 155 rfl) rfl
theorem q769 : (Jvm.Cond.native ({ cls := "java/lang/Object", name := "getClass", desc := "()Ljava/lang/Class;" } : Jvm.MethodName)) ∈ lw_all := lw_g (lw_at lw_m3 172 rfl) rfl
theorem q2050 : (Jvm.Cond.initialized "java/lang/Object") ∈ lw_all := lw_g (lw_at lw_m9 13 rfl) rfl
theorem q2073 : (Jvm.Cond.declares ({ cls := "java/lang/Object", name := "getClass", desc := "()Ljava/lang/Class;" } : Jvm.MethodName)) ∈ lw_tbl := lw_at lw_m9 36 rfl

/-! java/util/ArrayList -/
set_option maxRecDepth 100000
def RJ2 : String := "java/util/ArrayList"
def TJ2 : u_T := fun k => match k with
  | 0 => ("java/util/AbstractList", "modCount", "I", false)
  | 1 => ("java/util/ArrayList", "elementData", "[Ljava/lang/Object;", false)
  | _ => ("java/util/ArrayList", "size", "I", false)
def tyJ2 : Nat → FieldType := fun k => match k with
  | 0 => .int
  | 1 => .array (.object "java/lang/Object")
  | _ => .int
abbrev wsJ20 : List Cond := u_ws RJ2 TJ2 3
theorem nmJ2 : ∀ a, a < 3 → ∀ b, b < 3 → a ≠ b → (TJ2 a).2.1 ≠ (TJ2 b).2.1 := by decide +kernel
theorem tyJ2_ok : ∀ k, k < 3 → parseFieldDescriptor (TJ2 k).2.2.1 = some (tyJ2 k) := by decide +kernel
abbrev cJ2_init : ByteArray := prog_35_method_2_code
def yJ2_init : MethodName := ⟨RJ2, "<init>", "()V"⟩
def dkwJ2_init_0 : List UInt8 := [42, 183, 0, 1, 42, 178, 0, 39, 181, 0, 9, 177]
abbrev dktJ2_init_0 : List UInt8 := dkwJ2_init_0 ++ []
theorem dksJ2_init_0 : cJ2_init.data.toList.drop 0 = dktJ2_init_0 := by decide +kernel
theorem dJ2_init_0 : decode cJ2_init 0 = .ok (.aload_n 0, 1) := dk_42 (dk_at dksJ2_init_0 0 rfl rfl)
theorem dJ2_init_1 : decode cJ2_init 1 = .ok (.invokespecial 1, 3) := dk_183 0 1 (dk_at dksJ2_init_0 1 rfl rfl)
theorem dJ2_init_4 : decode cJ2_init 4 = .ok (.aload_n 0, 1) := dk_42 (dk_at dksJ2_init_0 4 rfl rfl)
theorem dJ2_init_5 : decode cJ2_init 5 = .ok (.getstatic 39, 3) := dk_178 0 39 (dk_at dksJ2_init_0 5 rfl rfl)
theorem dJ2_init_8 : decode cJ2_init 8 = .ok (.putfield 9, 3) := dk_181 0 9 (dk_at dksJ2_init_0 8 rfl rfl)
theorem dJ2_init_11 : decode cJ2_init 11 = .ok (.return_, 1) := dk_177 (dk_at dksJ2_init_0 11 rfl rfl)
abbrev cJ2_size : ByteArray := prog_35_method_8_code
def yJ2_size : MethodName := ⟨RJ2, "size", "()I"⟩
theorem dJ2_size_0 : decode cJ2_size 0 = .ok (.aload_n 0, 1) := by decide +kernel
theorem dJ2_size_1 : decode cJ2_size 1 = .ok (.getfield 48, 3) := by decide +kernel
theorem dJ2_size_4 : decode cJ2_size 4 = .ok (.ireturn, 1) := by decide +kernel
abbrev cJ2_get : ByteArray := prog_35_method_20_code
def yJ2_get : MethodName := ⟨RJ2, "get", "(I)Ljava/lang/Object;"⟩
def dkwJ2_get_0 : List UInt8 := [27, 42, 180, 0, 48, 184, 0, 118, 87, 42, 27, 182, 0, 123, 176]
abbrev dktJ2_get_0 : List UInt8 := dkwJ2_get_0 ++ []
theorem dksJ2_get_0 : cJ2_get.data.toList.drop 0 = dktJ2_get_0 := by decide +kernel
theorem dJ2_get_0 : decode cJ2_get 0 = .ok (.iload_n 1, 1) := dk_27 (dk_at dksJ2_get_0 0 rfl rfl)
theorem dJ2_get_1 : decode cJ2_get 1 = .ok (.aload_n 0, 1) := dk_42 (dk_at dksJ2_get_0 1 rfl rfl)
theorem dJ2_get_2 : decode cJ2_get 2 = .ok (.getfield 48, 3) := dk_180 0 48 (dk_at dksJ2_get_0 2 rfl rfl)
theorem dJ2_get_5 : decode cJ2_get 5 = .ok (.invokestatic 118, 3) := dk_184 0 118 (dk_at dksJ2_get_0 5 rfl rfl)
theorem dJ2_get_8 : decode cJ2_get 8 = .ok (.pop, 1) := dk_87 (dk_at dksJ2_get_0 8 rfl rfl)
theorem dJ2_get_9 : decode cJ2_get 9 = .ok (.aload_n 0, 1) := dk_42 (dk_at dksJ2_get_0 9 rfl rfl)
theorem dJ2_get_10 : decode cJ2_get 10 = .ok (.iload_n 1, 1) := dk_27 (dk_at dksJ2_get_0 10 rfl rfl)
theorem dJ2_get_11 : decode cJ2_get 11 = .ok (.invokevirtual 123, 3) := dk_182 0 123 (dk_at dksJ2_get_0 11 rfl rfl)
theorem dJ2_get_14 : decode cJ2_get 14 = .ok (.areturn, 1) := dk_176 (dk_at dksJ2_get_0 14 rfl rfl)
abbrev cJ2_elementData : ByteArray := prog_35_method_18_code
def yJ2_elementData : MethodName := ⟨RJ2, "elementData", "(I)Ljava/lang/Object;"⟩
def dkwJ2_elementData_0 : List UInt8 := [42, 180, 0, 9, 27, 50, 176]
abbrev dktJ2_elementData_0 : List UInt8 := dkwJ2_elementData_0 ++ []
theorem dksJ2_elementData_0 : cJ2_elementData.data.toList.drop 0 = dktJ2_elementData_0 := by decide +kernel
theorem dJ2_elementData_0 : decode cJ2_elementData 0 = .ok (.aload_n 0, 1) := dk_42 (dk_at dksJ2_elementData_0 0 rfl rfl)
theorem dJ2_elementData_1 : decode cJ2_elementData 1 = .ok (.getfield 9, 3) := dk_180 0 9 (dk_at dksJ2_elementData_0 1 rfl rfl)
theorem dJ2_elementData_4 : decode cJ2_elementData 4 = .ok (.iload_n 1, 1) := dk_27 (dk_at dksJ2_elementData_0 4 rfl rfl)
theorem dJ2_elementData_5 : decode cJ2_elementData 5 = .ok (.aaload, 1) := dk_50 (dk_at dksJ2_elementData_0 5 rfl rfl)
theorem dJ2_elementData_6 : decode cJ2_elementData 6 = .ok (.areturn, 1) := dk_176 (dk_at dksJ2_elementData_0 6 rfl rfl)
abbrev cJ2_clear : ByteArray := prog_35_method_40_code
def yJ2_clear : MethodName := ⟨RJ2, "clear", "()V"⟩
def dkwJ2_clear_1 : List UInt8 := [181, 0, 48, 62, 29, 28, 162, 0, 13, 43, 29, 1, 83, 132, 3, 1, 167, 255, 244, 177]
abbrev dktJ2_clear_1 : List UInt8 := dkwJ2_clear_1 ++ []
def dkwJ2_clear_0 : List UInt8 := [42, 89, 180, 0, 63, 4, 96, 181, 0, 63, 42, 180, 0, 9, 76, 42, 180, 0, 48, 61, 42, 3, 90]
abbrev dktJ2_clear_0 : List UInt8 := dkwJ2_clear_0 ++ dktJ2_clear_1
theorem dksJ2_clear_0 : cJ2_clear.data.toList.drop 0 = dktJ2_clear_0 := by decide +kernel
theorem dksJ2_clear_1 : cJ2_clear.data.toList.drop 23 = dktJ2_clear_1 := dk_seg dksJ2_clear_0 23 rfl rfl
theorem dJ2_clear_0 : decode cJ2_clear 0 = .ok (.aload_n 0, 1) := dk_42 (dk_at dksJ2_clear_0 0 rfl rfl)
theorem dJ2_clear_1 : decode cJ2_clear 1 = .ok (.dup, 1) := dk_89 (dk_at dksJ2_clear_0 1 rfl rfl)
theorem dJ2_clear_2 : decode cJ2_clear 2 = .ok (.getfield 63, 3) := dk_180 0 63 (dk_at dksJ2_clear_0 2 rfl rfl)
theorem dJ2_clear_5 : decode cJ2_clear 5 = .ok (.iconst 1, 1) := dk_4 (dk_at dksJ2_clear_0 5 rfl rfl)
theorem dJ2_clear_6 : decode cJ2_clear 6 = .ok (.iadd, 1) := dk_96 (dk_at dksJ2_clear_0 6 rfl rfl)
theorem dJ2_clear_7 : decode cJ2_clear 7 = .ok (.putfield 63, 3) := dk_181 0 63 (dk_at dksJ2_clear_0 7 rfl rfl)
theorem dJ2_clear_10 : decode cJ2_clear 10 = .ok (.aload_n 0, 1) := dk_42 (dk_at dksJ2_clear_0 10 rfl rfl)
theorem dJ2_clear_11 : decode cJ2_clear 11 = .ok (.getfield 9, 3) := dk_180 0 9 (dk_at dksJ2_clear_0 11 rfl rfl)
theorem dJ2_clear_14 : decode cJ2_clear 14 = .ok (.astore_n 1, 1) := dk_76 (dk_at dksJ2_clear_0 14 rfl rfl)
theorem dJ2_clear_15 : decode cJ2_clear 15 = .ok (.aload_n 0, 1) := dk_42 (dk_at dksJ2_clear_0 15 rfl rfl)
theorem dJ2_clear_16 : decode cJ2_clear 16 = .ok (.getfield 48, 3) := dk_180 0 48 (dk_at dksJ2_clear_0 16 rfl rfl)
theorem dJ2_clear_19 : decode cJ2_clear 19 = .ok (.istore_n 2, 1) := dk_61 (dk_at dksJ2_clear_0 19 rfl rfl)
theorem dJ2_clear_20 : decode cJ2_clear 20 = .ok (.aload_n 0, 1) := dk_42 (dk_at dksJ2_clear_0 20 rfl rfl)
theorem dJ2_clear_21 : decode cJ2_clear 21 = .ok (.iconst 0, 1) := dk_3 (dk_at dksJ2_clear_0 21 rfl rfl)
theorem dJ2_clear_22 : decode cJ2_clear 22 = .ok (.dup_x1, 1) := dk_90 (dk_at dksJ2_clear_0 22 rfl rfl)
theorem dJ2_clear_23 : decode cJ2_clear 23 = .ok (.putfield 48, 3) := dk_181 0 48 (dk_at dksJ2_clear_1 0 rfl rfl)
theorem dJ2_clear_26 : decode cJ2_clear 26 = .ok (.istore_n 3, 1) := dk_62 (dk_at dksJ2_clear_1 3 rfl rfl)
theorem dJ2_clear_27 : decode cJ2_clear 27 = .ok (.iload_n 3, 1) := dk_29 (dk_at dksJ2_clear_1 4 rfl rfl)
theorem dJ2_clear_28 : decode cJ2_clear 28 = .ok (.iload_n 2, 1) := dk_28 (dk_at dksJ2_clear_1 5 rfl rfl)
theorem dJ2_clear_29 : decode cJ2_clear 29 = .ok (.if_icmp .ge 13, 3) := dk_162 0 13 (dk_at dksJ2_clear_1 6 rfl rfl)
theorem dJ2_clear_32 : decode cJ2_clear 32 = .ok (.aload_n 1, 1) := dk_43 (dk_at dksJ2_clear_1 9 rfl rfl)
theorem dJ2_clear_33 : decode cJ2_clear 33 = .ok (.iload_n 3, 1) := dk_29 (dk_at dksJ2_clear_1 10 rfl rfl)
theorem dJ2_clear_34 : decode cJ2_clear 34 = .ok (.aconst_null, 1) := dk_1 (dk_at dksJ2_clear_1 11 rfl rfl)
theorem dJ2_clear_35 : decode cJ2_clear 35 = .ok (.aastore, 1) := dk_83 (dk_at dksJ2_clear_1 12 rfl rfl)
theorem dJ2_clear_36 : decode cJ2_clear 36 = .ok (.iinc 3 1, 3) := dk_132 3 1 (dk_at dksJ2_clear_1 13 rfl rfl)
theorem dJ2_clear_39 : decode cJ2_clear 39 = .ok (.goto (-12), 3) := dk_167 255 244 (dk_at dksJ2_clear_1 16 rfl rfl)
theorem dJ2_clear_42 : decode cJ2_clear 42 = .ok (.return_, 1) := dk_177 (dk_at dksJ2_clear_1 19 rfl rfl)
abbrev cJ2_iterator : ByteArray := prog_35_method_55_code
def yJ2_iterator : MethodName := ⟨RJ2, "iterator", "()Ljava/util/Iterator;"⟩
def dkwJ2_iterator_0 : List UInt8 := [187, 1, 11, 89, 42, 183, 1, 13, 176]
abbrev dktJ2_iterator_0 : List UInt8 := dkwJ2_iterator_0 ++ []
theorem dksJ2_iterator_0 : cJ2_iterator.data.toList.drop 0 = dktJ2_iterator_0 := by decide +kernel
theorem dJ2_iterator_0 : decode cJ2_iterator 0 = .ok (.new 267, 3) := dk_187 1 11 (dk_at dksJ2_iterator_0 0 rfl rfl)
theorem dJ2_iterator_3 : decode cJ2_iterator 3 = .ok (.dup, 1) := dk_89 (dk_at dksJ2_iterator_0 3 rfl rfl)
theorem dJ2_iterator_4 : decode cJ2_iterator 4 = .ok (.aload_n 0, 1) := dk_42 (dk_at dksJ2_iterator_0 4 rfl rfl)
theorem dJ2_iterator_5 : decode cJ2_iterator 5 = .ok (.invokespecial 269, 3) := dk_183 1 13 (dk_at dksJ2_iterator_0 5 rfl rfl)
theorem dJ2_iterator_8 : decode cJ2_iterator 8 = .ok (.areturn, 1) := dk_176 (dk_at dksJ2_iterator_0 8 rfl rfl)
abbrev cJ2_add : ByteArray := prog_35_method_25_code
def yJ2_add : MethodName := ⟨RJ2, "add", "(Ljava/lang/Object;)Z"⟩
def dkwJ2_add_1 : List UInt8 := [172]
abbrev dktJ2_add_1 : List UInt8 := dkwJ2_add_1 ++ []
def dkwJ2_add_0 : List UInt8 := [42, 89, 180, 0, 63, 4, 96, 181, 0, 63, 42, 43, 42, 180, 0, 9, 42, 180, 0, 48, 182, 0, 131, 4]
abbrev dktJ2_add_0 : List UInt8 := dkwJ2_add_0 ++ dktJ2_add_1
theorem dksJ2_add_0 : cJ2_add.data.toList.drop 0 = dktJ2_add_0 := by decide +kernel
theorem dksJ2_add_1 : cJ2_add.data.toList.drop 24 = dktJ2_add_1 := dk_seg dksJ2_add_0 24 rfl rfl
theorem dJ2_add_0 : decode cJ2_add 0 = .ok (.aload_n 0, 1) := dk_42 (dk_at dksJ2_add_0 0 rfl rfl)
theorem dJ2_add_1 : decode cJ2_add 1 = .ok (.dup, 1) := dk_89 (dk_at dksJ2_add_0 1 rfl rfl)
theorem dJ2_add_2 : decode cJ2_add 2 = .ok (.getfield 63, 3) := dk_180 0 63 (dk_at dksJ2_add_0 2 rfl rfl)
theorem dJ2_add_5 : decode cJ2_add 5 = .ok (.iconst 1, 1) := dk_4 (dk_at dksJ2_add_0 5 rfl rfl)
theorem dJ2_add_6 : decode cJ2_add 6 = .ok (.iadd, 1) := dk_96 (dk_at dksJ2_add_0 6 rfl rfl)
theorem dJ2_add_7 : decode cJ2_add 7 = .ok (.putfield 63, 3) := dk_181 0 63 (dk_at dksJ2_add_0 7 rfl rfl)
theorem dJ2_add_10 : decode cJ2_add 10 = .ok (.aload_n 0, 1) := dk_42 (dk_at dksJ2_add_0 10 rfl rfl)
theorem dJ2_add_11 : decode cJ2_add 11 = .ok (.aload_n 1, 1) := dk_43 (dk_at dksJ2_add_0 11 rfl rfl)
theorem dJ2_add_12 : decode cJ2_add 12 = .ok (.aload_n 0, 1) := dk_42 (dk_at dksJ2_add_0 12 rfl rfl)
theorem dJ2_add_13 : decode cJ2_add 13 = .ok (.getfield 9, 3) := dk_180 0 9 (dk_at dksJ2_add_0 13 rfl rfl)
theorem dJ2_add_16 : decode cJ2_add 16 = .ok (.aload_n 0, 1) := dk_42 (dk_at dksJ2_add_0 16 rfl rfl)
theorem dJ2_add_17 : decode cJ2_add 17 = .ok (.getfield 48, 3) := dk_180 0 48 (dk_at dksJ2_add_0 17 rfl rfl)
theorem dJ2_add_20 : decode cJ2_add 20 = .ok (.invokevirtual 131, 3) := dk_182 0 131 (dk_at dksJ2_add_0 20 rfl rfl)
theorem dJ2_add_23 : decode cJ2_add 23 = .ok (.iconst 1, 1) := dk_4 (dk_at dksJ2_add_0 23 rfl rfl)
theorem dJ2_add_24 : decode cJ2_add 24 = .ok (.ireturn, 1) := dk_172 (dk_at dksJ2_add_1 0 rfl rfl)
abbrev cJ2_add_2 : ByteArray := prog_35_method_24_code
def yJ2_add_2 : MethodName := ⟨RJ2, "add", "(Ljava/lang/Object;[Ljava/lang/Object;I)V"⟩
def dkwJ2_add_2_0 : List UInt8 := [29, 44, 190, 160, 0, 8, 42, 182, 0, 129, 77, 44, 29, 43, 83, 42, 29, 4, 96, 181, 0, 48, 177]
abbrev dktJ2_add_2_0 : List UInt8 := dkwJ2_add_2_0 ++ []
theorem dksJ2_add_2_0 : cJ2_add_2.data.toList.drop 0 = dktJ2_add_2_0 := by decide +kernel
theorem dJ2_add_2_0 : decode cJ2_add_2 0 = .ok (.iload_n 3, 1) := dk_29 (dk_at dksJ2_add_2_0 0 rfl rfl)
theorem dJ2_add_2_1 : decode cJ2_add_2 1 = .ok (.aload_n 2, 1) := dk_44 (dk_at dksJ2_add_2_0 1 rfl rfl)
theorem dJ2_add_2_2 : decode cJ2_add_2 2 = .ok (.arraylength, 1) := dk_190 (dk_at dksJ2_add_2_0 2 rfl rfl)
theorem dJ2_add_2_3 : decode cJ2_add_2 3 = .ok (.if_icmp .ne 8, 3) := dk_160 0 8 (dk_at dksJ2_add_2_0 3 rfl rfl)
theorem dJ2_add_2_6 : decode cJ2_add_2 6 = .ok (.aload_n 0, 1) := dk_42 (dk_at dksJ2_add_2_0 6 rfl rfl)
theorem dJ2_add_2_7 : decode cJ2_add_2 7 = .ok (.invokevirtual 129, 3) := dk_182 0 129 (dk_at dksJ2_add_2_0 7 rfl rfl)
theorem dJ2_add_2_10 : decode cJ2_add_2 10 = .ok (.astore_n 2, 1) := dk_77 (dk_at dksJ2_add_2_0 10 rfl rfl)
theorem dJ2_add_2_11 : decode cJ2_add_2 11 = .ok (.aload_n 2, 1) := dk_44 (dk_at dksJ2_add_2_0 11 rfl rfl)
theorem dJ2_add_2_12 : decode cJ2_add_2 12 = .ok (.iload_n 3, 1) := dk_29 (dk_at dksJ2_add_2_0 12 rfl rfl)
theorem dJ2_add_2_13 : decode cJ2_add_2 13 = .ok (.aload_n 1, 1) := dk_43 (dk_at dksJ2_add_2_0 13 rfl rfl)
theorem dJ2_add_2_14 : decode cJ2_add_2 14 = .ok (.aastore, 1) := dk_83 (dk_at dksJ2_add_2_0 14 rfl rfl)
theorem dJ2_add_2_15 : decode cJ2_add_2 15 = .ok (.aload_n 0, 1) := dk_42 (dk_at dksJ2_add_2_0 15 rfl rfl)
theorem dJ2_add_2_16 : decode cJ2_add_2 16 = .ok (.iload_n 3, 1) := dk_29 (dk_at dksJ2_add_2_0 16 rfl rfl)
theorem dJ2_add_2_17 : decode cJ2_add_2 17 = .ok (.iconst 1, 1) := dk_4 (dk_at dksJ2_add_2_0 17 rfl rfl)
theorem dJ2_add_2_18 : decode cJ2_add_2 18 = .ok (.iadd, 1) := dk_96 (dk_at dksJ2_add_2_0 18 rfl rfl)
theorem dJ2_add_2_19 : decode cJ2_add_2 19 = .ok (.putfield 48, 3) := dk_181 0 48 (dk_at dksJ2_add_2_0 19 rfl rfl)
theorem dJ2_add_2_22 : decode cJ2_add_2 22 = .ok (.return_, 1) := dk_177 (dk_at dksJ2_add_2_0 22 rfl rfl)
abbrev cJ2_grow : ByteArray := prog_35_method_7_code
def yJ2_grow : MethodName := ⟨RJ2, "grow", "()[Ljava/lang/Object;"⟩
def dkwJ2_grow_0 : List UInt8 := [42, 42, 180, 0, 48, 4, 96, 182, 0, 69, 176]
abbrev dktJ2_grow_0 : List UInt8 := dkwJ2_grow_0 ++ []
theorem dksJ2_grow_0 : cJ2_grow.data.toList.drop 0 = dktJ2_grow_0 := by decide +kernel
theorem dJ2_grow_0 : decode cJ2_grow 0 = .ok (.aload_n 0, 1) := dk_42 (dk_at dksJ2_grow_0 0 rfl rfl)
theorem dJ2_grow_1 : decode cJ2_grow 1 = .ok (.aload_n 0, 1) := dk_42 (dk_at dksJ2_grow_0 1 rfl rfl)
theorem dJ2_grow_2 : decode cJ2_grow 2 = .ok (.getfield 48, 3) := dk_180 0 48 (dk_at dksJ2_grow_0 2 rfl rfl)
theorem dJ2_grow_5 : decode cJ2_grow 5 = .ok (.iconst 1, 1) := dk_4 (dk_at dksJ2_grow_0 5 rfl rfl)
theorem dJ2_grow_6 : decode cJ2_grow 6 = .ok (.iadd, 1) := dk_96 (dk_at dksJ2_grow_0 6 rfl rfl)
theorem dJ2_grow_7 : decode cJ2_grow 7 = .ok (.invokevirtual 69, 3) := dk_182 0 69 (dk_at dksJ2_grow_0 7 rfl rfl)
theorem dJ2_grow_10 : decode cJ2_grow 10 = .ok (.areturn, 1) := dk_176 (dk_at dksJ2_grow_0 10 rfl rfl)
abbrev cJ2_grow_2 : ByteArray := prog_35_method_6_code
def yJ2_grow_2 : MethodName := ⟨RJ2, "grow", "(I)[Ljava/lang/Object;"⟩
def dkwJ2_grow_2_2 : List UInt8 := [27, 184, 0, 79, 189, 0, 7, 90, 181, 0, 9, 176]
abbrev dktJ2_grow_2_2 : List UInt8 := dkwJ2_grow_2_2 ++ []
def dkwJ2_grow_2_1 : List UInt8 := [28, 4, 122, 184, 0, 73, 62, 42, 42, 180, 0, 9, 29, 184, 0, 66, 90, 181, 0, 9, 176, 42, 16, 10]
abbrev dktJ2_grow_2_1 : List UInt8 := dkwJ2_grow_2_1 ++ dktJ2_grow_2_2
def dkwJ2_grow_2_0 : List UInt8 := [42, 180, 0, 9, 190, 61, 28, 157, 0, 13, 42, 180, 0, 9, 178, 0, 39, 165, 0, 28, 28, 27, 28, 100]
abbrev dktJ2_grow_2_0 : List UInt8 := dkwJ2_grow_2_0 ++ dktJ2_grow_2_1
theorem dksJ2_grow_2_0 : cJ2_grow_2.data.toList.drop 0 = dktJ2_grow_2_0 := by decide +kernel
theorem dksJ2_grow_2_1 : cJ2_grow_2.data.toList.drop 24 = dktJ2_grow_2_1 := dk_seg dksJ2_grow_2_0 24 rfl rfl
theorem dksJ2_grow_2_2 : cJ2_grow_2.data.toList.drop 48 = dktJ2_grow_2_2 := dk_seg dksJ2_grow_2_1 24 rfl rfl
theorem dJ2_grow_2_0 : decode cJ2_grow_2 0 = .ok (.aload_n 0, 1) := dk_42 (dk_at dksJ2_grow_2_0 0 rfl rfl)
theorem dJ2_grow_2_1 : decode cJ2_grow_2 1 = .ok (.getfield 9, 3) := dk_180 0 9 (dk_at dksJ2_grow_2_0 1 rfl rfl)
theorem dJ2_grow_2_4 : decode cJ2_grow_2 4 = .ok (.arraylength, 1) := dk_190 (dk_at dksJ2_grow_2_0 4 rfl rfl)
theorem dJ2_grow_2_5 : decode cJ2_grow_2 5 = .ok (.istore_n 2, 1) := dk_61 (dk_at dksJ2_grow_2_0 5 rfl rfl)
theorem dJ2_grow_2_6 : decode cJ2_grow_2 6 = .ok (.iload_n 2, 1) := dk_28 (dk_at dksJ2_grow_2_0 6 rfl rfl)
theorem dJ2_grow_2_7 : decode cJ2_grow_2 7 = .ok (.ifCond .gt 13, 3) := dk_157 0 13 (dk_at dksJ2_grow_2_0 7 rfl rfl)
theorem dJ2_grow_2_10 : decode cJ2_grow_2 10 = .ok (.aload_n 0, 1) := dk_42 (dk_at dksJ2_grow_2_0 10 rfl rfl)
theorem dJ2_grow_2_11 : decode cJ2_grow_2 11 = .ok (.getfield 9, 3) := dk_180 0 9 (dk_at dksJ2_grow_2_0 11 rfl rfl)
theorem dJ2_grow_2_14 : decode cJ2_grow_2 14 = .ok (.getstatic 39, 3) := dk_178 0 39 (dk_at dksJ2_grow_2_0 14 rfl rfl)
theorem dJ2_grow_2_17 : decode cJ2_grow_2 17 = .ok (.if_acmp .eq 28, 3) := dk_165 0 28 (dk_at dksJ2_grow_2_0 17 rfl rfl)
theorem dJ2_grow_2_20 : decode cJ2_grow_2 20 = .ok (.iload_n 2, 1) := dk_28 (dk_at dksJ2_grow_2_0 20 rfl rfl)
theorem dJ2_grow_2_21 : decode cJ2_grow_2 21 = .ok (.iload_n 1, 1) := dk_27 (dk_at dksJ2_grow_2_0 21 rfl rfl)
theorem dJ2_grow_2_22 : decode cJ2_grow_2 22 = .ok (.iload_n 2, 1) := dk_28 (dk_at dksJ2_grow_2_0 22 rfl rfl)
theorem dJ2_grow_2_23 : decode cJ2_grow_2 23 = .ok (.isub, 1) := dk_100 (dk_at dksJ2_grow_2_0 23 rfl rfl)
theorem dJ2_grow_2_24 : decode cJ2_grow_2 24 = .ok (.iload_n 2, 1) := dk_28 (dk_at dksJ2_grow_2_1 0 rfl rfl)
theorem dJ2_grow_2_25 : decode cJ2_grow_2 25 = .ok (.iconst 1, 1) := dk_4 (dk_at dksJ2_grow_2_1 1 rfl rfl)
theorem dJ2_grow_2_26 : decode cJ2_grow_2 26 = .ok (.ishr, 1) := dk_122 (dk_at dksJ2_grow_2_1 2 rfl rfl)
theorem dJ2_grow_2_27 : decode cJ2_grow_2 27 = .ok (.invokestatic 73, 3) := dk_184 0 73 (dk_at dksJ2_grow_2_1 3 rfl rfl)
theorem dJ2_grow_2_30 : decode cJ2_grow_2 30 = .ok (.istore_n 3, 1) := dk_62 (dk_at dksJ2_grow_2_1 6 rfl rfl)
theorem dJ2_grow_2_31 : decode cJ2_grow_2 31 = .ok (.aload_n 0, 1) := dk_42 (dk_at dksJ2_grow_2_1 7 rfl rfl)
theorem dJ2_grow_2_32 : decode cJ2_grow_2 32 = .ok (.aload_n 0, 1) := dk_42 (dk_at dksJ2_grow_2_1 8 rfl rfl)
theorem dJ2_grow_2_33 : decode cJ2_grow_2 33 = .ok (.getfield 9, 3) := dk_180 0 9 (dk_at dksJ2_grow_2_1 9 rfl rfl)
theorem dJ2_grow_2_36 : decode cJ2_grow_2 36 = .ok (.iload_n 3, 1) := dk_29 (dk_at dksJ2_grow_2_1 12 rfl rfl)
theorem dJ2_grow_2_37 : decode cJ2_grow_2 37 = .ok (.invokestatic 66, 3) := dk_184 0 66 (dk_at dksJ2_grow_2_1 13 rfl rfl)
theorem dJ2_grow_2_40 : decode cJ2_grow_2 40 = .ok (.dup_x1, 1) := dk_90 (dk_at dksJ2_grow_2_1 16 rfl rfl)
theorem dJ2_grow_2_41 : decode cJ2_grow_2 41 = .ok (.putfield 9, 3) := dk_181 0 9 (dk_at dksJ2_grow_2_1 17 rfl rfl)
theorem dJ2_grow_2_44 : decode cJ2_grow_2 44 = .ok (.areturn, 1) := dk_176 (dk_at dksJ2_grow_2_1 20 rfl rfl)
theorem dJ2_grow_2_45 : decode cJ2_grow_2 45 = .ok (.aload_n 0, 1) := dk_42 (dk_at dksJ2_grow_2_1 21 rfl rfl)
theorem dJ2_grow_2_46 : decode cJ2_grow_2 46 = .ok (.bipush 10, 2) := dk_16 10 (dk_at dksJ2_grow_2_1 22 rfl rfl)
theorem dJ2_grow_2_48 : decode cJ2_grow_2 48 = .ok (.iload_n 1, 1) := dk_27 (dk_at dksJ2_grow_2_2 0 rfl rfl)
theorem dJ2_grow_2_49 : decode cJ2_grow_2 49 = .ok (.invokestatic 79, 3) := dk_184 0 79 (dk_at dksJ2_grow_2_2 1 rfl rfl)
theorem dJ2_grow_2_52 : decode cJ2_grow_2 52 = .ok (.anewarray 7, 3) := dk_189 0 7 (dk_at dksJ2_grow_2_2 4 rfl rfl)
theorem dJ2_grow_2_55 : decode cJ2_grow_2 55 = .ok (.dup_x1, 1) := dk_90 (dk_at dksJ2_grow_2_2 7 rfl rfl)
theorem dJ2_grow_2_56 : decode cJ2_grow_2 56 = .ok (.putfield 9, 3) := dk_181 0 9 (dk_at dksJ2_grow_2_2 8 rfl rfl)
theorem dJ2_grow_2_59 : decode cJ2_grow_2 59 = .ok (.areturn, 1) := dk_176 (dk_at dksJ2_grow_2_2 11 rfl rfl)
abbrev cJ2_remove : ByteArray := prog_35_method_29_code
def yJ2_remove : MethodName := ⟨RJ2, "remove", "(I)Ljava/lang/Object;"⟩
def dkwJ2_remove_1 : List UInt8 := [45, 176]
abbrev dktJ2_remove_1 : List UInt8 := dkwJ2_remove_1 ++ []
def dkwJ2_remove_0 : List UInt8 := [27, 42, 180, 0, 48, 184, 0, 118, 87, 42, 180, 0, 9, 77, 44, 27, 50, 78, 42, 44, 27, 182, 0, 144]
abbrev dktJ2_remove_0 : List UInt8 := dkwJ2_remove_0 ++ dktJ2_remove_1
theorem dksJ2_remove_0 : cJ2_remove.data.toList.drop 0 = dktJ2_remove_0 := by decide +kernel
theorem dksJ2_remove_1 : cJ2_remove.data.toList.drop 24 = dktJ2_remove_1 := dk_seg dksJ2_remove_0 24 rfl rfl
theorem dJ2_remove_0 : decode cJ2_remove 0 = .ok (.iload_n 1, 1) := dk_27 (dk_at dksJ2_remove_0 0 rfl rfl)
theorem dJ2_remove_1 : decode cJ2_remove 1 = .ok (.aload_n 0, 1) := dk_42 (dk_at dksJ2_remove_0 1 rfl rfl)
theorem dJ2_remove_2 : decode cJ2_remove 2 = .ok (.getfield 48, 3) := dk_180 0 48 (dk_at dksJ2_remove_0 2 rfl rfl)
theorem dJ2_remove_5 : decode cJ2_remove 5 = .ok (.invokestatic 118, 3) := dk_184 0 118 (dk_at dksJ2_remove_0 5 rfl rfl)
theorem dJ2_remove_8 : decode cJ2_remove 8 = .ok (.pop, 1) := dk_87 (dk_at dksJ2_remove_0 8 rfl rfl)
theorem dJ2_remove_9 : decode cJ2_remove 9 = .ok (.aload_n 0, 1) := dk_42 (dk_at dksJ2_remove_0 9 rfl rfl)
theorem dJ2_remove_10 : decode cJ2_remove 10 = .ok (.getfield 9, 3) := dk_180 0 9 (dk_at dksJ2_remove_0 10 rfl rfl)
theorem dJ2_remove_13 : decode cJ2_remove 13 = .ok (.astore_n 2, 1) := dk_77 (dk_at dksJ2_remove_0 13 rfl rfl)
theorem dJ2_remove_14 : decode cJ2_remove 14 = .ok (.aload_n 2, 1) := dk_44 (dk_at dksJ2_remove_0 14 rfl rfl)
theorem dJ2_remove_15 : decode cJ2_remove 15 = .ok (.iload_n 1, 1) := dk_27 (dk_at dksJ2_remove_0 15 rfl rfl)
theorem dJ2_remove_16 : decode cJ2_remove 16 = .ok (.aaload, 1) := dk_50 (dk_at dksJ2_remove_0 16 rfl rfl)
theorem dJ2_remove_17 : decode cJ2_remove 17 = .ok (.astore_n 3, 1) := dk_78 (dk_at dksJ2_remove_0 17 rfl rfl)
theorem dJ2_remove_18 : decode cJ2_remove 18 = .ok (.aload_n 0, 1) := dk_42 (dk_at dksJ2_remove_0 18 rfl rfl)
theorem dJ2_remove_19 : decode cJ2_remove 19 = .ok (.aload_n 2, 1) := dk_44 (dk_at dksJ2_remove_0 19 rfl rfl)
theorem dJ2_remove_20 : decode cJ2_remove 20 = .ok (.iload_n 1, 1) := dk_27 (dk_at dksJ2_remove_0 20 rfl rfl)
theorem dJ2_remove_21 : decode cJ2_remove 21 = .ok (.invokevirtual 144, 3) := dk_182 0 144 (dk_at dksJ2_remove_0 21 rfl rfl)
theorem dJ2_remove_24 : decode cJ2_remove 24 = .ok (.aload_n 3, 1) := dk_45 (dk_at dksJ2_remove_1 0 rfl rfl)
theorem dJ2_remove_25 : decode cJ2_remove 25 = .ok (.areturn, 1) := dk_176 (dk_at dksJ2_remove_1 1 rfl rfl)
abbrev cJ2_fastRemove : ByteArray := prog_35_method_39_code
def yJ2_fastRemove : MethodName := ⟨RJ2, "fastRemove", "([Ljava/lang/Object;I)V"⟩
def dkwJ2_fastRemove_1 : List UInt8 := [4, 96, 43, 28, 29, 28, 100, 184, 0, 112, 43, 42, 29, 90, 181, 0, 48, 1, 83, 177]
abbrev dktJ2_fastRemove_1 : List UInt8 := dkwJ2_fastRemove_1 ++ []
def dkwJ2_fastRemove_0 : List UInt8 := [42, 89, 180, 0, 63, 4, 96, 181, 0, 63, 42, 180, 0, 48, 4, 100, 89, 62, 28, 164, 0, 15, 43, 28]
abbrev dktJ2_fastRemove_0 : List UInt8 := dkwJ2_fastRemove_0 ++ dktJ2_fastRemove_1
theorem dksJ2_fastRemove_0 : cJ2_fastRemove.data.toList.drop 0 = dktJ2_fastRemove_0 := by decide +kernel
theorem dksJ2_fastRemove_1 : cJ2_fastRemove.data.toList.drop 24 = dktJ2_fastRemove_1 := dk_seg dksJ2_fastRemove_0 24 rfl rfl
theorem dJ2_fastRemove_0 : decode cJ2_fastRemove 0 = .ok (.aload_n 0, 1) := dk_42 (dk_at dksJ2_fastRemove_0 0 rfl rfl)
theorem dJ2_fastRemove_1 : decode cJ2_fastRemove 1 = .ok (.dup, 1) := dk_89 (dk_at dksJ2_fastRemove_0 1 rfl rfl)
theorem dJ2_fastRemove_2 : decode cJ2_fastRemove 2 = .ok (.getfield 63, 3) := dk_180 0 63 (dk_at dksJ2_fastRemove_0 2 rfl rfl)
theorem dJ2_fastRemove_5 : decode cJ2_fastRemove 5 = .ok (.iconst 1, 1) := dk_4 (dk_at dksJ2_fastRemove_0 5 rfl rfl)
theorem dJ2_fastRemove_6 : decode cJ2_fastRemove 6 = .ok (.iadd, 1) := dk_96 (dk_at dksJ2_fastRemove_0 6 rfl rfl)
theorem dJ2_fastRemove_7 : decode cJ2_fastRemove 7 = .ok (.putfield 63, 3) := dk_181 0 63 (dk_at dksJ2_fastRemove_0 7 rfl rfl)
theorem dJ2_fastRemove_10 : decode cJ2_fastRemove 10 = .ok (.aload_n 0, 1) := dk_42 (dk_at dksJ2_fastRemove_0 10 rfl rfl)
theorem dJ2_fastRemove_11 : decode cJ2_fastRemove 11 = .ok (.getfield 48, 3) := dk_180 0 48 (dk_at dksJ2_fastRemove_0 11 rfl rfl)
theorem dJ2_fastRemove_14 : decode cJ2_fastRemove 14 = .ok (.iconst 1, 1) := dk_4 (dk_at dksJ2_fastRemove_0 14 rfl rfl)
theorem dJ2_fastRemove_15 : decode cJ2_fastRemove 15 = .ok (.isub, 1) := dk_100 (dk_at dksJ2_fastRemove_0 15 rfl rfl)
theorem dJ2_fastRemove_16 : decode cJ2_fastRemove 16 = .ok (.dup, 1) := dk_89 (dk_at dksJ2_fastRemove_0 16 rfl rfl)
theorem dJ2_fastRemove_17 : decode cJ2_fastRemove 17 = .ok (.istore_n 3, 1) := dk_62 (dk_at dksJ2_fastRemove_0 17 rfl rfl)
theorem dJ2_fastRemove_18 : decode cJ2_fastRemove 18 = .ok (.iload_n 2, 1) := dk_28 (dk_at dksJ2_fastRemove_0 18 rfl rfl)
theorem dJ2_fastRemove_19 : decode cJ2_fastRemove 19 = .ok (.if_icmp .le 15, 3) := dk_164 0 15 (dk_at dksJ2_fastRemove_0 19 rfl rfl)
theorem dJ2_fastRemove_22 : decode cJ2_fastRemove 22 = .ok (.aload_n 1, 1) := dk_43 (dk_at dksJ2_fastRemove_0 22 rfl rfl)
theorem dJ2_fastRemove_23 : decode cJ2_fastRemove 23 = .ok (.iload_n 2, 1) := dk_28 (dk_at dksJ2_fastRemove_0 23 rfl rfl)
theorem dJ2_fastRemove_24 : decode cJ2_fastRemove 24 = .ok (.iconst 1, 1) := dk_4 (dk_at dksJ2_fastRemove_1 0 rfl rfl)
theorem dJ2_fastRemove_25 : decode cJ2_fastRemove 25 = .ok (.iadd, 1) := dk_96 (dk_at dksJ2_fastRemove_1 1 rfl rfl)
theorem dJ2_fastRemove_26 : decode cJ2_fastRemove 26 = .ok (.aload_n 1, 1) := dk_43 (dk_at dksJ2_fastRemove_1 2 rfl rfl)
theorem dJ2_fastRemove_27 : decode cJ2_fastRemove 27 = .ok (.iload_n 2, 1) := dk_28 (dk_at dksJ2_fastRemove_1 3 rfl rfl)
theorem dJ2_fastRemove_28 : decode cJ2_fastRemove 28 = .ok (.iload_n 3, 1) := dk_29 (dk_at dksJ2_fastRemove_1 4 rfl rfl)
theorem dJ2_fastRemove_29 : decode cJ2_fastRemove 29 = .ok (.iload_n 2, 1) := dk_28 (dk_at dksJ2_fastRemove_1 5 rfl rfl)
theorem dJ2_fastRemove_30 : decode cJ2_fastRemove 30 = .ok (.isub, 1) := dk_100 (dk_at dksJ2_fastRemove_1 6 rfl rfl)
theorem dJ2_fastRemove_31 : decode cJ2_fastRemove 31 = .ok (.invokestatic 112, 3) := dk_184 0 112 (dk_at dksJ2_fastRemove_1 7 rfl rfl)
theorem dJ2_fastRemove_34 : decode cJ2_fastRemove 34 = .ok (.aload_n 1, 1) := dk_43 (dk_at dksJ2_fastRemove_1 10 rfl rfl)
theorem dJ2_fastRemove_35 : decode cJ2_fastRemove 35 = .ok (.aload_n 0, 1) := dk_42 (dk_at dksJ2_fastRemove_1 11 rfl rfl)
theorem dJ2_fastRemove_36 : decode cJ2_fastRemove 36 = .ok (.iload_n 3, 1) := dk_29 (dk_at dksJ2_fastRemove_1 12 rfl rfl)
theorem dJ2_fastRemove_37 : decode cJ2_fastRemove 37 = .ok (.dup_x1, 1) := dk_90 (dk_at dksJ2_fastRemove_1 13 rfl rfl)
theorem dJ2_fastRemove_38 : decode cJ2_fastRemove 38 = .ok (.putfield 48, 3) := dk_181 0 48 (dk_at dksJ2_fastRemove_1 14 rfl rfl)
theorem dJ2_fastRemove_41 : decode cJ2_fastRemove 41 = .ok (.aconst_null, 1) := dk_1 (dk_at dksJ2_fastRemove_1 17 rfl rfl)
theorem dJ2_fastRemove_42 : decode cJ2_fastRemove 42 = .ok (.aastore, 1) := dk_83 (dk_at dksJ2_fastRemove_1 18 rfl rfl)
theorem dJ2_fastRemove_43 : decode cJ2_fastRemove 43 = .ok (.return_, 1) := dk_177 (dk_at dksJ2_fastRemove_1 19 rfl rfl)
abbrev cJ2_isEmpty : ByteArray := prog_35_method_9_code
def yJ2_isEmpty : MethodName := ⟨RJ2, "isEmpty", "()Z"⟩
def dkwJ2_isEmpty_0 : List UInt8 := [42, 180, 0, 48, 154, 0, 7, 4, 167, 0, 4, 3, 172]
abbrev dktJ2_isEmpty_0 : List UInt8 := dkwJ2_isEmpty_0 ++ []
theorem dksJ2_isEmpty_0 : cJ2_isEmpty.data.toList.drop 0 = dktJ2_isEmpty_0 := by decide +kernel
theorem dJ2_isEmpty_0 : decode cJ2_isEmpty 0 = .ok (.aload_n 0, 1) := dk_42 (dk_at dksJ2_isEmpty_0 0 rfl rfl)
theorem dJ2_isEmpty_1 : decode cJ2_isEmpty 1 = .ok (.getfield 48, 3) := dk_180 0 48 (dk_at dksJ2_isEmpty_0 1 rfl rfl)
theorem dJ2_isEmpty_4 : decode cJ2_isEmpty 4 = .ok (.ifCond .ne 7, 3) := dk_154 0 7 (dk_at dksJ2_isEmpty_0 4 rfl rfl)
theorem dJ2_isEmpty_7 : decode cJ2_isEmpty 7 = .ok (.iconst 1, 1) := dk_4 (dk_at dksJ2_isEmpty_0 7 rfl rfl)
theorem dJ2_isEmpty_8 : decode cJ2_isEmpty 8 = .ok (.goto 4, 3) := dk_167 0 4 (dk_at dksJ2_isEmpty_0 8 rfl rfl)
theorem dJ2_isEmpty_11 : decode cJ2_isEmpty 11 = .ok (.iconst 0, 1) := dk_3 (dk_at dksJ2_isEmpty_0 11 rfl rfl)
theorem dJ2_isEmpty_12 : decode cJ2_isEmpty 12 = .ok (.ireturn, 1) := dk_172 (dk_at dksJ2_isEmpty_0 12 rfl rfl)
theorem q122 : (Jvm.Cond.initialized "java/util/ArrayList") ∈ lw_all := lw_g (lw_at lw_m1 5 rfl) rfl
theorem q165 : (Jvm.Cond.instantiable "java/util/ArrayList" (3 : Nat)) ∈ lw_all := lw_g (lw_at lw_m1 48 rfl) rfl
theorem q167 : (Jvm.Cond.instanceMethod ({ cls := "java/util/ArrayList", name := "<init>", desc := "()V" } : Jvm.MethodName)) ∈ lw_all := lw_g (lw_at lw_m1 50 rfl) rfl
theorem q168 : (Jvm.Cond.code ({ cls := "java/util/ArrayList", name := "<init>", desc := "()V" } : Jvm.MethodName) prog_35_method_2_code (1 : Nat) (Option.none : Option Jvm.ClassFile.FieldType)) ∈ lw_all := lw_g (lw_at lw_m1 51 rfl) rfl
theorem q169 : (Jvm.Cond.methodLink "java/util/ArrayList" (1 : Nat) ({ cls := "java/util/AbstractList", name := "<init>", desc := "()V" } : Jvm.MethodName)) ∈ lw_all := lw_g (lw_at lw_m1 52 rfl) rfl
theorem q176 : (Jvm.Cond.fieldLink "java/util/ArrayList" (39 : Nat) "java/util/ArrayList" "DEFAULTCAPACITY_EMPTY_ELEMENTDATA" "[Ljava/lang/Object;") ∈ lw_all := lw_g (lw_at lw_m1 59 rfl) rfl
theorem q177 : (Jvm.Cond.laysStatic "java/util/ArrayList" "DEFAULTCAPACITY_EMPTY_ELEMENTDATA" "[Ljava/lang/Object;") ∈ lw_tbl := lw_at lw_m1 60 rfl
theorem q178 : (Jvm.Cond.fieldLink "java/util/ArrayList" (9 : Nat) "java/util/ArrayList" "elementData" "[Ljava/lang/Object;") ∈ lw_all := lw_g (lw_at lw_m1 61 rfl) rfl
theorem q181 : (Jvm.Cond.fieldLink "java/util/ArrayList" (48 : Nat) "java/util/ArrayList" "size" "I") ∈ lw_all := lw_g (lw_at lw_m1 64 rfl) rfl
theorem q184 : (Jvm.Cond.sameField "java/util/ArrayList" "java/util/AbstractList" "modCount" "I") ∈ lw_all := lw_g (lw_at lw_m1 67 rfl) rfl
theorem q185 : (Jvm.Cond.fieldLink "java/util/ArrayList" (63 : Nat) "java/util/ArrayList" "modCount" "I") ∈ lw_all := lw_g (lw_at lw_m1 68 rfl) rfl
theorem q186 : (Jvm.Cond.lays "java/util/ArrayList" "java/util/ArrayList" "elementData" "[Ljava/lang/Object;") ∈ lw_all := lw_g (lw_at lw_m1 69 rfl) rfl
theorem q187 : (Jvm.Cond.soleField "java/util/ArrayList" "elementData") ∈ lw_all := lw_g (lw_at lw_m1 70 rfl) rfl
theorem q188 : (Jvm.Cond.lays "java/util/ArrayList" "java/util/ArrayList" "size" "I") ∈ lw_all := lw_g (lw_at lw_m1 71 rfl) rfl
theorem q189 : (Jvm.Cond.soleField "java/util/ArrayList" "size") ∈ lw_all := lw_g (lw_at lw_m1 72 rfl) rfl
theorem q190 : (Jvm.Cond.lays "java/util/ArrayList" "java/util/AbstractList" "modCount" "I") ∈ lw_all := lw_g (lw_at lw_m1 73 rfl) rfl
theorem q192 : (Jvm.Cond.superclass "java/util/ArrayList" "java/util/AbstractList") ∈ lw_all := lw_g (lw_at lw_m1 75 rfl) rfl
theorem q361 : (Jvm.Cond.instanceMethod ({ cls := "java/util/ArrayList", name := "size", desc := "()I" } : Jvm.MethodName)) ∈ lw_all := lw_g (lw_at lw_m2 4 rfl) rfl
theorem q362 : (Jvm.Cond.selects "java/util/ArrayList" ({ cls := "java/util/ArrayList", name := "size", desc := "()I" } : Jvm.MethodName) ({ cls := "java/util/ArrayList", name := "size", desc := "()I" } : Jvm.MethodName)) ∈ lw_all := lw_g (lw_at lw_m2 5 rfl) rfl
theorem q363 : (Jvm.Cond.code ({ cls := "java/util/ArrayList", name := "size", desc := "()I" } : Jvm.MethodName) prog_35_method_8_code (1 : Nat) (Option.some Jvm.ClassFile.FieldType.int)) ∈ lw_all := lw_g (lw_at lw_m2 6 rfl) rfl
theorem q365 : (Jvm.Cond.instanceMethod ({ cls := "java/util/ArrayList", name := "get", desc := "(I)Ljava/lang/Object;" } : Jvm.MethodName)) ∈ lw_all := lw_g (lw_at lw_m2 8 rfl) rfl
theorem q366 : (Jvm.Cond.selects "java/util/ArrayList" ({ cls := "java/util/ArrayList", name := "get", desc := "(I)Ljava/lang/Object;" } : Jvm.MethodName) ({ cls := "java/util/ArrayList", name := "get", desc := "(I)Ljava/lang/Object;" } : Jvm.MethodName)) ∈ lw_all := lw_g (lw_at lw_m2 9 rfl) rfl
theorem q367 : (Jvm.Cond.code ({ cls := "java/util/ArrayList", name := "get", desc := "(I)Ljava/lang/Object;" } : Jvm.MethodName) prog_35_method_20_code (2 : Nat) (Option.some (Jvm.ClassFile.FieldType.object "java/lang/Object"))) ∈ lw_all := lw_g (lw_at lw_m2 10 rfl) rfl
theorem q368 : (Jvm.Cond.methodLink "java/util/ArrayList" (118 : Nat) ({ cls := "java/util/Objects", name := "checkIndex", desc := "(II)I" } : Jvm.MethodName)) ∈ lw_all := lw_g (lw_at lw_m2 11 rfl) rfl
theorem q374 : (Jvm.Cond.methodLink "java/util/ArrayList" (123 : Nat) ({ cls := "java/util/ArrayList", name := "elementData", desc := "(I)Ljava/lang/Object;" } : Jvm.MethodName)) ∈ lw_all := lw_g (lw_at lw_m2 17 rfl) rfl
theorem q375 : (Jvm.Cond.instanceMethod ({ cls := "java/util/ArrayList", name := "elementData", desc := "(I)Ljava/lang/Object;" } : Jvm.MethodName)) ∈ lw_all := lw_g (lw_at lw_m2 18 rfl) rfl
theorem q376 : (Jvm.Cond.selects "java/util/ArrayList" ({ cls := "java/util/ArrayList", name := "elementData", desc := "(I)Ljava/lang/Object;" } : Jvm.MethodName) ({ cls := "java/util/ArrayList", name := "elementData", desc := "(I)Ljava/lang/Object;" } : Jvm.MethodName)) ∈ lw_all := lw_g (lw_at lw_m2 19 rfl) rfl
theorem q377 : (Jvm.Cond.code ({ cls := "java/util/ArrayList", name := "elementData", desc := "(I)Ljava/lang/Object;" } : Jvm.MethodName) prog_35_method_18_code (2 : Nat) (Option.some (Jvm.ClassFile.FieldType.object "java/lang/Object"))) ∈ lw_all := lw_g (lw_at lw_m2 20 rfl) rfl
theorem q380 : (Jvm.Cond.instanceMethod ({ cls := "java/util/ArrayList", name := "clear", desc := "()V" } : Jvm.MethodName)) ∈ lw_all := lw_g (lw_at lw_m2 23 rfl) rfl
theorem q381 : (Jvm.Cond.selects "java/util/ArrayList" ({ cls := "java/util/ArrayList", name := "clear", desc := "()V" } : Jvm.MethodName) ({ cls := "java/util/ArrayList", name := "clear", desc := "()V" } : Jvm.MethodName)) ∈ lw_all := lw_g (lw_at lw_m2 24 rfl) rfl
theorem q382 : (Jvm.Cond.code ({ cls := "java/util/ArrayList", name := "clear", desc := "()V" } : Jvm.MethodName) prog_35_method_40_code (4 : Nat) (Option.none : Option Jvm.ClassFile.FieldType)) ∈ lw_all := lw_g (lw_at lw_m2 25 rfl) rfl
theorem q629 : (Jvm.Cond.instanceMethod ({ cls := "java/util/ArrayList", name := "iterator", desc := "()Ljava/util/Iterator;" } : Jvm.MethodName)) ∈ lw_all := lw_g (lw_at lw_m3 32 rfl) rfl
theorem q630 : (Jvm.Cond.selects "java/util/ArrayList" ({ cls := "java/util/ArrayList", name := "iterator", desc := "()Ljava/util/Iterator;" } : Jvm.MethodName) ({ cls := "java/util/ArrayList", name := "iterator", desc := "()Ljava/util/Iterator;" } : Jvm.MethodName)) ∈ lw_all := lw_g (lw_at lw_m3 33 rfl) rfl
theorem q631 : (Jvm.Cond.code ({ cls := "java/util/ArrayList", name := "iterator", desc := "()Ljava/util/Iterator;" } : Jvm.MethodName) prog_35_method_55_code (1 : Nat) (Option.some (Jvm.ClassFile.FieldType.object "java/util/Iterator"))) ∈ lw_all := lw_g (lw_at lw_m3 34 rfl) rfl
theorem q632 : (Jvm.Cond.classLink "java/util/ArrayList" (267 : Nat) "java/util/ArrayList$Itr") ∈ lw_all := lw_g (lw_at lw_m3 35 rfl) rfl
theorem q634 : (Jvm.Cond.methodLink "java/util/ArrayList" (269 : Nat) ({ cls := "java/util/ArrayList$Itr", name := "<init>", desc := "(Ljava/util/ArrayList;)V" } : Jvm.MethodName)) ∈ lw_all := lw_g (lw_at lw_m3 37 rfl) rfl
theorem q722 : (Jvm.Cond.instanceMethod ({ cls := "java/util/ArrayList", name := "add", desc := "(Ljava/lang/Object;)Z" } : Jvm.MethodName)) ∈ lw_all := lw_g (lw_at lw_m3 125 rfl) rfl
theorem q723 : (Jvm.Cond.selects "java/util/ArrayList" ({ cls := "java/util/ArrayList", name := "add", desc := "(Ljava/lang/Object;)Z" } : Jvm.MethodName) ({ cls := "java/util/ArrayList", name := "add", desc := "(Ljava/lang/Object;)Z" } : Jvm.MethodName)) ∈ lw_all := lw_g (lw_at lw_m3 126 rfl) rfl
theorem q724 : (Jvm.Cond.code ({ cls := "java/util/ArrayList", name := "add", desc := "(Ljava/lang/Object;)Z" } : Jvm.MethodName) prog_35_method_25_code (2 : Nat) (Option.some Jvm.ClassFile.FieldType.boolean)) ∈ lw_all := lw_g (lw_at lw_m3 127 rfl) rfl
theorem q725 : (Jvm.Cond.methodLink "java/util/ArrayList" (131 : Nat) ({ cls := "java/util/ArrayList", name := "add", desc := "(Ljava/lang/Object;[Ljava/lang/Object;I)V" } : Jvm.MethodName)) ∈ lw_all := lw_g (lw_at lw_m3 128 rfl) rfl
theorem q726 : (Jvm.Cond.privateMethod ({ cls := "java/util/ArrayList", name := "add", desc := "(Ljava/lang/Object;[Ljava/lang/Object;I)V" } : Jvm.MethodName)) ∈ lw_tbl := lw_at lw_m3 129 rfl
theorem q727 : (Jvm.Cond.instanceMethod ({ cls := "java/util/ArrayList", name := "add", desc := "(Ljava/lang/Object;[Ljava/lang/Object;I)V" } : Jvm.MethodName)) ∈ lw_all := lw_g (lw_at lw_m3 130 rfl) rfl
theorem q728 : (Jvm.Cond.code ({ cls := "java/util/ArrayList", name := "add", desc := "(Ljava/lang/Object;[Ljava/lang/Object;I)V" } : Jvm.MethodName) prog_35_method_24_code (4 : Nat) (Option.none : Option Jvm.ClassFile.FieldType)) ∈ lw_all := lw_g (lw_at lw_m3 131 rfl) rfl
theorem q729 : (Jvm.Cond.methodLink "java/util/ArrayList" (129 : Nat) ({ cls := "java/util/ArrayList", name := "grow", desc := "()[Ljava/lang/Object;" } : Jvm.MethodName)) ∈ lw_all := lw_g (lw_at lw_m3 132 rfl) rfl
theorem q730 : (Jvm.Cond.privateMethod ({ cls := "java/util/ArrayList", name := "grow", desc := "()[Ljava/lang/Object;" } : Jvm.MethodName)) ∈ lw_tbl := lw_at lw_m3 133 rfl
theorem q731 : (Jvm.Cond.instanceMethod ({ cls := "java/util/ArrayList", name := "grow", desc := "()[Ljava/lang/Object;" } : Jvm.MethodName)) ∈ lw_all := lw_g (lw_at lw_m3 134 rfl) rfl
theorem q732 : (Jvm.Cond.code ({ cls := "java/util/ArrayList", name := "grow", desc := "()[Ljava/lang/Object;" } : Jvm.MethodName) prog_35_method_7_code (1 : Nat) (Option.some (Jvm.ClassFile.FieldType.array (Jvm.ClassFile.FieldType.object "java/lang/Object")))) ∈ lw_all := lw_g (lw_at lw_m3 135 rfl) rfl
theorem q733 : (Jvm.Cond.methodLink "java/util/ArrayList" (69 : Nat) ({ cls := "java/util/ArrayList", name := "grow", desc := "(I)[Ljava/lang/Object;" } : Jvm.MethodName)) ∈ lw_all := lw_g (lw_at lw_m3 136 rfl) rfl
theorem q734 : (Jvm.Cond.privateMethod ({ cls := "java/util/ArrayList", name := "grow", desc := "(I)[Ljava/lang/Object;" } : Jvm.MethodName)) ∈ lw_tbl := lw_at lw_m3 137 rfl
theorem q735 : (Jvm.Cond.instanceMethod ({ cls := "java/util/ArrayList", name := "grow", desc := "(I)[Ljava/lang/Object;" } : Jvm.MethodName)) ∈ lw_all := lw_g (lw_at lw_m3 138 rfl) rfl
theorem q736 : (Jvm.Cond.code ({ cls := "java/util/ArrayList", name := "grow", desc := "(I)[Ljava/lang/Object;" } : Jvm.MethodName) prog_35_method_6_code (4 : Nat) (Option.some (Jvm.ClassFile.FieldType.array (Jvm.ClassFile.FieldType.object "java/lang/Object")))) ∈ lw_all := lw_g (lw_at lw_m3 139 rfl) rfl
theorem q737 : (Jvm.Cond.methodLink "java/util/ArrayList" (73 : Nat) ({ cls := "jdk/internal/util/ArraysSupport", name := "newLength", desc := "(III)I" } : Jvm.MethodName)) ∈ lw_all := lw_g (lw_at lw_m3 140 rfl) rfl
theorem q747 : (Jvm.Cond.methodLink "java/util/ArrayList" (66 : Nat) ({ cls := "java/util/Arrays", name := "copyOf", desc := "([Ljava/lang/Object;I)[Ljava/lang/Object;" } : Jvm.MethodName)) ∈ lw_all := lw_g (lw_at lw_m3 150 rfl) rfl
theorem q767 : (Jvm.Cond.selects "java/util/ArrayList" ({ cls := "java/lang/Object", name := "getClass", desc := "()Ljava/lang/Class;" } : Jvm.MethodName) ({ cls := "java/lang/Object", name := "getClass", desc := "()Ljava/lang/Class;" } : Jvm.MethodName)) ∈ lw_all := lw_g (lw_at lw_m3 170 rfl) rfl
theorem q782 : (Jvm.Cond.methodLink "java/util/ArrayList" (79 : Nat) ({ cls := "java/lang/Math", name := "max", desc := "(II)I" } : Jvm.MethodName)) ∈ lw_all := lw_g (lw_at lw_m3 185 rfl) rfl
theorem q783 : (Jvm.Cond.classLink "java/util/ArrayList" (7 : Nat) "java/lang/Object") ∈ lw_all := lw_g (lw_at lw_m3 186 rfl) rfl
theorem q962 : (Jvm.Cond.instanceMethod ({ cls := "java/util/ArrayList", name := "remove", desc := "(I)Ljava/lang/Object;" } : Jvm.MethodName)) ∈ lw_all := lw_g (lw_at lw_m4 125 rfl) rfl
theorem q963 : (Jvm.Cond.selects "java/util/ArrayList" ({ cls := "java/util/ArrayList", name := "remove", desc := "(I)Ljava/lang/Object;" } : Jvm.MethodName) ({ cls := "java/util/ArrayList", name := "remove", desc := "(I)Ljava/lang/Object;" } : Jvm.MethodName)) ∈ lw_all := lw_g (lw_at lw_m4 126 rfl) rfl
theorem q964 : (Jvm.Cond.code ({ cls := "java/util/ArrayList", name := "remove", desc := "(I)Ljava/lang/Object;" } : Jvm.MethodName) prog_35_method_29_code (4 : Nat) (Option.some (Jvm.ClassFile.FieldType.object "java/lang/Object"))) ∈ lw_all := lw_g (lw_at lw_m4 127 rfl) rfl
theorem q965 : (Jvm.Cond.methodLink "java/util/ArrayList" (144 : Nat) ({ cls := "java/util/ArrayList", name := "fastRemove", desc := "([Ljava/lang/Object;I)V" } : Jvm.MethodName)) ∈ lw_all := lw_g (lw_at lw_m4 128 rfl) rfl
theorem q966 : (Jvm.Cond.privateMethod ({ cls := "java/util/ArrayList", name := "fastRemove", desc := "([Ljava/lang/Object;I)V" } : Jvm.MethodName)) ∈ lw_tbl := lw_at lw_m4 129 rfl
theorem q967 : (Jvm.Cond.instanceMethod ({ cls := "java/util/ArrayList", name := "fastRemove", desc := "([Ljava/lang/Object;I)V" } : Jvm.MethodName)) ∈ lw_all := lw_g (lw_at lw_m4 130 rfl) rfl
theorem q968 : (Jvm.Cond.code ({ cls := "java/util/ArrayList", name := "fastRemove", desc := "([Ljava/lang/Object;I)V" } : Jvm.MethodName) prog_35_method_39_code (4 : Nat) (Option.none : Option Jvm.ClassFile.FieldType)) ∈ lw_all := lw_g (lw_at lw_m4 131 rfl) rfl
theorem q969 : (Jvm.Cond.methodLink "java/util/ArrayList" (112 : Nat) ({ cls := "java/lang/System", name := "arraycopy", desc := "(Ljava/lang/Object;ILjava/lang/Object;II)V" } : Jvm.MethodName)) ∈ lw_all := lw_g (lw_at lw_m4 132 rfl) rfl
theorem q1016 : (Jvm.Cond.instanceMethod ({ cls := "java/util/ArrayList", name := "isEmpty", desc := "()Z" } : Jvm.MethodName)) ∈ lw_all := lw_g (lw_at lw_m4 179 rfl) rfl
theorem q1017 : (Jvm.Cond.selects "java/util/ArrayList" ({ cls := "java/util/ArrayList", name := "isEmpty", desc := "()Z" } : Jvm.MethodName) ({ cls := "java/util/ArrayList", name := "isEmpty", desc := "()Z" } : Jvm.MethodName)) ∈ lw_all := lw_g (lw_at lw_m4 180 rfl) rfl
theorem q1018 : (Jvm.Cond.code ({ cls := "java/util/ArrayList", name := "isEmpty", desc := "()Z" } : Jvm.MethodName) prog_35_method_9_code (1 : Nat) (Option.some Jvm.ClassFile.FieldType.boolean)) ∈ lw_all := lw_g (lw_at lw_m4 181 rfl) rfl
theorem q2057 : (Jvm.Cond.castable "java/util/ArrayList" "java/lang/Object") ∈ lw_tbl := lw_at lw_m9 20 rfl
theorem in_J2 : ∀ w ∈ wsJ20, w ∈ lw_all := lw_in wsJ20 [190, 186, 188] (by decide +kernel) (by decide +kernel)

/-! java/lang/Throwable -/
set_option maxRecDepth 100000
def RJ3 : String := "java/lang/Throwable"
def TJ3 : u_T := fun k => match k with
  | 0 => ("java/lang/Throwable", "cause", "Ljava/lang/Throwable;", false)
  | 1 => ("java/lang/Throwable", "stackTrace", "[Ljava/lang/StackTraceElement;", false)
  | 2 => ("java/lang/Throwable", "suppressedExceptions", "Ljava/util/List;", false)
  | 3 => ("java/lang/Throwable", "detailMessage", "Ljava/lang/String;", false)
  | _ => ("java/lang/Throwable", "backtrace", "Ljava/lang/Object;", false)
def tyJ3 : Nat → FieldType := fun k => match k with
  | 0 => .object "java/lang/Throwable"
  | 1 => .array (.object "java/lang/StackTraceElement")
  | 2 => .object "java/util/List"
  | 3 => .object "java/lang/String"
  | _ => .object "java/lang/Object"
abbrev wsJ30 : List Cond := u_ws RJ3 TJ3 5
theorem nmJ3 : ∀ a, a < 5 → ∀ b, b < 5 → a ≠ b → (TJ3 a).2.1 ≠ (TJ3 b).2.1 := by decide +kernel
theorem tyJ3_ok : ∀ k, k < 5 → parseFieldDescriptor (TJ3 k).2.2.1 = some (tyJ3 k) := by decide +kernel
abbrev cJ3_init : ByteArray := prog_30_method_1_code
def yJ3_init : MethodName := ⟨RJ3, "<init>", "()V"⟩
def dkwJ3_init_1 : List UInt8 := [182, 0, 27, 87, 177]
abbrev dktJ3_init_1 : List UInt8 := dkwJ3_init_1 ++ []
def dkwJ3_init_0 : List UInt8 := [42, 183, 0, 1, 42, 42, 181, 0, 7, 42, 178, 0, 13, 181, 0, 17, 42, 178, 0, 20, 181, 0, 24, 42]
abbrev dktJ3_init_0 : List UInt8 := dkwJ3_init_0 ++ dktJ3_init_1
theorem dksJ3_init_0 : cJ3_init.data.toList.drop 0 = dktJ3_init_0 := by decide +kernel
theorem dksJ3_init_1 : cJ3_init.data.toList.drop 24 = dktJ3_init_1 := dk_seg dksJ3_init_0 24 rfl rfl
theorem dJ3_init_0 : decode cJ3_init 0 = .ok (.aload_n 0, 1) := dk_42 (dk_at dksJ3_init_0 0 rfl rfl)
theorem dJ3_init_1 : decode cJ3_init 1 = .ok (.invokespecial 1, 3) := dk_183 0 1 (dk_at dksJ3_init_0 1 rfl rfl)
theorem dJ3_init_4 : decode cJ3_init 4 = .ok (.aload_n 0, 1) := dk_42 (dk_at dksJ3_init_0 4 rfl rfl)
theorem dJ3_init_5 : decode cJ3_init 5 = .ok (.aload_n 0, 1) := dk_42 (dk_at dksJ3_init_0 5 rfl rfl)
theorem dJ3_init_6 : decode cJ3_init 6 = .ok (.putfield 7, 3) := dk_181 0 7 (dk_at dksJ3_init_0 6 rfl rfl)
theorem dJ3_init_9 : decode cJ3_init 9 = .ok (.aload_n 0, 1) := dk_42 (dk_at dksJ3_init_0 9 rfl rfl)
theorem dJ3_init_10 : decode cJ3_init 10 = .ok (.getstatic 13, 3) := dk_178 0 13 (dk_at dksJ3_init_0 10 rfl rfl)
theorem dJ3_init_13 : decode cJ3_init 13 = .ok (.putfield 17, 3) := dk_181 0 17 (dk_at dksJ3_init_0 13 rfl rfl)
theorem dJ3_init_16 : decode cJ3_init 16 = .ok (.aload_n 0, 1) := dk_42 (dk_at dksJ3_init_0 16 rfl rfl)
theorem dJ3_init_17 : decode cJ3_init 17 = .ok (.getstatic 20, 3) := dk_178 0 20 (dk_at dksJ3_init_0 17 rfl rfl)
theorem dJ3_init_20 : decode cJ3_init 20 = .ok (.putfield 24, 3) := dk_181 0 24 (dk_at dksJ3_init_0 20 rfl rfl)
theorem dJ3_init_23 : decode cJ3_init 23 = .ok (.aload_n 0, 1) := dk_42 (dk_at dksJ3_init_0 23 rfl rfl)
theorem dJ3_init_24 : decode cJ3_init 24 = .ok (.invokevirtual 27, 3) := dk_182 0 27 (dk_at dksJ3_init_1 0 rfl rfl)
theorem dJ3_init_27 : decode cJ3_init 27 = .ok (.pop, 1) := dk_87 (dk_at dksJ3_init_1 3 rfl rfl)
theorem dJ3_init_28 : decode cJ3_init 28 = .ok (.return_, 1) := dk_177 (dk_at dksJ3_init_1 4 rfl rfl)
theorem q124 : (Jvm.Cond.initialized "java/lang/Throwable") ∈ lw_all := lw_g (lw_at lw_m1 7 rfl) rfl
theorem q278 : (Jvm.Cond.declares ({ cls := "java/lang/Throwable", name := "<init>", desc := "()V" } : Jvm.MethodName)) ∈ lw_tbl := lw_at lw_m1 161 rfl
theorem q279 : (Jvm.Cond.declares ({ cls := "java/lang/Throwable", name := "<init>", desc := "(Ljava/lang/String;)V" } : Jvm.MethodName)) ∈ lw_tbl := lw_at lw_m1 162 rfl
theorem q283 : (Jvm.Cond.lays "java/lang/Throwable" "java/lang/Throwable" "cause" "Ljava/lang/Throwable;") ∈ lw_all := lw_g (lw_at lw_m1 166 rfl) rfl
theorem q285 : (Jvm.Cond.lays "java/lang/Throwable" "java/lang/Throwable" "stackTrace" "[Ljava/lang/StackTraceElement;") ∈ lw_all := lw_g (lw_at lw_m1 168 rfl) rfl
theorem q287 : (Jvm.Cond.lays "java/lang/Throwable" "java/lang/Throwable" "suppressedExceptions" "Ljava/util/List;") ∈ lw_all := lw_g (lw_at lw_m1 170 rfl) rfl
theorem q289 : (Jvm.Cond.lays "java/lang/Throwable" "java/lang/Throwable" "detailMessage" "Ljava/lang/String;") ∈ lw_all := lw_g (lw_at lw_m1 172 rfl) rfl
theorem q291 : (Jvm.Cond.lays "java/lang/Throwable" "java/lang/Throwable" "backtrace" "Ljava/lang/Object;") ∈ lw_all := lw_g (lw_at lw_m1 174 rfl) rfl
theorem q292 : (Jvm.Cond.fieldLink "java/lang/Throwable" (198 : Nat) "java/lang/Throwable" "backtrace" "Ljava/lang/Object;") ∈ lw_all := lw_g (lw_at lw_m1 175 rfl) rfl
theorem q293 : (Jvm.Cond.superclass "java/lang/Throwable" "java/lang/Object") ∈ lw_all := lw_g (lw_at lw_m1 176 rfl) rfl
theorem q294 : (Jvm.Cond.instanceMethod ({ cls := "java/lang/Throwable", name := "<init>", desc := "()V" } : Jvm.MethodName)) ∈ lw_all := lw_g (lw_at lw_m1 177 rfl) rfl
theorem q295 : (Jvm.Cond.code ({ cls := "java/lang/Throwable", name := "<init>", desc := "()V" } : Jvm.MethodName) prog_30_method_1_code (1 : Nat) (Option.none : Option Jvm.ClassFile.FieldType)) ∈ lw_all := lw_g (lw_at lw_m1 178 rfl) rfl
theorem q296 : (Jvm.Cond.methodLink "java/lang/Throwable" (1 : Nat) ({ cls := "java/lang/Object", name := "<init>", desc := "()V" } : Jvm.MethodName)) ∈ lw_all := lw_g (lw_at lw_m1 179 rfl) rfl
theorem q297 : (Jvm.Cond.fieldLink "java/lang/Throwable" (13 : Nat) "java/lang/Throwable" "UNASSIGNED_STACK" "[Ljava/lang/StackTraceElement;") ∈ lw_all := lw_g (lw_at lw_m1 180 rfl) rfl
theorem q298 : (Jvm.Cond.laysStatic "java/lang/Throwable" "UNASSIGNED_STACK" "[Ljava/lang/StackTraceElement;") ∈ lw_tbl := lw_at lw_m1 181 rfl
theorem q299 : (Jvm.Cond.fieldLink "java/lang/Throwable" (20 : Nat) "java/lang/Throwable" "SUPPRESSED_SENTINEL" "Ljava/util/List;") ∈ lw_all := lw_g (lw_at lw_m1 182 rfl) rfl
theorem q300 : (Jvm.Cond.laysStatic "java/lang/Throwable" "SUPPRESSED_SENTINEL" "Ljava/util/List;") ∈ lw_tbl := lw_at lw_m1 183 rfl
theorem q301 : (Jvm.Cond.methodLink "java/lang/Throwable" (27 : Nat) ({ cls := "java/lang/Throwable", name := "fillInStackTrace", desc := "()Ljava/lang/Throwable;" } : Jvm.MethodName)) ∈ lw_all := lw_g (lw_at lw_m1 184 rfl) rfl
theorem q302 : (Jvm.Cond.instanceMethod ({ cls := "java/lang/Throwable", name := "fillInStackTrace", desc := "()Ljava/lang/Throwable;" } : Jvm.MethodName)) ∈ lw_all := lw_g (lw_at lw_m1 185 rfl) rfl
theorem q303 : (Jvm.Cond.sameMethod "java/lang/Throwable" "java/lang/Throwable" "fillInStackTrace" "()Ljava/lang/Throwable;") ∈ lw_all := lw_g (lw_at lw_m1 186 rfl) rfl
theorem q304 : (Jvm.Cond.codeSync ({ cls := "java/lang/Throwable", name := "fillInStackTrace", desc := "()Ljava/lang/Throwable;" } : Jvm.MethodName) prog_30_method_18_code (1 : Nat) (Option.some (Jvm.ClassFile.FieldType.object "java/lang/Throwable"))) ∈ lw_all := lw_g (lw_at lw_m1 187 rfl) rfl
theorem q305 : (Jvm.Cond.methodLink "java/lang/Throwable" (202 : Nat) ({ cls := "java/lang/Throwable", name := "fillInStackTrace", desc := "(I)Ljava/lang/Throwable;" } : Jvm.MethodName)) ∈ lw_all := lw_g (lw_at lw_m1 188 rfl) rfl
theorem q306 : (Jvm.Cond.privateMethod ({ cls := "java/lang/Throwable", name := "fillInStackTrace", desc := "(I)Ljava/lang/Throwable;" } : Jvm.MethodName)) ∈ lw_tbl := lw_at lw_m1 189 rfl
theorem q307 : (Jvm.Cond.instanceMethod ({ cls := "java/lang/Throwable", name := "fillInStackTrace", desc := "(I)Ljava/lang/Throwable;" } : Jvm.MethodName)) ∈ lw_all := lw_g (lw_at lw_m1 190 rfl) rfl
theorem q308 : (Jvm.Cond.instantiable "java/lang/Throwable" (6 : Nat)) ∈ lw_all := lw_g (lw_at lw_m1 191 rfl) rfl
theorem q309 : (Jvm.Cond.native ({ cls := "java/lang/Throwable", name := "fillInStackTrace", desc := "(I)Ljava/lang/Throwable;" } : Jvm.MethodName)) ∈ lw_all := lw_g (lw_at lw_m1 192 rfl) rfl
theorem q321 : (Jvm.Cond.fieldLink "java/lang/Throwable" (198 : Nat) "java/lang/Throwable" "backtrace" "Ljava/lang/Object;") ∈ lw_all := lw_g (lw_at lw_m1 204 rfl) rfl
theorem q322 : (Jvm.Cond.fieldLink "java/lang/Throwable" (7 : Nat) "java/lang/Throwable" "cause" "Ljava/lang/Throwable;") ∈ lw_all := lw_g (lw_at lw_m1 205 rfl) rfl
theorem q323 : (Jvm.Cond.fieldLink "java/lang/Throwable" (17 : Nat) "java/lang/Throwable" "stackTrace" "[Ljava/lang/StackTraceElement;") ∈ lw_all := lw_g (lw_at lw_m1 206 rfl) rfl
theorem q324 : (Jvm.Cond.fieldLink "java/lang/Throwable" (24 : Nat) "java/lang/Throwable" "suppressedExceptions" "Ljava/util/List;") ∈ lw_all := lw_g (lw_at lw_m1 207 rfl) rfl
theorem q329 : (Jvm.Cond.soleField "java/lang/Throwable" "backtrace") ∈ lw_all := lw_g (lw_at lw_m1 212 rfl) rfl
theorem q330 : (Jvm.Cond.soleField "java/lang/Throwable" "detailMessage") ∈ lw_all := lw_g (lw_at lw_m1 213 rfl) rfl
theorem q331 : (Jvm.Cond.soleField "java/lang/Throwable" "cause") ∈ lw_all := lw_g (lw_at lw_m1 214 rfl) rfl
theorem q332 : (Jvm.Cond.soleField "java/lang/Throwable" "stackTrace") ∈ lw_all := lw_g (lw_at lw_m1 215 rfl) rfl
theorem q334 : (Jvm.Cond.soleField "java/lang/Throwable" "depth") ∈ lw_all := lw_g (lw_at lw_m1 217 rfl) rfl
theorem q335 : (Jvm.Cond.soleField "java/lang/Throwable" "suppressedExceptions") ∈ lw_all := lw_g (lw_at lw_m1 218 rfl) rfl
theorem q2049 : (Jvm.Cond.sameMethod "java/lang/Throwable" "java/lang/Throwable" "fillInStackTrace" "(I)Ljava/lang/Throwable;") ∈ lw_all := lw_g (lw_at lw_m9 12 rfl) rfl
theorem q2070 : (Jvm.Cond.castable "java/lang/Throwable" "java/lang/Object") ∈ lw_tbl := lw_at lw_m9 33 rfl
theorem in_J3 : ∀ w ∈ wsJ30, w ∈ lw_all := lw_in wsJ30 [283, 285, 287, 289, 291] (by decide +kernel) (by decide +kernel)

/-! java/lang/Exception -/
set_option maxRecDepth 100000
def RJ4 : String := "java/lang/Exception"
abbrev cJ4_init : ByteArray := prog_22_method_1_code
def yJ4_init : MethodName := ⟨RJ4, "<init>", "()V"⟩
theorem dJ4_init_0 : decode cJ4_init 0 = .ok (.aload_n 0, 1) := by decide +kernel
theorem dJ4_init_1 : decode cJ4_init 1 = .ok (.invokespecial 1, 3) := by decide +kernel
theorem dJ4_init_4 : decode cJ4_init 4 = .ok (.return_, 1) := by decide +kernel
theorem q125 : (Jvm.Cond.initialized "java/lang/Exception") ∈ lw_all := lw_g (lw_at lw_m1 8 rfl) rfl
theorem q276 : (Jvm.Cond.declares ({ cls := "java/lang/Exception", name := "<init>", desc := "()V" } : Jvm.MethodName)) ∈ lw_tbl := lw_at lw_m1 159 rfl
theorem q277 : (Jvm.Cond.declares ({ cls := "java/lang/Exception", name := "<init>", desc := "(Ljava/lang/String;)V" } : Jvm.MethodName)) ∈ lw_tbl := lw_at lw_m1 160 rfl
theorem q314 : (Jvm.Cond.instanceMethod ({ cls := "java/lang/Exception", name := "<init>", desc := "()V" } : Jvm.MethodName)) ∈ lw_all := lw_g (lw_at lw_m1 197 rfl) rfl
theorem q315 : (Jvm.Cond.code ({ cls := "java/lang/Exception", name := "<init>", desc := "()V" } : Jvm.MethodName) prog_22_method_1_code (1 : Nat) (Option.none : Option Jvm.ClassFile.FieldType)) ∈ lw_all := lw_g (lw_at lw_m1 198 rfl) rfl
theorem q316 : (Jvm.Cond.methodLink "java/lang/Exception" (1 : Nat) ({ cls := "java/lang/Throwable", name := "<init>", desc := "()V" } : Jvm.MethodName)) ∈ lw_all := lw_g (lw_at lw_m1 199 rfl) rfl

/-! java/util/Objects -/
set_option maxRecDepth 100000
def RJ5 : String := "java/util/Objects"
abbrev cJ5_checkIndex : ByteArray := prog_41_method_17_code
def yJ5_checkIndex : MethodName := ⟨RJ5, "checkIndex", "(II)I"⟩
def dkwJ5_checkIndex_0 : List UInt8 := [26, 27, 1, 184, 0, 105, 172]
abbrev dktJ5_checkIndex_0 : List UInt8 := dkwJ5_checkIndex_0 ++ []
theorem dksJ5_checkIndex_0 : cJ5_checkIndex.data.toList.drop 0 = dktJ5_checkIndex_0 := by decide +kernel
theorem dJ5_checkIndex_0 : decode cJ5_checkIndex 0 = .ok (.iload_n 0, 1) := dk_26 (dk_at dksJ5_checkIndex_0 0 rfl rfl)
theorem dJ5_checkIndex_1 : decode cJ5_checkIndex 1 = .ok (.iload_n 1, 1) := dk_27 (dk_at dksJ5_checkIndex_0 1 rfl rfl)
theorem dJ5_checkIndex_2 : decode cJ5_checkIndex 2 = .ok (.aconst_null, 1) := dk_1 (dk_at dksJ5_checkIndex_0 2 rfl rfl)
theorem dJ5_checkIndex_3 : decode cJ5_checkIndex 3 = .ok (.invokestatic 105, 3) := dk_184 0 105 (dk_at dksJ5_checkIndex_0 3 rfl rfl)
theorem dJ5_checkIndex_6 : decode cJ5_checkIndex 6 = .ok (.ireturn, 1) := dk_172 (dk_at dksJ5_checkIndex_0 6 rfl rfl)
theorem q128 : (Jvm.Cond.initialized "java/util/Objects") ∈ lw_all := lw_g (lw_at lw_m1 11 rfl) rfl
theorem q369 : (Jvm.Cond.static ({ cls := "java/util/Objects", name := "checkIndex", desc := "(II)I" } : Jvm.MethodName)) ∈ lw_all := lw_g (lw_at lw_m2 12 rfl) rfl
theorem q370 : (Jvm.Cond.code ({ cls := "java/util/Objects", name := "checkIndex", desc := "(II)I" } : Jvm.MethodName) prog_41_method_17_code (2 : Nat) (Option.some Jvm.ClassFile.FieldType.int)) ∈ lw_all := lw_g (lw_at lw_m2 13 rfl) rfl
theorem q371 : (Jvm.Cond.methodLink "java/util/Objects" (105 : Nat) ({ cls := "jdk/internal/util/Preconditions", name := "checkIndex", desc := "(IILjava/util/function/BiFunction;)I" } : Jvm.MethodName)) ∈ lw_all := lw_g (lw_at lw_m2 14 rfl) rfl

/-! jdk/internal/util/Preconditions -/
set_option maxRecDepth 100000
def RJ6 : String := "jdk/internal/util/Preconditions"
abbrev cJ6_checkIndex : ByteArray := prog_45_method_11_code
def yJ6_checkIndex : MethodName := ⟨RJ6, "checkIndex", "(IILjava/util/function/BiFunction;)I"⟩
def dkwJ6_checkIndex_0 : List UInt8 := [26, 155, 0, 8, 26, 27, 161, 0, 10, 44, 26, 27, 184, 0, 95, 191, 26, 172]
abbrev dktJ6_checkIndex_0 : List UInt8 := dkwJ6_checkIndex_0 ++ []
theorem dksJ6_checkIndex_0 : cJ6_checkIndex.data.toList.drop 0 = dktJ6_checkIndex_0 := by decide +kernel
theorem dJ6_checkIndex_0 : decode cJ6_checkIndex 0 = .ok (.iload_n 0, 1) := dk_26 (dk_at dksJ6_checkIndex_0 0 rfl rfl)
theorem dJ6_checkIndex_1 : decode cJ6_checkIndex 1 = .ok (.ifCond .lt 8, 3) := dk_155 0 8 (dk_at dksJ6_checkIndex_0 1 rfl rfl)
theorem dJ6_checkIndex_4 : decode cJ6_checkIndex 4 = .ok (.iload_n 0, 1) := dk_26 (dk_at dksJ6_checkIndex_0 4 rfl rfl)
theorem dJ6_checkIndex_5 : decode cJ6_checkIndex 5 = .ok (.iload_n 1, 1) := dk_27 (dk_at dksJ6_checkIndex_0 5 rfl rfl)
theorem dJ6_checkIndex_6 : decode cJ6_checkIndex 6 = .ok (.if_icmp .lt 10, 3) := dk_161 0 10 (dk_at dksJ6_checkIndex_0 6 rfl rfl)
theorem dJ6_checkIndex_9 : decode cJ6_checkIndex 9 = .ok (.aload_n 2, 1) := dk_44 (dk_at dksJ6_checkIndex_0 9 rfl rfl)
theorem dJ6_checkIndex_10 : decode cJ6_checkIndex 10 = .ok (.iload_n 0, 1) := dk_26 (dk_at dksJ6_checkIndex_0 10 rfl rfl)
theorem dJ6_checkIndex_11 : decode cJ6_checkIndex 11 = .ok (.iload_n 1, 1) := dk_27 (dk_at dksJ6_checkIndex_0 11 rfl rfl)
theorem dJ6_checkIndex_12 : decode cJ6_checkIndex 12 = .ok (.invokestatic 95, 3) := dk_184 0 95 (dk_at dksJ6_checkIndex_0 12 rfl rfl)
theorem dJ6_checkIndex_15 : decode cJ6_checkIndex 15 = .ok (.athrow, 1) := dk_191 (dk_at dksJ6_checkIndex_0 15 rfl rfl)
theorem dJ6_checkIndex_16 : decode cJ6_checkIndex 16 = .ok (.iload_n 0, 1) := dk_26 (dk_at dksJ6_checkIndex_0 16 rfl rfl)
theorem dJ6_checkIndex_17 : decode cJ6_checkIndex 17 = .ok (.ireturn, 1) := dk_172 (dk_at dksJ6_checkIndex_0 17 rfl rfl)
theorem q129 : (Jvm.Cond.initialized "jdk/internal/util/Preconditions") ∈ lw_all := lw_g (lw_at lw_m1 12 rfl) rfl
theorem q372 : (Jvm.Cond.static ({ cls := "jdk/internal/util/Preconditions", name := "checkIndex", desc := "(IILjava/util/function/BiFunction;)I" } : Jvm.MethodName)) ∈ lw_all := lw_g (lw_at lw_m2 15 rfl) rfl
theorem q373 : (Jvm.Cond.code ({ cls := "jdk/internal/util/Preconditions", name := "checkIndex", desc := "(IILjava/util/function/BiFunction;)I" } : Jvm.MethodName) prog_45_method_11_code (3 : Nat) (Option.some Jvm.ClassFile.FieldType.int)) ∈ lw_all := lw_g (lw_at lw_m2 16 rfl) rfl
theorem q571 : (Jvm.Cond.laysStatic "jdk/internal/util/Preconditions" "SIOOBE_FORMATTER" "Ljava/util/function/BiFunction;") ∈ lw_tbl := lw_at lw_m2 214 rfl

/-! java/lang/String -/
set_option maxRecDepth 100000
def RJ7 : String := "java/lang/String"
abbrev cJ7_length : ByteArray := prog_26_method_54_code
def yJ7_length : MethodName := ⟨RJ7, "length", "()I"⟩
def dkwJ7_length_0 : List UInt8 := [42, 180, 0, 9, 190, 42, 182, 1, 79, 122, 172]
abbrev dktJ7_length_0 : List UInt8 := dkwJ7_length_0 ++ []
theorem dksJ7_length_0 : cJ7_length.data.toList.drop 0 = dktJ7_length_0 := by decide +kernel
theorem dJ7_length_0 : decode cJ7_length 0 = .ok (.aload_n 0, 1) := dk_42 (dk_at dksJ7_length_0 0 rfl rfl)
theorem dJ7_length_1 : decode cJ7_length 1 = .ok (.getfield 9, 3) := dk_180 0 9 (dk_at dksJ7_length_0 1 rfl rfl)
theorem dJ7_length_4 : decode cJ7_length 4 = .ok (.arraylength, 1) := dk_190 (dk_at dksJ7_length_0 4 rfl rfl)
theorem dJ7_length_5 : decode cJ7_length 5 = .ok (.aload_n 0, 1) := dk_42 (dk_at dksJ7_length_0 5 rfl rfl)
theorem dJ7_length_6 : decode cJ7_length 6 = .ok (.invokevirtual 335, 3) := dk_182 1 79 (dk_at dksJ7_length_0 6 rfl rfl)
theorem dJ7_length_9 : decode cJ7_length 9 = .ok (.ishr, 1) := dk_122 (dk_at dksJ7_length_0 9 rfl rfl)
theorem dJ7_length_10 : decode cJ7_length 10 = .ok (.ireturn, 1) := dk_172 (dk_at dksJ7_length_0 10 rfl rfl)
abbrev cJ7_coder : ByteArray := prog_26_method_152_code
def yJ7_coder : MethodName := ⟨RJ7, "coder", "()B"⟩
def dkwJ7_coder_0 : List UInt8 := [178, 0, 38, 153, 0, 10, 42, 180, 0, 15, 167, 0, 4, 4, 172]
abbrev dktJ7_coder_0 : List UInt8 := dkwJ7_coder_0 ++ []
theorem dksJ7_coder_0 : cJ7_coder.data.toList.drop 0 = dktJ7_coder_0 := by decide +kernel
theorem dJ7_coder_0 : decode cJ7_coder 0 = .ok (.getstatic 38, 3) := dk_178 0 38 (dk_at dksJ7_coder_0 0 rfl rfl)
theorem dJ7_coder_3 : decode cJ7_coder 3 = .ok (.ifCond .eq 10, 3) := dk_153 0 10 (dk_at dksJ7_coder_0 3 rfl rfl)
theorem dJ7_coder_6 : decode cJ7_coder 6 = .ok (.aload_n 0, 1) := dk_42 (dk_at dksJ7_coder_0 6 rfl rfl)
theorem dJ7_coder_7 : decode cJ7_coder 7 = .ok (.getfield 15, 3) := dk_180 0 15 (dk_at dksJ7_coder_0 7 rfl rfl)
theorem dJ7_coder_10 : decode cJ7_coder 10 = .ok (.goto 4, 3) := dk_167 0 4 (dk_at dksJ7_coder_0 10 rfl rfl)
theorem dJ7_coder_13 : decode cJ7_coder 13 = .ok (.iconst 1, 1) := dk_4 (dk_at dksJ7_coder_0 13 rfl rfl)
theorem dJ7_coder_14 : decode cJ7_coder 14 = .ok (.ireturn, 1) := dk_172 (dk_at dksJ7_coder_0 14 rfl rfl)
abbrev cJ7_charAt : ByteArray := prog_26_method_56_code
def yJ7_charAt : MethodName := ⟨RJ7, "charAt", "(I)C"⟩
def dkwJ7_charAt_1 : List UInt8 := [172]
abbrev dktJ7_charAt_1 : List UInt8 := dkwJ7_charAt_1 ++ []
def dkwJ7_charAt_0 : List UInt8 := [42, 182, 1, 236, 153, 0, 12, 42, 180, 0, 9, 27, 184, 1, 239, 172, 42, 180, 0, 9, 27, 184, 1, 242]
abbrev dktJ7_charAt_0 : List UInt8 := dkwJ7_charAt_0 ++ dktJ7_charAt_1
theorem dksJ7_charAt_0 : cJ7_charAt.data.toList.drop 0 = dktJ7_charAt_0 := by decide +kernel
theorem dksJ7_charAt_1 : cJ7_charAt.data.toList.drop 24 = dktJ7_charAt_1 := dk_seg dksJ7_charAt_0 24 rfl rfl
theorem dJ7_charAt_0 : decode cJ7_charAt 0 = .ok (.aload_n 0, 1) := dk_42 (dk_at dksJ7_charAt_0 0 rfl rfl)
theorem dJ7_charAt_1 : decode cJ7_charAt 1 = .ok (.invokevirtual 492, 3) := dk_182 1 236 (dk_at dksJ7_charAt_0 1 rfl rfl)
theorem dJ7_charAt_4 : decode cJ7_charAt 4 = .ok (.ifCond .eq 12, 3) := dk_153 0 12 (dk_at dksJ7_charAt_0 4 rfl rfl)
theorem dJ7_charAt_7 : decode cJ7_charAt 7 = .ok (.aload_n 0, 1) := dk_42 (dk_at dksJ7_charAt_0 7 rfl rfl)
theorem dJ7_charAt_8 : decode cJ7_charAt 8 = .ok (.getfield 9, 3) := dk_180 0 9 (dk_at dksJ7_charAt_0 8 rfl rfl)
theorem dJ7_charAt_11 : decode cJ7_charAt 11 = .ok (.iload_n 1, 1) := dk_27 (dk_at dksJ7_charAt_0 11 rfl rfl)
theorem dJ7_charAt_12 : decode cJ7_charAt 12 = .ok (.invokestatic 495, 3) := dk_184 1 239 (dk_at dksJ7_charAt_0 12 rfl rfl)
theorem dJ7_charAt_15 : decode cJ7_charAt 15 = .ok (.ireturn, 1) := dk_172 (dk_at dksJ7_charAt_0 15 rfl rfl)
theorem dJ7_charAt_16 : decode cJ7_charAt 16 = .ok (.aload_n 0, 1) := dk_42 (dk_at dksJ7_charAt_0 16 rfl rfl)
theorem dJ7_charAt_17 : decode cJ7_charAt 17 = .ok (.getfield 9, 3) := dk_180 0 9 (dk_at dksJ7_charAt_0 17 rfl rfl)
theorem dJ7_charAt_20 : decode cJ7_charAt 20 = .ok (.iload_n 1, 1) := dk_27 (dk_at dksJ7_charAt_0 20 rfl rfl)
theorem dJ7_charAt_21 : decode cJ7_charAt 21 = .ok (.invokestatic 498, 3) := dk_184 1 242 (dk_at dksJ7_charAt_0 21 rfl rfl)
theorem dJ7_charAt_24 : decode cJ7_charAt 24 = .ok (.ireturn, 1) := dk_172 (dk_at dksJ7_charAt_1 0 rfl rfl)
abbrev cJ7_isLatin1 : ByteArray := prog_26_method_154_code
def yJ7_isLatin1 : MethodName := ⟨RJ7, "isLatin1", "()Z"⟩
def dkwJ7_isLatin1_0 : List UInt8 := [178, 0, 38, 153, 0, 14, 42, 180, 0, 15, 154, 0, 7, 4, 167, 0, 4, 3, 172]
abbrev dktJ7_isLatin1_0 : List UInt8 := dkwJ7_isLatin1_0 ++ []
theorem dksJ7_isLatin1_0 : cJ7_isLatin1.data.toList.drop 0 = dktJ7_isLatin1_0 := by decide +kernel
theorem dJ7_isLatin1_0 : decode cJ7_isLatin1 0 = .ok (.getstatic 38, 3) := dk_178 0 38 (dk_at dksJ7_isLatin1_0 0 rfl rfl)
theorem dJ7_isLatin1_3 : decode cJ7_isLatin1 3 = .ok (.ifCond .eq 14, 3) := dk_153 0 14 (dk_at dksJ7_isLatin1_0 3 rfl rfl)
theorem dJ7_isLatin1_6 : decode cJ7_isLatin1 6 = .ok (.aload_n 0, 1) := dk_42 (dk_at dksJ7_isLatin1_0 6 rfl rfl)
theorem dJ7_isLatin1_7 : decode cJ7_isLatin1 7 = .ok (.getfield 15, 3) := dk_180 0 15 (dk_at dksJ7_isLatin1_0 7 rfl rfl)
theorem dJ7_isLatin1_10 : decode cJ7_isLatin1 10 = .ok (.ifCond .ne 7, 3) := dk_154 0 7 (dk_at dksJ7_isLatin1_0 10 rfl rfl)
theorem dJ7_isLatin1_13 : decode cJ7_isLatin1 13 = .ok (.iconst 1, 1) := dk_4 (dk_at dksJ7_isLatin1_0 13 rfl rfl)
theorem dJ7_isLatin1_14 : decode cJ7_isLatin1 14 = .ok (.goto 4, 3) := dk_167 0 4 (dk_at dksJ7_isLatin1_0 14 rfl rfl)
theorem dJ7_isLatin1_17 : decode cJ7_isLatin1 17 = .ok (.iconst 0, 1) := dk_3 (dk_at dksJ7_isLatin1_0 17 rfl rfl)
theorem dJ7_isLatin1_18 : decode cJ7_isLatin1 18 = .ok (.ireturn, 1) := dk_172 (dk_at dksJ7_isLatin1_0 18 rfl rfl)
abbrev cJ7_checkIndex : ByteArray := prog_26_method_155_code
def yJ7_checkIndex : MethodName := ⟨RJ7, "checkIndex", "(II)V"⟩
def dkwJ7_checkIndex_0 : List UInt8 := [26, 27, 178, 4, 29, 184, 4, 35, 87, 177]
abbrev dktJ7_checkIndex_0 : List UInt8 := dkwJ7_checkIndex_0 ++ []
theorem dksJ7_checkIndex_0 : cJ7_checkIndex.data.toList.drop 0 = dktJ7_checkIndex_0 := by decide +kernel
theorem dJ7_checkIndex_0 : decode cJ7_checkIndex 0 = .ok (.iload_n 0, 1) := dk_26 (dk_at dksJ7_checkIndex_0 0 rfl rfl)
theorem dJ7_checkIndex_1 : decode cJ7_checkIndex 1 = .ok (.iload_n 1, 1) := dk_27 (dk_at dksJ7_checkIndex_0 1 rfl rfl)
theorem dJ7_checkIndex_2 : decode cJ7_checkIndex 2 = .ok (.getstatic 1053, 3) := dk_178 4 29 (dk_at dksJ7_checkIndex_0 2 rfl rfl)
theorem dJ7_checkIndex_5 : decode cJ7_checkIndex 5 = .ok (.invokestatic 1059, 3) := dk_184 4 35 (dk_at dksJ7_checkIndex_0 5 rfl rfl)
theorem dJ7_checkIndex_8 : decode cJ7_checkIndex 8 = .ok (.pop, 1) := dk_87 (dk_at dksJ7_checkIndex_0 8 rfl rfl)
theorem dJ7_checkIndex_9 : decode cJ7_checkIndex 9 = .ok (.return_, 1) := dk_177 (dk_at dksJ7_checkIndex_0 9 rfl rfl)
theorem q132 : (Jvm.Cond.initialized "java/lang/String") ∈ lw_all := lw_g (lw_at lw_m1 15 rfl) rfl
theorem q547 : (Jvm.Cond.instanceMethod ({ cls := "java/lang/String", name := "length", desc := "()I" } : Jvm.MethodName)) ∈ lw_all := lw_g (lw_at lw_m2 190 rfl) rfl
theorem q548 : (Jvm.Cond.selects "java/lang/String" ({ cls := "java/lang/String", name := "length", desc := "()I" } : Jvm.MethodName) ({ cls := "java/lang/String", name := "length", desc := "()I" } : Jvm.MethodName)) ∈ lw_all := lw_g (lw_at lw_m2 191 rfl) rfl
theorem q549 : (Jvm.Cond.code ({ cls := "java/lang/String", name := "length", desc := "()I" } : Jvm.MethodName) prog_26_method_54_code (1 : Nat) (Option.some Jvm.ClassFile.FieldType.int)) ∈ lw_all := lw_g (lw_at lw_m2 192 rfl) rfl
theorem q550 : (Jvm.Cond.methodLink "java/lang/String" (335 : Nat) ({ cls := "java/lang/String", name := "coder", desc := "()B" } : Jvm.MethodName)) ∈ lw_all := lw_g (lw_at lw_m2 193 rfl) rfl
theorem q551 : (Jvm.Cond.instanceMethod ({ cls := "java/lang/String", name := "coder", desc := "()B" } : Jvm.MethodName)) ∈ lw_all := lw_g (lw_at lw_m2 194 rfl) rfl
theorem q552 : (Jvm.Cond.selects "java/lang/String" ({ cls := "java/lang/String", name := "coder", desc := "()B" } : Jvm.MethodName) ({ cls := "java/lang/String", name := "coder", desc := "()B" } : Jvm.MethodName)) ∈ lw_all := lw_g (lw_at lw_m2 195 rfl) rfl
theorem q553 : (Jvm.Cond.code ({ cls := "java/lang/String", name := "coder", desc := "()B" } : Jvm.MethodName) prog_26_method_152_code (1 : Nat) (Option.some Jvm.ClassFile.FieldType.byte)) ∈ lw_all := lw_g (lw_at lw_m2 196 rfl) rfl
theorem q554 : (Jvm.Cond.fieldLink "java/lang/String" (38 : Nat) "java/lang/String" "COMPACT_STRINGS" "Z") ∈ lw_all := lw_g (lw_at lw_m2 197 rfl) rfl
theorem q555 : (Jvm.Cond.laysStatic "java/lang/String" "COMPACT_STRINGS" "Z") ∈ lw_tbl := lw_at lw_m2 198 rfl
theorem q557 : (Jvm.Cond.instanceMethod ({ cls := "java/lang/String", name := "charAt", desc := "(I)C" } : Jvm.MethodName)) ∈ lw_all := lw_g (lw_at lw_m2 200 rfl) rfl
theorem q558 : (Jvm.Cond.selects "java/lang/String" ({ cls := "java/lang/String", name := "charAt", desc := "(I)C" } : Jvm.MethodName) ({ cls := "java/lang/String", name := "charAt", desc := "(I)C" } : Jvm.MethodName)) ∈ lw_all := lw_g (lw_at lw_m2 201 rfl) rfl
theorem q559 : (Jvm.Cond.code ({ cls := "java/lang/String", name := "charAt", desc := "(I)C" } : Jvm.MethodName) prog_26_method_56_code (2 : Nat) (Option.some Jvm.ClassFile.FieldType.char)) ∈ lw_all := lw_g (lw_at lw_m2 202 rfl) rfl
theorem q560 : (Jvm.Cond.methodLink "java/lang/String" (492 : Nat) ({ cls := "java/lang/String", name := "isLatin1", desc := "()Z" } : Jvm.MethodName)) ∈ lw_all := lw_g (lw_at lw_m2 203 rfl) rfl
theorem q561 : (Jvm.Cond.instanceMethod ({ cls := "java/lang/String", name := "isLatin1", desc := "()Z" } : Jvm.MethodName)) ∈ lw_all := lw_g (lw_at lw_m2 204 rfl) rfl
theorem q562 : (Jvm.Cond.selects "java/lang/String" ({ cls := "java/lang/String", name := "isLatin1", desc := "()Z" } : Jvm.MethodName) ({ cls := "java/lang/String", name := "isLatin1", desc := "()Z" } : Jvm.MethodName)) ∈ lw_all := lw_g (lw_at lw_m2 205 rfl) rfl
theorem q563 : (Jvm.Cond.code ({ cls := "java/lang/String", name := "isLatin1", desc := "()Z" } : Jvm.MethodName) prog_26_method_154_code (1 : Nat) (Option.some Jvm.ClassFile.FieldType.boolean)) ∈ lw_all := lw_g (lw_at lw_m2 206 rfl) rfl
theorem q564 : (Jvm.Cond.methodLink "java/lang/String" (495 : Nat) ({ cls := "java/lang/StringLatin1", name := "charAt", desc := "([BI)C" } : Jvm.MethodName)) ∈ lw_all := lw_g (lw_at lw_m2 207 rfl) rfl
theorem q568 : (Jvm.Cond.static ({ cls := "java/lang/String", name := "checkIndex", desc := "(II)V" } : Jvm.MethodName)) ∈ lw_all := lw_g (lw_at lw_m2 211 rfl) rfl
theorem q569 : (Jvm.Cond.code ({ cls := "java/lang/String", name := "checkIndex", desc := "(II)V" } : Jvm.MethodName) prog_26_method_155_code (2 : Nat) (Option.none : Option Jvm.ClassFile.FieldType)) ∈ lw_all := lw_g (lw_at lw_m2 212 rfl) rfl
theorem q570 : (Jvm.Cond.fieldLink "java/lang/String" (1053 : Nat) "jdk/internal/util/Preconditions" "SIOOBE_FORMATTER" "Ljava/util/function/BiFunction;") ∈ lw_all := lw_g (lw_at lw_m2 213 rfl) rfl
theorem q572 : (Jvm.Cond.methodLink "java/lang/String" (1059 : Nat) ({ cls := "jdk/internal/util/Preconditions", name := "checkIndex", desc := "(IILjava/util/function/BiFunction;)I" } : Jvm.MethodName)) ∈ lw_all := lw_g (lw_at lw_m2 215 rfl) rfl
theorem q573 : (Jvm.Cond.methodLink "java/lang/String" (498 : Nat) ({ cls := "java/lang/StringUTF16", name := "charAt", desc := "([BI)C" } : Jvm.MethodName)) ∈ lw_all := lw_g (lw_at lw_m2 216 rfl) rfl
theorem q2054 : (Jvm.Cond.castable "java/lang/String" "java/lang/Object") ∈ lw_tbl := lw_at lw_m9 17 rfl
theorem q2081 : (Jvm.Cond.fieldLink "java/lang/String" (9 : Nat) "java/lang/String" "value" "[B") ∈ lw_all := lw_g (lw_at lw_m9 44 rfl) rfl
theorem q2082 : (Jvm.Cond.fieldLink "java/lang/String" (15 : Nat) "java/lang/String" "coder" "B") ∈ lw_all := lw_g (lw_at lw_m9 45 rfl) rfl

/-! java/lang/StringLatin1 -/
set_option maxRecDepth 100000
def RJ8 : String := "java/lang/StringLatin1"
abbrev cJ8_charAt : ByteArray := prog_27_method_2_code
def yJ8_charAt : MethodName := ⟨RJ8, "charAt", "([BI)C"⟩
def dkwJ8_charAt_0 : List UInt8 := [27, 42, 190, 184, 0, 9, 42, 27, 51, 17, 0, 255, 126, 146, 172]
abbrev dktJ8_charAt_0 : List UInt8 := dkwJ8_charAt_0 ++ []
theorem dksJ8_charAt_0 : cJ8_charAt.data.toList.drop 0 = dktJ8_charAt_0 := by decide +kernel
theorem dJ8_charAt_0 : decode cJ8_charAt 0 = .ok (.iload_n 1, 1) := dk_27 (dk_at dksJ8_charAt_0 0 rfl rfl)
theorem dJ8_charAt_1 : decode cJ8_charAt 1 = .ok (.aload_n 0, 1) := dk_42 (dk_at dksJ8_charAt_0 1 rfl rfl)
theorem dJ8_charAt_2 : decode cJ8_charAt 2 = .ok (.arraylength, 1) := dk_190 (dk_at dksJ8_charAt_0 2 rfl rfl)
theorem dJ8_charAt_3 : decode cJ8_charAt 3 = .ok (.invokestatic 9, 3) := dk_184 0 9 (dk_at dksJ8_charAt_0 3 rfl rfl)
theorem dJ8_charAt_6 : decode cJ8_charAt 6 = .ok (.aload_n 0, 1) := dk_42 (dk_at dksJ8_charAt_0 6 rfl rfl)
theorem dJ8_charAt_7 : decode cJ8_charAt 7 = .ok (.iload_n 1, 1) := dk_27 (dk_at dksJ8_charAt_0 7 rfl rfl)
theorem dJ8_charAt_8 : decode cJ8_charAt 8 = .ok (.baload, 1) := dk_51 (dk_at dksJ8_charAt_0 8 rfl rfl)
theorem dJ8_charAt_9 : decode cJ8_charAt 9 = .ok (.sipush 255, 3) := dk_17 0 255 (dk_at dksJ8_charAt_0 9 rfl rfl)
theorem dJ8_charAt_12 : decode cJ8_charAt 12 = .ok (.iand, 1) := dk_126 (dk_at dksJ8_charAt_0 12 rfl rfl)
theorem dJ8_charAt_13 : decode cJ8_charAt 13 = .ok (.i2c, 1) := dk_146 (dk_at dksJ8_charAt_0 13 rfl rfl)
theorem dJ8_charAt_14 : decode cJ8_charAt 14 = .ok (.ireturn, 1) := dk_172 (dk_at dksJ8_charAt_0 14 rfl rfl)
theorem q133 : (Jvm.Cond.initialized "java/lang/StringLatin1") ∈ lw_all := lw_g (lw_at lw_m1 16 rfl) rfl
theorem q565 : (Jvm.Cond.static ({ cls := "java/lang/StringLatin1", name := "charAt", desc := "([BI)C" } : Jvm.MethodName)) ∈ lw_all := lw_g (lw_at lw_m2 208 rfl) rfl
theorem q566 : (Jvm.Cond.code ({ cls := "java/lang/StringLatin1", name := "charAt", desc := "([BI)C" } : Jvm.MethodName) prog_27_method_2_code (2 : Nat) (Option.some Jvm.ClassFile.FieldType.char)) ∈ lw_all := lw_g (lw_at lw_m2 209 rfl) rfl
theorem q567 : (Jvm.Cond.methodLink "java/lang/StringLatin1" (9 : Nat) ({ cls := "java/lang/String", name := "checkIndex", desc := "(II)V" } : Jvm.MethodName)) ∈ lw_all := lw_g (lw_at lw_m2 210 rfl) rfl

/-! java/lang/StringUTF16 -/
set_option maxRecDepth 100000
def RJ9 : String := "java/lang/StringUTF16"
abbrev cJ9_charAt : ByteArray := prog_28_method_83_code
def yJ9_charAt : MethodName := ⟨RJ9, "charAt", "([BI)C"⟩
def dkwJ9_charAt_0 : List UInt8 := [27, 42, 184, 0, 67, 42, 27, 184, 0, 71, 172]
abbrev dktJ9_charAt_0 : List UInt8 := dkwJ9_charAt_0 ++ []
theorem dksJ9_charAt_0 : cJ9_charAt.data.toList.drop 0 = dktJ9_charAt_0 := by decide +kernel
theorem dJ9_charAt_0 : decode cJ9_charAt 0 = .ok (.iload_n 1, 1) := dk_27 (dk_at dksJ9_charAt_0 0 rfl rfl)
theorem dJ9_charAt_1 : decode cJ9_charAt 1 = .ok (.aload_n 0, 1) := dk_42 (dk_at dksJ9_charAt_0 1 rfl rfl)
theorem dJ9_charAt_2 : decode cJ9_charAt 2 = .ok (.invokestatic 67, 3) := dk_184 0 67 (dk_at dksJ9_charAt_0 2 rfl rfl)
theorem dJ9_charAt_5 : decode cJ9_charAt 5 = .ok (.aload_n 0, 1) := dk_42 (dk_at dksJ9_charAt_0 5 rfl rfl)
theorem dJ9_charAt_6 : decode cJ9_charAt 6 = .ok (.iload_n 1, 1) := dk_27 (dk_at dksJ9_charAt_0 6 rfl rfl)
theorem dJ9_charAt_7 : decode cJ9_charAt 7 = .ok (.invokestatic 71, 3) := dk_184 0 71 (dk_at dksJ9_charAt_0 7 rfl rfl)
theorem dJ9_charAt_10 : decode cJ9_charAt 10 = .ok (.ireturn, 1) := dk_172 (dk_at dksJ9_charAt_0 10 rfl rfl)
abbrev cJ9_checkIndex : ByteArray := prog_28_method_91_code
def yJ9_checkIndex : MethodName := ⟨RJ9, "checkIndex", "(I[B)V"⟩
def dkwJ9_checkIndex_0 : List UInt8 := [26, 43, 184, 0, 48, 184, 1, 158, 177]
abbrev dktJ9_checkIndex_0 : List UInt8 := dkwJ9_checkIndex_0 ++ []
theorem dksJ9_checkIndex_0 : cJ9_checkIndex.data.toList.drop 0 = dktJ9_checkIndex_0 := by decide +kernel
theorem dJ9_checkIndex_0 : decode cJ9_checkIndex 0 = .ok (.iload_n 0, 1) := dk_26 (dk_at dksJ9_checkIndex_0 0 rfl rfl)
theorem dJ9_checkIndex_1 : decode cJ9_checkIndex 1 = .ok (.aload_n 1, 1) := dk_43 (dk_at dksJ9_checkIndex_0 1 rfl rfl)
theorem dJ9_checkIndex_2 : decode cJ9_checkIndex 2 = .ok (.invokestatic 48, 3) := dk_184 0 48 (dk_at dksJ9_checkIndex_0 2 rfl rfl)
theorem dJ9_checkIndex_5 : decode cJ9_checkIndex 5 = .ok (.invokestatic 414, 3) := dk_184 1 158 (dk_at dksJ9_checkIndex_0 5 rfl rfl)
theorem dJ9_checkIndex_8 : decode cJ9_checkIndex 8 = .ok (.return_, 1) := dk_177 (dk_at dksJ9_checkIndex_0 8 rfl rfl)
abbrev cJ9_length : ByteArray := prog_28_method_6_code
def yJ9_length : MethodName := ⟨RJ9, "length", "([B)I"⟩
def dkwJ9_length_0 : List UInt8 := [42, 190, 4, 122, 172]
abbrev dktJ9_length_0 : List UInt8 := dkwJ9_length_0 ++ []
theorem dksJ9_length_0 : cJ9_length.data.toList.drop 0 = dktJ9_length_0 := by decide +kernel
theorem dJ9_length_0 : decode cJ9_length 0 = .ok (.aload_n 0, 1) := dk_42 (dk_at dksJ9_length_0 0 rfl rfl)
theorem dJ9_length_1 : decode cJ9_length 1 = .ok (.arraylength, 1) := dk_190 (dk_at dksJ9_length_0 1 rfl rfl)
theorem dJ9_length_2 : decode cJ9_length 2 = .ok (.iconst 1, 1) := dk_4 (dk_at dksJ9_length_0 2 rfl rfl)
theorem dJ9_length_3 : decode cJ9_length 3 = .ok (.ishr, 1) := dk_122 (dk_at dksJ9_length_0 3 rfl rfl)
theorem dJ9_length_4 : decode cJ9_length 4 = .ok (.ireturn, 1) := dk_172 (dk_at dksJ9_length_0 4 rfl rfl)
abbrev cJ9_getChar : ByteArray := prog_28_method_5_code
def yJ9_getChar : MethodName := ⟨RJ9, "getChar", "([BI)C"⟩
def dkwJ9_getChar_2 : List UInt8 := [51, 17, 0, 255, 126, 178, 0, 63, 120, 128, 146, 172]
abbrev dktJ9_getChar_2 : List UInt8 := dkwJ9_getChar_2 ++ []
def dkwJ9_getChar_1 : List UInt8 := [183, 0, 56, 191, 27, 4, 120, 60, 42, 27, 132, 1, 1, 51, 17, 0, 255, 126, 178, 0, 59, 120, 42, 27]
abbrev dktJ9_getChar_1 : List UInt8 := dkwJ9_getChar_1 ++ dktJ9_getChar_2
def dkwJ9_getChar_0 : List UInt8 := [178, 0, 44, 154, 0, 25, 27, 155, 0, 11, 27, 42, 184, 0, 48, 161, 0, 13, 187, 0, 52, 89, 18, 54]
abbrev dktJ9_getChar_0 : List UInt8 := dkwJ9_getChar_0 ++ dktJ9_getChar_1
theorem dksJ9_getChar_0 : cJ9_getChar.data.toList.drop 0 = dktJ9_getChar_0 := by decide +kernel
theorem dksJ9_getChar_1 : cJ9_getChar.data.toList.drop 24 = dktJ9_getChar_1 := dk_seg dksJ9_getChar_0 24 rfl rfl
theorem dksJ9_getChar_2 : cJ9_getChar.data.toList.drop 48 = dktJ9_getChar_2 := dk_seg dksJ9_getChar_1 24 rfl rfl
theorem dJ9_getChar_0 : decode cJ9_getChar 0 = .ok (.getstatic 44, 3) := dk_178 0 44 (dk_at dksJ9_getChar_0 0 rfl rfl)
theorem dJ9_getChar_3 : decode cJ9_getChar 3 = .ok (.ifCond .ne 25, 3) := dk_154 0 25 (dk_at dksJ9_getChar_0 3 rfl rfl)
theorem dJ9_getChar_6 : decode cJ9_getChar 6 = .ok (.iload_n 1, 1) := dk_27 (dk_at dksJ9_getChar_0 6 rfl rfl)
theorem dJ9_getChar_7 : decode cJ9_getChar 7 = .ok (.ifCond .lt 11, 3) := dk_155 0 11 (dk_at dksJ9_getChar_0 7 rfl rfl)
theorem dJ9_getChar_10 : decode cJ9_getChar 10 = .ok (.iload_n 1, 1) := dk_27 (dk_at dksJ9_getChar_0 10 rfl rfl)
theorem dJ9_getChar_11 : decode cJ9_getChar 11 = .ok (.aload_n 0, 1) := dk_42 (dk_at dksJ9_getChar_0 11 rfl rfl)
theorem dJ9_getChar_12 : decode cJ9_getChar 12 = .ok (.invokestatic 48, 3) := dk_184 0 48 (dk_at dksJ9_getChar_0 12 rfl rfl)
theorem dJ9_getChar_15 : decode cJ9_getChar 15 = .ok (.if_icmp .lt 13, 3) := dk_161 0 13 (dk_at dksJ9_getChar_0 15 rfl rfl)
theorem dJ9_getChar_18 : decode cJ9_getChar 18 = .ok (.new 52, 3) := dk_187 0 52 (dk_at dksJ9_getChar_0 18 rfl rfl)
theorem dJ9_getChar_21 : decode cJ9_getChar 21 = .ok (.dup, 1) := dk_89 (dk_at dksJ9_getChar_0 21 rfl rfl)
theorem dJ9_getChar_22 : decode cJ9_getChar 22 = .ok (.ldc 54, 2) := dk_18 54 (dk_at dksJ9_getChar_0 22 rfl rfl)
theorem dJ9_getChar_24 : decode cJ9_getChar 24 = .ok (.invokespecial 56, 3) := dk_183 0 56 (dk_at dksJ9_getChar_1 0 rfl rfl)
theorem dJ9_getChar_27 : decode cJ9_getChar 27 = .ok (.athrow, 1) := dk_191 (dk_at dksJ9_getChar_1 3 rfl rfl)
theorem dJ9_getChar_28 : decode cJ9_getChar 28 = .ok (.iload_n 1, 1) := dk_27 (dk_at dksJ9_getChar_1 4 rfl rfl)
theorem dJ9_getChar_29 : decode cJ9_getChar 29 = .ok (.iconst 1, 1) := dk_4 (dk_at dksJ9_getChar_1 5 rfl rfl)
theorem dJ9_getChar_30 : decode cJ9_getChar 30 = .ok (.ishl, 1) := dk_120 (dk_at dksJ9_getChar_1 6 rfl rfl)
theorem dJ9_getChar_31 : decode cJ9_getChar 31 = .ok (.istore_n 1, 1) := dk_60 (dk_at dksJ9_getChar_1 7 rfl rfl)
theorem dJ9_getChar_32 : decode cJ9_getChar 32 = .ok (.aload_n 0, 1) := dk_42 (dk_at dksJ9_getChar_1 8 rfl rfl)
theorem dJ9_getChar_33 : decode cJ9_getChar 33 = .ok (.iload_n 1, 1) := dk_27 (dk_at dksJ9_getChar_1 9 rfl rfl)
theorem dJ9_getChar_34 : decode cJ9_getChar 34 = .ok (.iinc 1 1, 3) := dk_132 1 1 (dk_at dksJ9_getChar_1 10 rfl rfl)
theorem dJ9_getChar_37 : decode cJ9_getChar 37 = .ok (.baload, 1) := dk_51 (dk_at dksJ9_getChar_1 13 rfl rfl)
theorem dJ9_getChar_38 : decode cJ9_getChar 38 = .ok (.sipush 255, 3) := dk_17 0 255 (dk_at dksJ9_getChar_1 14 rfl rfl)
theorem dJ9_getChar_41 : decode cJ9_getChar 41 = .ok (.iand, 1) := dk_126 (dk_at dksJ9_getChar_1 17 rfl rfl)
theorem dJ9_getChar_42 : decode cJ9_getChar 42 = .ok (.getstatic 59, 3) := dk_178 0 59 (dk_at dksJ9_getChar_1 18 rfl rfl)
theorem dJ9_getChar_45 : decode cJ9_getChar 45 = .ok (.ishl, 1) := dk_120 (dk_at dksJ9_getChar_1 21 rfl rfl)
theorem dJ9_getChar_46 : decode cJ9_getChar 46 = .ok (.aload_n 0, 1) := dk_42 (dk_at dksJ9_getChar_1 22 rfl rfl)
theorem dJ9_getChar_47 : decode cJ9_getChar 47 = .ok (.iload_n 1, 1) := dk_27 (dk_at dksJ9_getChar_1 23 rfl rfl)
theorem dJ9_getChar_48 : decode cJ9_getChar 48 = .ok (.baload, 1) := dk_51 (dk_at dksJ9_getChar_2 0 rfl rfl)
theorem dJ9_getChar_49 : decode cJ9_getChar 49 = .ok (.sipush 255, 3) := dk_17 0 255 (dk_at dksJ9_getChar_2 1 rfl rfl)
theorem dJ9_getChar_52 : decode cJ9_getChar 52 = .ok (.iand, 1) := dk_126 (dk_at dksJ9_getChar_2 4 rfl rfl)
theorem dJ9_getChar_53 : decode cJ9_getChar 53 = .ok (.getstatic 63, 3) := dk_178 0 63 (dk_at dksJ9_getChar_2 5 rfl rfl)
theorem dJ9_getChar_56 : decode cJ9_getChar 56 = .ok (.ishl, 1) := dk_120 (dk_at dksJ9_getChar_2 8 rfl rfl)
theorem dJ9_getChar_57 : decode cJ9_getChar 57 = .ok (.ior, 1) := dk_128 (dk_at dksJ9_getChar_2 9 rfl rfl)
theorem dJ9_getChar_58 : decode cJ9_getChar 58 = .ok (.i2c, 1) := dk_146 (dk_at dksJ9_getChar_2 10 rfl rfl)
theorem dJ9_getChar_59 : decode cJ9_getChar 59 = .ok (.ireturn, 1) := dk_172 (dk_at dksJ9_getChar_2 11 rfl rfl)
theorem q134 : (Jvm.Cond.initialized "java/lang/StringUTF16") ∈ lw_all := lw_g (lw_at lw_m1 17 rfl) rfl
theorem q574 : (Jvm.Cond.static ({ cls := "java/lang/StringUTF16", name := "charAt", desc := "([BI)C" } : Jvm.MethodName)) ∈ lw_all := lw_g (lw_at lw_m2 217 rfl) rfl
theorem q575 : (Jvm.Cond.code ({ cls := "java/lang/StringUTF16", name := "charAt", desc := "([BI)C" } : Jvm.MethodName) prog_28_method_83_code (2 : Nat) (Option.some Jvm.ClassFile.FieldType.char)) ∈ lw_all := lw_g (lw_at lw_m2 218 rfl) rfl
theorem q576 : (Jvm.Cond.methodLink "java/lang/StringUTF16" (67 : Nat) ({ cls := "java/lang/StringUTF16", name := "checkIndex", desc := "(I[B)V" } : Jvm.MethodName)) ∈ lw_all := lw_g (lw_at lw_m2 219 rfl) rfl
theorem q577 : (Jvm.Cond.static ({ cls := "java/lang/StringUTF16", name := "checkIndex", desc := "(I[B)V" } : Jvm.MethodName)) ∈ lw_all := lw_g (lw_at lw_m2 220 rfl) rfl
theorem q578 : (Jvm.Cond.code ({ cls := "java/lang/StringUTF16", name := "checkIndex", desc := "(I[B)V" } : Jvm.MethodName) prog_28_method_91_code (2 : Nat) (Option.none : Option Jvm.ClassFile.FieldType)) ∈ lw_all := lw_g (lw_at lw_m2 221 rfl) rfl
theorem q579 : (Jvm.Cond.methodLink "java/lang/StringUTF16" (48 : Nat) ({ cls := "java/lang/StringUTF16", name := "length", desc := "([B)I" } : Jvm.MethodName)) ∈ lw_all := lw_g (lw_at lw_m2 222 rfl) rfl
theorem q580 : (Jvm.Cond.static ({ cls := "java/lang/StringUTF16", name := "length", desc := "([B)I" } : Jvm.MethodName)) ∈ lw_all := lw_g (lw_at lw_m2 223 rfl) rfl
theorem q581 : (Jvm.Cond.code ({ cls := "java/lang/StringUTF16", name := "length", desc := "([B)I" } : Jvm.MethodName) prog_28_method_6_code (1 : Nat) (Option.some Jvm.ClassFile.FieldType.int)) ∈ lw_all := lw_g (lw_at lw_m2 224 rfl) rfl
theorem q582 : (Jvm.Cond.methodLink "java/lang/StringUTF16" (414 : Nat) ({ cls := "java/lang/String", name := "checkIndex", desc := "(II)V" } : Jvm.MethodName)) ∈ lw_all := lw_g (lw_at lw_m2 225 rfl) rfl
theorem q583 : (Jvm.Cond.methodLink "java/lang/StringUTF16" (71 : Nat) ({ cls := "java/lang/StringUTF16", name := "getChar", desc := "([BI)C" } : Jvm.MethodName)) ∈ lw_all := lw_g (lw_at lw_m2 226 rfl) rfl
theorem q584 : (Jvm.Cond.static ({ cls := "java/lang/StringUTF16", name := "getChar", desc := "([BI)C" } : Jvm.MethodName)) ∈ lw_all := lw_g (lw_at lw_m2 227 rfl) rfl
theorem q585 : (Jvm.Cond.code ({ cls := "java/lang/StringUTF16", name := "getChar", desc := "([BI)C" } : Jvm.MethodName) prog_28_method_5_code (2 : Nat) (Option.some Jvm.ClassFile.FieldType.char)) ∈ lw_all := lw_g (lw_at lw_m2 228 rfl) rfl
theorem q586 : (Jvm.Cond.fieldLink "java/lang/StringUTF16" (44 : Nat) "java/lang/StringUTF16" "$assertionsDisabled" "Z") ∈ lw_all := lw_g (lw_at lw_m2 229 rfl) rfl
theorem q587 : (Jvm.Cond.laysStatic "java/lang/StringUTF16" "$assertionsDisabled" "Z") ∈ lw_tbl := lw_at lw_m2 230 rfl
theorem q588 : (Jvm.Cond.fieldLink "java/lang/StringUTF16" (59 : Nat) "java/lang/StringUTF16" "HI_BYTE_SHIFT" "I") ∈ lw_all := lw_g (lw_at lw_m2 231 rfl) rfl
theorem q589 : (Jvm.Cond.laysStatic "java/lang/StringUTF16" "HI_BYTE_SHIFT" "I") ∈ lw_tbl := lw_at lw_m2 232 rfl
theorem q590 : (Jvm.Cond.fieldLink "java/lang/StringUTF16" (63 : Nat) "java/lang/StringUTF16" "LO_BYTE_SHIFT" "I") ∈ lw_all := lw_g (lw_at lw_m2 233 rfl) rfl
theorem q591 : (Jvm.Cond.laysStatic "java/lang/StringUTF16" "LO_BYTE_SHIFT" "I") ∈ lw_tbl := lw_at lw_m2 234 rfl

/-! SoManyStairs$House -/
set_option maxRecDepth 100000
def RX1 : String := "SoManyStairs$House"
def TX1 : u_T := fun k => match k with
  | 0 => ("SoManyStairs$House", "tenants", "Ljava/util/ArrayList;", true)
  | 1 => ("SoManyStairs$House", "counts", "LSoManyStairs$Part;", false)
  | 2 => ("SoManyStairs$House", "moves", "LSoManyStairs$Part;", false)
  | 3 => ("SoManyStairs$House", "hasDraw", "Z", false)
  | 4 => ("SoManyStairs$House", "units", "I", false)
  | 5 => ("SoManyStairs$House", "lines", "I", false)
  | 6 => ("SoManyStairs$House", "storeys", "I", false)
  | 7 => ("SoManyStairs$House", "lift", "I", false)
  | 8 => ("SoManyStairs$House", "draw", "I", false)
  | _ => ("SoManyStairs$House", "told", "[I", true)
def tyX1 : Nat → FieldType := fun k => match k with
  | 0 => .object "java/util/ArrayList"
  | 1 => .object "SoManyStairs$Part"
  | 2 => .object "SoManyStairs$Part"
  | 3 => .boolean
  | 4 => .int
  | 5 => .int
  | 6 => .int
  | 7 => .int
  | 8 => .int
  | _ => .array .int
abbrev wsX10 : List Cond := u_ws RX1 TX1 10
theorem nmX1 : ∀ a, a < 10 → ∀ b, b < 10 → a ≠ b → (TX1 a).2.1 ≠ (TX1 b).2.1 := by decide +kernel
theorem tyX1_ok : ∀ k, k < 10 → parseFieldDescriptor (TX1 k).2.2.1 = some (tyX1 k) := by decide +kernel
abbrev cX1_init : ByteArray := prog_3_method_1_code
def yX1_init : MethodName := ⟨RX1, "<init>", "()V"⟩
def dkwX1_init_1 : List UInt8 := [188, 10, 181, 0, 22, 177]
abbrev dktX1_init_1 : List UInt8 := dkwX1_init_1 ++ []
def dkwX1_init_0 : List UInt8 := [42, 183, 0, 3, 42, 187, 0, 9, 89, 183, 0, 11, 181, 0, 12, 42, 16, 9, 181, 0, 18, 42, 16, 6]
abbrev dktX1_init_0 : List UInt8 := dkwX1_init_0 ++ dktX1_init_1
theorem dksX1_init_0 : cX1_init.data.toList.drop 0 = dktX1_init_0 := by decide +kernel
theorem dksX1_init_1 : cX1_init.data.toList.drop 24 = dktX1_init_1 := dk_seg dksX1_init_0 24 rfl rfl
theorem dX1_init_0 : decode cX1_init 0 = .ok (.aload_n 0, 1) := dk_42 (dk_at dksX1_init_0 0 rfl rfl)
theorem dX1_init_1 : decode cX1_init 1 = .ok (.invokespecial 3, 3) := dk_183 0 3 (dk_at dksX1_init_0 1 rfl rfl)
theorem dX1_init_4 : decode cX1_init 4 = .ok (.aload_n 0, 1) := dk_42 (dk_at dksX1_init_0 4 rfl rfl)
theorem dX1_init_5 : decode cX1_init 5 = .ok (.new 9, 3) := dk_187 0 9 (dk_at dksX1_init_0 5 rfl rfl)
theorem dX1_init_8 : decode cX1_init 8 = .ok (.dup, 1) := dk_89 (dk_at dksX1_init_0 8 rfl rfl)
theorem dX1_init_9 : decode cX1_init 9 = .ok (.invokespecial 11, 3) := dk_183 0 11 (dk_at dksX1_init_0 9 rfl rfl)
theorem dX1_init_12 : decode cX1_init 12 = .ok (.putfield 12, 3) := dk_181 0 12 (dk_at dksX1_init_0 12 rfl rfl)
theorem dX1_init_15 : decode cX1_init 15 = .ok (.aload_n 0, 1) := dk_42 (dk_at dksX1_init_0 15 rfl rfl)
theorem dX1_init_16 : decode cX1_init 16 = .ok (.bipush 9, 2) := dk_16 9 (dk_at dksX1_init_0 16 rfl rfl)
theorem dX1_init_18 : decode cX1_init 18 = .ok (.putfield 18, 3) := dk_181 0 18 (dk_at dksX1_init_0 18 rfl rfl)
theorem dX1_init_21 : decode cX1_init 21 = .ok (.aload_n 0, 1) := dk_42 (dk_at dksX1_init_0 21 rfl rfl)
theorem dX1_init_22 : decode cX1_init 22 = .ok (.bipush 6, 2) := dk_16 6 (dk_at dksX1_init_0 22 rfl rfl)
theorem dX1_init_24 : decode cX1_init 24 = .ok (.newarray .int, 2) := dk_188_10 (dk_at dksX1_init_1 0 rfl rfl)
theorem dX1_init_26 : decode cX1_init 26 = .ok (.putfield 22, 3) := dk_181 0 22 (dk_at dksX1_init_1 2 rfl rfl)
theorem dX1_init_29 : decode cX1_init 29 = .ok (.return_, 1) := dk_177 (dk_at dksX1_init_1 5 rfl rfl)
abbrev cX1_breath : ByteArray := prog_3_method_6_code
def yX1_breath : MethodName := ⟨RX1, "breath", "(I)I"⟩
def dkwX1_breath_0 : List UInt8 := [4, 42, 27, 182, 0, 83, 6, 108, 96, 172]
abbrev dktX1_breath_0 : List UInt8 := dkwX1_breath_0 ++ []
theorem dksX1_breath_0 : cX1_breath.data.toList.drop 0 = dktX1_breath_0 := by decide +kernel
theorem dX1_breath_0 : decode cX1_breath 0 = .ok (.iconst 1, 1) := dk_4 (dk_at dksX1_breath_0 0 rfl rfl)
theorem dX1_breath_1 : decode cX1_breath 1 = .ok (.aload_n 0, 1) := dk_42 (dk_at dksX1_breath_0 1 rfl rfl)
theorem dX1_breath_2 : decode cX1_breath 2 = .ok (.iload_n 1, 1) := dk_27 (dk_at dksX1_breath_0 2 rfl rfl)
theorem dX1_breath_3 : decode cX1_breath 3 = .ok (.invokevirtual 83, 3) := dk_182 0 83 (dk_at dksX1_breath_0 3 rfl rfl)
theorem dX1_breath_6 : decode cX1_breath 6 = .ok (.iconst 3, 1) := dk_6 (dk_at dksX1_breath_0 6 rfl rfl)
theorem dX1_breath_7 : decode cX1_breath 7 = .ok (.idiv, 1) := dk_108 (dk_at dksX1_breath_0 7 rfl rfl)
theorem dX1_breath_8 : decode cX1_breath 8 = .ok (.iadd, 1) := dk_96 (dk_at dksX1_breath_0 8 rfl rfl)
theorem dX1_breath_9 : decode cX1_breath 9 = .ok (.ireturn, 1) := dk_172 (dk_at dksX1_breath_0 9 rfl rfl)
abbrev cX1_heavyOf : ByteArray := prog_3_method_5_code
def yX1_heavyOf : MethodName := ⟨RX1, "heavyOf", "(I)I"⟩
def dkwX1_heavyOf_0 : List UInt8 := [27, 156, 0, 7, 3, 167, 0, 17, 42, 180, 0, 12, 27, 182, 0, 79, 192, 0, 74, 180, 0, 76, 172]
abbrev dktX1_heavyOf_0 : List UInt8 := dkwX1_heavyOf_0 ++ []
theorem dksX1_heavyOf_0 : cX1_heavyOf.data.toList.drop 0 = dktX1_heavyOf_0 := by decide +kernel
theorem dX1_heavyOf_0 : decode cX1_heavyOf 0 = .ok (.iload_n 1, 1) := dk_27 (dk_at dksX1_heavyOf_0 0 rfl rfl)
theorem dX1_heavyOf_1 : decode cX1_heavyOf 1 = .ok (.ifCond .ge 7, 3) := dk_156 0 7 (dk_at dksX1_heavyOf_0 1 rfl rfl)
theorem dX1_heavyOf_4 : decode cX1_heavyOf 4 = .ok (.iconst 0, 1) := dk_3 (dk_at dksX1_heavyOf_0 4 rfl rfl)
theorem dX1_heavyOf_5 : decode cX1_heavyOf 5 = .ok (.goto 17, 3) := dk_167 0 17 (dk_at dksX1_heavyOf_0 5 rfl rfl)
theorem dX1_heavyOf_8 : decode cX1_heavyOf 8 = .ok (.aload_n 0, 1) := dk_42 (dk_at dksX1_heavyOf_0 8 rfl rfl)
theorem dX1_heavyOf_9 : decode cX1_heavyOf 9 = .ok (.getfield 12, 3) := dk_180 0 12 (dk_at dksX1_heavyOf_0 9 rfl rfl)
theorem dX1_heavyOf_12 : decode cX1_heavyOf 12 = .ok (.iload_n 1, 1) := dk_27 (dk_at dksX1_heavyOf_0 12 rfl rfl)
theorem dX1_heavyOf_13 : decode cX1_heavyOf 13 = .ok (.invokevirtual 79, 3) := dk_182 0 79 (dk_at dksX1_heavyOf_0 13 rfl rfl)
theorem dX1_heavyOf_16 : decode cX1_heavyOf 16 = .ok (.checkcast 74, 3) := dk_192 0 74 (dk_at dksX1_heavyOf_0 16 rfl rfl)
theorem dX1_heavyOf_19 : decode cX1_heavyOf 19 = .ok (.getfield 76, 3) := dk_180 0 76 (dk_at dksX1_heavyOf_0 19 rfl rfl)
theorem dX1_heavyOf_22 : decode cX1_heavyOf 22 = .ok (.ireturn, 1) := dk_172 (dk_at dksX1_heavyOf_0 22 rfl rfl)
abbrev cX1_counts : ByteArray := prog_3_method_3_code
def yX1_counts : MethodName := ⟨RX1, "counts", "(LSoManyStairs$State;IIII)I"⟩
def dkwX1_counts_1 : List UInt8 := [21, 5, 182, 0, 44, 42, 180, 0, 34, 42, 180, 0, 22, 182, 0, 48, 17, 3, 231, 184, 0, 54, 172]
abbrev dktX1_counts_1 : List UInt8 := dkwX1_counts_1 ++ []
def dkwX1_counts_0 : List UInt8 := [42, 180, 0, 34, 199, 0, 14, 17, 3, 231, 16, 10, 28, 104, 184, 0, 38, 172, 42, 43, 28, 29, 21, 4]
abbrev dktX1_counts_0 : List UInt8 := dkwX1_counts_0 ++ dktX1_counts_1
theorem dksX1_counts_0 : cX1_counts.data.toList.drop 0 = dktX1_counts_0 := by decide +kernel
theorem dksX1_counts_1 : cX1_counts.data.toList.drop 24 = dktX1_counts_1 := dk_seg dksX1_counts_0 24 rfl rfl
theorem dX1_counts_0 : decode cX1_counts 0 = .ok (.aload_n 0, 1) := dk_42 (dk_at dksX1_counts_0 0 rfl rfl)
theorem dX1_counts_1 : decode cX1_counts 1 = .ok (.getfield 34, 3) := dk_180 0 34 (dk_at dksX1_counts_0 1 rfl rfl)
theorem dX1_counts_4 : decode cX1_counts 4 = .ok (.ifnonnull 14, 3) := dk_199 0 14 (dk_at dksX1_counts_0 4 rfl rfl)
theorem dX1_counts_7 : decode cX1_counts 7 = .ok (.sipush 999, 3) := dk_17 3 231 (dk_at dksX1_counts_0 7 rfl rfl)
theorem dX1_counts_10 : decode cX1_counts 10 = .ok (.bipush 10, 2) := dk_16 10 (dk_at dksX1_counts_0 10 rfl rfl)
theorem dX1_counts_12 : decode cX1_counts 12 = .ok (.iload_n 2, 1) := dk_28 (dk_at dksX1_counts_0 12 rfl rfl)
theorem dX1_counts_13 : decode cX1_counts 13 = .ok (.imul, 1) := dk_104 (dk_at dksX1_counts_0 13 rfl rfl)
theorem dX1_counts_14 : decode cX1_counts 14 = .ok (.invokestatic 38, 3) := dk_184 0 38 (dk_at dksX1_counts_0 14 rfl rfl)
theorem dX1_counts_17 : decode cX1_counts 17 = .ok (.ireturn, 1) := dk_172 (dk_at dksX1_counts_0 17 rfl rfl)
theorem dX1_counts_18 : decode cX1_counts 18 = .ok (.aload_n 0, 1) := dk_42 (dk_at dksX1_counts_0 18 rfl rfl)
theorem dX1_counts_19 : decode cX1_counts 19 = .ok (.aload_n 1, 1) := dk_43 (dk_at dksX1_counts_0 19 rfl rfl)
theorem dX1_counts_20 : decode cX1_counts 20 = .ok (.iload_n 2, 1) := dk_28 (dk_at dksX1_counts_0 20 rfl rfl)
theorem dX1_counts_21 : decode cX1_counts 21 = .ok (.iload_n 3, 1) := dk_29 (dk_at dksX1_counts_0 21 rfl rfl)
theorem dX1_counts_22 : decode cX1_counts 22 = .ok (.iload 4, 2) := dk_21 4 (dk_at dksX1_counts_0 22 rfl rfl)
theorem dX1_counts_24 : decode cX1_counts 24 = .ok (.iload 5, 2) := dk_21 5 (dk_at dksX1_counts_1 0 rfl rfl)
theorem dX1_counts_26 : decode cX1_counts 26 = .ok (.invokevirtual 44, 3) := dk_182 0 44 (dk_at dksX1_counts_1 2 rfl rfl)
theorem dX1_counts_29 : decode cX1_counts 29 = .ok (.aload_n 0, 1) := dk_42 (dk_at dksX1_counts_1 5 rfl rfl)
theorem dX1_counts_30 : decode cX1_counts 30 = .ok (.getfield 34, 3) := dk_180 0 34 (dk_at dksX1_counts_1 6 rfl rfl)
theorem dX1_counts_33 : decode cX1_counts 33 = .ok (.aload_n 0, 1) := dk_42 (dk_at dksX1_counts_1 9 rfl rfl)
theorem dX1_counts_34 : decode cX1_counts 34 = .ok (.getfield 22, 3) := dk_180 0 22 (dk_at dksX1_counts_1 10 rfl rfl)
theorem dX1_counts_37 : decode cX1_counts 37 = .ok (.invokevirtual 48, 3) := dk_182 0 48 (dk_at dksX1_counts_1 13 rfl rfl)
theorem dX1_counts_40 : decode cX1_counts 40 = .ok (.sipush 999, 3) := dk_17 3 231 (dk_at dksX1_counts_1 16 rfl rfl)
theorem dX1_counts_43 : decode cX1_counts 43 = .ok (.invokestatic 54, 3) := dk_184 0 54 (dk_at dksX1_counts_1 19 rfl rfl)
theorem dX1_counts_46 : decode cX1_counts 46 = .ok (.ireturn, 1) := dk_172 (dk_at dksX1_counts_1 22 rfl rfl)
abbrev cX1_tell : ByteArray := prog_3_method_2_code
def yX1_tell : MethodName := ⟨RX1, "tell", "(LSoManyStairs$State;IIII)V"⟩
def dkwX1_tell_2 : List UInt8 := [180, 0, 31, 79, 177]
abbrev dktX1_tell_2 : List UInt8 := dkwX1_tell_2 ++ []
def dkwX1_tell_1 : List UInt8 := [180, 0, 22, 6, 43, 180, 0, 26, 79, 42, 180, 0, 22, 7, 21, 5, 79, 42, 180, 0, 22, 8, 43]
abbrev dktX1_tell_1 : List UInt8 := dkwX1_tell_1 ++ dktX1_tell_2
def dkwX1_tell_0 : List UInt8 := [42, 180, 0, 22, 3, 28, 79, 42, 180, 0, 22, 4, 29, 79, 42, 180, 0, 22, 5, 21, 4, 79, 42]
abbrev dktX1_tell_0 : List UInt8 := dkwX1_tell_0 ++ dktX1_tell_1
theorem dksX1_tell_0 : cX1_tell.data.toList.drop 0 = dktX1_tell_0 := by decide +kernel
theorem dksX1_tell_1 : cX1_tell.data.toList.drop 23 = dktX1_tell_1 := dk_seg dksX1_tell_0 23 rfl rfl
theorem dksX1_tell_2 : cX1_tell.data.toList.drop 46 = dktX1_tell_2 := dk_seg dksX1_tell_1 23 rfl rfl
theorem dX1_tell_0 : decode cX1_tell 0 = .ok (.aload_n 0, 1) := dk_42 (dk_at dksX1_tell_0 0 rfl rfl)
theorem dX1_tell_1 : decode cX1_tell 1 = .ok (.getfield 22, 3) := dk_180 0 22 (dk_at dksX1_tell_0 1 rfl rfl)
theorem dX1_tell_4 : decode cX1_tell 4 = .ok (.iconst 0, 1) := dk_3 (dk_at dksX1_tell_0 4 rfl rfl)
theorem dX1_tell_5 : decode cX1_tell 5 = .ok (.iload_n 2, 1) := dk_28 (dk_at dksX1_tell_0 5 rfl rfl)
theorem dX1_tell_6 : decode cX1_tell 6 = .ok (.iastore, 1) := dk_79 (dk_at dksX1_tell_0 6 rfl rfl)
theorem dX1_tell_7 : decode cX1_tell 7 = .ok (.aload_n 0, 1) := dk_42 (dk_at dksX1_tell_0 7 rfl rfl)
theorem dX1_tell_8 : decode cX1_tell 8 = .ok (.getfield 22, 3) := dk_180 0 22 (dk_at dksX1_tell_0 8 rfl rfl)
theorem dX1_tell_11 : decode cX1_tell 11 = .ok (.iconst 1, 1) := dk_4 (dk_at dksX1_tell_0 11 rfl rfl)
theorem dX1_tell_12 : decode cX1_tell 12 = .ok (.iload_n 3, 1) := dk_29 (dk_at dksX1_tell_0 12 rfl rfl)
theorem dX1_tell_13 : decode cX1_tell 13 = .ok (.iastore, 1) := dk_79 (dk_at dksX1_tell_0 13 rfl rfl)
theorem dX1_tell_14 : decode cX1_tell 14 = .ok (.aload_n 0, 1) := dk_42 (dk_at dksX1_tell_0 14 rfl rfl)
theorem dX1_tell_15 : decode cX1_tell 15 = .ok (.getfield 22, 3) := dk_180 0 22 (dk_at dksX1_tell_0 15 rfl rfl)
theorem dX1_tell_18 : decode cX1_tell 18 = .ok (.iconst 2, 1) := dk_5 (dk_at dksX1_tell_0 18 rfl rfl)
theorem dX1_tell_19 : decode cX1_tell 19 = .ok (.iload 4, 2) := dk_21 4 (dk_at dksX1_tell_0 19 rfl rfl)
theorem dX1_tell_21 : decode cX1_tell 21 = .ok (.iastore, 1) := dk_79 (dk_at dksX1_tell_0 21 rfl rfl)
theorem dX1_tell_22 : decode cX1_tell 22 = .ok (.aload_n 0, 1) := dk_42 (dk_at dksX1_tell_0 22 rfl rfl)
theorem dX1_tell_23 : decode cX1_tell 23 = .ok (.getfield 22, 3) := dk_180 0 22 (dk_at dksX1_tell_1 0 rfl rfl)
theorem dX1_tell_26 : decode cX1_tell 26 = .ok (.iconst 3, 1) := dk_6 (dk_at dksX1_tell_1 3 rfl rfl)
theorem dX1_tell_27 : decode cX1_tell 27 = .ok (.aload_n 1, 1) := dk_43 (dk_at dksX1_tell_1 4 rfl rfl)
theorem dX1_tell_28 : decode cX1_tell 28 = .ok (.getfield 26, 3) := dk_180 0 26 (dk_at dksX1_tell_1 5 rfl rfl)
theorem dX1_tell_31 : decode cX1_tell 31 = .ok (.iastore, 1) := dk_79 (dk_at dksX1_tell_1 8 rfl rfl)
theorem dX1_tell_32 : decode cX1_tell 32 = .ok (.aload_n 0, 1) := dk_42 (dk_at dksX1_tell_1 9 rfl rfl)
theorem dX1_tell_33 : decode cX1_tell 33 = .ok (.getfield 22, 3) := dk_180 0 22 (dk_at dksX1_tell_1 10 rfl rfl)
theorem dX1_tell_36 : decode cX1_tell 36 = .ok (.iconst 4, 1) := dk_7 (dk_at dksX1_tell_1 13 rfl rfl)
theorem dX1_tell_37 : decode cX1_tell 37 = .ok (.iload 5, 2) := dk_21 5 (dk_at dksX1_tell_1 14 rfl rfl)
theorem dX1_tell_39 : decode cX1_tell 39 = .ok (.iastore, 1) := dk_79 (dk_at dksX1_tell_1 16 rfl rfl)
theorem dX1_tell_40 : decode cX1_tell 40 = .ok (.aload_n 0, 1) := dk_42 (dk_at dksX1_tell_1 17 rfl rfl)
theorem dX1_tell_41 : decode cX1_tell 41 = .ok (.getfield 22, 3) := dk_180 0 22 (dk_at dksX1_tell_1 18 rfl rfl)
theorem dX1_tell_44 : decode cX1_tell 44 = .ok (.iconst 5, 1) := dk_8 (dk_at dksX1_tell_1 21 rfl rfl)
theorem dX1_tell_45 : decode cX1_tell 45 = .ok (.aload_n 1, 1) := dk_43 (dk_at dksX1_tell_1 22 rfl rfl)
theorem dX1_tell_46 : decode cX1_tell 46 = .ok (.getfield 31, 3) := dk_180 0 31 (dk_at dksX1_tell_2 0 rfl rfl)
theorem dX1_tell_49 : decode cX1_tell 49 = .ok (.iastore, 1) := dk_79 (dk_at dksX1_tell_2 3 rfl rfl)
theorem dX1_tell_50 : decode cX1_tell 50 = .ok (.return_, 1) := dk_177 (dk_at dksX1_tell_2 4 rfl rfl)
abbrev cX1_pull : ByteArray := prog_3_method_4_code
def yX1_pull : MethodName := ⟨RX1, "pull", "(LSoManyStairs$State;I)I"⟩
def dkwX1_pull_3 : List UInt8 := [180, 0, 57, 42, 180, 0, 22, 182, 0, 48, 172]
abbrev dktX1_pull_3 : List UInt8 := dkwX1_pull_3 ++ []
def dkwX1_pull_2 : List UInt8 := [25, 5, 180, 0, 76, 96, 62, 167, 255, 226, 42, 43, 42, 180, 0, 18, 29, 3, 28, 182, 0, 44, 42]
abbrev dktX1_pull_2 : List UInt8 := dkwX1_pull_2 ++ dktX1_pull_3
def dkwX1_pull_1 : List UInt8 := [25, 4, 185, 0, 64, 1, 0, 153, 0, 26, 25, 4, 185, 0, 70, 1, 0, 192, 0, 74, 58, 5, 29]
abbrev dktX1_pull_1 : List UInt8 := dkwX1_pull_1 ++ dktX1_pull_2
def dkwX1_pull_0 : List UInt8 := [42, 180, 0, 57, 199, 0, 8, 28, 16, 10, 108, 172, 3, 62, 42, 180, 0, 12, 182, 0, 60, 58, 4]
abbrev dktX1_pull_0 : List UInt8 := dkwX1_pull_0 ++ dktX1_pull_1
theorem dksX1_pull_0 : cX1_pull.data.toList.drop 0 = dktX1_pull_0 := by decide +kernel
theorem dksX1_pull_1 : cX1_pull.data.toList.drop 23 = dktX1_pull_1 := dk_seg dksX1_pull_0 23 rfl rfl
theorem dksX1_pull_2 : cX1_pull.data.toList.drop 46 = dktX1_pull_2 := dk_seg dksX1_pull_1 23 rfl rfl
theorem dksX1_pull_3 : cX1_pull.data.toList.drop 69 = dktX1_pull_3 := dk_seg dksX1_pull_2 23 rfl rfl
theorem dX1_pull_0 : decode cX1_pull 0 = .ok (.aload_n 0, 1) := dk_42 (dk_at dksX1_pull_0 0 rfl rfl)
theorem dX1_pull_1 : decode cX1_pull 1 = .ok (.getfield 57, 3) := dk_180 0 57 (dk_at dksX1_pull_0 1 rfl rfl)
theorem dX1_pull_4 : decode cX1_pull 4 = .ok (.ifnonnull 8, 3) := dk_199 0 8 (dk_at dksX1_pull_0 4 rfl rfl)
theorem dX1_pull_7 : decode cX1_pull 7 = .ok (.iload_n 2, 1) := dk_28 (dk_at dksX1_pull_0 7 rfl rfl)
theorem dX1_pull_8 : decode cX1_pull 8 = .ok (.bipush 10, 2) := dk_16 10 (dk_at dksX1_pull_0 8 rfl rfl)
theorem dX1_pull_10 : decode cX1_pull 10 = .ok (.idiv, 1) := dk_108 (dk_at dksX1_pull_0 10 rfl rfl)
theorem dX1_pull_11 : decode cX1_pull 11 = .ok (.ireturn, 1) := dk_172 (dk_at dksX1_pull_0 11 rfl rfl)
theorem dX1_pull_12 : decode cX1_pull 12 = .ok (.iconst 0, 1) := dk_3 (dk_at dksX1_pull_0 12 rfl rfl)
theorem dX1_pull_13 : decode cX1_pull 13 = .ok (.istore_n 3, 1) := dk_62 (dk_at dksX1_pull_0 13 rfl rfl)
theorem dX1_pull_14 : decode cX1_pull 14 = .ok (.aload_n 0, 1) := dk_42 (dk_at dksX1_pull_0 14 rfl rfl)
theorem dX1_pull_15 : decode cX1_pull 15 = .ok (.getfield 12, 3) := dk_180 0 12 (dk_at dksX1_pull_0 15 rfl rfl)
theorem dX1_pull_18 : decode cX1_pull 18 = .ok (.invokevirtual 60, 3) := dk_182 0 60 (dk_at dksX1_pull_0 18 rfl rfl)
theorem dX1_pull_21 : decode cX1_pull 21 = .ok (.astore 4, 2) := dk_58 4 (dk_at dksX1_pull_0 21 rfl rfl)
theorem dX1_pull_23 : decode cX1_pull 23 = .ok (.aload 4, 2) := dk_25 4 (dk_at dksX1_pull_1 0 rfl rfl)
theorem dX1_pull_25 : decode cX1_pull 25 = .ok (.invokeinterface 64 1, 5) := by decide +kernel
theorem dX1_pull_30 : decode cX1_pull 30 = .ok (.ifCond .eq 26, 3) := dk_153 0 26 (dk_at dksX1_pull_1 7 rfl rfl)
theorem dX1_pull_33 : decode cX1_pull 33 = .ok (.aload 4, 2) := dk_25 4 (dk_at dksX1_pull_1 10 rfl rfl)
theorem dX1_pull_35 : decode cX1_pull 35 = .ok (.invokeinterface 70 1, 5) := by decide +kernel
theorem dX1_pull_40 : decode cX1_pull 40 = .ok (.checkcast 74, 3) := dk_192 0 74 (dk_at dksX1_pull_1 17 rfl rfl)
theorem dX1_pull_43 : decode cX1_pull 43 = .ok (.astore 5, 2) := dk_58 5 (dk_at dksX1_pull_1 20 rfl rfl)
theorem dX1_pull_45 : decode cX1_pull 45 = .ok (.iload_n 3, 1) := dk_29 (dk_at dksX1_pull_1 22 rfl rfl)
theorem dX1_pull_46 : decode cX1_pull 46 = .ok (.aload 5, 2) := dk_25 5 (dk_at dksX1_pull_2 0 rfl rfl)
theorem dX1_pull_48 : decode cX1_pull 48 = .ok (.getfield 76, 3) := dk_180 0 76 (dk_at dksX1_pull_2 2 rfl rfl)
theorem dX1_pull_51 : decode cX1_pull 51 = .ok (.iadd, 1) := dk_96 (dk_at dksX1_pull_2 5 rfl rfl)
theorem dX1_pull_52 : decode cX1_pull 52 = .ok (.istore_n 3, 1) := dk_62 (dk_at dksX1_pull_2 6 rfl rfl)
theorem dX1_pull_53 : decode cX1_pull 53 = .ok (.goto (-30), 3) := dk_167 255 226 (dk_at dksX1_pull_2 7 rfl rfl)
theorem dX1_pull_56 : decode cX1_pull 56 = .ok (.aload_n 0, 1) := dk_42 (dk_at dksX1_pull_2 10 rfl rfl)
theorem dX1_pull_57 : decode cX1_pull 57 = .ok (.aload_n 1, 1) := dk_43 (dk_at dksX1_pull_2 11 rfl rfl)
theorem dX1_pull_58 : decode cX1_pull 58 = .ok (.aload_n 0, 1) := dk_42 (dk_at dksX1_pull_2 12 rfl rfl)
theorem dX1_pull_59 : decode cX1_pull 59 = .ok (.getfield 18, 3) := dk_180 0 18 (dk_at dksX1_pull_2 13 rfl rfl)
theorem dX1_pull_62 : decode cX1_pull 62 = .ok (.iload_n 3, 1) := dk_29 (dk_at dksX1_pull_2 16 rfl rfl)
theorem dX1_pull_63 : decode cX1_pull 63 = .ok (.iconst 0, 1) := dk_3 (dk_at dksX1_pull_2 17 rfl rfl)
theorem dX1_pull_64 : decode cX1_pull 64 = .ok (.iload_n 2, 1) := dk_28 (dk_at dksX1_pull_2 18 rfl rfl)
theorem dX1_pull_65 : decode cX1_pull 65 = .ok (.invokevirtual 44, 3) := dk_182 0 44 (dk_at dksX1_pull_2 19 rfl rfl)
theorem dX1_pull_68 : decode cX1_pull 68 = .ok (.aload_n 0, 1) := dk_42 (dk_at dksX1_pull_2 22 rfl rfl)
theorem dX1_pull_69 : decode cX1_pull 69 = .ok (.getfield 57, 3) := dk_180 0 57 (dk_at dksX1_pull_3 0 rfl rfl)
theorem dX1_pull_72 : decode cX1_pull 72 = .ok (.aload_n 0, 1) := dk_42 (dk_at dksX1_pull_3 3 rfl rfl)
theorem dX1_pull_73 : decode cX1_pull 73 = .ok (.getfield 22, 3) := dk_180 0 22 (dk_at dksX1_pull_3 4 rfl rfl)
theorem dX1_pull_76 : decode cX1_pull 76 = .ok (.invokevirtual 48, 3) := dk_182 0 48 (dk_at dksX1_pull_3 7 rfl rfl)
theorem dX1_pull_79 : decode cX1_pull 79 = .ok (.ireturn, 1) := dk_172 (dk_at dksX1_pull_3 10 rfl rfl)
theorem q119 : (Jvm.Cond.initialized "SoManyStairs$House") ∈ lw_all := lw_g (lw_at lw_m1 2 rfl) rfl
theorem q159 : (Jvm.Cond.instantiable "SoManyStairs$House" (10 : Nat)) ∈ lw_all := lw_g (lw_at lw_m1 42 rfl) rfl
theorem q161 : (Jvm.Cond.instanceMethod ({ cls := "SoManyStairs$House", name := "<init>", desc := "()V" } : Jvm.MethodName)) ∈ lw_all := lw_g (lw_at lw_m1 44 rfl) rfl
theorem q162 : (Jvm.Cond.code ({ cls := "SoManyStairs$House", name := "<init>", desc := "()V" } : Jvm.MethodName) prog_3_method_1_code (1 : Nat) (Option.none : Option Jvm.ClassFile.FieldType)) ∈ lw_all := lw_g (lw_at lw_m1 45 rfl) rfl
theorem q163 : (Jvm.Cond.methodLink "SoManyStairs$House" (3 : Nat) ({ cls := "java/lang/Object", name := "<init>", desc := "()V" } : Jvm.MethodName)) ∈ lw_all := lw_g (lw_at lw_m1 46 rfl) rfl
theorem q164 : (Jvm.Cond.classLink "SoManyStairs$House" (9 : Nat) "java/util/ArrayList") ∈ lw_all := lw_g (lw_at lw_m1 47 rfl) rfl
theorem q166 : (Jvm.Cond.methodLink "SoManyStairs$House" (11 : Nat) ({ cls := "java/util/ArrayList", name := "<init>", desc := "()V" } : Jvm.MethodName)) ∈ lw_all := lw_g (lw_at lw_m1 49 rfl) rfl
theorem q193 : (Jvm.Cond.fieldLink "SoManyStairs$House" (12 : Nat) "SoManyStairs$House" "tenants" "Ljava/util/ArrayList;") ∈ lw_all := lw_g (lw_at lw_m1 76 rfl) rfl
theorem q197 : (Jvm.Cond.fieldLink "SoManyStairs$House" (34 : Nat) "SoManyStairs$House" "counts" "LSoManyStairs$Part;") ∈ lw_all := lw_g (lw_at lw_m1 80 rfl) rfl
theorem q199 : (Jvm.Cond.fieldLink "SoManyStairs$House" (57 : Nat) "SoManyStairs$House" "moves" "LSoManyStairs$Part;") ∈ lw_all := lw_g (lw_at lw_m1 82 rfl) rfl
theorem q205 : (Jvm.Cond.fieldLink "SoManyStairs$House" (18 : Nat) "SoManyStairs$House" "storeys" "I") ∈ lw_all := lw_g (lw_at lw_m1 88 rfl) rfl
theorem q213 : (Jvm.Cond.fieldLink "SoManyStairs$House" (22 : Nat) "SoManyStairs$House" "told" "[I") ∈ lw_all := lw_g (lw_at lw_m1 96 rfl) rfl
theorem q214 : (Jvm.Cond.laysFinal "SoManyStairs$House" "SoManyStairs$House" "tenants" "Ljava/util/ArrayList;") ∈ lw_all := lw_g (lw_at lw_m1 97 rfl) rfl
theorem q215 : (Jvm.Cond.soleField "SoManyStairs$House" "tenants") ∈ lw_all := lw_g (lw_at lw_m1 98 rfl) rfl
theorem q216 : (Jvm.Cond.lays "SoManyStairs$House" "SoManyStairs$House" "counts" "LSoManyStairs$Part;") ∈ lw_all := lw_g (lw_at lw_m1 99 rfl) rfl
theorem q217 : (Jvm.Cond.soleField "SoManyStairs$House" "counts") ∈ lw_all := lw_g (lw_at lw_m1 100 rfl) rfl
theorem q218 : (Jvm.Cond.lays "SoManyStairs$House" "SoManyStairs$House" "moves" "LSoManyStairs$Part;") ∈ lw_all := lw_g (lw_at lw_m1 101 rfl) rfl
theorem q219 : (Jvm.Cond.soleField "SoManyStairs$House" "moves") ∈ lw_all := lw_g (lw_at lw_m1 102 rfl) rfl
theorem q220 : (Jvm.Cond.lays "SoManyStairs$House" "SoManyStairs$House" "hasDraw" "Z") ∈ lw_all := lw_g (lw_at lw_m1 103 rfl) rfl
theorem q221 : (Jvm.Cond.soleField "SoManyStairs$House" "hasDraw") ∈ lw_all := lw_g (lw_at lw_m1 104 rfl) rfl
theorem q222 : (Jvm.Cond.lays "SoManyStairs$House" "SoManyStairs$House" "units" "I") ∈ lw_all := lw_g (lw_at lw_m1 105 rfl) rfl
theorem q223 : (Jvm.Cond.soleField "SoManyStairs$House" "units") ∈ lw_all := lw_g (lw_at lw_m1 106 rfl) rfl
theorem q224 : (Jvm.Cond.lays "SoManyStairs$House" "SoManyStairs$House" "lines" "I") ∈ lw_all := lw_g (lw_at lw_m1 107 rfl) rfl
theorem q225 : (Jvm.Cond.soleField "SoManyStairs$House" "lines") ∈ lw_all := lw_g (lw_at lw_m1 108 rfl) rfl
theorem q226 : (Jvm.Cond.lays "SoManyStairs$House" "SoManyStairs$House" "storeys" "I") ∈ lw_all := lw_g (lw_at lw_m1 109 rfl) rfl
theorem q227 : (Jvm.Cond.soleField "SoManyStairs$House" "storeys") ∈ lw_all := lw_g (lw_at lw_m1 110 rfl) rfl
theorem q228 : (Jvm.Cond.lays "SoManyStairs$House" "SoManyStairs$House" "lift" "I") ∈ lw_all := lw_g (lw_at lw_m1 111 rfl) rfl
theorem q229 : (Jvm.Cond.soleField "SoManyStairs$House" "lift") ∈ lw_all := lw_g (lw_at lw_m1 112 rfl) rfl
theorem q230 : (Jvm.Cond.lays "SoManyStairs$House" "SoManyStairs$House" "draw" "I") ∈ lw_all := lw_g (lw_at lw_m1 113 rfl) rfl
theorem q231 : (Jvm.Cond.soleField "SoManyStairs$House" "draw") ∈ lw_all := lw_g (lw_at lw_m1 114 rfl) rfl
theorem q232 : (Jvm.Cond.laysFinal "SoManyStairs$House" "SoManyStairs$House" "told" "[I") ∈ lw_all := lw_g (lw_at lw_m1 115 rfl) rfl
theorem q233 : (Jvm.Cond.soleField "SoManyStairs$House" "told") ∈ lw_all := lw_g (lw_at lw_m1 116 rfl) rfl
theorem q234 : (Jvm.Cond.superclass "SoManyStairs$House" "java/lang/Object") ∈ lw_all := lw_g (lw_at lw_m1 117 rfl) rfl
theorem q250 : (Jvm.Cond.fieldLinkNest "SoManyStairs$House" (31 : Nat) "SoManyStairs$State" "lift" "I" "SoManyStairs") ∈ lw_tbl := lw_at lw_m1 133 rfl
theorem q253 : (Jvm.Cond.fieldLinkNest "SoManyStairs$House" (26 : Nat) "SoManyStairs$State" "week" "I" "SoManyStairs") ∈ lw_tbl := lw_at lw_m1 136 rfl
theorem q687 : (Jvm.Cond.fieldLinkNest "SoManyStairs$House" (76 : Nat) "SoManyStairs$Tenant" "heavy" "I" "SoManyStairs") ∈ lw_tbl := lw_at lw_m3 90 rfl
theorem q755 : (Jvm.Cond.selects "SoManyStairs$House" ({ cls := "java/lang/Object", name := "getClass", desc := "()Ljava/lang/Class;" } : Jvm.MethodName) ({ cls := "java/lang/Object", name := "getClass", desc := "()Ljava/lang/Class;" } : Jvm.MethodName)) ∈ lw_all := lw_g (lw_at lw_m3 158 rfl) rfl
theorem q909 : (Jvm.Cond.instanceMethod ({ cls := "SoManyStairs$House", name := "breath", desc := "(I)I" } : Jvm.MethodName)) ∈ lw_all := lw_g (lw_at lw_m4 72 rfl) rfl
theorem q910 : (Jvm.Cond.selects "SoManyStairs$House" ({ cls := "SoManyStairs$House", name := "breath", desc := "(I)I" } : Jvm.MethodName) ({ cls := "SoManyStairs$House", name := "breath", desc := "(I)I" } : Jvm.MethodName)) ∈ lw_all := lw_g (lw_at lw_m4 73 rfl) rfl
theorem q911 : (Jvm.Cond.code ({ cls := "SoManyStairs$House", name := "breath", desc := "(I)I" } : Jvm.MethodName) prog_3_method_6_code (2 : Nat) (Option.some Jvm.ClassFile.FieldType.int)) ∈ lw_all := lw_g (lw_at lw_m4 74 rfl) rfl
theorem q912 : (Jvm.Cond.methodLink "SoManyStairs$House" (83 : Nat) ({ cls := "SoManyStairs$House", name := "heavyOf", desc := "(I)I" } : Jvm.MethodName)) ∈ lw_all := lw_g (lw_at lw_m4 75 rfl) rfl
theorem q913 : (Jvm.Cond.instanceMethod ({ cls := "SoManyStairs$House", name := "heavyOf", desc := "(I)I" } : Jvm.MethodName)) ∈ lw_all := lw_g (lw_at lw_m4 76 rfl) rfl
theorem q914 : (Jvm.Cond.selects "SoManyStairs$House" ({ cls := "SoManyStairs$House", name := "heavyOf", desc := "(I)I" } : Jvm.MethodName) ({ cls := "SoManyStairs$House", name := "heavyOf", desc := "(I)I" } : Jvm.MethodName)) ∈ lw_all := lw_g (lw_at lw_m4 77 rfl) rfl
theorem q915 : (Jvm.Cond.code ({ cls := "SoManyStairs$House", name := "heavyOf", desc := "(I)I" } : Jvm.MethodName) prog_3_method_5_code (2 : Nat) (Option.some Jvm.ClassFile.FieldType.int)) ∈ lw_all := lw_g (lw_at lw_m4 78 rfl) rfl
theorem q916 : (Jvm.Cond.methodLink "SoManyStairs$House" (79 : Nat) ({ cls := "java/util/ArrayList", name := "get", desc := "(I)Ljava/lang/Object;" } : Jvm.MethodName)) ∈ lw_all := lw_g (lw_at lw_m4 79 rfl) rfl
theorem q917 : (Jvm.Cond.classLink "SoManyStairs$House" (74 : Nat) "SoManyStairs$Tenant") ∈ lw_all := lw_g (lw_at lw_m4 80 rfl) rfl
theorem q920 : (Jvm.Cond.instanceMethod ({ cls := "SoManyStairs$House", name := "counts", desc := "(LSoManyStairs$State;IIII)I" } : Jvm.MethodName)) ∈ lw_all := lw_g (lw_at lw_m4 83 rfl) rfl
theorem q921 : (Jvm.Cond.selects "SoManyStairs$House" ({ cls := "SoManyStairs$House", name := "counts", desc := "(LSoManyStairs$State;IIII)I" } : Jvm.MethodName) ({ cls := "SoManyStairs$House", name := "counts", desc := "(LSoManyStairs$State;IIII)I" } : Jvm.MethodName)) ∈ lw_all := lw_g (lw_at lw_m4 84 rfl) rfl
theorem q922 : (Jvm.Cond.code ({ cls := "SoManyStairs$House", name := "counts", desc := "(LSoManyStairs$State;IIII)I" } : Jvm.MethodName) prog_3_method_3_code (6 : Nat) (Option.some Jvm.ClassFile.FieldType.int)) ∈ lw_all := lw_g (lw_at lw_m4 85 rfl) rfl
theorem q923 : (Jvm.Cond.methodLink "SoManyStairs$House" (38 : Nat) ({ cls := "java/lang/Math", name := "min", desc := "(II)I" } : Jvm.MethodName)) ∈ lw_all := lw_g (lw_at lw_m4 86 rfl) rfl
theorem q924 : (Jvm.Cond.methodLink "SoManyStairs$House" (44 : Nat) ({ cls := "SoManyStairs$House", name := "tell", desc := "(LSoManyStairs$State;IIII)V" } : Jvm.MethodName)) ∈ lw_all := lw_g (lw_at lw_m4 87 rfl) rfl
theorem q925 : (Jvm.Cond.privateMethod ({ cls := "SoManyStairs$House", name := "tell", desc := "(LSoManyStairs$State;IIII)V" } : Jvm.MethodName)) ∈ lw_tbl := lw_at lw_m4 88 rfl
theorem q926 : (Jvm.Cond.instanceMethod ({ cls := "SoManyStairs$House", name := "tell", desc := "(LSoManyStairs$State;IIII)V" } : Jvm.MethodName)) ∈ lw_all := lw_g (lw_at lw_m4 89 rfl) rfl
theorem q927 : (Jvm.Cond.code ({ cls := "SoManyStairs$House", name := "tell", desc := "(LSoManyStairs$State;IIII)V" } : Jvm.MethodName) prog_3_method_2_code (6 : Nat) (Option.none : Option Jvm.ClassFile.FieldType)) ∈ lw_all := lw_g (lw_at lw_m4 90 rfl) rfl
theorem q928 : (Jvm.Cond.methodLink "SoManyStairs$House" (48 : Nat) ({ cls := "SoManyStairs$Part", name := "of", desc := "([I)I" } : Jvm.MethodName)) ∈ lw_all := lw_g (lw_at lw_m4 91 rfl) rfl
theorem q948 : (Jvm.Cond.methodLinkNest "SoManyStairs$House" (54 : Nat) ({ cls := "SoManyStairs", name := "within", desc := "(II)I" } : Jvm.MethodName) "SoManyStairs") ∈ lw_tbl := lw_at lw_m4 111 rfl
theorem q996 : (Jvm.Cond.instanceMethod ({ cls := "SoManyStairs$House", name := "pull", desc := "(LSoManyStairs$State;I)I" } : Jvm.MethodName)) ∈ lw_all := lw_g (lw_at lw_m4 159 rfl) rfl
theorem q997 : (Jvm.Cond.selects "SoManyStairs$House" ({ cls := "SoManyStairs$House", name := "pull", desc := "(LSoManyStairs$State;I)I" } : Jvm.MethodName) ({ cls := "SoManyStairs$House", name := "pull", desc := "(LSoManyStairs$State;I)I" } : Jvm.MethodName)) ∈ lw_all := lw_g (lw_at lw_m4 160 rfl) rfl
theorem q998 : (Jvm.Cond.code ({ cls := "SoManyStairs$House", name := "pull", desc := "(LSoManyStairs$State;I)I" } : Jvm.MethodName) prog_3_method_4_code (6 : Nat) (Option.some Jvm.ClassFile.FieldType.int)) ∈ lw_all := lw_g (lw_at lw_m4 161 rfl) rfl
theorem q999 : (Jvm.Cond.methodLink "SoManyStairs$House" (60 : Nat) ({ cls := "java/util/ArrayList", name := "iterator", desc := "()Ljava/util/Iterator;" } : Jvm.MethodName)) ∈ lw_all := lw_g (lw_at lw_m4 162 rfl) rfl
theorem q1000 : (Jvm.Cond.interfaceEntry "SoManyStairs$House" (64 : Nat)) ∈ lw_tbl := lw_at lw_m4 163 rfl
theorem q1001 : (Jvm.Cond.methodLink "SoManyStairs$House" (64 : Nat) ({ cls := "java/util/Iterator", name := "hasNext", desc := "()Z" } : Jvm.MethodName)) ∈ lw_all := lw_g (lw_at lw_m4 164 rfl) rfl
theorem q1002 : (Jvm.Cond.interfaceEntry "SoManyStairs$House" (70 : Nat)) ∈ lw_tbl := lw_at lw_m4 165 rfl
theorem q1003 : (Jvm.Cond.methodLink "SoManyStairs$House" (70 : Nat) ({ cls := "java/util/Iterator", name := "next", desc := "()Ljava/lang/Object;" } : Jvm.MethodName)) ∈ lw_all := lw_g (lw_at lw_m4 166 rfl) rfl
theorem q2056 : (Jvm.Cond.castable "SoManyStairs$House" "java/lang/Object") ∈ lw_tbl := lw_at lw_m9 19 rfl
theorem in_X1 : ∀ w ∈ wsX10, w ∈ lw_all := lw_in wsX10 [214, 216, 218, 220, 222, 224, 226, 228, 230, 232] (by decide +kernel) (by decide +kernel)

/-! SoManyStairs$Numeral -/
set_option maxRecDepth 100000
def RX10 : String := "SoManyStairs$Numeral"
def TX10 : u_T := fun k => match k with
  | _ => ("SoManyStairs$Numeral", "v", "I", true)
def tyX10 : Nat → FieldType := fun k => match k with
  | _ => .int
abbrev wsX100 : List Cond := u_ws RX10 TX10 1
theorem nmX10 : ∀ a, a < 1 → ∀ b, b < 1 → a ≠ b → (TX10 a).2.1 ≠ (TX10 b).2.1 := by decide +kernel
theorem tyX10_ok : ∀ k, k < 1 → parseFieldDescriptor (TX10 k).2.2.1 = some (tyX10 k) := by decide +kernel
abbrev cX10_init : ByteArray := prog_8_method_1_code
def yX10_init : MethodName := ⟨RX10, "<init>", "(I)V"⟩
def dkwX10_init_0 : List UInt8 := [42, 183, 0, 1, 42, 27, 181, 0, 7, 177]
abbrev dktX10_init_0 : List UInt8 := dkwX10_init_0 ++ []
theorem dksX10_init_0 : cX10_init.data.toList.drop 0 = dktX10_init_0 := by decide +kernel
theorem dX10_init_0 : decode cX10_init 0 = .ok (.aload_n 0, 1) := dk_42 (dk_at dksX10_init_0 0 rfl rfl)
theorem dX10_init_1 : decode cX10_init 1 = .ok (.invokespecial 1, 3) := dk_183 0 1 (dk_at dksX10_init_0 1 rfl rfl)
theorem dX10_init_4 : decode cX10_init 4 = .ok (.aload_n 0, 1) := dk_42 (dk_at dksX10_init_0 4 rfl rfl)
theorem dX10_init_5 : decode cX10_init 5 = .ok (.iload_n 1, 1) := dk_27 (dk_at dksX10_init_0 5 rfl rfl)
theorem dX10_init_6 : decode cX10_init 6 = .ok (.putfield 7, 3) := dk_181 0 7 (dk_at dksX10_init_0 6 rfl rfl)
theorem dX10_init_9 : decode cX10_init 9 = .ok (.return_, 1) := dk_177 (dk_at dksX10_init_0 9 rfl rfl)
abbrev cX10_of : ByteArray := prog_8_method_2_code
def yX10_of : MethodName := ⟨RX10, "of", "([I)I"⟩
theorem dX10_of_0 : decode cX10_of 0 = .ok (.aload_n 0, 1) := by decide +kernel
theorem dX10_of_1 : decode cX10_of 1 = .ok (.getfield 7, 3) := by decide +kernel
theorem dX10_of_4 : decode cX10_of 4 = .ok (.ireturn, 1) := by decide +kernel
theorem q143 : (Jvm.Cond.initialized "SoManyStairs$Numeral") ∈ lw_all := lw_g (lw_at lw_m1 26 rfl) rfl
theorem q759 : (Jvm.Cond.selects "SoManyStairs$Numeral" ({ cls := "java/lang/Object", name := "getClass", desc := "()Ljava/lang/Class;" } : Jvm.MethodName) ({ cls := "java/lang/Object", name := "getClass", desc := "()Ljava/lang/Class;" } : Jvm.MethodName)) ∈ lw_all := lw_g (lw_at lw_m3 162 rfl) rfl
theorem q837 : (Jvm.Cond.instantiable "SoManyStairs$Numeral" (1 : Nat)) ∈ lw_all := lw_g (lw_at lw_m4 0 rfl) rfl
theorem q839 : (Jvm.Cond.instanceMethod ({ cls := "SoManyStairs$Numeral", name := "<init>", desc := "(I)V" } : Jvm.MethodName)) ∈ lw_all := lw_g (lw_at lw_m4 2 rfl) rfl
theorem q840 : (Jvm.Cond.code ({ cls := "SoManyStairs$Numeral", name := "<init>", desc := "(I)V" } : Jvm.MethodName) prog_8_method_1_code (2 : Nat) (Option.none : Option Jvm.ClassFile.FieldType)) ∈ lw_all := lw_g (lw_at lw_m4 3 rfl) rfl
theorem q841 : (Jvm.Cond.methodLinkNest "SoManyStairs$Numeral" (1 : Nat) ({ cls := "SoManyStairs$Part", name := "<init>", desc := "()V" } : Jvm.MethodName) "SoManyStairs") ∈ lw_tbl := lw_at lw_m4 4 rfl
theorem q842 : (Jvm.Cond.fieldLink "SoManyStairs$Numeral" (7 : Nat) "SoManyStairs$Numeral" "v" "I") ∈ lw_all := lw_g (lw_at lw_m4 5 rfl) rfl
theorem q843 : (Jvm.Cond.laysFinal "SoManyStairs$Numeral" "SoManyStairs$Numeral" "v" "I") ∈ lw_all := lw_g (lw_at lw_m4 6 rfl) rfl
theorem q844 : (Jvm.Cond.soleField "SoManyStairs$Numeral" "v") ∈ lw_all := lw_g (lw_at lw_m4 7 rfl) rfl
theorem q845 : (Jvm.Cond.superclass "SoManyStairs$Numeral" "SoManyStairs$Part") ∈ lw_all := lw_g (lw_at lw_m4 8 rfl) rfl
theorem q938 : (Jvm.Cond.instanceMethod ({ cls := "SoManyStairs$Numeral", name := "of", desc := "([I)I" } : Jvm.MethodName)) ∈ lw_all := lw_g (lw_at lw_m4 101 rfl) rfl
theorem q939 : (Jvm.Cond.code ({ cls := "SoManyStairs$Numeral", name := "of", desc := "([I)I" } : Jvm.MethodName) prog_8_method_2_code (2 : Nat) (Option.some Jvm.ClassFile.FieldType.int)) ∈ lw_all := lw_g (lw_at lw_m4 102 rfl) rfl
theorem q946 : (Jvm.Cond.selects "SoManyStairs$Numeral" ({ cls := "SoManyStairs$Part", name := "of", desc := "([I)I" } : Jvm.MethodName) ({ cls := "SoManyStairs$Numeral", name := "of", desc := "([I)I" } : Jvm.MethodName)) ∈ lw_all := lw_g (lw_at lw_m4 109 rfl) rfl
theorem q2065 : (Jvm.Cond.castable "SoManyStairs$Numeral" "java/lang/Object") ∈ lw_tbl := lw_at lw_m9 28 rfl
theorem in_X10 : ∀ w ∈ wsX100, w ∈ lw_all := lw_in wsX100 [843] (by decide +kernel) (by decide +kernel)

/-! SoManyStairs$Named -/
set_option maxRecDepth 100000
def RX11 : String := "SoManyStairs$Named"
def TX11 : u_T := fun k => match k with
  | _ => ("SoManyStairs$Named", "which", "I", true)
def tyX11 : Nat → FieldType := fun k => match k with
  | _ => .int
abbrev wsX110 : List Cond := u_ws RX11 TX11 1
theorem nmX11 : ∀ a, a < 1 → ∀ b, b < 1 → a ≠ b → (TX11 a).2.1 ≠ (TX11 b).2.1 := by decide +kernel
theorem tyX11_ok : ∀ k, k < 1 → parseFieldDescriptor (TX11 k).2.2.1 = some (tyX11 k) := by decide +kernel
abbrev cX11_init : ByteArray := prog_6_method_1_code
def yX11_init : MethodName := ⟨RX11, "<init>", "(I)V"⟩
def dkwX11_init_0 : List UInt8 := [42, 183, 0, 1, 42, 27, 181, 0, 7, 177]
abbrev dktX11_init_0 : List UInt8 := dkwX11_init_0 ++ []
theorem dksX11_init_0 : cX11_init.data.toList.drop 0 = dktX11_init_0 := by decide +kernel
theorem dX11_init_0 : decode cX11_init 0 = .ok (.aload_n 0, 1) := dk_42 (dk_at dksX11_init_0 0 rfl rfl)
theorem dX11_init_1 : decode cX11_init 1 = .ok (.invokespecial 1, 3) := dk_183 0 1 (dk_at dksX11_init_0 1 rfl rfl)
theorem dX11_init_4 : decode cX11_init 4 = .ok (.aload_n 0, 1) := dk_42 (dk_at dksX11_init_0 4 rfl rfl)
theorem dX11_init_5 : decode cX11_init 5 = .ok (.iload_n 1, 1) := dk_27 (dk_at dksX11_init_0 5 rfl rfl)
theorem dX11_init_6 : decode cX11_init 6 = .ok (.putfield 7, 3) := dk_181 0 7 (dk_at dksX11_init_0 6 rfl rfl)
theorem dX11_init_9 : decode cX11_init 9 = .ok (.return_, 1) := dk_177 (dk_at dksX11_init_0 9 rfl rfl)
abbrev cX11_of : ByteArray := prog_6_method_2_code
def yX11_of : MethodName := ⟨RX11, "of", "([I)I"⟩
def dkwX11_of_0 : List UInt8 := [43, 42, 180, 0, 7, 46, 172]
abbrev dktX11_of_0 : List UInt8 := dkwX11_of_0 ++ []
theorem dksX11_of_0 : cX11_of.data.toList.drop 0 = dktX11_of_0 := by decide +kernel
theorem dX11_of_0 : decode cX11_of 0 = .ok (.aload_n 1, 1) := dk_43 (dk_at dksX11_of_0 0 rfl rfl)
theorem dX11_of_1 : decode cX11_of 1 = .ok (.aload_n 0, 1) := dk_42 (dk_at dksX11_of_0 1 rfl rfl)
theorem dX11_of_2 : decode cX11_of 2 = .ok (.getfield 7, 3) := dk_180 0 7 (dk_at dksX11_of_0 2 rfl rfl)
theorem dX11_of_5 : decode cX11_of 5 = .ok (.iaload, 1) := dk_46 (dk_at dksX11_of_0 5 rfl rfl)
theorem dX11_of_6 : decode cX11_of 6 = .ok (.ireturn, 1) := dk_172 (dk_at dksX11_of_0 6 rfl rfl)
theorem q144 : (Jvm.Cond.initialized "SoManyStairs$Named") ∈ lw_all := lw_g (lw_at lw_m1 27 rfl) rfl
theorem q757 : (Jvm.Cond.selects "SoManyStairs$Named" ({ cls := "java/lang/Object", name := "getClass", desc := "()Ljava/lang/Class;" } : Jvm.MethodName) ({ cls := "java/lang/Object", name := "getClass", desc := "()Ljava/lang/Class;" } : Jvm.MethodName)) ∈ lw_all := lw_g (lw_at lw_m3 160 rfl) rfl
theorem q847 : (Jvm.Cond.instantiable "SoManyStairs$Named" (1 : Nat)) ∈ lw_all := lw_g (lw_at lw_m4 10 rfl) rfl
theorem q849 : (Jvm.Cond.instanceMethod ({ cls := "SoManyStairs$Named", name := "<init>", desc := "(I)V" } : Jvm.MethodName)) ∈ lw_all := lw_g (lw_at lw_m4 12 rfl) rfl
theorem q850 : (Jvm.Cond.code ({ cls := "SoManyStairs$Named", name := "<init>", desc := "(I)V" } : Jvm.MethodName) prog_6_method_1_code (2 : Nat) (Option.none : Option Jvm.ClassFile.FieldType)) ∈ lw_all := lw_g (lw_at lw_m4 13 rfl) rfl
theorem q851 : (Jvm.Cond.methodLinkNest "SoManyStairs$Named" (1 : Nat) ({ cls := "SoManyStairs$Part", name := "<init>", desc := "()V" } : Jvm.MethodName) "SoManyStairs") ∈ lw_tbl := lw_at lw_m4 14 rfl
theorem q852 : (Jvm.Cond.fieldLink "SoManyStairs$Named" (7 : Nat) "SoManyStairs$Named" "which" "I") ∈ lw_all := lw_g (lw_at lw_m4 15 rfl) rfl
theorem q853 : (Jvm.Cond.laysFinal "SoManyStairs$Named" "SoManyStairs$Named" "which" "I") ∈ lw_all := lw_g (lw_at lw_m4 16 rfl) rfl
theorem q854 : (Jvm.Cond.soleField "SoManyStairs$Named" "which") ∈ lw_all := lw_g (lw_at lw_m4 17 rfl) rfl
theorem q855 : (Jvm.Cond.superclass "SoManyStairs$Named" "SoManyStairs$Part") ∈ lw_all := lw_g (lw_at lw_m4 18 rfl) rfl
theorem q931 : (Jvm.Cond.selects "SoManyStairs$Named" ({ cls := "SoManyStairs$Part", name := "of", desc := "([I)I" } : Jvm.MethodName) ({ cls := "SoManyStairs$Named", name := "of", desc := "([I)I" } : Jvm.MethodName)) ∈ lw_all := lw_g (lw_at lw_m4 94 rfl) rfl
theorem q932 : (Jvm.Cond.instanceMethod ({ cls := "SoManyStairs$Named", name := "of", desc := "([I)I" } : Jvm.MethodName)) ∈ lw_all := lw_g (lw_at lw_m4 95 rfl) rfl
theorem q933 : (Jvm.Cond.code ({ cls := "SoManyStairs$Named", name := "of", desc := "([I)I" } : Jvm.MethodName) prog_6_method_2_code (2 : Nat) (Option.some Jvm.ClassFile.FieldType.int)) ∈ lw_all := lw_g (lw_at lw_m4 96 rfl) rfl
theorem q2066 : (Jvm.Cond.castable "SoManyStairs$Named" "java/lang/Object") ∈ lw_tbl := lw_at lw_m9 29 rfl
theorem in_X11 : ∀ w ∈ wsX110, w ∈ lw_all := lw_in wsX110 [853] (by decide +kernel) (by decide +kernel)

/-! SoManyStairs$Two -/
set_option maxRecDepth 100000
def RX12 : String := "SoManyStairs$Two"
def TX12 : u_T := fun k => match k with
  | 0 => ("SoManyStairs$Two", "sign", "I", true)
  | 1 => ("SoManyStairs$Two", "a", "LSoManyStairs$Part;", true)
  | _ => ("SoManyStairs$Two", "b", "LSoManyStairs$Part;", true)
def tyX12 : Nat → FieldType := fun k => match k with
  | 0 => .int
  | 1 => .object "SoManyStairs$Part"
  | _ => .object "SoManyStairs$Part"
abbrev wsX120 : List Cond := u_ws RX12 TX12 3
theorem nmX12 : ∀ a, a < 3 → ∀ b, b < 3 → a ≠ b → (TX12 a).2.1 ≠ (TX12 b).2.1 := by decide +kernel
theorem tyX12_ok : ∀ k, k < 3 → parseFieldDescriptor (TX12 k).2.2.1 = some (tyX12 k) := by decide +kernel
abbrev cX12_init : ByteArray := prog_14_method_1_code
def yX12_init : MethodName := ⟨RX12, "<init>", "(ILSoManyStairs$Part;LSoManyStairs$Part;)V"⟩
def dkwX12_init_0 : List UInt8 := [42, 183, 0, 1, 42, 27, 181, 0, 7, 42, 44, 181, 0, 13, 42, 45, 181, 0, 17, 177]
abbrev dktX12_init_0 : List UInt8 := dkwX12_init_0 ++ []
theorem dksX12_init_0 : cX12_init.data.toList.drop 0 = dktX12_init_0 := by decide +kernel
theorem dX12_init_0 : decode cX12_init 0 = .ok (.aload_n 0, 1) := dk_42 (dk_at dksX12_init_0 0 rfl rfl)
theorem dX12_init_1 : decode cX12_init 1 = .ok (.invokespecial 1, 3) := dk_183 0 1 (dk_at dksX12_init_0 1 rfl rfl)
theorem dX12_init_4 : decode cX12_init 4 = .ok (.aload_n 0, 1) := dk_42 (dk_at dksX12_init_0 4 rfl rfl)
theorem dX12_init_5 : decode cX12_init 5 = .ok (.iload_n 1, 1) := dk_27 (dk_at dksX12_init_0 5 rfl rfl)
theorem dX12_init_6 : decode cX12_init 6 = .ok (.putfield 7, 3) := dk_181 0 7 (dk_at dksX12_init_0 6 rfl rfl)
theorem dX12_init_9 : decode cX12_init 9 = .ok (.aload_n 0, 1) := dk_42 (dk_at dksX12_init_0 9 rfl rfl)
theorem dX12_init_10 : decode cX12_init 10 = .ok (.aload_n 2, 1) := dk_44 (dk_at dksX12_init_0 10 rfl rfl)
theorem dX12_init_11 : decode cX12_init 11 = .ok (.putfield 13, 3) := dk_181 0 13 (dk_at dksX12_init_0 11 rfl rfl)
theorem dX12_init_14 : decode cX12_init 14 = .ok (.aload_n 0, 1) := dk_42 (dk_at dksX12_init_0 14 rfl rfl)
theorem dX12_init_15 : decode cX12_init 15 = .ok (.aload_n 3, 1) := dk_45 (dk_at dksX12_init_0 15 rfl rfl)
theorem dX12_init_16 : decode cX12_init 16 = .ok (.putfield 17, 3) := dk_181 0 17 (dk_at dksX12_init_0 16 rfl rfl)
theorem dX12_init_19 : decode cX12_init 19 = .ok (.return_, 1) := dk_177 (dk_at dksX12_init_0 19 rfl rfl)
abbrev cX12_of : ByteArray := prog_14_method_3_code
def yX12_of : MethodName := ⟨RX12, "of", "([I)I"⟩
def dkwX12_of_6 : List UInt8 := [172, 28, 154, 0, 7, 29, 153, 0, 7, 4, 167, 0, 4, 3, 184, 0, 24, 172]
abbrev dktX12_of_6 : List UInt8 := dkwX12_of_6 ++ []
def dkwX12_of_5 : List UInt8 := [167, 0, 4, 3, 184, 0, 24, 172, 28, 153, 0, 11, 29, 153, 0, 7, 4, 167, 0, 4, 3, 184, 0, 24]
abbrev dktX12_of_5 : List UInt8 := dkwX12_of_5 ++ dktX12_of_6
def dkwX12_of_4 : List UInt8 := [184, 0, 24, 172, 28, 29, 164, 0, 7, 4, 167, 0, 4, 3, 184, 0, 24, 172, 28, 29, 160, 0, 7, 4]
abbrev dktX12_of_4 : List UInt8 := dkwX12_of_4 ++ dktX12_of_5
def dkwX12_of_3 : List UInt8 := [29, 154, 0, 7, 3, 167, 0, 6, 28, 29, 112, 172, 28, 29, 162, 0, 7, 4, 167, 0, 4, 3]
abbrev dktX12_of_3 : List UInt8 := dkwX12_of_3 ++ dktX12_of_4
def dkwX12_of_2 : List UInt8 := [28, 29, 96, 172, 28, 29, 100, 172, 28, 29, 104, 172, 29, 154, 0, 7, 3, 167, 0, 6, 28, 29, 108, 172]
abbrev dktX12_of_2 : List UInt8 := dkwX12_of_2 ++ dktX12_of_3
def dkwX12_of_1 : List UInt8 := [170, 0, 0, 0, 0, 213, 0, 0, 0, 37, 0, 0, 0, 62, 0, 0, 0, 142, 0, 0, 0, 196, 0, 0, 0, 213, 0, 0, 0, 213, 0, 0, 0, 213, 0, 0, 0, 126, 0, 0, 0, 118, 0, 0, 0, 213, 0, 0, 0, 122, 0, 0, 0, 213, 0, 0, 0, 130, 0, 0, 0, 213, 0, 0, 0, 213, 0, 0, 0, 213, 0, 0, 0, 213, 0, 0, 0, 213, 0, 0, 0, 213, 0, 0, 0, 213, 0, 0, 0, 213, 0, 0, 0, 213, 0, 0, 0, 213, 0, 0, 0, 213, 0, 0, 0, 213, 0, 0, 0, 154, 0, 0, 0, 182, 0, 0, 0, 168]
abbrev dktX12_of_1 : List UInt8 := dkwX12_of_1 ++ dktX12_of_2
def dkwX12_of_0 : List UInt8 := [42, 180, 0, 13, 43, 182, 0, 20, 61, 42, 180, 0, 17, 43, 182, 0, 20, 62, 42, 180, 0, 7]
abbrev dktX12_of_0 : List UInt8 := dkwX12_of_0 ++ dktX12_of_1
theorem dksX12_of_0 : cX12_of.data.toList.drop 0 = dktX12_of_0 := by decide +kernel
theorem dksX12_of_1 : cX12_of.data.toList.drop 22 = dktX12_of_1 := dk_seg dksX12_of_0 22 rfl rfl
theorem dksX12_of_2 : cX12_of.data.toList.drop 140 = dktX12_of_2 := dk_seg dksX12_of_1 118 rfl rfl
theorem dksX12_of_3 : cX12_of.data.toList.drop 164 = dktX12_of_3 := dk_seg dksX12_of_2 24 rfl rfl
theorem dksX12_of_4 : cX12_of.data.toList.drop 186 = dktX12_of_4 := dk_seg dksX12_of_3 22 rfl rfl
theorem dksX12_of_5 : cX12_of.data.toList.drop 210 = dktX12_of_5 := dk_seg dksX12_of_4 24 rfl rfl
theorem dksX12_of_6 : cX12_of.data.toList.drop 234 = dktX12_of_6 := dk_seg dksX12_of_5 24 rfl rfl
theorem dX12_of_0 : decode cX12_of 0 = .ok (.aload_n 0, 1) := dk_42 (dk_at dksX12_of_0 0 rfl rfl)
theorem dX12_of_1 : decode cX12_of 1 = .ok (.getfield 13, 3) := dk_180 0 13 (dk_at dksX12_of_0 1 rfl rfl)
theorem dX12_of_4 : decode cX12_of 4 = .ok (.aload_n 1, 1) := dk_43 (dk_at dksX12_of_0 4 rfl rfl)
theorem dX12_of_5 : decode cX12_of 5 = .ok (.invokevirtual 20, 3) := dk_182 0 20 (dk_at dksX12_of_0 5 rfl rfl)
theorem dX12_of_8 : decode cX12_of 8 = .ok (.istore_n 2, 1) := dk_61 (dk_at dksX12_of_0 8 rfl rfl)
theorem dX12_of_9 : decode cX12_of 9 = .ok (.aload_n 0, 1) := dk_42 (dk_at dksX12_of_0 9 rfl rfl)
theorem dX12_of_10 : decode cX12_of 10 = .ok (.getfield 17, 3) := dk_180 0 17 (dk_at dksX12_of_0 10 rfl rfl)
theorem dX12_of_13 : decode cX12_of 13 = .ok (.aload_n 1, 1) := dk_43 (dk_at dksX12_of_0 13 rfl rfl)
theorem dX12_of_14 : decode cX12_of 14 = .ok (.invokevirtual 20, 3) := dk_182 0 20 (dk_at dksX12_of_0 14 rfl rfl)
theorem dX12_of_17 : decode cX12_of 17 = .ok (.istore_n 3, 1) := dk_62 (dk_at dksX12_of_0 17 rfl rfl)
theorem dX12_of_18 : decode cX12_of 18 = .ok (.aload_n 0, 1) := dk_42 (dk_at dksX12_of_0 18 rfl rfl)
theorem dX12_of_19 : decode cX12_of 19 = .ok (.getfield 7, 3) := dk_180 0 7 (dk_at dksX12_of_0 19 rfl rfl)
theorem dX12_of_22 : decode cX12_of 22 = .ok (.tableswitch 213 37 62 #[142, 196, 213, 213, 213, 126, 118, 213, 122, 213, 130, 213, 213, 213, 213, 213, 213, 213, 213, 213, 213, 213, 213, 154, 182, 168], 118) := by decide +kernel
theorem dX12_of_140 : decode cX12_of 140 = .ok (.iload_n 2, 1) := dk_28 (dk_at dksX12_of_2 0 rfl rfl)
theorem dX12_of_141 : decode cX12_of 141 = .ok (.iload_n 3, 1) := dk_29 (dk_at dksX12_of_2 1 rfl rfl)
theorem dX12_of_142 : decode cX12_of 142 = .ok (.iadd, 1) := dk_96 (dk_at dksX12_of_2 2 rfl rfl)
theorem dX12_of_143 : decode cX12_of 143 = .ok (.ireturn, 1) := dk_172 (dk_at dksX12_of_2 3 rfl rfl)
theorem dX12_of_144 : decode cX12_of 144 = .ok (.iload_n 2, 1) := dk_28 (dk_at dksX12_of_2 4 rfl rfl)
theorem dX12_of_145 : decode cX12_of 145 = .ok (.iload_n 3, 1) := dk_29 (dk_at dksX12_of_2 5 rfl rfl)
theorem dX12_of_146 : decode cX12_of 146 = .ok (.isub, 1) := dk_100 (dk_at dksX12_of_2 6 rfl rfl)
theorem dX12_of_147 : decode cX12_of 147 = .ok (.ireturn, 1) := dk_172 (dk_at dksX12_of_2 7 rfl rfl)
theorem dX12_of_148 : decode cX12_of 148 = .ok (.iload_n 2, 1) := dk_28 (dk_at dksX12_of_2 8 rfl rfl)
theorem dX12_of_149 : decode cX12_of 149 = .ok (.iload_n 3, 1) := dk_29 (dk_at dksX12_of_2 9 rfl rfl)
theorem dX12_of_150 : decode cX12_of 150 = .ok (.imul, 1) := dk_104 (dk_at dksX12_of_2 10 rfl rfl)
theorem dX12_of_151 : decode cX12_of 151 = .ok (.ireturn, 1) := dk_172 (dk_at dksX12_of_2 11 rfl rfl)
theorem dX12_of_152 : decode cX12_of 152 = .ok (.iload_n 3, 1) := dk_29 (dk_at dksX12_of_2 12 rfl rfl)
theorem dX12_of_153 : decode cX12_of 153 = .ok (.ifCond .ne 7, 3) := dk_154 0 7 (dk_at dksX12_of_2 13 rfl rfl)
theorem dX12_of_156 : decode cX12_of 156 = .ok (.iconst 0, 1) := dk_3 (dk_at dksX12_of_2 16 rfl rfl)
theorem dX12_of_157 : decode cX12_of 157 = .ok (.goto 6, 3) := dk_167 0 6 (dk_at dksX12_of_2 17 rfl rfl)
theorem dX12_of_160 : decode cX12_of 160 = .ok (.iload_n 2, 1) := dk_28 (dk_at dksX12_of_2 20 rfl rfl)
theorem dX12_of_161 : decode cX12_of 161 = .ok (.iload_n 3, 1) := dk_29 (dk_at dksX12_of_2 21 rfl rfl)
theorem dX12_of_162 : decode cX12_of 162 = .ok (.idiv, 1) := dk_108 (dk_at dksX12_of_2 22 rfl rfl)
theorem dX12_of_163 : decode cX12_of 163 = .ok (.ireturn, 1) := dk_172 (dk_at dksX12_of_2 23 rfl rfl)
theorem dX12_of_164 : decode cX12_of 164 = .ok (.iload_n 3, 1) := dk_29 (dk_at dksX12_of_3 0 rfl rfl)
theorem dX12_of_165 : decode cX12_of 165 = .ok (.ifCond .ne 7, 3) := dk_154 0 7 (dk_at dksX12_of_3 1 rfl rfl)
theorem dX12_of_168 : decode cX12_of 168 = .ok (.iconst 0, 1) := dk_3 (dk_at dksX12_of_3 4 rfl rfl)
theorem dX12_of_169 : decode cX12_of 169 = .ok (.goto 6, 3) := dk_167 0 6 (dk_at dksX12_of_3 5 rfl rfl)
theorem dX12_of_172 : decode cX12_of 172 = .ok (.iload_n 2, 1) := dk_28 (dk_at dksX12_of_3 8 rfl rfl)
theorem dX12_of_173 : decode cX12_of 173 = .ok (.iload_n 3, 1) := dk_29 (dk_at dksX12_of_3 9 rfl rfl)
theorem dX12_of_174 : decode cX12_of 174 = .ok (.irem, 1) := dk_112 (dk_at dksX12_of_3 10 rfl rfl)
theorem dX12_of_175 : decode cX12_of 175 = .ok (.ireturn, 1) := dk_172 (dk_at dksX12_of_3 11 rfl rfl)
theorem dX12_of_176 : decode cX12_of 176 = .ok (.iload_n 2, 1) := dk_28 (dk_at dksX12_of_3 12 rfl rfl)
theorem dX12_of_177 : decode cX12_of 177 = .ok (.iload_n 3, 1) := dk_29 (dk_at dksX12_of_3 13 rfl rfl)
theorem dX12_of_178 : decode cX12_of 178 = .ok (.if_icmp .ge 7, 3) := dk_162 0 7 (dk_at dksX12_of_3 14 rfl rfl)
theorem dX12_of_181 : decode cX12_of 181 = .ok (.iconst 1, 1) := dk_4 (dk_at dksX12_of_3 17 rfl rfl)
theorem dX12_of_182 : decode cX12_of 182 = .ok (.goto 4, 3) := dk_167 0 4 (dk_at dksX12_of_3 18 rfl rfl)
theorem dX12_of_185 : decode cX12_of 185 = .ok (.iconst 0, 1) := dk_3 (dk_at dksX12_of_3 21 rfl rfl)
theorem dX12_of_186 : decode cX12_of 186 = .ok (.invokestatic 24, 3) := dk_184 0 24 (dk_at dksX12_of_4 0 rfl rfl)
theorem dX12_of_189 : decode cX12_of 189 = .ok (.ireturn, 1) := dk_172 (dk_at dksX12_of_4 3 rfl rfl)
theorem dX12_of_190 : decode cX12_of 190 = .ok (.iload_n 2, 1) := dk_28 (dk_at dksX12_of_4 4 rfl rfl)
theorem dX12_of_191 : decode cX12_of 191 = .ok (.iload_n 3, 1) := dk_29 (dk_at dksX12_of_4 5 rfl rfl)
theorem dX12_of_192 : decode cX12_of 192 = .ok (.if_icmp .le 7, 3) := dk_164 0 7 (dk_at dksX12_of_4 6 rfl rfl)
theorem dX12_of_195 : decode cX12_of 195 = .ok (.iconst 1, 1) := dk_4 (dk_at dksX12_of_4 9 rfl rfl)
theorem dX12_of_196 : decode cX12_of 196 = .ok (.goto 4, 3) := dk_167 0 4 (dk_at dksX12_of_4 10 rfl rfl)
theorem dX12_of_199 : decode cX12_of 199 = .ok (.iconst 0, 1) := dk_3 (dk_at dksX12_of_4 13 rfl rfl)
theorem dX12_of_200 : decode cX12_of 200 = .ok (.invokestatic 24, 3) := dk_184 0 24 (dk_at dksX12_of_4 14 rfl rfl)
theorem dX12_of_203 : decode cX12_of 203 = .ok (.ireturn, 1) := dk_172 (dk_at dksX12_of_4 17 rfl rfl)
theorem dX12_of_204 : decode cX12_of 204 = .ok (.iload_n 2, 1) := dk_28 (dk_at dksX12_of_4 18 rfl rfl)
theorem dX12_of_205 : decode cX12_of 205 = .ok (.iload_n 3, 1) := dk_29 (dk_at dksX12_of_4 19 rfl rfl)
theorem dX12_of_206 : decode cX12_of 206 = .ok (.if_icmp .ne 7, 3) := dk_160 0 7 (dk_at dksX12_of_4 20 rfl rfl)
theorem dX12_of_209 : decode cX12_of 209 = .ok (.iconst 1, 1) := dk_4 (dk_at dksX12_of_4 23 rfl rfl)
theorem dX12_of_210 : decode cX12_of 210 = .ok (.goto 4, 3) := dk_167 0 4 (dk_at dksX12_of_5 0 rfl rfl)
theorem dX12_of_213 : decode cX12_of 213 = .ok (.iconst 0, 1) := dk_3 (dk_at dksX12_of_5 3 rfl rfl)
theorem dX12_of_214 : decode cX12_of 214 = .ok (.invokestatic 24, 3) := dk_184 0 24 (dk_at dksX12_of_5 4 rfl rfl)
theorem dX12_of_217 : decode cX12_of 217 = .ok (.ireturn, 1) := dk_172 (dk_at dksX12_of_5 7 rfl rfl)
theorem dX12_of_218 : decode cX12_of 218 = .ok (.iload_n 2, 1) := dk_28 (dk_at dksX12_of_5 8 rfl rfl)
theorem dX12_of_219 : decode cX12_of 219 = .ok (.ifCond .eq 11, 3) := dk_153 0 11 (dk_at dksX12_of_5 9 rfl rfl)
theorem dX12_of_222 : decode cX12_of 222 = .ok (.iload_n 3, 1) := dk_29 (dk_at dksX12_of_5 12 rfl rfl)
theorem dX12_of_223 : decode cX12_of 223 = .ok (.ifCond .eq 7, 3) := dk_153 0 7 (dk_at dksX12_of_5 13 rfl rfl)
theorem dX12_of_226 : decode cX12_of 226 = .ok (.iconst 1, 1) := dk_4 (dk_at dksX12_of_5 16 rfl rfl)
theorem dX12_of_227 : decode cX12_of 227 = .ok (.goto 4, 3) := dk_167 0 4 (dk_at dksX12_of_5 17 rfl rfl)
theorem dX12_of_230 : decode cX12_of 230 = .ok (.iconst 0, 1) := dk_3 (dk_at dksX12_of_5 20 rfl rfl)
theorem dX12_of_231 : decode cX12_of 231 = .ok (.invokestatic 24, 3) := dk_184 0 24 (dk_at dksX12_of_5 21 rfl rfl)
theorem dX12_of_234 : decode cX12_of 234 = .ok (.ireturn, 1) := dk_172 (dk_at dksX12_of_6 0 rfl rfl)
theorem dX12_of_235 : decode cX12_of 235 = .ok (.iload_n 2, 1) := dk_28 (dk_at dksX12_of_6 1 rfl rfl)
theorem dX12_of_236 : decode cX12_of 236 = .ok (.ifCond .ne 7, 3) := dk_154 0 7 (dk_at dksX12_of_6 2 rfl rfl)
theorem dX12_of_239 : decode cX12_of 239 = .ok (.iload_n 3, 1) := dk_29 (dk_at dksX12_of_6 5 rfl rfl)
theorem dX12_of_240 : decode cX12_of 240 = .ok (.ifCond .eq 7, 3) := dk_153 0 7 (dk_at dksX12_of_6 6 rfl rfl)
theorem dX12_of_243 : decode cX12_of 243 = .ok (.iconst 1, 1) := dk_4 (dk_at dksX12_of_6 9 rfl rfl)
theorem dX12_of_244 : decode cX12_of 244 = .ok (.goto 4, 3) := dk_167 0 4 (dk_at dksX12_of_6 10 rfl rfl)
theorem dX12_of_247 : decode cX12_of 247 = .ok (.iconst 0, 1) := dk_3 (dk_at dksX12_of_6 13 rfl rfl)
theorem dX12_of_248 : decode cX12_of 248 = .ok (.invokestatic 24, 3) := dk_184 0 24 (dk_at dksX12_of_6 14 rfl rfl)
theorem dX12_of_251 : decode cX12_of 251 = .ok (.ireturn, 1) := dk_172 (dk_at dksX12_of_6 17 rfl rfl)
abbrev cX12_is : ByteArray := prog_14_method_2_code
def yX12_is : MethodName := ⟨RX12, "is", "(Z)I"⟩
def dkwX12_is_0 : List UInt8 := [26, 153, 0, 7, 4, 167, 0, 4, 3, 172]
abbrev dktX12_is_0 : List UInt8 := dkwX12_is_0 ++ []
theorem dksX12_is_0 : cX12_is.data.toList.drop 0 = dktX12_is_0 := by decide +kernel
theorem dX12_is_0 : decode cX12_is 0 = .ok (.iload_n 0, 1) := dk_26 (dk_at dksX12_is_0 0 rfl rfl)
theorem dX12_is_1 : decode cX12_is 1 = .ok (.ifCond .eq 7, 3) := dk_153 0 7 (dk_at dksX12_is_0 1 rfl rfl)
theorem dX12_is_4 : decode cX12_is 4 = .ok (.iconst 1, 1) := dk_4 (dk_at dksX12_is_0 4 rfl rfl)
theorem dX12_is_5 : decode cX12_is 5 = .ok (.goto 4, 3) := dk_167 0 4 (dk_at dksX12_is_0 5 rfl rfl)
theorem dX12_is_8 : decode cX12_is 8 = .ok (.iconst 0, 1) := dk_3 (dk_at dksX12_is_0 8 rfl rfl)
theorem dX12_is_9 : decode cX12_is 9 = .ok (.ireturn, 1) := dk_172 (dk_at dksX12_is_0 9 rfl rfl)
theorem q145 : (Jvm.Cond.initialized "SoManyStairs$Two") ∈ lw_all := lw_g (lw_at lw_m1 28 rfl) rfl
theorem q764 : (Jvm.Cond.selects "SoManyStairs$Two" ({ cls := "java/lang/Object", name := "getClass", desc := "()Ljava/lang/Class;" } : Jvm.MethodName) ({ cls := "java/lang/Object", name := "getClass", desc := "()Ljava/lang/Class;" } : Jvm.MethodName)) ∈ lw_all := lw_g (lw_at lw_m3 167 rfl) rfl
theorem q857 : (Jvm.Cond.instantiable "SoManyStairs$Two" (3 : Nat)) ∈ lw_all := lw_g (lw_at lw_m4 20 rfl) rfl
theorem q859 : (Jvm.Cond.instanceMethod ({ cls := "SoManyStairs$Two", name := "<init>", desc := "(ILSoManyStairs$Part;LSoManyStairs$Part;)V" } : Jvm.MethodName)) ∈ lw_all := lw_g (lw_at lw_m4 22 rfl) rfl
theorem q860 : (Jvm.Cond.code ({ cls := "SoManyStairs$Two", name := "<init>", desc := "(ILSoManyStairs$Part;LSoManyStairs$Part;)V" } : Jvm.MethodName) prog_14_method_1_code (4 : Nat) (Option.none : Option Jvm.ClassFile.FieldType)) ∈ lw_all := lw_g (lw_at lw_m4 23 rfl) rfl
theorem q861 : (Jvm.Cond.methodLinkNest "SoManyStairs$Two" (1 : Nat) ({ cls := "SoManyStairs$Part", name := "<init>", desc := "()V" } : Jvm.MethodName) "SoManyStairs") ∈ lw_tbl := lw_at lw_m4 24 rfl
theorem q862 : (Jvm.Cond.fieldLink "SoManyStairs$Two" (7 : Nat) "SoManyStairs$Two" "sign" "I") ∈ lw_all := lw_g (lw_at lw_m4 25 rfl) rfl
theorem q863 : (Jvm.Cond.fieldLink "SoManyStairs$Two" (13 : Nat) "SoManyStairs$Two" "a" "LSoManyStairs$Part;") ∈ lw_all := lw_g (lw_at lw_m4 26 rfl) rfl
theorem q864 : (Jvm.Cond.fieldLink "SoManyStairs$Two" (17 : Nat) "SoManyStairs$Two" "b" "LSoManyStairs$Part;") ∈ lw_all := lw_g (lw_at lw_m4 27 rfl) rfl
theorem q865 : (Jvm.Cond.laysFinal "SoManyStairs$Two" "SoManyStairs$Two" "sign" "I") ∈ lw_all := lw_g (lw_at lw_m4 28 rfl) rfl
theorem q866 : (Jvm.Cond.soleField "SoManyStairs$Two" "sign") ∈ lw_all := lw_g (lw_at lw_m4 29 rfl) rfl
theorem q867 : (Jvm.Cond.laysFinal "SoManyStairs$Two" "SoManyStairs$Two" "a" "LSoManyStairs$Part;") ∈ lw_all := lw_g (lw_at lw_m4 30 rfl) rfl
theorem q868 : (Jvm.Cond.soleField "SoManyStairs$Two" "a") ∈ lw_all := lw_g (lw_at lw_m4 31 rfl) rfl
theorem q869 : (Jvm.Cond.laysFinal "SoManyStairs$Two" "SoManyStairs$Two" "b" "LSoManyStairs$Part;") ∈ lw_all := lw_g (lw_at lw_m4 32 rfl) rfl
theorem q870 : (Jvm.Cond.soleField "SoManyStairs$Two" "b") ∈ lw_all := lw_g (lw_at lw_m4 33 rfl) rfl
theorem q871 : (Jvm.Cond.superclass "SoManyStairs$Two" "SoManyStairs$Part") ∈ lw_all := lw_g (lw_at lw_m4 34 rfl) rfl
theorem q940 : (Jvm.Cond.instanceMethod ({ cls := "SoManyStairs$Two", name := "of", desc := "([I)I" } : Jvm.MethodName)) ∈ lw_all := lw_g (lw_at lw_m4 103 rfl) rfl
theorem q941 : (Jvm.Cond.code ({ cls := "SoManyStairs$Two", name := "of", desc := "([I)I" } : Jvm.MethodName) prog_14_method_3_code (4 : Nat) (Option.some Jvm.ClassFile.FieldType.int)) ∈ lw_all := lw_g (lw_at lw_m4 104 rfl) rfl
theorem q942 : (Jvm.Cond.methodLink "SoManyStairs$Two" (20 : Nat) ({ cls := "SoManyStairs$Part", name := "of", desc := "([I)I" } : Jvm.MethodName)) ∈ lw_all := lw_g (lw_at lw_m4 105 rfl) rfl
theorem q943 : (Jvm.Cond.methodLink "SoManyStairs$Two" (24 : Nat) ({ cls := "SoManyStairs$Two", name := "is", desc := "(Z)I" } : Jvm.MethodName)) ∈ lw_all := lw_g (lw_at lw_m4 106 rfl) rfl
theorem q944 : (Jvm.Cond.static ({ cls := "SoManyStairs$Two", name := "is", desc := "(Z)I" } : Jvm.MethodName)) ∈ lw_all := lw_g (lw_at lw_m4 107 rfl) rfl
theorem q945 : (Jvm.Cond.code ({ cls := "SoManyStairs$Two", name := "is", desc := "(Z)I" } : Jvm.MethodName) prog_14_method_2_code (1 : Nat) (Option.some Jvm.ClassFile.FieldType.int)) ∈ lw_all := lw_g (lw_at lw_m4 108 rfl) rfl
theorem q947 : (Jvm.Cond.selects "SoManyStairs$Two" ({ cls := "SoManyStairs$Part", name := "of", desc := "([I)I" } : Jvm.MethodName) ({ cls := "SoManyStairs$Two", name := "of", desc := "([I)I" } : Jvm.MethodName)) ∈ lw_all := lw_g (lw_at lw_m4 110 rfl) rfl
theorem q2067 : (Jvm.Cond.castable "SoManyStairs$Two" "java/lang/Object") ∈ lw_tbl := lw_at lw_m9 30 rfl
theorem in_X12 : ∀ w ∈ wsX120, w ∈ lw_all := lw_in wsX120 [865, 867, 869] (by decide +kernel) (by decide +kernel)

/-! SoManyStairs$Mark -/
set_option maxRecDepth 100000
def RX13 : String := "SoManyStairs$Mark"
abbrev cX13_init : ByteArray := prog_5_method_1_code
def yX13_init : MethodName := ⟨RX13, "<init>", "(LSoManyStairs;Z)V"⟩
def dkwX13_init_1 : List UInt8 := [181, 0, 22, 42, 28, 181, 0, 25, 177]
abbrev dktX13_init_1 : List UInt8 := dkwX13_init_1 ++ []
def dkwX13_init_0 : List UInt8 := [42, 43, 181, 0, 3, 42, 183, 0, 9, 42, 42, 180, 0, 3, 180, 0, 15, 181, 0, 19, 42, 2]
abbrev dktX13_init_0 : List UInt8 := dkwX13_init_0 ++ dktX13_init_1
theorem dksX13_init_0 : cX13_init.data.toList.drop 0 = dktX13_init_0 := by decide +kernel
theorem dksX13_init_1 : cX13_init.data.toList.drop 22 = dktX13_init_1 := dk_seg dksX13_init_0 22 rfl rfl
theorem dX13_init_0 : decode cX13_init 0 = .ok (.aload_n 0, 1) := dk_42 (dk_at dksX13_init_0 0 rfl rfl)
theorem dX13_init_1 : decode cX13_init 1 = .ok (.aload_n 1, 1) := dk_43 (dk_at dksX13_init_0 1 rfl rfl)
theorem dX13_init_2 : decode cX13_init 2 = .ok (.putfield 3, 3) := dk_181 0 3 (dk_at dksX13_init_0 2 rfl rfl)
theorem dX13_init_5 : decode cX13_init 5 = .ok (.aload_n 0, 1) := dk_42 (dk_at dksX13_init_0 5 rfl rfl)
theorem dX13_init_6 : decode cX13_init 6 = .ok (.invokespecial 9, 3) := dk_183 0 9 (dk_at dksX13_init_0 6 rfl rfl)
theorem dX13_init_9 : decode cX13_init 9 = .ok (.aload_n 0, 1) := dk_42 (dk_at dksX13_init_0 9 rfl rfl)
theorem dX13_init_10 : decode cX13_init 10 = .ok (.aload_n 0, 1) := dk_42 (dk_at dksX13_init_0 10 rfl rfl)
theorem dX13_init_11 : decode cX13_init 11 = .ok (.getfield 3, 3) := dk_180 0 3 (dk_at dksX13_init_0 11 rfl rfl)
theorem dX13_init_14 : decode cX13_init 14 = .ok (.getfield 15, 3) := dk_180 0 15 (dk_at dksX13_init_0 14 rfl rfl)
theorem dX13_init_17 : decode cX13_init 17 = .ok (.putfield 19, 3) := dk_181 0 19 (dk_at dksX13_init_0 17 rfl rfl)
theorem dX13_init_20 : decode cX13_init 20 = .ok (.aload_n 0, 1) := dk_42 (dk_at dksX13_init_0 20 rfl rfl)
theorem dX13_init_21 : decode cX13_init 21 = .ok (.iconst (-1), 1) := dk_2 (dk_at dksX13_init_0 21 rfl rfl)
theorem dX13_init_22 : decode cX13_init 22 = .ok (.putfield 22, 3) := dk_181 0 22 (dk_at dksX13_init_1 0 rfl rfl)
theorem dX13_init_25 : decode cX13_init 25 = .ok (.aload_n 0, 1) := dk_42 (dk_at dksX13_init_1 3 rfl rfl)
theorem dX13_init_26 : decode cX13_init 26 = .ok (.iload_n 2, 1) := dk_28 (dk_at dksX13_init_1 4 rfl rfl)
theorem dX13_init_27 : decode cX13_init 27 = .ok (.putfield 25, 3) := dk_181 0 25 (dk_at dksX13_init_1 5 rfl rfl)
theorem dX13_init_30 : decode cX13_init 30 = .ok (.return_, 1) := dk_177 (dk_at dksX13_init_1 8 rfl rfl)
abbrev cX13_fits : ByteArray := prog_5_method_3_code
def yX13_fits : MethodName := ⟨RX13, "fits", "(IIII)Z"⟩
def dkwX13_fits_1 : List UInt8 := [164, 0, 17, 42, 27, 28, 29, 182, 0, 29, 42, 180, 0, 25, 160, 0, 7, 4, 167, 0, 4, 3, 172]
abbrev dktX13_fits_1 : List UInt8 := dkwX13_fits_1 ++ []
def dkwX13_fits_0 : List UInt8 := [42, 180, 0, 19, 21, 4, 163, 0, 33, 42, 180, 0, 22, 155, 0, 12, 42, 180, 0, 22, 21, 4]
abbrev dktX13_fits_0 : List UInt8 := dkwX13_fits_0 ++ dktX13_fits_1
theorem dksX13_fits_0 : cX13_fits.data.toList.drop 0 = dktX13_fits_0 := by decide +kernel
theorem dksX13_fits_1 : cX13_fits.data.toList.drop 22 = dktX13_fits_1 := dk_seg dksX13_fits_0 22 rfl rfl
theorem dX13_fits_0 : decode cX13_fits 0 = .ok (.aload_n 0, 1) := dk_42 (dk_at dksX13_fits_0 0 rfl rfl)
theorem dX13_fits_1 : decode cX13_fits 1 = .ok (.getfield 19, 3) := dk_180 0 19 (dk_at dksX13_fits_0 1 rfl rfl)
theorem dX13_fits_4 : decode cX13_fits 4 = .ok (.iload 4, 2) := dk_21 4 (dk_at dksX13_fits_0 4 rfl rfl)
theorem dX13_fits_6 : decode cX13_fits 6 = .ok (.if_icmp .gt 33, 3) := dk_163 0 33 (dk_at dksX13_fits_0 6 rfl rfl)
theorem dX13_fits_9 : decode cX13_fits 9 = .ok (.aload_n 0, 1) := dk_42 (dk_at dksX13_fits_0 9 rfl rfl)
theorem dX13_fits_10 : decode cX13_fits 10 = .ok (.getfield 22, 3) := dk_180 0 22 (dk_at dksX13_fits_0 10 rfl rfl)
theorem dX13_fits_13 : decode cX13_fits 13 = .ok (.ifCond .lt 12, 3) := dk_155 0 12 (dk_at dksX13_fits_0 13 rfl rfl)
theorem dX13_fits_16 : decode cX13_fits 16 = .ok (.aload_n 0, 1) := dk_42 (dk_at dksX13_fits_0 16 rfl rfl)
theorem dX13_fits_17 : decode cX13_fits 17 = .ok (.getfield 22, 3) := dk_180 0 22 (dk_at dksX13_fits_0 17 rfl rfl)
theorem dX13_fits_20 : decode cX13_fits 20 = .ok (.iload 4, 2) := dk_21 4 (dk_at dksX13_fits_0 20 rfl rfl)
theorem dX13_fits_22 : decode cX13_fits 22 = .ok (.if_icmp .le 17, 3) := dk_164 0 17 (dk_at dksX13_fits_1 0 rfl rfl)
theorem dX13_fits_25 : decode cX13_fits 25 = .ok (.aload_n 0, 1) := dk_42 (dk_at dksX13_fits_1 3 rfl rfl)
theorem dX13_fits_26 : decode cX13_fits 26 = .ok (.iload_n 1, 1) := dk_27 (dk_at dksX13_fits_1 4 rfl rfl)
theorem dX13_fits_27 : decode cX13_fits 27 = .ok (.iload_n 2, 1) := dk_28 (dk_at dksX13_fits_1 5 rfl rfl)
theorem dX13_fits_28 : decode cX13_fits 28 = .ok (.iload_n 3, 1) := dk_29 (dk_at dksX13_fits_1 6 rfl rfl)
theorem dX13_fits_29 : decode cX13_fits 29 = .ok (.invokevirtual 29, 3) := dk_182 0 29 (dk_at dksX13_fits_1 7 rfl rfl)
theorem dX13_fits_32 : decode cX13_fits 32 = .ok (.aload_n 0, 1) := dk_42 (dk_at dksX13_fits_1 10 rfl rfl)
theorem dX13_fits_33 : decode cX13_fits 33 = .ok (.getfield 25, 3) := dk_180 0 25 (dk_at dksX13_fits_1 11 rfl rfl)
theorem dX13_fits_36 : decode cX13_fits 36 = .ok (.if_icmp .ne 7, 3) := dk_160 0 7 (dk_at dksX13_fits_1 14 rfl rfl)
theorem dX13_fits_39 : decode cX13_fits 39 = .ok (.iconst 1, 1) := dk_4 (dk_at dksX13_fits_1 17 rfl rfl)
theorem dX13_fits_40 : decode cX13_fits 40 = .ok (.goto 4, 3) := dk_167 0 4 (dk_at dksX13_fits_1 18 rfl rfl)
theorem dX13_fits_43 : decode cX13_fits 43 = .ok (.iconst 0, 1) := dk_3 (dk_at dksX13_fits_1 21 rfl rfl)
theorem dX13_fits_44 : decode cX13_fits 44 = .ok (.ireturn, 1) := dk_172 (dk_at dksX13_fits_1 22 rfl rfl)
theorem q147 : (Jvm.Cond.initialized "SoManyStairs$Mark") ∈ lw_all := lw_g (lw_at lw_m1 30 rfl) rfl
theorem q390 : (Jvm.Cond.fieldLinkNest "SoManyStairs$Mark" (15 : Nat) "SoManyStairs" "time" "I" "SoManyStairs") ∈ lw_tbl := lw_at lw_m2 33 rfl
theorem q1219 : (Jvm.Cond.instanceMethod ({ cls := "SoManyStairs$Mark", name := "<init>", desc := "(LSoManyStairs;Z)V" } : Jvm.MethodName)) ∈ lw_all := lw_g (lw_at lw_m5 142 rfl) rfl
theorem q1220 : (Jvm.Cond.code ({ cls := "SoManyStairs$Mark", name := "<init>", desc := "(LSoManyStairs;Z)V" } : Jvm.MethodName) prog_5_method_1_code (3 : Nat) (Option.none : Option Jvm.ClassFile.FieldType)) ∈ lw_all := lw_g (lw_at lw_m5 143 rfl) rfl
theorem q1221 : (Jvm.Cond.methodLink "SoManyStairs$Mark" (9 : Nat) ({ cls := "java/lang/Object", name := "<init>", desc := "()V" } : Jvm.MethodName)) ∈ lw_all := lw_g (lw_at lw_m5 144 rfl) rfl
theorem q1224 : (Jvm.Cond.fieldLink "SoManyStairs$Mark" (19 : Nat) "SoManyStairs$Mark" "told" "I") ∈ lw_all := lw_g (lw_at lw_m5 147 rfl) rfl
theorem q1225 : (Jvm.Cond.fieldLink "SoManyStairs$Mark" (25 : Nat) "SoManyStairs$Mark" "is" "Z") ∈ lw_all := lw_g (lw_at lw_m5 148 rfl) rfl
theorem q1226 : (Jvm.Cond.fieldLink "SoManyStairs$Mark" (22 : Nat) "SoManyStairs$Mark" "untold" "I") ∈ lw_all := lw_g (lw_at lw_m5 149 rfl) rfl
theorem q1228 : (Jvm.Cond.fieldLink "SoManyStairs$Mark" (3 : Nat) "SoManyStairs$Mark" "this$0" "LSoManyStairs;") ∈ lw_all := lw_g (lw_at lw_m5 151 rfl) rfl
theorem q1234 : (Jvm.Cond.soleField "SoManyStairs$Mark" "told") ∈ lw_all := lw_g (lw_at lw_m5 157 rfl) rfl
theorem q1236 : (Jvm.Cond.soleField "SoManyStairs$Mark" "is") ∈ lw_all := lw_g (lw_at lw_m5 159 rfl) rfl
theorem q1238 : (Jvm.Cond.soleField "SoManyStairs$Mark" "untold") ∈ lw_all := lw_g (lw_at lw_m5 161 rfl) rfl
theorem q1240 : (Jvm.Cond.soleField "SoManyStairs$Mark" "this$0") ∈ lw_all := lw_g (lw_at lw_m5 163 rfl) rfl
theorem q1294 : (Jvm.Cond.instanceMethod ({ cls := "SoManyStairs$Mark", name := "fits", desc := "(IIII)Z" } : Jvm.MethodName)) ∈ lw_all := lw_g (lw_at lw_m5 217 rfl) rfl
theorem q1295 : (Jvm.Cond.sameMethod "SoManyStairs$Mark" "SoManyStairs$Mark" "fits" "(IIII)Z") ∈ lw_all := lw_g (lw_at lw_m5 218 rfl) rfl
theorem q1298 : (Jvm.Cond.code ({ cls := "SoManyStairs$Mark", name := "fits", desc := "(IIII)Z" } : Jvm.MethodName) prog_5_method_3_code (5 : Nat) (Option.some Jvm.ClassFile.FieldType.boolean)) ∈ lw_all := lw_g (lw_at lw_m5 221 rfl) rfl
theorem q1299 : (Jvm.Cond.methodLink "SoManyStairs$Mark" (29 : Nat) ({ cls := "SoManyStairs$Mark", name := "isSo", desc := "(III)Z" } : Jvm.MethodName)) ∈ lw_all := lw_g (lw_at lw_m5 222 rfl) rfl
theorem q1300 : (Jvm.Cond.declares ({ cls := "SoManyStairs$Mark", name := "isSo", desc := "(III)Z" } : Jvm.MethodName)) ∈ lw_tbl := lw_at lw_m5 223 rfl
theorem q1301 : (Jvm.Cond.sameMethod "SoManyStairs$Mark" "SoManyStairs$Mark" "isSo" "(III)Z") ∈ lw_all := lw_g (lw_at lw_m5 224 rfl) rfl

/-! SoManyStairs$Chalk -/
set_option maxRecDepth 100000
def RX14 : String := "SoManyStairs$Chalk"
def TX14 : u_T := fun k => match k with
  | 0 => ("SoManyStairs$Mark", "told", "I", true)
  | 1 => ("SoManyStairs$Mark", "is", "Z", true)
  | 2 => ("SoManyStairs$Mark", "untold", "I", false)
  | 3 => ("SoManyStairs$Mark", "this$0", "LSoManyStairs;", true)
  | 4 => ("SoManyStairs$Chalk", "storey", "I", true)
  | _ => ("SoManyStairs$Chalk", "this$0", "LSoManyStairs;", true)
def tyX14 : Nat → FieldType := fun k => match k with
  | 0 => .int
  | 1 => .boolean
  | 2 => .int
  | 3 => .object "SoManyStairs"
  | 4 => .int
  | _ => .object "SoManyStairs"
abbrev wsX140 : List Cond := u_ws RX14 TX14 6
-- two fields of one name: no nmX14
theorem tyX14_ok : ∀ k, k < 6 → parseFieldDescriptor (TX14 k).2.2.1 = some (tyX14 k) := by decide +kernel
abbrev cX14_init : ByteArray := prog_2_method_1_code
def yX14_init : MethodName := ⟨RX14, "<init>", "(LSoManyStairs;IZ)V"⟩
def dkwX14_init_0 : List UInt8 := [42, 43, 181, 0, 1, 42, 43, 29, 183, 0, 7, 42, 28, 181, 0, 13, 177]
abbrev dktX14_init_0 : List UInt8 := dkwX14_init_0 ++ []
theorem dksX14_init_0 : cX14_init.data.toList.drop 0 = dktX14_init_0 := by decide +kernel
theorem dX14_init_0 : decode cX14_init 0 = .ok (.aload_n 0, 1) := dk_42 (dk_at dksX14_init_0 0 rfl rfl)
theorem dX14_init_1 : decode cX14_init 1 = .ok (.aload_n 1, 1) := dk_43 (dk_at dksX14_init_0 1 rfl rfl)
theorem dX14_init_2 : decode cX14_init 2 = .ok (.putfield 1, 3) := dk_181 0 1 (dk_at dksX14_init_0 2 rfl rfl)
theorem dX14_init_5 : decode cX14_init 5 = .ok (.aload_n 0, 1) := dk_42 (dk_at dksX14_init_0 5 rfl rfl)
theorem dX14_init_6 : decode cX14_init 6 = .ok (.aload_n 1, 1) := dk_43 (dk_at dksX14_init_0 6 rfl rfl)
theorem dX14_init_7 : decode cX14_init 7 = .ok (.iload_n 3, 1) := dk_29 (dk_at dksX14_init_0 7 rfl rfl)
theorem dX14_init_8 : decode cX14_init 8 = .ok (.invokespecial 7, 3) := dk_183 0 7 (dk_at dksX14_init_0 8 rfl rfl)
theorem dX14_init_11 : decode cX14_init 11 = .ok (.aload_n 0, 1) := dk_42 (dk_at dksX14_init_0 11 rfl rfl)
theorem dX14_init_12 : decode cX14_init 12 = .ok (.iload_n 2, 1) := dk_28 (dk_at dksX14_init_0 12 rfl rfl)
theorem dX14_init_13 : decode cX14_init 13 = .ok (.putfield 13, 3) := dk_181 0 13 (dk_at dksX14_init_0 13 rfl rfl)
theorem dX14_init_16 : decode cX14_init 16 = .ok (.return_, 1) := dk_177 (dk_at dksX14_init_0 16 rfl rfl)
abbrev cX14_isSo : ByteArray := prog_2_method_2_code
def yX14_isSo : MethodName := ⟨RX14, "isSo", "(III)Z"⟩
def dkwX14_isSo_0 : List UInt8 := [42, 180, 0, 13, 28, 29, 184, 0, 17, 172]
abbrev dktX14_isSo_0 : List UInt8 := dkwX14_isSo_0 ++ []
theorem dksX14_isSo_0 : cX14_isSo.data.toList.drop 0 = dktX14_isSo_0 := by decide +kernel
theorem dX14_isSo_0 : decode cX14_isSo 0 = .ok (.aload_n 0, 1) := dk_42 (dk_at dksX14_isSo_0 0 rfl rfl)
theorem dX14_isSo_1 : decode cX14_isSo 1 = .ok (.getfield 13, 3) := dk_180 0 13 (dk_at dksX14_isSo_0 1 rfl rfl)
theorem dX14_isSo_4 : decode cX14_isSo 4 = .ok (.iload_n 2, 1) := dk_28 (dk_at dksX14_isSo_0 4 rfl rfl)
theorem dX14_isSo_5 : decode cX14_isSo 5 = .ok (.iload_n 3, 1) := dk_29 (dk_at dksX14_isSo_0 5 rfl rfl)
theorem dX14_isSo_6 : decode cX14_isSo 6 = .ok (.invokestatic 17, 3) := dk_184 0 17 (dk_at dksX14_isSo_0 6 rfl rfl)
theorem dX14_isSo_9 : decode cX14_isSo 9 = .ok (.ireturn, 1) := dk_172 (dk_at dksX14_isSo_0 9 rfl rfl)
theorem q148 : (Jvm.Cond.initialized "SoManyStairs$Chalk") ∈ lw_all := lw_g (lw_at lw_m1 31 rfl) rfl
theorem q754 : (Jvm.Cond.selects "SoManyStairs$Chalk" ({ cls := "java/lang/Object", name := "getClass", desc := "()Ljava/lang/Class;" } : Jvm.MethodName) ({ cls := "java/lang/Object", name := "getClass", desc := "()Ljava/lang/Class;" } : Jvm.MethodName)) ∈ lw_all := lw_g (lw_at lw_m3 157 rfl) rfl
theorem q1214 : (Jvm.Cond.instantiable "SoManyStairs$Chalk" (6 : Nat)) ∈ lw_all := lw_g (lw_at lw_m5 137 rfl) rfl
theorem q1216 : (Jvm.Cond.instanceMethod ({ cls := "SoManyStairs$Chalk", name := "<init>", desc := "(LSoManyStairs;IZ)V" } : Jvm.MethodName)) ∈ lw_all := lw_g (lw_at lw_m5 139 rfl) rfl
theorem q1217 : (Jvm.Cond.code ({ cls := "SoManyStairs$Chalk", name := "<init>", desc := "(LSoManyStairs;IZ)V" } : Jvm.MethodName) prog_2_method_1_code (4 : Nat) (Option.none : Option Jvm.ClassFile.FieldType)) ∈ lw_all := lw_g (lw_at lw_m5 140 rfl) rfl
theorem q1218 : (Jvm.Cond.methodLink "SoManyStairs$Chalk" (7 : Nat) ({ cls := "SoManyStairs$Mark", name := "<init>", desc := "(LSoManyStairs;Z)V" } : Jvm.MethodName)) ∈ lw_all := lw_g (lw_at lw_m5 141 rfl) rfl
theorem q1222 : (Jvm.Cond.fieldLink "SoManyStairs$Chalk" (13 : Nat) "SoManyStairs$Chalk" "storey" "I") ∈ lw_all := lw_g (lw_at lw_m5 145 rfl) rfl
theorem q1223 : (Jvm.Cond.fieldLink "SoManyStairs$Chalk" (1 : Nat) "SoManyStairs$Chalk" "this$0" "LSoManyStairs;") ∈ lw_all := lw_g (lw_at lw_m5 146 rfl) rfl
theorem q1229 : (Jvm.Cond.laysFinal "SoManyStairs$Chalk" "SoManyStairs$Chalk" "storey" "I") ∈ lw_all := lw_g (lw_at lw_m5 152 rfl) rfl
theorem q1230 : (Jvm.Cond.soleField "SoManyStairs$Chalk" "storey") ∈ lw_all := lw_g (lw_at lw_m5 153 rfl) rfl
theorem q1231 : (Jvm.Cond.laysFinal "SoManyStairs$Chalk" "SoManyStairs$Chalk" "this$0" "LSoManyStairs;") ∈ lw_all := lw_g (lw_at lw_m5 154 rfl) rfl
theorem q1232 : (Jvm.Cond.soleField "SoManyStairs$Chalk" "this$0") ∈ lw_all := lw_g (lw_at lw_m5 155 rfl) rfl
theorem q1233 : (Jvm.Cond.laysFinal "SoManyStairs$Chalk" "SoManyStairs$Mark" "told" "I") ∈ lw_all := lw_g (lw_at lw_m5 156 rfl) rfl
theorem q1235 : (Jvm.Cond.laysFinal "SoManyStairs$Chalk" "SoManyStairs$Mark" "is" "Z") ∈ lw_all := lw_g (lw_at lw_m5 158 rfl) rfl
theorem q1237 : (Jvm.Cond.lays "SoManyStairs$Chalk" "SoManyStairs$Mark" "untold" "I") ∈ lw_all := lw_g (lw_at lw_m5 160 rfl) rfl
theorem q1239 : (Jvm.Cond.laysFinal "SoManyStairs$Chalk" "SoManyStairs$Mark" "this$0" "LSoManyStairs;") ∈ lw_all := lw_g (lw_at lw_m5 162 rfl) rfl
theorem q1241 : (Jvm.Cond.superclass "SoManyStairs$Chalk" "SoManyStairs$Mark") ∈ lw_all := lw_g (lw_at lw_m5 164 rfl) rfl
theorem q1296 : (Jvm.Cond.selects "SoManyStairs$Chalk" ({ cls := "SoManyStairs$Mark", name := "fits", desc := "(IIII)Z" } : Jvm.MethodName) ({ cls := "SoManyStairs$Mark", name := "fits", desc := "(IIII)Z" } : Jvm.MethodName)) ∈ lw_all := lw_g (lw_at lw_m5 219 rfl) rfl
theorem q1302 : (Jvm.Cond.selects "SoManyStairs$Chalk" ({ cls := "SoManyStairs$Mark", name := "isSo", desc := "(III)Z" } : Jvm.MethodName) ({ cls := "SoManyStairs$Chalk", name := "isSo", desc := "(III)Z" } : Jvm.MethodName)) ∈ lw_all := lw_g (lw_at lw_m5 225 rfl) rfl
theorem q1303 : (Jvm.Cond.instanceMethod ({ cls := "SoManyStairs$Chalk", name := "isSo", desc := "(III)Z" } : Jvm.MethodName)) ∈ lw_all := lw_g (lw_at lw_m5 226 rfl) rfl
theorem q1304 : (Jvm.Cond.code ({ cls := "SoManyStairs$Chalk", name := "isSo", desc := "(III)Z" } : Jvm.MethodName) prog_2_method_2_code (4 : Nat) (Option.some Jvm.ClassFile.FieldType.boolean)) ∈ lw_all := lw_g (lw_at lw_m5 227 rfl) rfl
theorem q1305 : (Jvm.Cond.methodLinkNest "SoManyStairs$Chalk" (17 : Nat) ({ cls := "SoManyStairs", name := "isIn", desc := "(III)Z" } : Jvm.MethodName) "SoManyStairs") ∈ lw_tbl := lw_at lw_m5 228 rfl
theorem q2051 : (Jvm.Cond.castable "SoManyStairs$Chalk" "SoManyStairs$Mark") ∈ lw_tbl := lw_at lw_m9 14 rfl
theorem q2068 : (Jvm.Cond.castable "SoManyStairs$Chalk" "java/lang/Object") ∈ lw_tbl := lw_at lw_m9 31 rfl
theorem in_X14 : ∀ w ∈ wsX140, w ∈ lw_all := lw_in wsX140 [1233, 1235, 1237, 1239, 1229, 1231] (by decide +kernel) (by decide +kernel)

/-! SoManyStairs$Tread -/
set_option maxRecDepth 100000
def RX15 : String := "SoManyStairs$Tread"
def TX15 : u_T := fun k => match k with
  | 0 => ("SoManyStairs$Mark", "told", "I", true)
  | 1 => ("SoManyStairs$Mark", "is", "Z", true)
  | 2 => ("SoManyStairs$Mark", "untold", "I", false)
  | 3 => ("SoManyStairs$Mark", "this$0", "LSoManyStairs;", true)
  | 4 => ("SoManyStairs$Tread", "heavy", "I", true)
  | _ => ("SoManyStairs$Tread", "this$0", "LSoManyStairs;", true)
def tyX15 : Nat → FieldType := fun k => match k with
  | 0 => .int
  | 1 => .boolean
  | 2 => .int
  | 3 => .object "SoManyStairs"
  | 4 => .int
  | _ => .object "SoManyStairs"
abbrev wsX150 : List Cond := u_ws RX15 TX15 6
-- two fields of one name: no nmX15
theorem tyX15_ok : ∀ k, k < 6 → parseFieldDescriptor (TX15 k).2.2.1 = some (tyX15 k) := by decide +kernel
abbrev cX15_init : ByteArray := prog_13_method_1_code
def yX15_init : MethodName := ⟨RX15, "<init>", "(LSoManyStairs;IZ)V"⟩
def dkwX15_init_0 : List UInt8 := [42, 43, 181, 0, 1, 42, 43, 29, 183, 0, 7, 42, 28, 181, 0, 13, 177]
abbrev dktX15_init_0 : List UInt8 := dkwX15_init_0 ++ []
theorem dksX15_init_0 : cX15_init.data.toList.drop 0 = dktX15_init_0 := by decide +kernel
theorem dX15_init_0 : decode cX15_init 0 = .ok (.aload_n 0, 1) := dk_42 (dk_at dksX15_init_0 0 rfl rfl)
theorem dX15_init_1 : decode cX15_init 1 = .ok (.aload_n 1, 1) := dk_43 (dk_at dksX15_init_0 1 rfl rfl)
theorem dX15_init_2 : decode cX15_init 2 = .ok (.putfield 1, 3) := dk_181 0 1 (dk_at dksX15_init_0 2 rfl rfl)
theorem dX15_init_5 : decode cX15_init 5 = .ok (.aload_n 0, 1) := dk_42 (dk_at dksX15_init_0 5 rfl rfl)
theorem dX15_init_6 : decode cX15_init 6 = .ok (.aload_n 1, 1) := dk_43 (dk_at dksX15_init_0 6 rfl rfl)
theorem dX15_init_7 : decode cX15_init 7 = .ok (.iload_n 3, 1) := dk_29 (dk_at dksX15_init_0 7 rfl rfl)
theorem dX15_init_8 : decode cX15_init 8 = .ok (.invokespecial 7, 3) := dk_183 0 7 (dk_at dksX15_init_0 8 rfl rfl)
theorem dX15_init_11 : decode cX15_init 11 = .ok (.aload_n 0, 1) := dk_42 (dk_at dksX15_init_0 11 rfl rfl)
theorem dX15_init_12 : decode cX15_init 12 = .ok (.iload_n 2, 1) := dk_28 (dk_at dksX15_init_0 12 rfl rfl)
theorem dX15_init_13 : decode cX15_init 13 = .ok (.putfield 13, 3) := dk_181 0 13 (dk_at dksX15_init_0 13 rfl rfl)
theorem dX15_init_16 : decode cX15_init 16 = .ok (.return_, 1) := dk_177 (dk_at dksX15_init_0 16 rfl rfl)
abbrev cX15_isSo : ByteArray := prog_13_method_2_code
def yX15_isSo : MethodName := ⟨RX15, "isSo", "(III)Z"⟩
def dkwX15_isSo_0 : List UInt8 := [42, 180, 0, 1, 180, 0, 17, 27, 182, 0, 23, 42, 180, 0, 13, 161, 0, 7, 4, 167, 0, 4, 3, 172]
abbrev dktX15_isSo_0 : List UInt8 := dkwX15_isSo_0 ++ []
theorem dksX15_isSo_0 : cX15_isSo.data.toList.drop 0 = dktX15_isSo_0 := by decide +kernel
theorem dX15_isSo_0 : decode cX15_isSo 0 = .ok (.aload_n 0, 1) := dk_42 (dk_at dksX15_isSo_0 0 rfl rfl)
theorem dX15_isSo_1 : decode cX15_isSo 1 = .ok (.getfield 1, 3) := dk_180 0 1 (dk_at dksX15_isSo_0 1 rfl rfl)
theorem dX15_isSo_4 : decode cX15_isSo 4 = .ok (.getfield 17, 3) := dk_180 0 17 (dk_at dksX15_isSo_0 4 rfl rfl)
theorem dX15_isSo_7 : decode cX15_isSo 7 = .ok (.iload_n 1, 1) := dk_27 (dk_at dksX15_isSo_0 7 rfl rfl)
theorem dX15_isSo_8 : decode cX15_isSo 8 = .ok (.invokevirtual 23, 3) := dk_182 0 23 (dk_at dksX15_isSo_0 8 rfl rfl)
theorem dX15_isSo_11 : decode cX15_isSo 11 = .ok (.aload_n 0, 1) := dk_42 (dk_at dksX15_isSo_0 11 rfl rfl)
theorem dX15_isSo_12 : decode cX15_isSo 12 = .ok (.getfield 13, 3) := dk_180 0 13 (dk_at dksX15_isSo_0 12 rfl rfl)
theorem dX15_isSo_15 : decode cX15_isSo 15 = .ok (.if_icmp .lt 7, 3) := dk_161 0 7 (dk_at dksX15_isSo_0 15 rfl rfl)
theorem dX15_isSo_18 : decode cX15_isSo 18 = .ok (.iconst 1, 1) := dk_4 (dk_at dksX15_isSo_0 18 rfl rfl)
theorem dX15_isSo_19 : decode cX15_isSo 19 = .ok (.goto 4, 3) := dk_167 0 4 (dk_at dksX15_isSo_0 19 rfl rfl)
theorem dX15_isSo_22 : decode cX15_isSo 22 = .ok (.iconst 0, 1) := dk_3 (dk_at dksX15_isSo_0 22 rfl rfl)
theorem dX15_isSo_23 : decode cX15_isSo 23 = .ok (.ireturn, 1) := dk_172 (dk_at dksX15_isSo_0 23 rfl rfl)
theorem q149 : (Jvm.Cond.initialized "SoManyStairs$Tread") ∈ lw_all := lw_g (lw_at lw_m1 32 rfl) rfl
theorem q383 : (Jvm.Cond.fieldLinkNest "SoManyStairs$Tread" (17 : Nat) "SoManyStairs" "house" "LSoManyStairs$House;" "SoManyStairs") ∈ lw_tbl := lw_at lw_m2 26 rfl
theorem q763 : (Jvm.Cond.selects "SoManyStairs$Tread" ({ cls := "java/lang/Object", name := "getClass", desc := "()Ljava/lang/Class;" } : Jvm.MethodName) ({ cls := "java/lang/Object", name := "getClass", desc := "()Ljava/lang/Class;" } : Jvm.MethodName)) ∈ lw_all := lw_g (lw_at lw_m3 166 rfl) rfl
theorem q1251 : (Jvm.Cond.instantiable "SoManyStairs$Tread" (6 : Nat)) ∈ lw_all := lw_g (lw_at lw_m5 174 rfl) rfl
theorem q1253 : (Jvm.Cond.instanceMethod ({ cls := "SoManyStairs$Tread", name := "<init>", desc := "(LSoManyStairs;IZ)V" } : Jvm.MethodName)) ∈ lw_all := lw_g (lw_at lw_m5 176 rfl) rfl
theorem q1254 : (Jvm.Cond.code ({ cls := "SoManyStairs$Tread", name := "<init>", desc := "(LSoManyStairs;IZ)V" } : Jvm.MethodName) prog_13_method_1_code (4 : Nat) (Option.none : Option Jvm.ClassFile.FieldType)) ∈ lw_all := lw_g (lw_at lw_m5 177 rfl) rfl
theorem q1255 : (Jvm.Cond.methodLink "SoManyStairs$Tread" (7 : Nat) ({ cls := "SoManyStairs$Mark", name := "<init>", desc := "(LSoManyStairs;Z)V" } : Jvm.MethodName)) ∈ lw_all := lw_g (lw_at lw_m5 178 rfl) rfl
theorem q1256 : (Jvm.Cond.fieldLink "SoManyStairs$Tread" (13 : Nat) "SoManyStairs$Tread" "heavy" "I") ∈ lw_all := lw_g (lw_at lw_m5 179 rfl) rfl
theorem q1257 : (Jvm.Cond.fieldLink "SoManyStairs$Tread" (1 : Nat) "SoManyStairs$Tread" "this$0" "LSoManyStairs;") ∈ lw_all := lw_g (lw_at lw_m5 180 rfl) rfl
theorem q1258 : (Jvm.Cond.laysFinal "SoManyStairs$Tread" "SoManyStairs$Tread" "heavy" "I") ∈ lw_all := lw_g (lw_at lw_m5 181 rfl) rfl
theorem q1259 : (Jvm.Cond.soleField "SoManyStairs$Tread" "heavy") ∈ lw_all := lw_g (lw_at lw_m5 182 rfl) rfl
theorem q1260 : (Jvm.Cond.laysFinal "SoManyStairs$Tread" "SoManyStairs$Tread" "this$0" "LSoManyStairs;") ∈ lw_all := lw_g (lw_at lw_m5 183 rfl) rfl
theorem q1261 : (Jvm.Cond.soleField "SoManyStairs$Tread" "this$0") ∈ lw_all := lw_g (lw_at lw_m5 184 rfl) rfl
theorem q1262 : (Jvm.Cond.laysFinal "SoManyStairs$Tread" "SoManyStairs$Mark" "told" "I") ∈ lw_all := lw_g (lw_at lw_m5 185 rfl) rfl
theorem q1263 : (Jvm.Cond.laysFinal "SoManyStairs$Tread" "SoManyStairs$Mark" "is" "Z") ∈ lw_all := lw_g (lw_at lw_m5 186 rfl) rfl
theorem q1264 : (Jvm.Cond.lays "SoManyStairs$Tread" "SoManyStairs$Mark" "untold" "I") ∈ lw_all := lw_g (lw_at lw_m5 187 rfl) rfl
theorem q1265 : (Jvm.Cond.laysFinal "SoManyStairs$Tread" "SoManyStairs$Mark" "this$0" "LSoManyStairs;") ∈ lw_all := lw_g (lw_at lw_m5 188 rfl) rfl
theorem q1266 : (Jvm.Cond.superclass "SoManyStairs$Tread" "SoManyStairs$Mark") ∈ lw_all := lw_g (lw_at lw_m5 189 rfl) rfl
theorem q1297 : (Jvm.Cond.selects "SoManyStairs$Tread" ({ cls := "SoManyStairs$Mark", name := "fits", desc := "(IIII)Z" } : Jvm.MethodName) ({ cls := "SoManyStairs$Mark", name := "fits", desc := "(IIII)Z" } : Jvm.MethodName)) ∈ lw_all := lw_g (lw_at lw_m5 220 rfl) rfl
theorem q1306 : (Jvm.Cond.selects "SoManyStairs$Tread" ({ cls := "SoManyStairs$Mark", name := "isSo", desc := "(III)Z" } : Jvm.MethodName) ({ cls := "SoManyStairs$Tread", name := "isSo", desc := "(III)Z" } : Jvm.MethodName)) ∈ lw_all := lw_g (lw_at lw_m5 229 rfl) rfl
theorem q1307 : (Jvm.Cond.instanceMethod ({ cls := "SoManyStairs$Tread", name := "isSo", desc := "(III)Z" } : Jvm.MethodName)) ∈ lw_all := lw_g (lw_at lw_m5 230 rfl) rfl
theorem q1308 : (Jvm.Cond.code ({ cls := "SoManyStairs$Tread", name := "isSo", desc := "(III)Z" } : Jvm.MethodName) prog_13_method_2_code (4 : Nat) (Option.some Jvm.ClassFile.FieldType.boolean)) ∈ lw_all := lw_g (lw_at lw_m5 231 rfl) rfl
theorem q1309 : (Jvm.Cond.methodLink "SoManyStairs$Tread" (23 : Nat) ({ cls := "SoManyStairs$House", name := "heavyOf", desc := "(I)I" } : Jvm.MethodName)) ∈ lw_all := lw_g (lw_at lw_m5 232 rfl) rfl
theorem q2052 : (Jvm.Cond.castable "SoManyStairs$Tread" "SoManyStairs$Mark") ∈ lw_tbl := lw_at lw_m9 15 rfl
theorem q2069 : (Jvm.Cond.castable "SoManyStairs$Tread" "java/lang/Object") ∈ lw_tbl := lw_at lw_m9 32 rfl
theorem in_X15 : ∀ w ∈ wsX150, w ∈ lw_all := lw_in wsX150 [1262, 1263, 1264, 1265, 1258, 1260] (by decide +kernel) (by decide +kernel)

/-! SoManyStairs$State -/
set_option maxRecDepth 100000
def RX2 : String := "SoManyStairs$State"
def TX2 : u_T := fun k => match k with
  | 0 => ("SoManyStairs$State", "breath", "[I", true)
  | 1 => ("SoManyStairs$State", "paid", "[I", true)
  | 2 => ("SoManyStairs$State", "debt", "[I", true)
  | 3 => ("SoManyStairs$State", "climbed", "I", false)
  | 4 => ("SoManyStairs$State", "lift", "I", false)
  | 5 => ("SoManyStairs$State", "week", "I", false)
  | _ => ("SoManyStairs$State", "seed", "I", false)
def tyX2 : Nat → FieldType := fun k => match k with
  | 0 => .array .int
  | 1 => .array .int
  | 2 => .array .int
  | 3 => .int
  | 4 => .int
  | 5 => .int
  | _ => .int
abbrev wsX20 : List Cond := u_ws RX2 TX2 7
theorem nmX2 : ∀ a, a < 7 → ∀ b, b < 7 → a ≠ b → (TX2 a).2.1 ≠ (TX2 b).2.1 := by decide +kernel
theorem tyX2_ok : ∀ k, k < 7 → parseFieldDescriptor (TX2 k).2.2.1 = some (tyX2 k) := by decide +kernel
abbrev cX2_init : ByteArray := prog_11_method_1_code
def yX2_init : MethodName := ⟨RX2, "<init>", "()V"⟩
def dkwX2_init_1 : List UInt8 := [188, 10, 181, 0, 18, 177]
abbrev dktX2_init_1 : List UInt8 := dkwX2_init_1 ++ []
def dkwX2_init_0 : List UInt8 := [42, 183, 0, 3, 42, 16, 8, 188, 10, 181, 0, 9, 42, 16, 8, 188, 10, 181, 0, 15, 42, 16, 8]
abbrev dktX2_init_0 : List UInt8 := dkwX2_init_0 ++ dktX2_init_1
theorem dksX2_init_0 : cX2_init.data.toList.drop 0 = dktX2_init_0 := by decide +kernel
theorem dksX2_init_1 : cX2_init.data.toList.drop 23 = dktX2_init_1 := dk_seg dksX2_init_0 23 rfl rfl
theorem dX2_init_0 : decode cX2_init 0 = .ok (.aload_n 0, 1) := dk_42 (dk_at dksX2_init_0 0 rfl rfl)
theorem dX2_init_1 : decode cX2_init 1 = .ok (.invokespecial 3, 3) := dk_183 0 3 (dk_at dksX2_init_0 1 rfl rfl)
theorem dX2_init_4 : decode cX2_init 4 = .ok (.aload_n 0, 1) := dk_42 (dk_at dksX2_init_0 4 rfl rfl)
theorem dX2_init_5 : decode cX2_init 5 = .ok (.bipush 8, 2) := dk_16 8 (dk_at dksX2_init_0 5 rfl rfl)
theorem dX2_init_7 : decode cX2_init 7 = .ok (.newarray .int, 2) := dk_188_10 (dk_at dksX2_init_0 7 rfl rfl)
theorem dX2_init_9 : decode cX2_init 9 = .ok (.putfield 9, 3) := dk_181 0 9 (dk_at dksX2_init_0 9 rfl rfl)
theorem dX2_init_12 : decode cX2_init 12 = .ok (.aload_n 0, 1) := dk_42 (dk_at dksX2_init_0 12 rfl rfl)
theorem dX2_init_13 : decode cX2_init 13 = .ok (.bipush 8, 2) := dk_16 8 (dk_at dksX2_init_0 13 rfl rfl)
theorem dX2_init_15 : decode cX2_init 15 = .ok (.newarray .int, 2) := dk_188_10 (dk_at dksX2_init_0 15 rfl rfl)
theorem dX2_init_17 : decode cX2_init 17 = .ok (.putfield 15, 3) := dk_181 0 15 (dk_at dksX2_init_0 17 rfl rfl)
theorem dX2_init_20 : decode cX2_init 20 = .ok (.aload_n 0, 1) := dk_42 (dk_at dksX2_init_0 20 rfl rfl)
theorem dX2_init_21 : decode cX2_init 21 = .ok (.bipush 8, 2) := dk_16 8 (dk_at dksX2_init_0 21 rfl rfl)
theorem dX2_init_23 : decode cX2_init 23 = .ok (.newarray .int, 2) := dk_188_10 (dk_at dksX2_init_1 0 rfl rfl)
theorem dX2_init_25 : decode cX2_init 25 = .ok (.putfield 18, 3) := dk_181 0 18 (dk_at dksX2_init_1 2 rfl rfl)
theorem dX2_init_28 : decode cX2_init 28 = .ok (.return_, 1) := dk_177 (dk_at dksX2_init_1 5 rfl rfl)
abbrev cX2_lack : ByteArray := prog_11_method_3_code
def yX2_lack : MethodName := ⟨RX2, "lack", "(LSoManyStairs$House;II)I"⟩
def dkwX2_lack_1 : List UInt8 := [180, 0, 18, 28, 46, 96, 42, 180, 0, 15, 28, 46, 100, 184, 0, 57, 172]
abbrev dktX2_lack_1 : List UInt8 := dkwX2_lack_1 ++ []
def dkwX2_lack_0 : List UInt8 := [3, 3, 43, 180, 0, 40, 28, 182, 0, 46, 192, 0, 52, 180, 0, 54, 29, 96, 184, 0, 57, 42]
abbrev dktX2_lack_0 : List UInt8 := dkwX2_lack_0 ++ dktX2_lack_1
theorem dksX2_lack_0 : cX2_lack.data.toList.drop 0 = dktX2_lack_0 := by decide +kernel
theorem dksX2_lack_1 : cX2_lack.data.toList.drop 22 = dktX2_lack_1 := dk_seg dksX2_lack_0 22 rfl rfl
theorem dX2_lack_0 : decode cX2_lack 0 = .ok (.iconst 0, 1) := dk_3 (dk_at dksX2_lack_0 0 rfl rfl)
theorem dX2_lack_1 : decode cX2_lack 1 = .ok (.iconst 0, 1) := dk_3 (dk_at dksX2_lack_0 1 rfl rfl)
theorem dX2_lack_2 : decode cX2_lack 2 = .ok (.aload_n 1, 1) := dk_43 (dk_at dksX2_lack_0 2 rfl rfl)
theorem dX2_lack_3 : decode cX2_lack 3 = .ok (.getfield 40, 3) := dk_180 0 40 (dk_at dksX2_lack_0 3 rfl rfl)
theorem dX2_lack_6 : decode cX2_lack 6 = .ok (.iload_n 2, 1) := dk_28 (dk_at dksX2_lack_0 6 rfl rfl)
theorem dX2_lack_7 : decode cX2_lack 7 = .ok (.invokevirtual 46, 3) := dk_182 0 46 (dk_at dksX2_lack_0 7 rfl rfl)
theorem dX2_lack_10 : decode cX2_lack 10 = .ok (.checkcast 52, 3) := dk_192 0 52 (dk_at dksX2_lack_0 10 rfl rfl)
theorem dX2_lack_13 : decode cX2_lack 13 = .ok (.getfield 54, 3) := dk_180 0 54 (dk_at dksX2_lack_0 13 rfl rfl)
theorem dX2_lack_16 : decode cX2_lack 16 = .ok (.iload_n 3, 1) := dk_29 (dk_at dksX2_lack_0 16 rfl rfl)
theorem dX2_lack_17 : decode cX2_lack 17 = .ok (.iadd, 1) := dk_96 (dk_at dksX2_lack_0 17 rfl rfl)
theorem dX2_lack_18 : decode cX2_lack 18 = .ok (.invokestatic 57, 3) := dk_184 0 57 (dk_at dksX2_lack_0 18 rfl rfl)
theorem dX2_lack_21 : decode cX2_lack 21 = .ok (.aload_n 0, 1) := dk_42 (dk_at dksX2_lack_0 21 rfl rfl)
theorem dX2_lack_22 : decode cX2_lack 22 = .ok (.getfield 18, 3) := dk_180 0 18 (dk_at dksX2_lack_1 0 rfl rfl)
theorem dX2_lack_25 : decode cX2_lack 25 = .ok (.iload_n 2, 1) := dk_28 (dk_at dksX2_lack_1 3 rfl rfl)
theorem dX2_lack_26 : decode cX2_lack 26 = .ok (.iaload, 1) := dk_46 (dk_at dksX2_lack_1 4 rfl rfl)
theorem dX2_lack_27 : decode cX2_lack 27 = .ok (.iadd, 1) := dk_96 (dk_at dksX2_lack_1 5 rfl rfl)
theorem dX2_lack_28 : decode cX2_lack 28 = .ok (.aload_n 0, 1) := dk_42 (dk_at dksX2_lack_1 6 rfl rfl)
theorem dX2_lack_29 : decode cX2_lack 29 = .ok (.getfield 15, 3) := dk_180 0 15 (dk_at dksX2_lack_1 7 rfl rfl)
theorem dX2_lack_32 : decode cX2_lack 32 = .ok (.iload_n 2, 1) := dk_28 (dk_at dksX2_lack_1 10 rfl rfl)
theorem dX2_lack_33 : decode cX2_lack 33 = .ok (.iaload, 1) := dk_46 (dk_at dksX2_lack_1 11 rfl rfl)
theorem dX2_lack_34 : decode cX2_lack 34 = .ok (.isub, 1) := dk_100 (dk_at dksX2_lack_1 12 rfl rfl)
theorem dX2_lack_35 : decode cX2_lack 35 = .ok (.invokestatic 57, 3) := dk_184 0 57 (dk_at dksX2_lack_1 13 rfl rfl)
theorem dX2_lack_38 : decode cX2_lack 38 = .ok (.ireturn, 1) := dk_172 (dk_at dksX2_lack_1 16 rfl rfl)
abbrev cX2_of : ByteArray := prog_11_method_2_code
def yX2_of : MethodName := ⟨RX2, "of", "(LSoManyStairs$State;)V"⟩
def dkwX2_of_3 : List UInt8 := [180, 0, 37, 181, 0, 37, 177]
abbrev dktX2_of_3 : List UInt8 := dkwX2_of_3 ++ []
def dkwX2_of_2 : List UInt8 := [180, 0, 27, 181, 0, 27, 42, 43, 180, 0, 31, 181, 0, 31, 42, 43, 180, 0, 34, 181, 0, 34, 42, 43]
abbrev dktX2_of_2 : List UInt8 := dkwX2_of_2 ++ dktX2_of_3
def dkwX2_of_1 : List UInt8 := [3, 16, 8, 184, 0, 21, 43, 180, 0, 18, 3, 42, 180, 0, 18, 3, 16, 8, 184, 0, 21, 42, 43]
abbrev dktX2_of_1 : List UInt8 := dkwX2_of_1 ++ dktX2_of_2
def dkwX2_of_0 : List UInt8 := [43, 180, 0, 9, 3, 42, 180, 0, 9, 3, 16, 8, 184, 0, 21, 43, 180, 0, 15, 3, 42, 180, 0, 15]
abbrev dktX2_of_0 : List UInt8 := dkwX2_of_0 ++ dktX2_of_1
theorem dksX2_of_0 : cX2_of.data.toList.drop 0 = dktX2_of_0 := by decide +kernel
theorem dksX2_of_1 : cX2_of.data.toList.drop 24 = dktX2_of_1 := dk_seg dksX2_of_0 24 rfl rfl
theorem dksX2_of_2 : cX2_of.data.toList.drop 47 = dktX2_of_2 := dk_seg dksX2_of_1 23 rfl rfl
theorem dksX2_of_3 : cX2_of.data.toList.drop 71 = dktX2_of_3 := dk_seg dksX2_of_2 24 rfl rfl
theorem dX2_of_0 : decode cX2_of 0 = .ok (.aload_n 1, 1) := dk_43 (dk_at dksX2_of_0 0 rfl rfl)
theorem dX2_of_1 : decode cX2_of 1 = .ok (.getfield 9, 3) := dk_180 0 9 (dk_at dksX2_of_0 1 rfl rfl)
theorem dX2_of_4 : decode cX2_of 4 = .ok (.iconst 0, 1) := dk_3 (dk_at dksX2_of_0 4 rfl rfl)
theorem dX2_of_5 : decode cX2_of 5 = .ok (.aload_n 0, 1) := dk_42 (dk_at dksX2_of_0 5 rfl rfl)
theorem dX2_of_6 : decode cX2_of 6 = .ok (.getfield 9, 3) := dk_180 0 9 (dk_at dksX2_of_0 6 rfl rfl)
theorem dX2_of_9 : decode cX2_of 9 = .ok (.iconst 0, 1) := dk_3 (dk_at dksX2_of_0 9 rfl rfl)
theorem dX2_of_10 : decode cX2_of 10 = .ok (.bipush 8, 2) := dk_16 8 (dk_at dksX2_of_0 10 rfl rfl)
theorem dX2_of_12 : decode cX2_of 12 = .ok (.invokestatic 21, 3) := dk_184 0 21 (dk_at dksX2_of_0 12 rfl rfl)
theorem dX2_of_15 : decode cX2_of 15 = .ok (.aload_n 1, 1) := dk_43 (dk_at dksX2_of_0 15 rfl rfl)
theorem dX2_of_16 : decode cX2_of 16 = .ok (.getfield 15, 3) := dk_180 0 15 (dk_at dksX2_of_0 16 rfl rfl)
theorem dX2_of_19 : decode cX2_of 19 = .ok (.iconst 0, 1) := dk_3 (dk_at dksX2_of_0 19 rfl rfl)
theorem dX2_of_20 : decode cX2_of 20 = .ok (.aload_n 0, 1) := dk_42 (dk_at dksX2_of_0 20 rfl rfl)
theorem dX2_of_21 : decode cX2_of 21 = .ok (.getfield 15, 3) := dk_180 0 15 (dk_at dksX2_of_0 21 rfl rfl)
theorem dX2_of_24 : decode cX2_of 24 = .ok (.iconst 0, 1) := dk_3 (dk_at dksX2_of_1 0 rfl rfl)
theorem dX2_of_25 : decode cX2_of 25 = .ok (.bipush 8, 2) := dk_16 8 (dk_at dksX2_of_1 1 rfl rfl)
theorem dX2_of_27 : decode cX2_of 27 = .ok (.invokestatic 21, 3) := dk_184 0 21 (dk_at dksX2_of_1 3 rfl rfl)
theorem dX2_of_30 : decode cX2_of 30 = .ok (.aload_n 1, 1) := dk_43 (dk_at dksX2_of_1 6 rfl rfl)
theorem dX2_of_31 : decode cX2_of 31 = .ok (.getfield 18, 3) := dk_180 0 18 (dk_at dksX2_of_1 7 rfl rfl)
theorem dX2_of_34 : decode cX2_of 34 = .ok (.iconst 0, 1) := dk_3 (dk_at dksX2_of_1 10 rfl rfl)
theorem dX2_of_35 : decode cX2_of 35 = .ok (.aload_n 0, 1) := dk_42 (dk_at dksX2_of_1 11 rfl rfl)
theorem dX2_of_36 : decode cX2_of 36 = .ok (.getfield 18, 3) := dk_180 0 18 (dk_at dksX2_of_1 12 rfl rfl)
theorem dX2_of_39 : decode cX2_of 39 = .ok (.iconst 0, 1) := dk_3 (dk_at dksX2_of_1 15 rfl rfl)
theorem dX2_of_40 : decode cX2_of 40 = .ok (.bipush 8, 2) := dk_16 8 (dk_at dksX2_of_1 16 rfl rfl)
theorem dX2_of_42 : decode cX2_of 42 = .ok (.invokestatic 21, 3) := dk_184 0 21 (dk_at dksX2_of_1 18 rfl rfl)
theorem dX2_of_45 : decode cX2_of 45 = .ok (.aload_n 0, 1) := dk_42 (dk_at dksX2_of_1 21 rfl rfl)
theorem dX2_of_46 : decode cX2_of 46 = .ok (.aload_n 1, 1) := dk_43 (dk_at dksX2_of_1 22 rfl rfl)
theorem dX2_of_47 : decode cX2_of 47 = .ok (.getfield 27, 3) := dk_180 0 27 (dk_at dksX2_of_2 0 rfl rfl)
theorem dX2_of_50 : decode cX2_of 50 = .ok (.putfield 27, 3) := dk_181 0 27 (dk_at dksX2_of_2 3 rfl rfl)
theorem dX2_of_53 : decode cX2_of 53 = .ok (.aload_n 0, 1) := dk_42 (dk_at dksX2_of_2 6 rfl rfl)
theorem dX2_of_54 : decode cX2_of 54 = .ok (.aload_n 1, 1) := dk_43 (dk_at dksX2_of_2 7 rfl rfl)
theorem dX2_of_55 : decode cX2_of 55 = .ok (.getfield 31, 3) := dk_180 0 31 (dk_at dksX2_of_2 8 rfl rfl)
theorem dX2_of_58 : decode cX2_of 58 = .ok (.putfield 31, 3) := dk_181 0 31 (dk_at dksX2_of_2 11 rfl rfl)
theorem dX2_of_61 : decode cX2_of 61 = .ok (.aload_n 0, 1) := dk_42 (dk_at dksX2_of_2 14 rfl rfl)
theorem dX2_of_62 : decode cX2_of 62 = .ok (.aload_n 1, 1) := dk_43 (dk_at dksX2_of_2 15 rfl rfl)
theorem dX2_of_63 : decode cX2_of 63 = .ok (.getfield 34, 3) := dk_180 0 34 (dk_at dksX2_of_2 16 rfl rfl)
theorem dX2_of_66 : decode cX2_of 66 = .ok (.putfield 34, 3) := dk_181 0 34 (dk_at dksX2_of_2 19 rfl rfl)
theorem dX2_of_69 : decode cX2_of 69 = .ok (.aload_n 0, 1) := dk_42 (dk_at dksX2_of_2 22 rfl rfl)
theorem dX2_of_70 : decode cX2_of 70 = .ok (.aload_n 1, 1) := dk_43 (dk_at dksX2_of_2 23 rfl rfl)
theorem dX2_of_71 : decode cX2_of 71 = .ok (.getfield 37, 3) := dk_180 0 37 (dk_at dksX2_of_3 0 rfl rfl)
theorem dX2_of_74 : decode cX2_of 74 = .ok (.putfield 37, 3) := dk_181 0 37 (dk_at dksX2_of_3 3 rfl rfl)
theorem dX2_of_77 : decode cX2_of 77 = .ok (.return_, 1) := dk_177 (dk_at dksX2_of_3 6 rfl rfl)
abbrev cX2_goOn : ByteArray := prog_11_method_6_code
def yX2_goOn : MethodName := ⟨RX2, "goOn", "(LSoManyStairs$House;)V"⟩
def dkwX2_goOn_3 : List UInt8 := [43, 28, 182, 0, 84, 132, 2, 1, 167, 255, 207, 177]
abbrev dktX2_goOn_3 : List UInt8 := dkwX2_goOn_3 ++ []
def dkwX2_goOn_2 : List UInt8 := [180, 0, 40, 28, 182, 0, 46, 192, 0, 52, 180, 0, 81, 79, 42, 180, 0, 34, 7, 112, 154, 0, 9, 42]
abbrev dktX2_goOn_2 : List UInt8 := dkwX2_goOn_2 ++ dktX2_goOn_3
def dkwX2_goOn_1 : List UInt8 := [181, 0, 34, 3, 61, 28, 43, 180, 0, 40, 182, 0, 77, 162, 0, 44, 42, 180, 0, 9, 28, 43]
abbrev dktX2_goOn_1 : List UInt8 := dkwX2_goOn_1 ++ dktX2_goOn_2
def dkwX2_goOn_0 : List UInt8 := [42, 42, 43, 3, 182, 0, 73, 181, 0, 31, 42, 3, 181, 0, 27, 42, 89, 180, 0, 34, 4, 96]
abbrev dktX2_goOn_0 : List UInt8 := dkwX2_goOn_0 ++ dktX2_goOn_1
theorem dksX2_goOn_0 : cX2_goOn.data.toList.drop 0 = dktX2_goOn_0 := by decide +kernel
theorem dksX2_goOn_1 : cX2_goOn.data.toList.drop 22 = dktX2_goOn_1 := dk_seg dksX2_goOn_0 22 rfl rfl
theorem dksX2_goOn_2 : cX2_goOn.data.toList.drop 44 = dktX2_goOn_2 := dk_seg dksX2_goOn_1 22 rfl rfl
theorem dksX2_goOn_3 : cX2_goOn.data.toList.drop 68 = dktX2_goOn_3 := dk_seg dksX2_goOn_2 24 rfl rfl
theorem dX2_goOn_0 : decode cX2_goOn 0 = .ok (.aload_n 0, 1) := dk_42 (dk_at dksX2_goOn_0 0 rfl rfl)
theorem dX2_goOn_1 : decode cX2_goOn 1 = .ok (.aload_n 0, 1) := dk_42 (dk_at dksX2_goOn_0 1 rfl rfl)
theorem dX2_goOn_2 : decode cX2_goOn 2 = .ok (.aload_n 1, 1) := dk_43 (dk_at dksX2_goOn_0 2 rfl rfl)
theorem dX2_goOn_3 : decode cX2_goOn 3 = .ok (.iconst 0, 1) := dk_3 (dk_at dksX2_goOn_0 3 rfl rfl)
theorem dX2_goOn_4 : decode cX2_goOn 4 = .ok (.invokevirtual 73, 3) := dk_182 0 73 (dk_at dksX2_goOn_0 4 rfl rfl)
theorem dX2_goOn_7 : decode cX2_goOn 7 = .ok (.putfield 31, 3) := dk_181 0 31 (dk_at dksX2_goOn_0 7 rfl rfl)
theorem dX2_goOn_10 : decode cX2_goOn 10 = .ok (.aload_n 0, 1) := dk_42 (dk_at dksX2_goOn_0 10 rfl rfl)
theorem dX2_goOn_11 : decode cX2_goOn 11 = .ok (.iconst 0, 1) := dk_3 (dk_at dksX2_goOn_0 11 rfl rfl)
theorem dX2_goOn_12 : decode cX2_goOn 12 = .ok (.putfield 27, 3) := dk_181 0 27 (dk_at dksX2_goOn_0 12 rfl rfl)
theorem dX2_goOn_15 : decode cX2_goOn 15 = .ok (.aload_n 0, 1) := dk_42 (dk_at dksX2_goOn_0 15 rfl rfl)
theorem dX2_goOn_16 : decode cX2_goOn 16 = .ok (.dup, 1) := dk_89 (dk_at dksX2_goOn_0 16 rfl rfl)
theorem dX2_goOn_17 : decode cX2_goOn 17 = .ok (.getfield 34, 3) := dk_180 0 34 (dk_at dksX2_goOn_0 17 rfl rfl)
theorem dX2_goOn_20 : decode cX2_goOn 20 = .ok (.iconst 1, 1) := dk_4 (dk_at dksX2_goOn_0 20 rfl rfl)
theorem dX2_goOn_21 : decode cX2_goOn 21 = .ok (.iadd, 1) := dk_96 (dk_at dksX2_goOn_0 21 rfl rfl)
theorem dX2_goOn_22 : decode cX2_goOn 22 = .ok (.putfield 34, 3) := dk_181 0 34 (dk_at dksX2_goOn_1 0 rfl rfl)
theorem dX2_goOn_25 : decode cX2_goOn 25 = .ok (.iconst 0, 1) := dk_3 (dk_at dksX2_goOn_1 3 rfl rfl)
theorem dX2_goOn_26 : decode cX2_goOn 26 = .ok (.istore_n 2, 1) := dk_61 (dk_at dksX2_goOn_1 4 rfl rfl)
theorem dX2_goOn_27 : decode cX2_goOn 27 = .ok (.iload_n 2, 1) := dk_28 (dk_at dksX2_goOn_1 5 rfl rfl)
theorem dX2_goOn_28 : decode cX2_goOn 28 = .ok (.aload_n 1, 1) := dk_43 (dk_at dksX2_goOn_1 6 rfl rfl)
theorem dX2_goOn_29 : decode cX2_goOn 29 = .ok (.getfield 40, 3) := dk_180 0 40 (dk_at dksX2_goOn_1 7 rfl rfl)
theorem dX2_goOn_32 : decode cX2_goOn 32 = .ok (.invokevirtual 77, 3) := dk_182 0 77 (dk_at dksX2_goOn_1 10 rfl rfl)
theorem dX2_goOn_35 : decode cX2_goOn 35 = .ok (.if_icmp .ge 44, 3) := dk_162 0 44 (dk_at dksX2_goOn_1 13 rfl rfl)
theorem dX2_goOn_38 : decode cX2_goOn 38 = .ok (.aload_n 0, 1) := dk_42 (dk_at dksX2_goOn_1 16 rfl rfl)
theorem dX2_goOn_39 : decode cX2_goOn 39 = .ok (.getfield 9, 3) := dk_180 0 9 (dk_at dksX2_goOn_1 17 rfl rfl)
theorem dX2_goOn_42 : decode cX2_goOn 42 = .ok (.iload_n 2, 1) := dk_28 (dk_at dksX2_goOn_1 20 rfl rfl)
theorem dX2_goOn_43 : decode cX2_goOn 43 = .ok (.aload_n 1, 1) := dk_43 (dk_at dksX2_goOn_1 21 rfl rfl)
theorem dX2_goOn_44 : decode cX2_goOn 44 = .ok (.getfield 40, 3) := dk_180 0 40 (dk_at dksX2_goOn_2 0 rfl rfl)
theorem dX2_goOn_47 : decode cX2_goOn 47 = .ok (.iload_n 2, 1) := dk_28 (dk_at dksX2_goOn_2 3 rfl rfl)
theorem dX2_goOn_48 : decode cX2_goOn 48 = .ok (.invokevirtual 46, 3) := dk_182 0 46 (dk_at dksX2_goOn_2 4 rfl rfl)
theorem dX2_goOn_51 : decode cX2_goOn 51 = .ok (.checkcast 52, 3) := dk_192 0 52 (dk_at dksX2_goOn_2 7 rfl rfl)
theorem dX2_goOn_54 : decode cX2_goOn 54 = .ok (.getfield 81, 3) := dk_180 0 81 (dk_at dksX2_goOn_2 10 rfl rfl)
theorem dX2_goOn_57 : decode cX2_goOn 57 = .ok (.iastore, 1) := dk_79 (dk_at dksX2_goOn_2 13 rfl rfl)
theorem dX2_goOn_58 : decode cX2_goOn 58 = .ok (.aload_n 0, 1) := dk_42 (dk_at dksX2_goOn_2 14 rfl rfl)
theorem dX2_goOn_59 : decode cX2_goOn 59 = .ok (.getfield 34, 3) := dk_180 0 34 (dk_at dksX2_goOn_2 15 rfl rfl)
theorem dX2_goOn_62 : decode cX2_goOn 62 = .ok (.iconst 4, 1) := dk_7 (dk_at dksX2_goOn_2 18 rfl rfl)
theorem dX2_goOn_63 : decode cX2_goOn 63 = .ok (.irem, 1) := dk_112 (dk_at dksX2_goOn_2 19 rfl rfl)
theorem dX2_goOn_64 : decode cX2_goOn 64 = .ok (.ifCond .ne 9, 3) := dk_154 0 9 (dk_at dksX2_goOn_2 20 rfl rfl)
theorem dX2_goOn_67 : decode cX2_goOn 67 = .ok (.aload_n 0, 1) := dk_42 (dk_at dksX2_goOn_2 23 rfl rfl)
theorem dX2_goOn_68 : decode cX2_goOn 68 = .ok (.aload_n 1, 1) := dk_43 (dk_at dksX2_goOn_3 0 rfl rfl)
theorem dX2_goOn_69 : decode cX2_goOn 69 = .ok (.iload_n 2, 1) := dk_28 (dk_at dksX2_goOn_3 1 rfl rfl)
theorem dX2_goOn_70 : decode cX2_goOn 70 = .ok (.invokevirtual 84, 3) := dk_182 0 84 (dk_at dksX2_goOn_3 2 rfl rfl)
theorem dX2_goOn_73 : decode cX2_goOn 73 = .ok (.iinc 2 1, 3) := dk_132 2 1 (dk_at dksX2_goOn_3 5 rfl rfl)
theorem dX2_goOn_76 : decode cX2_goOn 76 = .ok (.goto (-49), 3) := dk_167 255 207 (dk_at dksX2_goOn_3 8 rfl rfl)
theorem dX2_goOn_79 : decode cX2_goOn 79 = .ok (.return_, 1) := dk_177 (dk_at dksX2_goOn_3 11 rfl rfl)
abbrev cX2_liftThen : ByteArray := prog_11_method_5_code
def yX2_liftThen : MethodName := ⟨RX2, "liftThen", "(LSoManyStairs$House;I)I"⟩
def dkwX2_liftThen_0 : List UInt8 := [42, 180, 0, 31, 43, 42, 42, 180, 0, 27, 28, 96, 182, 0, 63, 96, 43, 180, 0, 67, 184, 0, 70, 172]
abbrev dktX2_liftThen_0 : List UInt8 := dkwX2_liftThen_0 ++ []
theorem dksX2_liftThen_0 : cX2_liftThen.data.toList.drop 0 = dktX2_liftThen_0 := by decide +kernel
theorem dX2_liftThen_0 : decode cX2_liftThen 0 = .ok (.aload_n 0, 1) := dk_42 (dk_at dksX2_liftThen_0 0 rfl rfl)
theorem dX2_liftThen_1 : decode cX2_liftThen 1 = .ok (.getfield 31, 3) := dk_180 0 31 (dk_at dksX2_liftThen_0 1 rfl rfl)
theorem dX2_liftThen_4 : decode cX2_liftThen 4 = .ok (.aload_n 1, 1) := dk_43 (dk_at dksX2_liftThen_0 4 rfl rfl)
theorem dX2_liftThen_5 : decode cX2_liftThen 5 = .ok (.aload_n 0, 1) := dk_42 (dk_at dksX2_liftThen_0 5 rfl rfl)
theorem dX2_liftThen_6 : decode cX2_liftThen 6 = .ok (.aload_n 0, 1) := dk_42 (dk_at dksX2_liftThen_0 6 rfl rfl)
theorem dX2_liftThen_7 : decode cX2_liftThen 7 = .ok (.getfield 27, 3) := dk_180 0 27 (dk_at dksX2_liftThen_0 7 rfl rfl)
theorem dX2_liftThen_10 : decode cX2_liftThen 10 = .ok (.iload_n 2, 1) := dk_28 (dk_at dksX2_liftThen_0 10 rfl rfl)
theorem dX2_liftThen_11 : decode cX2_liftThen 11 = .ok (.iadd, 1) := dk_96 (dk_at dksX2_liftThen_0 11 rfl rfl)
theorem dX2_liftThen_12 : decode cX2_liftThen 12 = .ok (.invokevirtual 63, 3) := dk_182 0 63 (dk_at dksX2_liftThen_0 12 rfl rfl)
theorem dX2_liftThen_15 : decode cX2_liftThen 15 = .ok (.iadd, 1) := dk_96 (dk_at dksX2_liftThen_0 15 rfl rfl)
theorem dX2_liftThen_16 : decode cX2_liftThen 16 = .ok (.aload_n 1, 1) := dk_43 (dk_at dksX2_liftThen_0 16 rfl rfl)
theorem dX2_liftThen_17 : decode cX2_liftThen 17 = .ok (.getfield 67, 3) := dk_180 0 67 (dk_at dksX2_liftThen_0 17 rfl rfl)
theorem dX2_liftThen_20 : decode cX2_liftThen 20 = .ok (.invokestatic 70, 3) := dk_184 0 70 (dk_at dksX2_liftThen_0 20 rfl rfl)
theorem dX2_liftThen_23 : decode cX2_liftThen 23 = .ok (.ireturn, 1) := dk_172 (dk_at dksX2_liftThen_0 23 rfl rfl)
abbrev cX2_pay : ByteArray := prog_11_method_7_code
def yX2_pay : MethodName := ⟨RX2, "pay", "(LSoManyStairs$House;I)V"⟩
def dkwX2_pay_2 : List UInt8 := [79, 42, 180, 0, 18, 28, 92, 46, 29, 100, 79, 177]
abbrev dktX2_pay_2 : List UInt8 := dkwX2_pay_2 ++ []
def dkwX2_pay_1 : List UInt8 := [180, 0, 15, 28, 46, 42, 180, 0, 18, 28, 46, 184, 0, 88, 62, 42, 180, 0, 15, 28, 92, 46, 29, 100]
abbrev dktX2_pay_1 : List UInt8 := dkwX2_pay_1 ++ dktX2_pay_2
def dkwX2_pay_0 : List UInt8 := [42, 180, 0, 18, 28, 92, 46, 43, 180, 0, 40, 28, 182, 0, 46, 192, 0, 52, 180, 0, 54, 96, 79, 42]
abbrev dktX2_pay_0 : List UInt8 := dkwX2_pay_0 ++ dktX2_pay_1
theorem dksX2_pay_0 : cX2_pay.data.toList.drop 0 = dktX2_pay_0 := by decide +kernel
theorem dksX2_pay_1 : cX2_pay.data.toList.drop 24 = dktX2_pay_1 := dk_seg dksX2_pay_0 24 rfl rfl
theorem dksX2_pay_2 : cX2_pay.data.toList.drop 48 = dktX2_pay_2 := dk_seg dksX2_pay_1 24 rfl rfl
theorem dX2_pay_0 : decode cX2_pay 0 = .ok (.aload_n 0, 1) := dk_42 (dk_at dksX2_pay_0 0 rfl rfl)
theorem dX2_pay_1 : decode cX2_pay 1 = .ok (.getfield 18, 3) := dk_180 0 18 (dk_at dksX2_pay_0 1 rfl rfl)
theorem dX2_pay_4 : decode cX2_pay 4 = .ok (.iload_n 2, 1) := dk_28 (dk_at dksX2_pay_0 4 rfl rfl)
theorem dX2_pay_5 : decode cX2_pay 5 = .ok (.dup2, 1) := dk_92 (dk_at dksX2_pay_0 5 rfl rfl)
theorem dX2_pay_6 : decode cX2_pay 6 = .ok (.iaload, 1) := dk_46 (dk_at dksX2_pay_0 6 rfl rfl)
theorem dX2_pay_7 : decode cX2_pay 7 = .ok (.aload_n 1, 1) := dk_43 (dk_at dksX2_pay_0 7 rfl rfl)
theorem dX2_pay_8 : decode cX2_pay 8 = .ok (.getfield 40, 3) := dk_180 0 40 (dk_at dksX2_pay_0 8 rfl rfl)
theorem dX2_pay_11 : decode cX2_pay 11 = .ok (.iload_n 2, 1) := dk_28 (dk_at dksX2_pay_0 11 rfl rfl)
theorem dX2_pay_12 : decode cX2_pay 12 = .ok (.invokevirtual 46, 3) := dk_182 0 46 (dk_at dksX2_pay_0 12 rfl rfl)
theorem dX2_pay_15 : decode cX2_pay 15 = .ok (.checkcast 52, 3) := dk_192 0 52 (dk_at dksX2_pay_0 15 rfl rfl)
theorem dX2_pay_18 : decode cX2_pay 18 = .ok (.getfield 54, 3) := dk_180 0 54 (dk_at dksX2_pay_0 18 rfl rfl)
theorem dX2_pay_21 : decode cX2_pay 21 = .ok (.iadd, 1) := dk_96 (dk_at dksX2_pay_0 21 rfl rfl)
theorem dX2_pay_22 : decode cX2_pay 22 = .ok (.iastore, 1) := dk_79 (dk_at dksX2_pay_0 22 rfl rfl)
theorem dX2_pay_23 : decode cX2_pay 23 = .ok (.aload_n 0, 1) := dk_42 (dk_at dksX2_pay_0 23 rfl rfl)
theorem dX2_pay_24 : decode cX2_pay 24 = .ok (.getfield 15, 3) := dk_180 0 15 (dk_at dksX2_pay_1 0 rfl rfl)
theorem dX2_pay_27 : decode cX2_pay 27 = .ok (.iload_n 2, 1) := dk_28 (dk_at dksX2_pay_1 3 rfl rfl)
theorem dX2_pay_28 : decode cX2_pay 28 = .ok (.iaload, 1) := dk_46 (dk_at dksX2_pay_1 4 rfl rfl)
theorem dX2_pay_29 : decode cX2_pay 29 = .ok (.aload_n 0, 1) := dk_42 (dk_at dksX2_pay_1 5 rfl rfl)
theorem dX2_pay_30 : decode cX2_pay 30 = .ok (.getfield 18, 3) := dk_180 0 18 (dk_at dksX2_pay_1 6 rfl rfl)
theorem dX2_pay_33 : decode cX2_pay 33 = .ok (.iload_n 2, 1) := dk_28 (dk_at dksX2_pay_1 9 rfl rfl)
theorem dX2_pay_34 : decode cX2_pay 34 = .ok (.iaload, 1) := dk_46 (dk_at dksX2_pay_1 10 rfl rfl)
theorem dX2_pay_35 : decode cX2_pay 35 = .ok (.invokestatic 88, 3) := dk_184 0 88 (dk_at dksX2_pay_1 11 rfl rfl)
theorem dX2_pay_38 : decode cX2_pay 38 = .ok (.istore_n 3, 1) := dk_62 (dk_at dksX2_pay_1 14 rfl rfl)
theorem dX2_pay_39 : decode cX2_pay 39 = .ok (.aload_n 0, 1) := dk_42 (dk_at dksX2_pay_1 15 rfl rfl)
theorem dX2_pay_40 : decode cX2_pay 40 = .ok (.getfield 15, 3) := dk_180 0 15 (dk_at dksX2_pay_1 16 rfl rfl)
theorem dX2_pay_43 : decode cX2_pay 43 = .ok (.iload_n 2, 1) := dk_28 (dk_at dksX2_pay_1 19 rfl rfl)
theorem dX2_pay_44 : decode cX2_pay 44 = .ok (.dup2, 1) := dk_92 (dk_at dksX2_pay_1 20 rfl rfl)
theorem dX2_pay_45 : decode cX2_pay 45 = .ok (.iaload, 1) := dk_46 (dk_at dksX2_pay_1 21 rfl rfl)
theorem dX2_pay_46 : decode cX2_pay 46 = .ok (.iload_n 3, 1) := dk_29 (dk_at dksX2_pay_1 22 rfl rfl)
theorem dX2_pay_47 : decode cX2_pay 47 = .ok (.isub, 1) := dk_100 (dk_at dksX2_pay_1 23 rfl rfl)
theorem dX2_pay_48 : decode cX2_pay 48 = .ok (.iastore, 1) := dk_79 (dk_at dksX2_pay_2 0 rfl rfl)
theorem dX2_pay_49 : decode cX2_pay 49 = .ok (.aload_n 0, 1) := dk_42 (dk_at dksX2_pay_2 1 rfl rfl)
theorem dX2_pay_50 : decode cX2_pay 50 = .ok (.getfield 18, 3) := dk_180 0 18 (dk_at dksX2_pay_2 2 rfl rfl)
theorem dX2_pay_53 : decode cX2_pay 53 = .ok (.iload_n 2, 1) := dk_28 (dk_at dksX2_pay_2 5 rfl rfl)
theorem dX2_pay_54 : decode cX2_pay 54 = .ok (.dup2, 1) := dk_92 (dk_at dksX2_pay_2 6 rfl rfl)
theorem dX2_pay_55 : decode cX2_pay 55 = .ok (.iaload, 1) := dk_46 (dk_at dksX2_pay_2 7 rfl rfl)
theorem dX2_pay_56 : decode cX2_pay 56 = .ok (.iload_n 3, 1) := dk_29 (dk_at dksX2_pay_2 8 rfl rfl)
theorem dX2_pay_57 : decode cX2_pay 57 = .ok (.isub, 1) := dk_100 (dk_at dksX2_pay_2 9 rfl rfl)
theorem dX2_pay_58 : decode cX2_pay 58 = .ok (.iastore, 1) := dk_79 (dk_at dksX2_pay_2 10 rfl rfl)
theorem dX2_pay_59 : decode cX2_pay 59 = .ok (.return_, 1) := dk_177 (dk_at dksX2_pay_2 11 rfl rfl)
abbrev cX2_over : ByteArray := prog_11_method_4_code
def yX2_over : MethodName := ⟨RX2, "over", "(LSoManyStairs$House;I)I"⟩
def dkwX2_over_1 : List UInt8 := [192, 0, 52, 180, 0, 54, 100, 184, 0, 57, 172]
abbrev dktX2_over_1 : List UInt8 := dkwX2_over_1 ++ []
def dkwX2_over_0 : List UInt8 := [3, 42, 180, 0, 15, 28, 46, 42, 180, 0, 18, 28, 46, 100, 43, 180, 0, 40, 28, 182, 0, 46]
abbrev dktX2_over_0 : List UInt8 := dkwX2_over_0 ++ dktX2_over_1
theorem dksX2_over_0 : cX2_over.data.toList.drop 0 = dktX2_over_0 := by decide +kernel
theorem dksX2_over_1 : cX2_over.data.toList.drop 22 = dktX2_over_1 := dk_seg dksX2_over_0 22 rfl rfl
theorem dX2_over_0 : decode cX2_over 0 = .ok (.iconst 0, 1) := dk_3 (dk_at dksX2_over_0 0 rfl rfl)
theorem dX2_over_1 : decode cX2_over 1 = .ok (.aload_n 0, 1) := dk_42 (dk_at dksX2_over_0 1 rfl rfl)
theorem dX2_over_2 : decode cX2_over 2 = .ok (.getfield 15, 3) := dk_180 0 15 (dk_at dksX2_over_0 2 rfl rfl)
theorem dX2_over_5 : decode cX2_over 5 = .ok (.iload_n 2, 1) := dk_28 (dk_at dksX2_over_0 5 rfl rfl)
theorem dX2_over_6 : decode cX2_over 6 = .ok (.iaload, 1) := dk_46 (dk_at dksX2_over_0 6 rfl rfl)
theorem dX2_over_7 : decode cX2_over 7 = .ok (.aload_n 0, 1) := dk_42 (dk_at dksX2_over_0 7 rfl rfl)
theorem dX2_over_8 : decode cX2_over 8 = .ok (.getfield 18, 3) := dk_180 0 18 (dk_at dksX2_over_0 8 rfl rfl)
theorem dX2_over_11 : decode cX2_over 11 = .ok (.iload_n 2, 1) := dk_28 (dk_at dksX2_over_0 11 rfl rfl)
theorem dX2_over_12 : decode cX2_over 12 = .ok (.iaload, 1) := dk_46 (dk_at dksX2_over_0 12 rfl rfl)
theorem dX2_over_13 : decode cX2_over 13 = .ok (.isub, 1) := dk_100 (dk_at dksX2_over_0 13 rfl rfl)
theorem dX2_over_14 : decode cX2_over 14 = .ok (.aload_n 1, 1) := dk_43 (dk_at dksX2_over_0 14 rfl rfl)
theorem dX2_over_15 : decode cX2_over 15 = .ok (.getfield 40, 3) := dk_180 0 40 (dk_at dksX2_over_0 15 rfl rfl)
theorem dX2_over_18 : decode cX2_over 18 = .ok (.iload_n 2, 1) := dk_28 (dk_at dksX2_over_0 18 rfl rfl)
theorem dX2_over_19 : decode cX2_over 19 = .ok (.invokevirtual 46, 3) := dk_182 0 46 (dk_at dksX2_over_0 19 rfl rfl)
theorem dX2_over_22 : decode cX2_over 22 = .ok (.checkcast 52, 3) := dk_192 0 52 (dk_at dksX2_over_1 0 rfl rfl)
theorem dX2_over_25 : decode cX2_over 25 = .ok (.getfield 54, 3) := dk_180 0 54 (dk_at dksX2_over_1 3 rfl rfl)
theorem dX2_over_28 : decode cX2_over 28 = .ok (.isub, 1) := dk_100 (dk_at dksX2_over_1 6 rfl rfl)
theorem dX2_over_29 : decode cX2_over 29 = .ok (.invokestatic 57, 3) := dk_184 0 57 (dk_at dksX2_over_1 7 rfl rfl)
theorem dX2_over_32 : decode cX2_over 32 = .ok (.ireturn, 1) := dk_172 (dk_at dksX2_over_1 10 rfl rfl)
theorem q123 : (Jvm.Cond.initialized "SoManyStairs$State") ∈ lw_all := lw_g (lw_at lw_m1 6 rfl) rfl
theorem q194 : (Jvm.Cond.fieldLinkNest "SoManyStairs$State" (40 : Nat) "SoManyStairs$House" "tenants" "Ljava/util/ArrayList;" "SoManyStairs") ∈ lw_tbl := lw_at lw_m1 77 rfl
theorem q206 : (Jvm.Cond.fieldLinkNest "SoManyStairs$State" (67 : Nat) "SoManyStairs$House" "storeys" "I" "SoManyStairs") ∈ lw_tbl := lw_at lw_m1 89 rfl
theorem q237 : (Jvm.Cond.instantiable "SoManyStairs$State" (7 : Nat)) ∈ lw_all := lw_g (lw_at lw_m1 120 rfl) rfl
theorem q239 : (Jvm.Cond.instanceMethod ({ cls := "SoManyStairs$State", name := "<init>", desc := "()V" } : Jvm.MethodName)) ∈ lw_all := lw_g (lw_at lw_m1 122 rfl) rfl
theorem q240 : (Jvm.Cond.code ({ cls := "SoManyStairs$State", name := "<init>", desc := "()V" } : Jvm.MethodName) prog_11_method_1_code (1 : Nat) (Option.none : Option Jvm.ClassFile.FieldType)) ∈ lw_all := lw_g (lw_at lw_m1 123 rfl) rfl
theorem q241 : (Jvm.Cond.methodLink "SoManyStairs$State" (3 : Nat) ({ cls := "java/lang/Object", name := "<init>", desc := "()V" } : Jvm.MethodName)) ∈ lw_all := lw_g (lw_at lw_m1 124 rfl) rfl
theorem q242 : (Jvm.Cond.fieldLink "SoManyStairs$State" (9 : Nat) "SoManyStairs$State" "breath" "[I") ∈ lw_all := lw_g (lw_at lw_m1 125 rfl) rfl
theorem q244 : (Jvm.Cond.fieldLink "SoManyStairs$State" (15 : Nat) "SoManyStairs$State" "paid" "[I") ∈ lw_all := lw_g (lw_at lw_m1 127 rfl) rfl
theorem q246 : (Jvm.Cond.fieldLink "SoManyStairs$State" (18 : Nat) "SoManyStairs$State" "debt" "[I") ∈ lw_all := lw_g (lw_at lw_m1 129 rfl) rfl
theorem q248 : (Jvm.Cond.fieldLink "SoManyStairs$State" (27 : Nat) "SoManyStairs$State" "climbed" "I") ∈ lw_all := lw_g (lw_at lw_m1 131 rfl) rfl
theorem q251 : (Jvm.Cond.fieldLink "SoManyStairs$State" (31 : Nat) "SoManyStairs$State" "lift" "I") ∈ lw_all := lw_g (lw_at lw_m1 134 rfl) rfl
theorem q254 : (Jvm.Cond.fieldLink "SoManyStairs$State" (34 : Nat) "SoManyStairs$State" "week" "I") ∈ lw_all := lw_g (lw_at lw_m1 137 rfl) rfl
theorem q256 : (Jvm.Cond.fieldLink "SoManyStairs$State" (37 : Nat) "SoManyStairs$State" "seed" "I") ∈ lw_all := lw_g (lw_at lw_m1 139 rfl) rfl
theorem q258 : (Jvm.Cond.laysFinal "SoManyStairs$State" "SoManyStairs$State" "breath" "[I") ∈ lw_all := lw_g (lw_at lw_m1 141 rfl) rfl
theorem q259 : (Jvm.Cond.soleField "SoManyStairs$State" "breath") ∈ lw_all := lw_g (lw_at lw_m1 142 rfl) rfl
theorem q260 : (Jvm.Cond.laysFinal "SoManyStairs$State" "SoManyStairs$State" "paid" "[I") ∈ lw_all := lw_g (lw_at lw_m1 143 rfl) rfl
theorem q261 : (Jvm.Cond.soleField "SoManyStairs$State" "paid") ∈ lw_all := lw_g (lw_at lw_m1 144 rfl) rfl
theorem q262 : (Jvm.Cond.laysFinal "SoManyStairs$State" "SoManyStairs$State" "debt" "[I") ∈ lw_all := lw_g (lw_at lw_m1 145 rfl) rfl
theorem q263 : (Jvm.Cond.soleField "SoManyStairs$State" "debt") ∈ lw_all := lw_g (lw_at lw_m1 146 rfl) rfl
theorem q264 : (Jvm.Cond.lays "SoManyStairs$State" "SoManyStairs$State" "climbed" "I") ∈ lw_all := lw_g (lw_at lw_m1 147 rfl) rfl
theorem q265 : (Jvm.Cond.soleField "SoManyStairs$State" "climbed") ∈ lw_all := lw_g (lw_at lw_m1 148 rfl) rfl
theorem q266 : (Jvm.Cond.lays "SoManyStairs$State" "SoManyStairs$State" "lift" "I") ∈ lw_all := lw_g (lw_at lw_m1 149 rfl) rfl
theorem q267 : (Jvm.Cond.soleField "SoManyStairs$State" "lift") ∈ lw_all := lw_g (lw_at lw_m1 150 rfl) rfl
theorem q268 : (Jvm.Cond.lays "SoManyStairs$State" "SoManyStairs$State" "week" "I") ∈ lw_all := lw_g (lw_at lw_m1 151 rfl) rfl
theorem q269 : (Jvm.Cond.soleField "SoManyStairs$State" "week") ∈ lw_all := lw_g (lw_at lw_m1 152 rfl) rfl
theorem q270 : (Jvm.Cond.lays "SoManyStairs$State" "SoManyStairs$State" "seed" "I") ∈ lw_all := lw_g (lw_at lw_m1 153 rfl) rfl
theorem q271 : (Jvm.Cond.soleField "SoManyStairs$State" "seed") ∈ lw_all := lw_g (lw_at lw_m1 154 rfl) rfl
theorem q272 : (Jvm.Cond.superclass "SoManyStairs$State" "java/lang/Object") ∈ lw_all := lw_g (lw_at lw_m1 155 rfl) rfl
theorem q685 : (Jvm.Cond.fieldLinkNest "SoManyStairs$State" (81 : Nat) "SoManyStairs$Tenant" "strong" "I" "SoManyStairs") ∈ lw_tbl := lw_at lw_m3 88 rfl
theorem q690 : (Jvm.Cond.fieldLinkNest "SoManyStairs$State" (54 : Nat) "SoManyStairs$Tenant" "owes" "I" "SoManyStairs") ∈ lw_tbl := lw_at lw_m3 93 rfl
theorem q761 : (Jvm.Cond.selects "SoManyStairs$State" ({ cls := "java/lang/Object", name := "getClass", desc := "()Ljava/lang/Class;" } : Jvm.MethodName) ({ cls := "java/lang/Object", name := "getClass", desc := "()Ljava/lang/Class;" } : Jvm.MethodName)) ∈ lw_all := lw_g (lw_at lw_m3 164 rfl) rfl
theorem q894 : (Jvm.Cond.instanceMethod ({ cls := "SoManyStairs$State", name := "lack", desc := "(LSoManyStairs$House;II)I" } : Jvm.MethodName)) ∈ lw_all := lw_g (lw_at lw_m4 57 rfl) rfl
theorem q895 : (Jvm.Cond.selects "SoManyStairs$State" ({ cls := "SoManyStairs$State", name := "lack", desc := "(LSoManyStairs$House;II)I" } : Jvm.MethodName) ({ cls := "SoManyStairs$State", name := "lack", desc := "(LSoManyStairs$House;II)I" } : Jvm.MethodName)) ∈ lw_all := lw_g (lw_at lw_m4 58 rfl) rfl
theorem q896 : (Jvm.Cond.code ({ cls := "SoManyStairs$State", name := "lack", desc := "(LSoManyStairs$House;II)I" } : Jvm.MethodName) prog_11_method_3_code (4 : Nat) (Option.some Jvm.ClassFile.FieldType.int)) ∈ lw_all := lw_g (lw_at lw_m4 59 rfl) rfl
theorem q897 : (Jvm.Cond.methodLink "SoManyStairs$State" (46 : Nat) ({ cls := "java/util/ArrayList", name := "get", desc := "(I)Ljava/lang/Object;" } : Jvm.MethodName)) ∈ lw_all := lw_g (lw_at lw_m4 60 rfl) rfl
theorem q898 : (Jvm.Cond.classLink "SoManyStairs$State" (52 : Nat) "SoManyStairs$Tenant") ∈ lw_all := lw_g (lw_at lw_m4 61 rfl) rfl
theorem q899 : (Jvm.Cond.methodLink "SoManyStairs$State" (57 : Nat) ({ cls := "java/lang/Math", name := "max", desc := "(II)I" } : Jvm.MethodName)) ∈ lw_all := lw_g (lw_at lw_m4 62 rfl) rfl
theorem q974 : (Jvm.Cond.instanceMethod ({ cls := "SoManyStairs$State", name := "of", desc := "(LSoManyStairs$State;)V" } : Jvm.MethodName)) ∈ lw_all := lw_g (lw_at lw_m4 137 rfl) rfl
theorem q975 : (Jvm.Cond.selects "SoManyStairs$State" ({ cls := "SoManyStairs$State", name := "of", desc := "(LSoManyStairs$State;)V" } : Jvm.MethodName) ({ cls := "SoManyStairs$State", name := "of", desc := "(LSoManyStairs$State;)V" } : Jvm.MethodName)) ∈ lw_all := lw_g (lw_at lw_m4 138 rfl) rfl
theorem q976 : (Jvm.Cond.code ({ cls := "SoManyStairs$State", name := "of", desc := "(LSoManyStairs$State;)V" } : Jvm.MethodName) prog_11_method_2_code (2 : Nat) (Option.none : Option Jvm.ClassFile.FieldType)) ∈ lw_all := lw_g (lw_at lw_m4 139 rfl) rfl
theorem q977 : (Jvm.Cond.methodLink "SoManyStairs$State" (21 : Nat) ({ cls := "java/lang/System", name := "arraycopy", desc := "(Ljava/lang/Object;ILjava/lang/Object;II)V" } : Jvm.MethodName)) ∈ lw_all := lw_g (lw_at lw_m4 140 rfl) rfl
theorem q988 : (Jvm.Cond.instanceMethod ({ cls := "SoManyStairs$State", name := "goOn", desc := "(LSoManyStairs$House;)V" } : Jvm.MethodName)) ∈ lw_all := lw_g (lw_at lw_m4 151 rfl) rfl
theorem q989 : (Jvm.Cond.selects "SoManyStairs$State" ({ cls := "SoManyStairs$State", name := "goOn", desc := "(LSoManyStairs$House;)V" } : Jvm.MethodName) ({ cls := "SoManyStairs$State", name := "goOn", desc := "(LSoManyStairs$House;)V" } : Jvm.MethodName)) ∈ lw_all := lw_g (lw_at lw_m4 152 rfl) rfl
theorem q990 : (Jvm.Cond.code ({ cls := "SoManyStairs$State", name := "goOn", desc := "(LSoManyStairs$House;)V" } : Jvm.MethodName) prog_11_method_6_code (3 : Nat) (Option.none : Option Jvm.ClassFile.FieldType)) ∈ lw_all := lw_g (lw_at lw_m4 153 rfl) rfl
theorem q991 : (Jvm.Cond.methodLink "SoManyStairs$State" (73 : Nat) ({ cls := "SoManyStairs$State", name := "liftThen", desc := "(LSoManyStairs$House;I)I" } : Jvm.MethodName)) ∈ lw_all := lw_g (lw_at lw_m4 154 rfl) rfl
theorem q992 : (Jvm.Cond.instanceMethod ({ cls := "SoManyStairs$State", name := "liftThen", desc := "(LSoManyStairs$House;I)I" } : Jvm.MethodName)) ∈ lw_all := lw_g (lw_at lw_m4 155 rfl) rfl
theorem q993 : (Jvm.Cond.selects "SoManyStairs$State" ({ cls := "SoManyStairs$State", name := "liftThen", desc := "(LSoManyStairs$House;I)I" } : Jvm.MethodName) ({ cls := "SoManyStairs$State", name := "liftThen", desc := "(LSoManyStairs$House;I)I" } : Jvm.MethodName)) ∈ lw_all := lw_g (lw_at lw_m4 156 rfl) rfl
theorem q994 : (Jvm.Cond.code ({ cls := "SoManyStairs$State", name := "liftThen", desc := "(LSoManyStairs$House;I)I" } : Jvm.MethodName) prog_11_method_5_code (3 : Nat) (Option.some Jvm.ClassFile.FieldType.int)) ∈ lw_all := lw_g (lw_at lw_m4 157 rfl) rfl
theorem q995 : (Jvm.Cond.methodLink "SoManyStairs$State" (63 : Nat) ({ cls := "SoManyStairs$House", name := "pull", desc := "(LSoManyStairs$State;I)I" } : Jvm.MethodName)) ∈ lw_all := lw_g (lw_at lw_m4 158 rfl) rfl
theorem q1004 : (Jvm.Cond.methodLinkNest "SoManyStairs$State" (70 : Nat) ({ cls := "SoManyStairs", name := "within", desc := "(II)I" } : Jvm.MethodName) "SoManyStairs") ∈ lw_tbl := lw_at lw_m4 167 rfl
theorem q1005 : (Jvm.Cond.methodLink "SoManyStairs$State" (77 : Nat) ({ cls := "java/util/ArrayList", name := "size", desc := "()I" } : Jvm.MethodName)) ∈ lw_all := lw_g (lw_at lw_m4 168 rfl) rfl
theorem q1006 : (Jvm.Cond.methodLink "SoManyStairs$State" (84 : Nat) ({ cls := "SoManyStairs$State", name := "pay", desc := "(LSoManyStairs$House;I)V" } : Jvm.MethodName)) ∈ lw_all := lw_g (lw_at lw_m4 169 rfl) rfl
theorem q1007 : (Jvm.Cond.privateMethod ({ cls := "SoManyStairs$State", name := "pay", desc := "(LSoManyStairs$House;I)V" } : Jvm.MethodName)) ∈ lw_tbl := lw_at lw_m4 170 rfl
theorem q1008 : (Jvm.Cond.instanceMethod ({ cls := "SoManyStairs$State", name := "pay", desc := "(LSoManyStairs$House;I)V" } : Jvm.MethodName)) ∈ lw_all := lw_g (lw_at lw_m4 171 rfl) rfl
theorem q1009 : (Jvm.Cond.code ({ cls := "SoManyStairs$State", name := "pay", desc := "(LSoManyStairs$House;I)V" } : Jvm.MethodName) prog_11_method_7_code (4 : Nat) (Option.none : Option Jvm.ClassFile.FieldType)) ∈ lw_all := lw_g (lw_at lw_m4 172 rfl) rfl
theorem q1010 : (Jvm.Cond.methodLink "SoManyStairs$State" (88 : Nat) ({ cls := "java/lang/Math", name := "min", desc := "(II)I" } : Jvm.MethodName)) ∈ lw_all := lw_g (lw_at lw_m4 173 rfl) rfl
theorem q1119 : (Jvm.Cond.instanceMethod ({ cls := "SoManyStairs$State", name := "over", desc := "(LSoManyStairs$House;I)I" } : Jvm.MethodName)) ∈ lw_all := lw_g (lw_at lw_m5 42 rfl) rfl
theorem q1120 : (Jvm.Cond.selects "SoManyStairs$State" ({ cls := "SoManyStairs$State", name := "over", desc := "(LSoManyStairs$House;I)I" } : Jvm.MethodName) ({ cls := "SoManyStairs$State", name := "over", desc := "(LSoManyStairs$House;I)I" } : Jvm.MethodName)) ∈ lw_all := lw_g (lw_at lw_m5 43 rfl) rfl
theorem q1121 : (Jvm.Cond.code ({ cls := "SoManyStairs$State", name := "over", desc := "(LSoManyStairs$House;I)I" } : Jvm.MethodName) prog_11_method_4_code (3 : Nat) (Option.some Jvm.ClassFile.FieldType.int)) ∈ lw_all := lw_g (lw_at lw_m5 44 rfl) rfl
theorem q2058 : (Jvm.Cond.castable "SoManyStairs$State" "java/lang/Object") ∈ lw_tbl := lw_at lw_m9 21 rfl
theorem in_X2 : ∀ w ∈ wsX20, w ∈ lw_all := lw_in wsX20 [258, 260, 262, 264, 266, 268, 270] (by decide +kernel) (by decide +kernel)

/-! SoManyStairs$Wrong -/
set_option maxRecDepth 100000
def RX3 : String := "SoManyStairs$Wrong"
def TX3 : u_T := fun k => match k with
  | 0 => ("java/lang/Throwable", "cause", "Ljava/lang/Throwable;", false)
  | 1 => ("java/lang/Throwable", "stackTrace", "[Ljava/lang/StackTraceElement;", false)
  | 2 => ("java/lang/Throwable", "suppressedExceptions", "Ljava/util/List;", false)
  | 3 => ("java/lang/Throwable", "detailMessage", "Ljava/lang/String;", false)
  | 4 => ("java/lang/Throwable", "backtrace", "Ljava/lang/Object;", false)
  | 5 => ("java/lang/Throwable", "depth", "I", false)
  | 6 => ("SoManyStairs$Wrong", "kind", "I", false)
  | _ => ("SoManyStairs$Wrong", "place", "I", false)
def tyX3 : Nat → FieldType := fun k => match k with
  | 0 => .object "java/lang/Throwable"
  | 1 => .array (.object "java/lang/StackTraceElement")
  | 2 => .object "java/util/List"
  | 3 => .object "java/lang/String"
  | 4 => .object "java/lang/Object"
  | 5 => .int
  | 6 => .int
  | _ => .int
abbrev wsX30 : List Cond := u_ws RX3 TX3 8
theorem nmX3 : ∀ a, a < 8 → ∀ b, b < 8 → a ≠ b → (TX3 a).2.1 ≠ (TX3 b).2.1 := by decide +kernel
theorem tyX3_ok : ∀ k, k < 8 → parseFieldDescriptor (TX3 k).2.2.1 = some (tyX3 k) := by decide +kernel
abbrev cX3_init : ByteArray := prog_15_method_1_code
def yX3_init : MethodName := ⟨RX3, "<init>", "()V"⟩
theorem dX3_init_0 : decode cX3_init 0 = .ok (.aload_n 0, 1) := by decide +kernel
theorem dX3_init_1 : decode cX3_init 1 = .ok (.invokespecial 1, 3) := by decide +kernel
theorem dX3_init_4 : decode cX3_init 4 = .ok (.return_, 1) := by decide +kernel
abbrev cX3_by : ByteArray := prog_15_method_2_code
def yX3_by : MethodName := ⟨RX3, "by", "(II)LSoManyStairs$Wrong;"⟩
def dkwX3_by_0 : List UInt8 := [42, 27, 181, 0, 7, 42, 28, 181, 0, 13, 42, 176]
abbrev dktX3_by_0 : List UInt8 := dkwX3_by_0 ++ []
theorem dksX3_by_0 : cX3_by.data.toList.drop 0 = dktX3_by_0 := by decide +kernel
theorem dX3_by_0 : decode cX3_by 0 = .ok (.aload_n 0, 1) := dk_42 (dk_at dksX3_by_0 0 rfl rfl)
theorem dX3_by_1 : decode cX3_by 1 = .ok (.iload_n 1, 1) := dk_27 (dk_at dksX3_by_0 1 rfl rfl)
theorem dX3_by_2 : decode cX3_by 2 = .ok (.putfield 7, 3) := dk_181 0 7 (dk_at dksX3_by_0 2 rfl rfl)
theorem dX3_by_5 : decode cX3_by 5 = .ok (.aload_n 0, 1) := dk_42 (dk_at dksX3_by_0 5 rfl rfl)
theorem dX3_by_6 : decode cX3_by 6 = .ok (.iload_n 2, 1) := dk_28 (dk_at dksX3_by_0 6 rfl rfl)
theorem dX3_by_7 : decode cX3_by 7 = .ok (.putfield 13, 3) := dk_181 0 13 (dk_at dksX3_by_0 7 rfl rfl)
theorem dX3_by_10 : decode cX3_by 10 = .ok (.aload_n 0, 1) := dk_42 (dk_at dksX3_by_0 10 rfl rfl)
theorem dX3_by_11 : decode cX3_by 11 = .ok (.areturn, 1) := dk_176 (dk_at dksX3_by_0 11 rfl rfl)
theorem q126 : (Jvm.Cond.initialized "SoManyStairs$Wrong") ∈ lw_all := lw_g (lw_at lw_m1 9 rfl) rfl
theorem q274 : (Jvm.Cond.instantiable "SoManyStairs$Wrong" (8 : Nat)) ∈ lw_all := lw_g (lw_at lw_m1 157 rfl) rfl
theorem q275 : (Jvm.Cond.castable "SoManyStairs$Wrong" "SoManyStairs$Wrong") ∈ lw_tbl := lw_at lw_m1 158 rfl
theorem q280 : (Jvm.Cond.selects "SoManyStairs$Wrong" ({ cls := "java/lang/Throwable", name := "fillInStackTrace", desc := "(I)Ljava/lang/Throwable;" } : Jvm.MethodName) ({ cls := "java/lang/Throwable", name := "fillInStackTrace", desc := "(I)Ljava/lang/Throwable;" } : Jvm.MethodName)) ∈ lw_all := lw_g (lw_at lw_m1 163 rfl) rfl
theorem q281 : (Jvm.Cond.selects "SoManyStairs$Wrong" ({ cls := "java/lang/Throwable", name := "fillInStackTrace", desc := "()Ljava/lang/Throwable;" } : Jvm.MethodName) ({ cls := "java/lang/Throwable", name := "fillInStackTrace", desc := "()Ljava/lang/Throwable;" } : Jvm.MethodName)) ∈ lw_all := lw_g (lw_at lw_m1 164 rfl) rfl
theorem q282 : (Jvm.Cond.lays "SoManyStairs$Wrong" "java/lang/Throwable" "cause" "Ljava/lang/Throwable;") ∈ lw_all := lw_g (lw_at lw_m1 165 rfl) rfl
theorem q284 : (Jvm.Cond.lays "SoManyStairs$Wrong" "java/lang/Throwable" "stackTrace" "[Ljava/lang/StackTraceElement;") ∈ lw_all := lw_g (lw_at lw_m1 167 rfl) rfl
theorem q286 : (Jvm.Cond.lays "SoManyStairs$Wrong" "java/lang/Throwable" "suppressedExceptions" "Ljava/util/List;") ∈ lw_all := lw_g (lw_at lw_m1 169 rfl) rfl
theorem q288 : (Jvm.Cond.lays "SoManyStairs$Wrong" "java/lang/Throwable" "detailMessage" "Ljava/lang/String;") ∈ lw_all := lw_g (lw_at lw_m1 171 rfl) rfl
theorem q290 : (Jvm.Cond.lays "SoManyStairs$Wrong" "java/lang/Throwable" "backtrace" "Ljava/lang/Object;") ∈ lw_all := lw_g (lw_at lw_m1 173 rfl) rfl
theorem q311 : (Jvm.Cond.instanceMethod ({ cls := "SoManyStairs$Wrong", name := "<init>", desc := "()V" } : Jvm.MethodName)) ∈ lw_all := lw_g (lw_at lw_m1 194 rfl) rfl
theorem q312 : (Jvm.Cond.code ({ cls := "SoManyStairs$Wrong", name := "<init>", desc := "()V" } : Jvm.MethodName) prog_15_method_1_code (1 : Nat) (Option.none : Option Jvm.ClassFile.FieldType)) ∈ lw_all := lw_g (lw_at lw_m1 195 rfl) rfl
theorem q313 : (Jvm.Cond.methodLink "SoManyStairs$Wrong" (1 : Nat) ({ cls := "java/lang/Exception", name := "<init>", desc := "()V" } : Jvm.MethodName)) ∈ lw_all := lw_g (lw_at lw_m1 196 rfl) rfl
theorem q317 : (Jvm.Cond.fieldLink "SoManyStairs$Wrong" (7 : Nat) "SoManyStairs$Wrong" "kind" "I") ∈ lw_all := lw_g (lw_at lw_m1 200 rfl) rfl
theorem q319 : (Jvm.Cond.fieldLink "SoManyStairs$Wrong" (13 : Nat) "SoManyStairs$Wrong" "place" "I") ∈ lw_all := lw_g (lw_at lw_m1 202 rfl) rfl
theorem q325 : (Jvm.Cond.lays "SoManyStairs$Wrong" "SoManyStairs$Wrong" "kind" "I") ∈ lw_all := lw_g (lw_at lw_m1 208 rfl) rfl
theorem q326 : (Jvm.Cond.soleField "SoManyStairs$Wrong" "kind") ∈ lw_all := lw_g (lw_at lw_m1 209 rfl) rfl
theorem q327 : (Jvm.Cond.lays "SoManyStairs$Wrong" "SoManyStairs$Wrong" "place" "I") ∈ lw_all := lw_g (lw_at lw_m1 210 rfl) rfl
theorem q328 : (Jvm.Cond.soleField "SoManyStairs$Wrong" "place") ∈ lw_all := lw_g (lw_at lw_m1 211 rfl) rfl
theorem q333 : (Jvm.Cond.lays "SoManyStairs$Wrong" "java/lang/Throwable" "depth" "I") ∈ lw_all := lw_g (lw_at lw_m1 216 rfl) rfl
theorem q336 : (Jvm.Cond.superclass "SoManyStairs$Wrong" "java/lang/Exception") ∈ lw_all := lw_g (lw_at lw_m1 219 rfl) rfl
theorem q602 : (Jvm.Cond.instanceMethod ({ cls := "SoManyStairs$Wrong", name := "by", desc := "(II)LSoManyStairs$Wrong;" } : Jvm.MethodName)) ∈ lw_all := lw_g (lw_at lw_m3 5 rfl) rfl
theorem q603 : (Jvm.Cond.selects "SoManyStairs$Wrong" ({ cls := "SoManyStairs$Wrong", name := "by", desc := "(II)LSoManyStairs$Wrong;" } : Jvm.MethodName) ({ cls := "SoManyStairs$Wrong", name := "by", desc := "(II)LSoManyStairs$Wrong;" } : Jvm.MethodName)) ∈ lw_all := lw_g (lw_at lw_m3 6 rfl) rfl
theorem q604 : (Jvm.Cond.code ({ cls := "SoManyStairs$Wrong", name := "by", desc := "(II)LSoManyStairs$Wrong;" } : Jvm.MethodName) prog_15_method_2_code (3 : Nat) (Option.some (Jvm.ClassFile.FieldType.object "SoManyStairs$Wrong"))) ∈ lw_all := lw_g (lw_at lw_m3 7 rfl) rfl
theorem q765 : (Jvm.Cond.selects "SoManyStairs$Wrong" ({ cls := "java/lang/Object", name := "getClass", desc := "()Ljava/lang/Class;" } : Jvm.MethodName) ({ cls := "java/lang/Object", name := "getClass", desc := "()Ljava/lang/Class;" } : Jvm.MethodName)) ∈ lw_all := lw_g (lw_at lw_m3 168 rfl) rfl
theorem q2059 : (Jvm.Cond.castable "SoManyStairs$Wrong" "java/lang/Object") ∈ lw_tbl := lw_at lw_m9 22 rfl
theorem in_X3 : ∀ w ∈ wsX30, w ∈ lw_all := lw_in wsX30 [282, 284, 286, 288, 290, 333, 325, 327] (by decide +kernel) (by decide +kernel)

/-! SoManyStairs$Kept -/
set_option maxRecDepth 100000
def RX4 : String := "SoManyStairs$Kept"
def TX4 : u_T := fun k => match k with
  | _ => ("SoManyStairs$Kept", "state", "LSoManyStairs$State;", false)
def tyX4 : Nat → FieldType := fun k => match k with
  | _ => .object "SoManyStairs$State"
abbrev wsX40 : List Cond := u_ws RX4 TX4 1
theorem nmX4 : ∀ a, a < 1 → ∀ b, b < 1 → a ≠ b → (TX4 a).2.1 ≠ (TX4 b).2.1 := by decide +kernel
theorem tyX4_ok : ∀ k, k < 1 → parseFieldDescriptor (TX4 k).2.2.1 = some (tyX4 k) := by decide +kernel
abbrev cX4_init : ByteArray := prog_4_method_1_code
def yX4_init : MethodName := ⟨RX4, "<init>", "(LSoManyStairs$State;)V"⟩
def dkwX4_init_0 : List UInt8 := [42, 183, 0, 1, 42, 43, 181, 0, 7, 177]
abbrev dktX4_init_0 : List UInt8 := dkwX4_init_0 ++ []
theorem dksX4_init_0 : cX4_init.data.toList.drop 0 = dktX4_init_0 := by decide +kernel
theorem dX4_init_0 : decode cX4_init 0 = .ok (.aload_n 0, 1) := dk_42 (dk_at dksX4_init_0 0 rfl rfl)
theorem dX4_init_1 : decode cX4_init 1 = .ok (.invokespecial 1, 3) := dk_183 0 1 (dk_at dksX4_init_0 1 rfl rfl)
theorem dX4_init_4 : decode cX4_init 4 = .ok (.aload_n 0, 1) := dk_42 (dk_at dksX4_init_0 4 rfl rfl)
theorem dX4_init_5 : decode cX4_init 5 = .ok (.aload_n 1, 1) := dk_43 (dk_at dksX4_init_0 5 rfl rfl)
theorem dX4_init_6 : decode cX4_init 6 = .ok (.putfield 7, 3) := dk_181 0 7 (dk_at dksX4_init_0 6 rfl rfl)
theorem dX4_init_9 : decode cX4_init 9 = .ok (.return_, 1) := dk_177 (dk_at dksX4_init_0 9 rfl rfl)
theorem q127 : (Jvm.Cond.initialized "SoManyStairs$Kept") ∈ lw_all := lw_g (lw_at lw_m1 10 rfl) rfl
theorem q342 : (Jvm.Cond.instantiable "SoManyStairs$Kept" (1 : Nat)) ∈ lw_all := lw_g (lw_at lw_m1 225 rfl) rfl
theorem q344 : (Jvm.Cond.instanceMethod ({ cls := "SoManyStairs$Kept", name := "<init>", desc := "(LSoManyStairs$State;)V" } : Jvm.MethodName)) ∈ lw_all := lw_g (lw_at lw_m1 227 rfl) rfl
theorem q345 : (Jvm.Cond.code ({ cls := "SoManyStairs$Kept", name := "<init>", desc := "(LSoManyStairs$State;)V" } : Jvm.MethodName) prog_4_method_1_code (2 : Nat) (Option.none : Option Jvm.ClassFile.FieldType)) ∈ lw_all := lw_g (lw_at lw_m1 228 rfl) rfl
theorem q346 : (Jvm.Cond.methodLink "SoManyStairs$Kept" (1 : Nat) ({ cls := "java/lang/Object", name := "<init>", desc := "()V" } : Jvm.MethodName)) ∈ lw_all := lw_g (lw_at lw_m1 229 rfl) rfl
theorem q347 : (Jvm.Cond.fieldLink "SoManyStairs$Kept" (7 : Nat) "SoManyStairs$Kept" "state" "LSoManyStairs$State;") ∈ lw_all := lw_g (lw_at lw_m1 230 rfl) rfl
theorem q349 : (Jvm.Cond.lays "SoManyStairs$Kept" "SoManyStairs$Kept" "state" "LSoManyStairs$State;") ∈ lw_all := lw_g (lw_at lw_m1 232 rfl) rfl
theorem q350 : (Jvm.Cond.soleField "SoManyStairs$Kept" "state") ∈ lw_all := lw_g (lw_at lw_m1 233 rfl) rfl
theorem q351 : (Jvm.Cond.superclass "SoManyStairs$Kept" "java/lang/Object") ∈ lw_all := lw_g (lw_at lw_m1 234 rfl) rfl
theorem q756 : (Jvm.Cond.selects "SoManyStairs$Kept" ({ cls := "java/lang/Object", name := "getClass", desc := "()Ljava/lang/Class;" } : Jvm.MethodName) ({ cls := "java/lang/Object", name := "getClass", desc := "()Ljava/lang/Class;" } : Jvm.MethodName)) ∈ lw_all := lw_g (lw_at lw_m3 159 rfl) rfl
theorem q2053 : (Jvm.Cond.castable "SoManyStairs$Kept" "java/lang/Object") ∈ lw_tbl := lw_at lw_m9 16 rfl
theorem in_X4 : ∀ w ∈ wsX40, w ∈ lw_all := lw_in wsX40 [349] (by decide +kernel) (by decide +kernel)

/-! SoManyStairs$Tenant -/
set_option maxRecDepth 100000
def RX7 : String := "SoManyStairs$Tenant"
def TX7 : u_T := fun k => match k with
  | 0 => ("SoManyStairs$Tenant", "name", "J", true)
  | 1 => ("SoManyStairs$Tenant", "storey", "I", false)
  | 2 => ("SoManyStairs$Tenant", "strong", "I", false)
  | 3 => ("SoManyStairs$Tenant", "heavy", "I", false)
  | 4 => ("SoManyStairs$Tenant", "owes", "I", false)
  | _ => ("SoManyStairs$Tenant", "fails", "I", false)
def tyX7 : Nat → FieldType := fun k => match k with
  | 0 => .long
  | 1 => .int
  | 2 => .int
  | 3 => .int
  | 4 => .int
  | _ => .int
abbrev wsX70 : List Cond := u_ws RX7 TX7 6
theorem nmX7 : ∀ a, a < 6 → ∀ b, b < 6 → a ≠ b → (TX7 a).2.1 ≠ (TX7 b).2.1 := by decide +kernel
theorem tyX7_ok : ∀ k, k < 6 → parseFieldDescriptor (TX7 k).2.2.1 = some (tyX7 k) := by decide +kernel
abbrev cX7_init : ByteArray := prog_12_method_1_code
def yX7_init : MethodName := ⟨RX7, "<init>", "(J)V"⟩
def dkwX7_init_0 : List UInt8 := [42, 183, 0, 1, 42, 31, 181, 0, 7, 177]
abbrev dktX7_init_0 : List UInt8 := dkwX7_init_0 ++ []
theorem dksX7_init_0 : cX7_init.data.toList.drop 0 = dktX7_init_0 := by decide +kernel
theorem dX7_init_0 : decode cX7_init 0 = .ok (.aload_n 0, 1) := dk_42 (dk_at dksX7_init_0 0 rfl rfl)
theorem dX7_init_1 : decode cX7_init 1 = .ok (.invokespecial 1, 3) := dk_183 0 1 (dk_at dksX7_init_0 1 rfl rfl)
theorem dX7_init_4 : decode cX7_init 4 = .ok (.aload_n 0, 1) := dk_42 (dk_at dksX7_init_0 4 rfl rfl)
theorem dX7_init_5 : decode cX7_init 5 = .ok (.lload_n 1, 1) := dk_31 (dk_at dksX7_init_0 5 rfl rfl)
theorem dX7_init_6 : decode cX7_init 6 = .ok (.putfield 7, 3) := dk_181 0 7 (dk_at dksX7_init_0 6 rfl rfl)
theorem dX7_init_9 : decode cX7_init 9 = .ok (.return_, 1) := dk_177 (dk_at dksX7_init_0 9 rfl rfl)
theorem q136 : (Jvm.Cond.initialized "SoManyStairs$Tenant") ∈ lw_all := lw_g (lw_at lw_m1 19 rfl) rfl
theorem q675 : (Jvm.Cond.instantiable "SoManyStairs$Tenant" (6 : Nat)) ∈ lw_all := lw_g (lw_at lw_m3 78 rfl) rfl
theorem q677 : (Jvm.Cond.instanceMethod ({ cls := "SoManyStairs$Tenant", name := "<init>", desc := "(J)V" } : Jvm.MethodName)) ∈ lw_all := lw_g (lw_at lw_m3 80 rfl) rfl
theorem q678 : (Jvm.Cond.code ({ cls := "SoManyStairs$Tenant", name := "<init>", desc := "(J)V" } : Jvm.MethodName) prog_12_method_1_code (3 : Nat) (Option.none : Option Jvm.ClassFile.FieldType)) ∈ lw_all := lw_g (lw_at lw_m3 81 rfl) rfl
theorem q679 : (Jvm.Cond.methodLink "SoManyStairs$Tenant" (1 : Nat) ({ cls := "java/lang/Object", name := "<init>", desc := "()V" } : Jvm.MethodName)) ∈ lw_all := lw_g (lw_at lw_m3 82 rfl) rfl
theorem q680 : (Jvm.Cond.fieldLink "SoManyStairs$Tenant" (7 : Nat) "SoManyStairs$Tenant" "name" "J") ∈ lw_all := lw_g (lw_at lw_m3 83 rfl) rfl
theorem q695 : (Jvm.Cond.laysFinal "SoManyStairs$Tenant" "SoManyStairs$Tenant" "name" "J") ∈ lw_all := lw_g (lw_at lw_m3 98 rfl) rfl
theorem q696 : (Jvm.Cond.soleField "SoManyStairs$Tenant" "name") ∈ lw_all := lw_g (lw_at lw_m3 99 rfl) rfl
theorem q697 : (Jvm.Cond.lays "SoManyStairs$Tenant" "SoManyStairs$Tenant" "storey" "I") ∈ lw_all := lw_g (lw_at lw_m3 100 rfl) rfl
theorem q698 : (Jvm.Cond.soleField "SoManyStairs$Tenant" "storey") ∈ lw_all := lw_g (lw_at lw_m3 101 rfl) rfl
theorem q699 : (Jvm.Cond.lays "SoManyStairs$Tenant" "SoManyStairs$Tenant" "strong" "I") ∈ lw_all := lw_g (lw_at lw_m3 102 rfl) rfl
theorem q700 : (Jvm.Cond.soleField "SoManyStairs$Tenant" "strong") ∈ lw_all := lw_g (lw_at lw_m3 103 rfl) rfl
theorem q701 : (Jvm.Cond.lays "SoManyStairs$Tenant" "SoManyStairs$Tenant" "heavy" "I") ∈ lw_all := lw_g (lw_at lw_m3 104 rfl) rfl
theorem q702 : (Jvm.Cond.soleField "SoManyStairs$Tenant" "heavy") ∈ lw_all := lw_g (lw_at lw_m3 105 rfl) rfl
theorem q703 : (Jvm.Cond.lays "SoManyStairs$Tenant" "SoManyStairs$Tenant" "owes" "I") ∈ lw_all := lw_g (lw_at lw_m3 106 rfl) rfl
theorem q704 : (Jvm.Cond.soleField "SoManyStairs$Tenant" "owes") ∈ lw_all := lw_g (lw_at lw_m3 107 rfl) rfl
theorem q705 : (Jvm.Cond.lays "SoManyStairs$Tenant" "SoManyStairs$Tenant" "fails" "I") ∈ lw_all := lw_g (lw_at lw_m3 108 rfl) rfl
theorem q706 : (Jvm.Cond.soleField "SoManyStairs$Tenant" "fails") ∈ lw_all := lw_g (lw_at lw_m3 109 rfl) rfl
theorem q707 : (Jvm.Cond.superclass "SoManyStairs$Tenant" "java/lang/Object") ∈ lw_all := lw_g (lw_at lw_m3 110 rfl) rfl
theorem q762 : (Jvm.Cond.selects "SoManyStairs$Tenant" ({ cls := "java/lang/Object", name := "getClass", desc := "()Ljava/lang/Class;" } : Jvm.MethodName) ({ cls := "java/lang/Object", name := "getClass", desc := "()Ljava/lang/Class;" } : Jvm.MethodName)) ∈ lw_all := lw_g (lw_at lw_m3 165 rfl) rfl
theorem q2063 : (Jvm.Cond.castable "SoManyStairs$Tenant" "java/lang/Object") ∈ lw_tbl := lw_at lw_m9 26 rfl
theorem in_X7 : ∀ w ∈ wsX70, w ∈ lw_all := lw_in wsX70 [695, 697, 699, 701, 703, 705] (by decide +kernel) (by decide +kernel)

/-! SoManyStairs$Part -/
set_option maxRecDepth 100000
def RX8 : String := "SoManyStairs$Part"
abbrev cX8_init : ByteArray := prog_9_method_1_code
def yX8_init : MethodName := ⟨RX8, "<init>", "()V"⟩
theorem dX8_init_0 : decode cX8_init 0 = .ok (.aload_n 0, 1) := by decide +kernel
theorem dX8_init_1 : decode cX8_init 1 = .ok (.invokespecial 1, 3) := by decide +kernel
theorem dX8_init_4 : decode cX8_init 4 = .ok (.return_, 1) := by decide +kernel
theorem q141 : (Jvm.Cond.initialized "SoManyStairs$Part") ∈ lw_all := lw_g (lw_at lw_m1 24 rfl) rfl
theorem q811 : (Jvm.Cond.instanceMethod ({ cls := "SoManyStairs$Part", name := "<init>", desc := "()V" } : Jvm.MethodName)) ∈ lw_all := lw_g (lw_at lw_m3 214 rfl) rfl
theorem q812 : (Jvm.Cond.code ({ cls := "SoManyStairs$Part", name := "<init>", desc := "()V" } : Jvm.MethodName) prog_9_method_1_code (1 : Nat) (Option.none : Option Jvm.ClassFile.FieldType)) ∈ lw_all := lw_g (lw_at lw_m3 215 rfl) rfl
theorem q813 : (Jvm.Cond.methodLink "SoManyStairs$Part" (1 : Nat) ({ cls := "java/lang/Object", name := "<init>", desc := "()V" } : Jvm.MethodName)) ∈ lw_all := lw_g (lw_at lw_m3 216 rfl) rfl
theorem q929 : (Jvm.Cond.declares ({ cls := "SoManyStairs$Part", name := "of", desc := "([I)I" } : Jvm.MethodName)) ∈ lw_tbl := lw_at lw_m4 92 rfl
theorem q930 : (Jvm.Cond.sameMethod "SoManyStairs$Part" "SoManyStairs$Part" "of" "([I)I") ∈ lw_all := lw_g (lw_at lw_m4 93 rfl) rfl

/-! SoManyStairs$Not -/
set_option maxRecDepth 100000
def RX9 : String := "SoManyStairs$Not"
def TX9 : u_T := fun k => match k with
  | _ => ("SoManyStairs$Not", "a", "LSoManyStairs$Part;", true)
def tyX9 : Nat → FieldType := fun k => match k with
  | _ => .object "SoManyStairs$Part"
abbrev wsX90 : List Cond := u_ws RX9 TX9 1
theorem nmX9 : ∀ a, a < 1 → ∀ b, b < 1 → a ≠ b → (TX9 a).2.1 ≠ (TX9 b).2.1 := by decide +kernel
theorem tyX9_ok : ∀ k, k < 1 → parseFieldDescriptor (TX9 k).2.2.1 = some (tyX9 k) := by decide +kernel
abbrev cX9_init : ByteArray := prog_7_method_1_code
def yX9_init : MethodName := ⟨RX9, "<init>", "(LSoManyStairs$Part;)V"⟩
def dkwX9_init_0 : List UInt8 := [42, 183, 0, 1, 42, 43, 181, 0, 7, 177]
abbrev dktX9_init_0 : List UInt8 := dkwX9_init_0 ++ []
theorem dksX9_init_0 : cX9_init.data.toList.drop 0 = dktX9_init_0 := by decide +kernel
theorem dX9_init_0 : decode cX9_init 0 = .ok (.aload_n 0, 1) := dk_42 (dk_at dksX9_init_0 0 rfl rfl)
theorem dX9_init_1 : decode cX9_init 1 = .ok (.invokespecial 1, 3) := dk_183 0 1 (dk_at dksX9_init_0 1 rfl rfl)
theorem dX9_init_4 : decode cX9_init 4 = .ok (.aload_n 0, 1) := dk_42 (dk_at dksX9_init_0 4 rfl rfl)
theorem dX9_init_5 : decode cX9_init 5 = .ok (.aload_n 1, 1) := dk_43 (dk_at dksX9_init_0 5 rfl rfl)
theorem dX9_init_6 : decode cX9_init 6 = .ok (.putfield 7, 3) := dk_181 0 7 (dk_at dksX9_init_0 6 rfl rfl)
theorem dX9_init_9 : decode cX9_init 9 = .ok (.return_, 1) := dk_177 (dk_at dksX9_init_0 9 rfl rfl)
abbrev cX9_of : ByteArray := prog_7_method_2_code
def yX9_of : MethodName := ⟨RX9, "of", "([I)I"⟩
def dkwX9_of_0 : List UInt8 := [42, 180, 0, 7, 43, 182, 0, 13, 154, 0, 7, 4, 167, 0, 4, 3, 172]
abbrev dktX9_of_0 : List UInt8 := dkwX9_of_0 ++ []
theorem dksX9_of_0 : cX9_of.data.toList.drop 0 = dktX9_of_0 := by decide +kernel
theorem dX9_of_0 : decode cX9_of 0 = .ok (.aload_n 0, 1) := dk_42 (dk_at dksX9_of_0 0 rfl rfl)
theorem dX9_of_1 : decode cX9_of 1 = .ok (.getfield 7, 3) := dk_180 0 7 (dk_at dksX9_of_0 1 rfl rfl)
theorem dX9_of_4 : decode cX9_of 4 = .ok (.aload_n 1, 1) := dk_43 (dk_at dksX9_of_0 4 rfl rfl)
theorem dX9_of_5 : decode cX9_of 5 = .ok (.invokevirtual 13, 3) := dk_182 0 13 (dk_at dksX9_of_0 5 rfl rfl)
theorem dX9_of_8 : decode cX9_of 8 = .ok (.ifCond .ne 7, 3) := dk_154 0 7 (dk_at dksX9_of_0 8 rfl rfl)
theorem dX9_of_11 : decode cX9_of 11 = .ok (.iconst 1, 1) := dk_4 (dk_at dksX9_of_0 11 rfl rfl)
theorem dX9_of_12 : decode cX9_of 12 = .ok (.goto 4, 3) := dk_167 0 4 (dk_at dksX9_of_0 12 rfl rfl)
theorem dX9_of_15 : decode cX9_of 15 = .ok (.iconst 0, 1) := dk_3 (dk_at dksX9_of_0 15 rfl rfl)
theorem dX9_of_16 : decode cX9_of 16 = .ok (.ireturn, 1) := dk_172 (dk_at dksX9_of_0 16 rfl rfl)
theorem q142 : (Jvm.Cond.initialized "SoManyStairs$Not") ∈ lw_all := lw_g (lw_at lw_m1 25 rfl) rfl
theorem q758 : (Jvm.Cond.selects "SoManyStairs$Not" ({ cls := "java/lang/Object", name := "getClass", desc := "()Ljava/lang/Class;" } : Jvm.MethodName) ({ cls := "java/lang/Object", name := "getClass", desc := "()Ljava/lang/Class;" } : Jvm.MethodName)) ∈ lw_all := lw_g (lw_at lw_m3 161 rfl) rfl
theorem q806 : (Jvm.Cond.instantiable "SoManyStairs$Not" (1 : Nat)) ∈ lw_all := lw_g (lw_at lw_m3 209 rfl) rfl
theorem q808 : (Jvm.Cond.instanceMethod ({ cls := "SoManyStairs$Not", name := "<init>", desc := "(LSoManyStairs$Part;)V" } : Jvm.MethodName)) ∈ lw_all := lw_g (lw_at lw_m3 211 rfl) rfl
theorem q809 : (Jvm.Cond.code ({ cls := "SoManyStairs$Not", name := "<init>", desc := "(LSoManyStairs$Part;)V" } : Jvm.MethodName) prog_7_method_1_code (2 : Nat) (Option.none : Option Jvm.ClassFile.FieldType)) ∈ lw_all := lw_g (lw_at lw_m3 212 rfl) rfl
theorem q810 : (Jvm.Cond.methodLinkNest "SoManyStairs$Not" (1 : Nat) ({ cls := "SoManyStairs$Part", name := "<init>", desc := "()V" } : Jvm.MethodName) "SoManyStairs") ∈ lw_tbl := lw_at lw_m3 213 rfl
theorem q814 : (Jvm.Cond.fieldLink "SoManyStairs$Not" (7 : Nat) "SoManyStairs$Not" "a" "LSoManyStairs$Part;") ∈ lw_all := lw_g (lw_at lw_m3 217 rfl) rfl
theorem q815 : (Jvm.Cond.laysFinal "SoManyStairs$Not" "SoManyStairs$Not" "a" "LSoManyStairs$Part;") ∈ lw_all := lw_g (lw_at lw_m3 218 rfl) rfl
theorem q816 : (Jvm.Cond.soleField "SoManyStairs$Not" "a") ∈ lw_all := lw_g (lw_at lw_m3 219 rfl) rfl
theorem q817 : (Jvm.Cond.superclass "SoManyStairs$Not" "SoManyStairs$Part") ∈ lw_all := lw_g (lw_at lw_m3 220 rfl) rfl
theorem q934 : (Jvm.Cond.selects "SoManyStairs$Not" ({ cls := "SoManyStairs$Part", name := "of", desc := "([I)I" } : Jvm.MethodName) ({ cls := "SoManyStairs$Not", name := "of", desc := "([I)I" } : Jvm.MethodName)) ∈ lw_all := lw_g (lw_at lw_m4 97 rfl) rfl
theorem q935 : (Jvm.Cond.instanceMethod ({ cls := "SoManyStairs$Not", name := "of", desc := "([I)I" } : Jvm.MethodName)) ∈ lw_all := lw_g (lw_at lw_m4 98 rfl) rfl
theorem q936 : (Jvm.Cond.code ({ cls := "SoManyStairs$Not", name := "of", desc := "([I)I" } : Jvm.MethodName) prog_7_method_2_code (2 : Nat) (Option.some Jvm.ClassFile.FieldType.int)) ∈ lw_all := lw_g (lw_at lw_m4 99 rfl) rfl
theorem q937 : (Jvm.Cond.methodLink "SoManyStairs$Not" (13 : Nat) ({ cls := "SoManyStairs$Part", name := "of", desc := "([I)I" } : Jvm.MethodName)) ∈ lw_all := lw_g (lw_at lw_m4 100 rfl) rfl
theorem q2064 : (Jvm.Cond.castable "SoManyStairs$Not" "java/lang/Object") ∈ lw_tbl := lw_at lw_m9 27 rfl
theorem in_X9 : ∀ w ∈ wsX90, w ∈ lw_all := lw_in wsX90 [815] (by decide +kernel) (by decide +kernel)

theorem q117 : (Jvm.Cond.initialized "SoManyStairsLaw") ∈ lw_all := lw_g (lw_at lw_m1 0 rfl) rfl
set_option maxRecDepth 100000
theorem q150 : (Jvm.Cond.classLink "SoManyStairsLaw" (7 : Nat) "SoManyStairs") ∈ lw_all := lw_g (lw_at lw_m1 33 rfl) rfl
theorem q152 : (Jvm.Cond.methodLink "SoManyStairsLaw" (9 : Nat) ({ cls := "SoManyStairs", name := "<init>", desc := "()V" } : Jvm.MethodName)) ∈ lw_all := lw_g (lw_at lw_m1 35 rfl) rfl
theorem q446 : (Jvm.Cond.methodLink "SoManyStairsLaw" (13 : Nat) ({ cls := "SoManyStairs", name := "feed", desc := "(IIIII)I" } : Jvm.MethodName)) ∈ lw_all := lw_g (lw_at lw_m2 89 rfl) rfl
theorem q454 : (Jvm.Cond.methodLink "SoManyStairsLaw" (18 : Nat) ({ cls := "SoManyStairs", name := "end", desc := "(I)I" } : Jvm.MethodName)) ∈ lw_all := lw_g (lw_at lw_m2 97 rfl) rfl
theorem q458 : (Jvm.Cond.methodLink "SoManyStairsLaw" (23 : Nat) ({ cls := "SoManyStairs", name := "house", desc := "()I" } : Jvm.MethodName)) ∈ lw_all := lw_g (lw_at lw_m2 101 rfl) rfl
theorem q874 : (Jvm.Cond.methodLink "SoManyStairsLaw" (28 : Nat) ({ cls := "SoManyStairs", name := "fault", desc := "(I)I" } : Jvm.MethodName)) ∈ lw_all := lw_g (lw_at lw_m4 37 rfl) rfl
theorem q878 : (Jvm.Cond.methodLink "SoManyStairsLaw" (32 : Nat) ({ cls := "SoManyStairs", name := "tenant", desc := "(II)I" } : Jvm.MethodName)) ∈ lw_all := lw_g (lw_at lw_m4 41 rfl) rfl
theorem q900 : (Jvm.Cond.methodLink "SoManyStairsLaw" (37 : Nat) ({ cls := "SoManyStairs", name := "worth", desc := "(IIIII)I" } : Jvm.MethodName)) ∈ lw_all := lw_g (lw_at lw_m4 63 rfl) rfl
theorem q953 : (Jvm.Cond.methodLink "SoManyStairsLaw" (41 : Nat) ({ cls := "SoManyStairs", name := "climb", desc := "(IIII)I" } : Jvm.MethodName)) ∈ lw_all := lw_g (lw_at lw_m4 116 rfl) rfl
theorem q979 : (Jvm.Cond.methodLink "SoManyStairsLaw" (46 : Nat) ({ cls := "SoManyStairs", name := "give", desc := "(III)I" } : Jvm.MethodName)) ∈ lw_all := lw_g (lw_at lw_m4 142 rfl) rfl
theorem q983 : (Jvm.Cond.methodLink "SoManyStairsLaw" (51 : Nat) ({ cls := "SoManyStairs", name := "week", desc := "()I" } : Jvm.MethodName)) ∈ lw_all := lw_g (lw_at lw_m4 146 rfl) rfl
theorem q1011 : (Jvm.Cond.methodLink "SoManyStairsLaw" (55 : Nat) ({ cls := "SoManyStairs", name := "undo", desc := "()Z" } : Jvm.MethodName)) ∈ lw_all := lw_g (lw_at lw_m4 174 rfl) rfl
theorem q1023 : (Jvm.Cond.methodLink "SoManyStairsLaw" (60 : Nat) ({ cls := "SoManyStairs", name := "redo", desc := "()Z" } : Jvm.MethodName)) ∈ lw_all := lw_g (lw_at lw_m4 186 rfl) rfl
theorem q1027 : (Jvm.Cond.methodLink "SoManyStairsLaw" (172 : Nat) ({ cls := "SoManyStairs", name := "lies", desc := "(I)I" } : Jvm.MethodName)) ∈ lw_all := lw_g (lw_at lw_m4 190 rfl) rfl
theorem q1031 : (Jvm.Cond.methodLink "SoManyStairsLaw" (64 : Nat) ({ cls := "SoManyStairs", name := "fewest", desc := "(I)I" } : Jvm.MethodName)) ∈ lw_all := lw_g (lw_at lw_m4 194 rfl) rfl
theorem q1040 : (Jvm.Cond.methodLink "SoManyStairsLaw" (124 : Nat) ({ cls := "SoManyStairs", name := "stride", desc := "(II)I" } : Jvm.MethodName)) ∈ lw_all := lw_g (lw_at lw_m4 203 rfl) rfl
theorem q1044 : (Jvm.Cond.methodLink "SoManyStairsLaw" (68 : Nat) ({ cls := "SoManyStairs", name := "carries", desc := "(II)I" } : Jvm.MethodName)) ∈ lw_all := lw_g (lw_at lw_m4 207 rfl) rfl
theorem q1048 : (Jvm.Cond.methodLink "SoManyStairsLaw" (72 : Nat) ({ cls := "SoManyStairs", name := "care", desc := "()I" } : Jvm.MethodName)) ∈ lw_all := lw_g (lw_at lw_m4 211 rfl) rfl
theorem q1064 : (Jvm.Cond.methodLink "SoManyStairsLaw" (128 : Nat) ({ cls := "SoManyStairs", name := "proxy", desc := "()I" } : Jvm.MethodName)) ∈ lw_all := lw_g (lw_at lw_m4 227 rfl) rfl
theorem q1080 : (Jvm.Cond.methodLink "SoManyStairsLaw" (132 : Nat) ({ cls := "SoManyStairs", name := "toil", desc := "()I" } : Jvm.MethodName)) ∈ lw_all := lw_g (lw_at lw_m5 3 rfl) rfl
theorem q1084 : (Jvm.Cond.methodLink "SoManyStairsLaw" (136 : Nat) ({ cls := "SoManyStairs", name := "settle", desc := "(II)I" } : Jvm.MethodName)) ∈ lw_all := lw_g (lw_at lw_m5 7 rfl) rfl
theorem q1088 : (Jvm.Cond.methodLink "SoManyStairsLaw" (140 : Nat) ({ cls := "SoManyStairs", name := "hover", desc := "(I)I" } : Jvm.MethodName)) ∈ lw_all := lw_g (lw_at lw_m5 11 rfl) rfl
theorem q1092 : (Jvm.Cond.methodLink "SoManyStairsLaw" (144 : Nat) ({ cls := "SoManyStairs", name := "ruin", desc := "(I)I" } : Jvm.MethodName)) ∈ lw_all := lw_g (lw_at lw_m5 15 rfl) rfl
theorem q1096 : (Jvm.Cond.methodLink "SoManyStairsLaw" (148 : Nat) ({ cls := "SoManyStairs", name := "team", desc := "(II)I" } : Jvm.MethodName)) ∈ lw_all := lw_g (lw_at lw_m5 19 rfl) rfl
theorem q1106 : (Jvm.Cond.methodLink "SoManyStairsLaw" (160 : Nat) ({ cls := "SoManyStairs", name := "ladder", desc := "(I)I" } : Jvm.MethodName)) ∈ lw_all := lw_g (lw_at lw_m5 29 rfl) rfl
theorem q1110 : (Jvm.Cond.methodLink "SoManyStairsLaw" (76 : Nat) ({ cls := "SoManyStairs", name := "gifts", desc := "(I)I" } : Jvm.MethodName)) ∈ lw_all := lw_g (lw_at lw_m5 33 rfl) rfl
theorem q1126 : (Jvm.Cond.methodLink "SoManyStairsLaw" (80 : Nat) ({ cls := "SoManyStairs", name := "envies", desc := "(I)I" } : Jvm.MethodName)) ∈ lw_all := lw_g (lw_at lw_m5 49 rfl) rfl
theorem q1130 : (Jvm.Cond.methodLink "SoManyStairsLaw" (152 : Nat) ({ cls := "SoManyStairs", name := "quarrel", desc := "()I" } : Jvm.MethodName)) ∈ lw_all := lw_g (lw_at lw_m5 53 rfl) rfl
theorem q1142 : (Jvm.Cond.methodLink "SoManyStairsLaw" (156 : Nat) ({ cls := "SoManyStairs", name := "calm", desc := "(I)I" } : Jvm.MethodName)) ∈ lw_all := lw_g (lw_at lw_m5 65 rfl) rfl
theorem q1147 : (Jvm.Cond.methodLink "SoManyStairsLaw" (168 : Nat) ({ cls := "SoManyStairs", name := "live", desc := "(I)I" } : Jvm.MethodName)) ∈ lw_all := lw_g (lw_at lw_m5 70 rfl) rfl
theorem q1151 : (Jvm.Cond.methodLink "SoManyStairsLaw" (164 : Nat) ({ cls := "SoManyStairs", name := "spread", desc := "()I" } : Jvm.MethodName)) ∈ lw_all := lw_g (lw_at lw_m5 74 rfl) rfl
theorem q1163 : (Jvm.Cond.methodLink "SoManyStairsLaw" (84 : Nat) ({ cls := "SoManyStairs", name := "let", desc := "()I" } : Jvm.MethodName)) ∈ lw_all := lw_g (lw_at lw_m5 86 rfl) rfl
theorem q1171 : (Jvm.Cond.methodLink "SoManyStairsLaw" (88 : Nat) ({ cls := "SoManyStairs", name := "month", desc := "(I)I" } : Jvm.MethodName)) ∈ lw_all := lw_g (lw_at lw_m5 94 rfl) rfl
theorem q1172 : (Jvm.Cond.methodLink "SoManyStairsLaw" (92 : Nat) ({ cls := "SoManyStairs", name := "rest", desc := "()I" } : Jvm.MethodName)) ∈ lw_all := lw_g (lw_at lw_m5 95 rfl) rfl
theorem q1176 : (Jvm.Cond.methodLink "SoManyStairsLaw" (96 : Nat) ({ cls := "SoManyStairs", name := "will", desc := "(I)I" } : Jvm.MethodName)) ∈ lw_all := lw_g (lw_at lw_m5 99 rfl) rfl
theorem q1180 : (Jvm.Cond.methodLink "SoManyStairsLaw" (100 : Nat) ({ cls := "SoManyStairs", name := "pull", desc := "()I" } : Jvm.MethodName)) ∈ lw_all := lw_g (lw_at lw_m5 103 rfl) rfl
theorem q1185 : (Jvm.Cond.methodLink "SoManyStairsLaw" (104 : Nat) ({ cls := "SoManyStairs", name := "lever", desc := "()I" } : Jvm.MethodName)) ∈ lw_all := lw_g (lw_at lw_m5 108 rfl) rfl
theorem q1190 : (Jvm.Cond.methodLink "SoManyStairsLaw" (108 : Nat) ({ cls := "SoManyStairs", name := "odds", desc := "(IIII)I" } : Jvm.MethodName)) ∈ lw_all := lw_g (lw_at lw_m5 113 rfl) rfl
theorem q1197 : (Jvm.Cond.methodLink "SoManyStairsLaw" (112 : Nat) ({ cls := "SoManyStairs", name := "poorest", desc := "()I" } : Jvm.MethodName)) ∈ lw_all := lw_g (lw_at lw_m5 120 rfl) rfl
theorem q1201 : (Jvm.Cond.methodLink "SoManyStairsLaw" (116 : Nat) ({ cls := "SoManyStairs", name := "owing", desc := "()I" } : Jvm.MethodName)) ∈ lw_all := lw_g (lw_at lw_m5 124 rfl) rfl
theorem q1205 : (Jvm.Cond.methodLink "SoManyStairsLaw" (120 : Nat) ({ cls := "SoManyStairs", name := "law", desc := "(I)I" } : Jvm.MethodName)) ∈ lw_all := lw_g (lw_at lw_m5 128 rfl) rfl
theorem q1209 : (Jvm.Cond.methodLink "SoManyStairsLaw" (176 : Nat) ({ cls := "SoManyStairs", name := "chalk", desc := "(IZ)I" } : Jvm.MethodName)) ∈ lw_all := lw_g (lw_at lw_m5 132 rfl) rfl
theorem q1246 : (Jvm.Cond.methodLink "SoManyStairsLaw" (181 : Nat) ({ cls := "SoManyStairs", name := "tread", desc := "(IZ)I" } : Jvm.MethodName)) ∈ lw_all := lw_g (lw_at lw_m5 169 rfl) rfl
theorem q1267 : (Jvm.Cond.methodLink "SoManyStairsLaw" (185 : Nat) ({ cls := "SoManyStairs", name := "untell", desc := "(I)Z" } : Jvm.MethodName)) ∈ lw_all := lw_g (lw_at lw_m5 190 rfl) rfl
theorem q1272 : (Jvm.Cond.methodLink "SoManyStairsLaw" (190 : Nat) ({ cls := "SoManyStairs", name := "later", desc := "(I)I" } : Jvm.MethodName)) ∈ lw_all := lw_g (lw_at lw_m5 195 rfl) rfl
theorem q1277 : (Jvm.Cond.methodLink "SoManyStairsLaw" (194 : Nat) ({ cls := "SoManyStairs", name := "runs", desc := "(I)I" } : Jvm.MethodName)) ∈ lw_all := lw_g (lw_at lw_m5 200 rfl) rfl
theorem q1310 : (Jvm.Cond.methodLink "SoManyStairsLaw" (198 : Nat) ({ cls := "SoManyStairs", name := "who", desc := "(I)I" } : Jvm.MethodName)) ∈ lw_all := lw_g (lw_at lw_m5 233 rfl) rfl
theorem q1314 : (Jvm.Cond.methodLink "SoManyStairsLaw" (202 : Nat) ({ cls := "SoManyStairs", name := "ask", desc := "(II)I" } : Jvm.MethodName)) ∈ lw_all := lw_g (lw_at lw_m5 237 rfl) rfl
theorem q1319 : (Jvm.Cond.methodLink "SoManyStairsLaw" (206 : Nat) ({ cls := "SoManyStairs", name := "image", desc := "(I)I" } : Jvm.MethodName)) ∈ lw_all := lw_g (lw_at lw_m6 2 rfl) rfl
theorem q1323 : (Jvm.Cond.methodLink "SoManyStairsLaw" (210 : Nat) ({ cls := "SoManyStairs", name := "back", desc := "(I)I" } : Jvm.MethodName)) ∈ lw_all := lw_g (lw_at lw_m6 6 rfl) rfl
theorem q1327 : (Jvm.Cond.methodLink "SoManyStairsLaw" (214 : Nat) ({ cls := "SoManyStairs", name := "about", desc := "(I)I" } : Jvm.MethodName)) ∈ lw_all := lw_g (lw_at lw_m6 10 rfl) rfl
theorem q1331 : (Jvm.Cond.classLink "SoManyStairsLaw" (10 : Nat) "SoManyStairsModel") ∈ lw_all := lw_g (lw_at lw_m6 14 rfl) rfl
theorem q1333 : (Jvm.Cond.methodLink "SoManyStairsLaw" (12 : Nat) ({ cls := "SoManyStairsModel", name := "<init>", desc := "()V" } : Jvm.MethodName)) ∈ lw_all := lw_g (lw_at lw_m6 16 rfl) rfl
theorem q1547 : (Jvm.Cond.methodLink "SoManyStairsLaw" (17 : Nat) ({ cls := "SoManyStairsModel", name := "feed", desc := "(IIIII)I" } : Jvm.MethodName)) ∈ lw_all := lw_g (lw_at lw_m6 230 rfl) rfl
theorem q1555 : (Jvm.Cond.methodLink "SoManyStairsLaw" (22 : Nat) ({ cls := "SoManyStairsModel", name := "end", desc := "(I)I" } : Jvm.MethodName)) ∈ lw_all := lw_g (lw_at lw_m6 238 rfl) rfl
theorem q1559 : (Jvm.Cond.methodLink "SoManyStairsLaw" (27 : Nat) ({ cls := "SoManyStairsModel", name := "house", desc := "()I" } : Jvm.MethodName)) ∈ lw_all := lw_g (lw_at lw_m7 2 rfl) rfl
theorem q1700 : (Jvm.Cond.methodLink "SoManyStairsLaw" (31 : Nat) ({ cls := "SoManyStairsModel", name := "fault", desc := "(I)I" } : Jvm.MethodName)) ∈ lw_all := lw_g (lw_at lw_m7 143 rfl) rfl
theorem q1704 : (Jvm.Cond.methodLink "SoManyStairsLaw" (36 : Nat) ({ cls := "SoManyStairsModel", name := "tenant", desc := "(II)I" } : Jvm.MethodName)) ∈ lw_all := lw_g (lw_at lw_m7 147 rfl) rfl
theorem q1727 : (Jvm.Cond.methodLink "SoManyStairsLaw" (40 : Nat) ({ cls := "SoManyStairsModel", name := "worth", desc := "(IIIII)I" } : Jvm.MethodName)) ∈ lw_all := lw_g (lw_at lw_m7 170 rfl) rfl
theorem q1756 : (Jvm.Cond.methodLink "SoManyStairsLaw" (45 : Nat) ({ cls := "SoManyStairsModel", name := "climb", desc := "(IIII)I" } : Jvm.MethodName)) ∈ lw_all := lw_g (lw_at lw_m7 199 rfl) rfl
theorem q1772 : (Jvm.Cond.methodLink "SoManyStairsLaw" (50 : Nat) ({ cls := "SoManyStairsModel", name := "give", desc := "(III)I" } : Jvm.MethodName)) ∈ lw_all := lw_g (lw_at lw_m7 215 rfl) rfl
theorem q1776 : (Jvm.Cond.methodLink "SoManyStairsLaw" (54 : Nat) ({ cls := "SoManyStairsModel", name := "week", desc := "()I" } : Jvm.MethodName)) ∈ lw_all := lw_g (lw_at lw_m7 219 rfl) rfl
theorem q1792 : (Jvm.Cond.methodLink "SoManyStairsLaw" (59 : Nat) ({ cls := "SoManyStairsModel", name := "undo", desc := "()Z" } : Jvm.MethodName)) ∈ lw_all := lw_g (lw_at lw_m7 235 rfl) rfl
theorem q1800 : (Jvm.Cond.methodLink "SoManyStairsLaw" (63 : Nat) ({ cls := "SoManyStairsModel", name := "redo", desc := "()Z" } : Jvm.MethodName)) ∈ lw_all := lw_g (lw_at lw_m8 3 rfl) rfl
theorem q1804 : (Jvm.Cond.methodLink "SoManyStairsLaw" (67 : Nat) ({ cls := "SoManyStairsModel", name := "fewest", desc := "(I)I" } : Jvm.MethodName)) ∈ lw_all := lw_g (lw_at lw_m8 7 rfl) rfl
theorem q1816 : (Jvm.Cond.methodLink "SoManyStairsLaw" (71 : Nat) ({ cls := "SoManyStairsModel", name := "carries", desc := "(II)I" } : Jvm.MethodName)) ∈ lw_all := lw_g (lw_at lw_m8 19 rfl) rfl
theorem q1824 : (Jvm.Cond.methodLink "SoManyStairsLaw" (75 : Nat) ({ cls := "SoManyStairsModel", name := "care", desc := "()I" } : Jvm.MethodName)) ∈ lw_all := lw_g (lw_at lw_m8 27 rfl) rfl
theorem q1839 : (Jvm.Cond.methodLink "SoManyStairsLaw" (131 : Nat) ({ cls := "SoManyStairsModel", name := "proxy", desc := "()I" } : Jvm.MethodName)) ∈ lw_all := lw_g (lw_at lw_m8 42 rfl) rfl
theorem q1851 : (Jvm.Cond.methodLink "SoManyStairsLaw" (135 : Nat) ({ cls := "SoManyStairsModel", name := "toil", desc := "()I" } : Jvm.MethodName)) ∈ lw_all := lw_g (lw_at lw_m8 54 rfl) rfl
theorem q1855 : (Jvm.Cond.methodLink "SoManyStairsLaw" (79 : Nat) ({ cls := "SoManyStairsModel", name := "gifts", desc := "(I)I" } : Jvm.MethodName)) ∈ lw_all := lw_g (lw_at lw_m8 58 rfl) rfl
theorem q1867 : (Jvm.Cond.methodLink "SoManyStairsLaw" (83 : Nat) ({ cls := "SoManyStairsModel", name := "envies", desc := "(I)I" } : Jvm.MethodName)) ∈ lw_all := lw_g (lw_at lw_m8 70 rfl) rfl
theorem q1879 : (Jvm.Cond.methodLink "SoManyStairsLaw" (155 : Nat) ({ cls := "SoManyStairsModel", name := "quarrel", desc := "()I" } : Jvm.MethodName)) ∈ lw_all := lw_g (lw_at lw_m8 82 rfl) rfl
theorem q1887 : (Jvm.Cond.methodLink "SoManyStairsLaw" (159 : Nat) ({ cls := "SoManyStairsModel", name := "calm", desc := "(I)I" } : Jvm.MethodName)) ∈ lw_all := lw_g (lw_at lw_m8 90 rfl) rfl
theorem q1895 : (Jvm.Cond.methodLink "SoManyStairsLaw" (87 : Nat) ({ cls := "SoManyStairsModel", name := "let", desc := "()I" } : Jvm.MethodName)) ∈ lw_all := lw_g (lw_at lw_m8 98 rfl) rfl
theorem q1911 : (Jvm.Cond.methodLink "SoManyStairsLaw" (91 : Nat) ({ cls := "SoManyStairsModel", name := "month", desc := "(I)I" } : Jvm.MethodName)) ∈ lw_all := lw_g (lw_at lw_m8 114 rfl) rfl
theorem q1915 : (Jvm.Cond.methodLink "SoManyStairsLaw" (167 : Nat) ({ cls := "SoManyStairsModel", name := "spread", desc := "()I" } : Jvm.MethodName)) ∈ lw_all := lw_g (lw_at lw_m8 118 rfl) rfl
theorem q1919 : (Jvm.Cond.methodLink "SoManyStairsLaw" (171 : Nat) ({ cls := "SoManyStairsModel", name := "live", desc := "(I)I" } : Jvm.MethodName)) ∈ lw_all := lw_g (lw_at lw_m8 122 rfl) rfl
theorem q1923 : (Jvm.Cond.methodLink "SoManyStairsLaw" (95 : Nat) ({ cls := "SoManyStairsModel", name := "rest", desc := "()I" } : Jvm.MethodName)) ∈ lw_all := lw_g (lw_at lw_m8 126 rfl) rfl
theorem q1927 : (Jvm.Cond.methodLink "SoManyStairsLaw" (99 : Nat) ({ cls := "SoManyStairsModel", name := "will", desc := "(I)I" } : Jvm.MethodName)) ∈ lw_all := lw_g (lw_at lw_m8 130 rfl) rfl
theorem q1935 : (Jvm.Cond.methodLink "SoManyStairsLaw" (103 : Nat) ({ cls := "SoManyStairsModel", name := "pull", desc := "()I" } : Jvm.MethodName)) ∈ lw_all := lw_g (lw_at lw_m8 138 rfl) rfl
theorem q1939 : (Jvm.Cond.methodLink "SoManyStairsLaw" (107 : Nat) ({ cls := "SoManyStairsModel", name := "lever", desc := "()I" } : Jvm.MethodName)) ∈ lw_all := lw_g (lw_at lw_m8 142 rfl) rfl
theorem q1943 : (Jvm.Cond.methodLink "SoManyStairsLaw" (143 : Nat) ({ cls := "SoManyStairsModel", name := "hover", desc := "(I)I" } : Jvm.MethodName)) ∈ lw_all := lw_g (lw_at lw_m8 146 rfl) rfl
theorem q1947 : (Jvm.Cond.methodLink "SoManyStairsLaw" (147 : Nat) ({ cls := "SoManyStairsModel", name := "ruin", desc := "(I)I" } : Jvm.MethodName)) ∈ lw_all := lw_g (lw_at lw_m8 150 rfl) rfl
theorem q1951 : (Jvm.Cond.methodLink "SoManyStairsLaw" (139 : Nat) ({ cls := "SoManyStairsModel", name := "settle", desc := "(II)I" } : Jvm.MethodName)) ∈ lw_all := lw_g (lw_at lw_m8 154 rfl) rfl
theorem q1955 : (Jvm.Cond.methodLink "SoManyStairsLaw" (111 : Nat) ({ cls := "SoManyStairsModel", name := "odds", desc := "(IIII)I" } : Jvm.MethodName)) ∈ lw_all := lw_g (lw_at lw_m8 158 rfl) rfl
theorem q1965 : (Jvm.Cond.methodLink "SoManyStairsLaw" (115 : Nat) ({ cls := "SoManyStairsModel", name := "poorest", desc := "()I" } : Jvm.MethodName)) ∈ lw_all := lw_g (lw_at lw_m8 168 rfl) rfl
theorem q1969 : (Jvm.Cond.methodLink "SoManyStairsLaw" (119 : Nat) ({ cls := "SoManyStairsModel", name := "owing", desc := "()I" } : Jvm.MethodName)) ∈ lw_all := lw_g (lw_at lw_m8 172 rfl) rfl
theorem q1973 : (Jvm.Cond.methodLink "SoManyStairsLaw" (123 : Nat) ({ cls := "SoManyStairsModel", name := "law", desc := "(I)I" } : Jvm.MethodName)) ∈ lw_all := lw_g (lw_at lw_m8 176 rfl) rfl
theorem q1977 : (Jvm.Cond.methodLink "SoManyStairsLaw" (127 : Nat) ({ cls := "SoManyStairsModel", name := "stride", desc := "(II)I" } : Jvm.MethodName)) ∈ lw_all := lw_g (lw_at lw_m8 180 rfl) rfl
theorem q1981 : (Jvm.Cond.methodLink "SoManyStairsLaw" (151 : Nat) ({ cls := "SoManyStairsModel", name := "team", desc := "(II)I" } : Jvm.MethodName)) ∈ lw_all := lw_g (lw_at lw_m8 184 rfl) rfl
theorem q1985 : (Jvm.Cond.methodLink "SoManyStairsLaw" (163 : Nat) ({ cls := "SoManyStairsModel", name := "ladder", desc := "(I)I" } : Jvm.MethodName)) ∈ lw_all := lw_g (lw_at lw_m8 188 rfl) rfl
theorem q1989 : (Jvm.Cond.methodLink "SoManyStairsLaw" (175 : Nat) ({ cls := "SoManyStairsModel", name := "lies", desc := "(I)I" } : Jvm.MethodName)) ∈ lw_all := lw_g (lw_at lw_m8 192 rfl) rfl
theorem q1993 : (Jvm.Cond.methodLink "SoManyStairsLaw" (180 : Nat) ({ cls := "SoManyStairsModel", name := "chalk", desc := "(IZ)I" } : Jvm.MethodName)) ∈ lw_all := lw_g (lw_at lw_m8 196 rfl) rfl
theorem q2001 : (Jvm.Cond.methodLink "SoManyStairsLaw" (184 : Nat) ({ cls := "SoManyStairsModel", name := "tread", desc := "(IZ)I" } : Jvm.MethodName)) ∈ lw_all := lw_g (lw_at lw_m8 204 rfl) rfl
theorem q2005 : (Jvm.Cond.methodLink "SoManyStairsLaw" (189 : Nat) ({ cls := "SoManyStairsModel", name := "untell", desc := "(I)Z" } : Jvm.MethodName)) ∈ lw_all := lw_g (lw_at lw_m8 208 rfl) rfl
theorem q2009 : (Jvm.Cond.methodLink "SoManyStairsLaw" (193 : Nat) ({ cls := "SoManyStairsModel", name := "later", desc := "(I)I" } : Jvm.MethodName)) ∈ lw_all := lw_g (lw_at lw_m8 212 rfl) rfl
theorem q2014 : (Jvm.Cond.methodLink "SoManyStairsLaw" (197 : Nat) ({ cls := "SoManyStairsModel", name := "runs", desc := "(I)I" } : Jvm.MethodName)) ∈ lw_all := lw_g (lw_at lw_m8 217 rfl) rfl
theorem q2026 : (Jvm.Cond.methodLink "SoManyStairsLaw" (201 : Nat) ({ cls := "SoManyStairsModel", name := "who", desc := "(I)I" } : Jvm.MethodName)) ∈ lw_all := lw_g (lw_at lw_m8 229 rfl) rfl
theorem q2030 : (Jvm.Cond.methodLink "SoManyStairsLaw" (205 : Nat) ({ cls := "SoManyStairsModel", name := "ask", desc := "(II)I" } : Jvm.MethodName)) ∈ lw_all := lw_g (lw_at lw_m8 233 rfl) rfl
theorem q2034 : (Jvm.Cond.methodLink "SoManyStairsLaw" (209 : Nat) ({ cls := "SoManyStairsModel", name := "image", desc := "(I)I" } : Jvm.MethodName)) ∈ lw_all := lw_g (lw_at lw_m8 237 rfl) rfl
theorem q2041 : (Jvm.Cond.methodLink "SoManyStairsLaw" (213 : Nat) ({ cls := "SoManyStairsModel", name := "back", desc := "(I)I" } : Jvm.MethodName)) ∈ lw_all := lw_g (lw_at lw_m9 4 rfl) rfl
theorem q2045 : (Jvm.Cond.methodLink "SoManyStairsLaw" (217 : Nat) ({ cls := "SoManyStairsModel", name := "about", desc := "(I)I" } : Jvm.MethodName)) ∈ lw_all := lw_g (lw_at lw_m9 8 rfl) rfl

theorem q2075 : (Jvm.Cond.castable "[B" "java/lang/Object") ∈ lw_tbl := lw_at lw_m9 38 rfl
set_option maxRecDepth 100000

theorem q2074 : (Jvm.Cond.castable "[I" "java/lang/Object") ∈ lw_tbl := lw_at lw_m9 37 rfl
set_option maxRecDepth 100000

theorem q2078 : (Jvm.Cond.castable "[J" "java/lang/Object") ∈ lw_tbl := lw_at lw_m9 41 rfl
set_option maxRecDepth 100000

theorem q2076 : (Jvm.Cond.castable "[LSoManyStairs$Kept;" "java/lang/Object") ∈ lw_tbl := lw_at lw_m9 39 rfl
set_option maxRecDepth 100000

theorem q2071 : (Jvm.Cond.sameMethod "[Ljava/lang/Object;" "java/lang/Object" "getClass" "()Ljava/lang/Class;") ∈ lw_all := lw_g (lw_at lw_m9 34 rfl) rfl
set_option maxRecDepth 100000
theorem q2072 : (Jvm.Cond.selects "[Ljava/lang/Object;" ({ cls := "java/lang/Object", name := "getClass", desc := "()Ljava/lang/Class;" } : Jvm.MethodName) ({ cls := "java/lang/Object", name := "getClass", desc := "()Ljava/lang/Class;" } : Jvm.MethodName)) ∈ lw_all := lw_g (lw_at lw_m9 35 rfl) rfl
theorem q2077 : (Jvm.Cond.castable "[Ljava/lang/Object;" "java/lang/Object") ∈ lw_tbl := lw_at lw_m9 40 rfl

theorem q2080 : (Jvm.Cond.castable "[Ljava/lang/String;" "java/lang/Object") ∈ lw_tbl := lw_at lw_m9 43 rfl
set_option maxRecDepth 100000

theorem q2079 : (Jvm.Cond.castable "[Z" "java/lang/Object") ∈ lw_tbl := lw_at lw_m9 42 rfl
set_option maxRecDepth 100000

theorem q140 : (Jvm.Cond.initialized "java/lang/System") ∈ lw_all := lw_g (lw_at lw_m1 23 rfl) rfl
set_option maxRecDepth 100000
theorem q780 : (Jvm.Cond.static ({ cls := "java/lang/System", name := "arraycopy", desc := "(Ljava/lang/Object;ILjava/lang/Object;II)V" } : Jvm.MethodName)) ∈ lw_all := lw_g (lw_at lw_m3 183 rfl) rfl
theorem q781 : (Jvm.Cond.native ({ cls := "java/lang/System", name := "arraycopy", desc := "(Ljava/lang/Object;ILjava/lang/Object;II)V" } : Jvm.MethodName)) ∈ lw_all := lw_g (lw_at lw_m3 184 rfl) rfl

theorem q653 : (Jvm.Cond.interfaceMethod "java/util/Iterator" "java/util/Iterator" "hasNext" "()Z") ∈ lw_tbl := lw_at lw_m3 56 rfl
set_option maxRecDepth 100000
theorem q654 : (Jvm.Cond.declares ({ cls := "java/util/Iterator", name := "hasNext", desc := "()Z" } : Jvm.MethodName)) ∈ lw_tbl := lw_at lw_m3 57 rfl
theorem q663 : (Jvm.Cond.interfaceMethod "java/util/Iterator" "java/util/Iterator" "next" "()Ljava/lang/Object;") ∈ lw_tbl := lw_at lw_m3 66 rfl
theorem q664 : (Jvm.Cond.declares ({ cls := "java/util/Iterator", name := "next", desc := "()Ljava/lang/Object;" } : Jvm.MethodName)) ∈ lw_tbl := lw_at lw_m3 67 rfl

theorem q235 : (Jvm.Cond.arrayClass Jvm.ClassFile.FieldType.int) ∈ lw_all := lw_g (lw_at lw_m1 118 rfl) rfl
set_option maxRecDepth 100000
theorem q337 : (Jvm.Cond.arrayClass Jvm.ClassFile.FieldType.byte) ∈ lw_all := lw_g (lw_at lw_m1 220 rfl) rfl
theorem q341 : (Jvm.Cond.arrayOver (Jvm.ClassFile.FieldType.object "SoManyStairs$Kept")) ∈ lw_tbl := lw_at lw_m1 224 rfl
theorem q774 : (Jvm.Cond.arrayOver (Jvm.ClassFile.FieldType.object "java/lang/Object")) ∈ lw_tbl := lw_at lw_m3 177 rfl
theorem q1545 : (Jvm.Cond.arrayClass Jvm.ClassFile.FieldType.long) ∈ lw_all := lw_g (lw_at lw_m6 228 rfl) rfl
theorem q1546 : (Jvm.Cond.arrayClass Jvm.ClassFile.FieldType.boolean) ∈ lw_all := lw_g (lw_at lw_m6 229 rfl) rfl
theorem q2086 : (Jvm.Cond.arrayOver (Jvm.ClassFile.FieldType.object "java/lang/String")) ∈ lw_tbl := lw_at lw_m9 49 rfl
