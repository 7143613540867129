/-! DECODE ROWS BY BYTES: one lemma an opcode; a method's code is cut into short pieces once, and a row reads its own piece alone. -/
set_option maxRecDepth 100000
/-- the code has just these bytes from pc on -/
def DkAt (code : ByteArray) (pc : Nat) (bs : List UInt8) : Prop := ∀ (j : Nat) (b : UInt8), bs[j]? = some b → code.data.toList[pc + j]? = some b
/-- the piece W has the bytes bs from its place j on -/
def dkIn (W : List UInt8) (j : Nat) (bs : List UInt8) : Bool := decide ((W.drop j).take bs.length = bs)
theorem dk_seg {l W T : List UInt8} {o o2 : Nat} (h : l.drop o = W ++ T) (n : Nat) (hn : W.length = n) (ho : o + n = o2) : l.drop o2 = T := by
  subst ho
  rw [← List.drop_drop, h, List.drop_left' hn]
theorem dk_at {code : ByteArray} {W T bs : List UInt8} {o pc : Nat} (h : code.data.toList.drop o = W ++ T) (j : Nat) (hp : o + j = pc) (hw : dkIn W j bs = true) : DkAt code pc bs := by
  subst hp
  intro i b e
  have h1 := of_decide_eq_true hw
  have h2 : i < bs.length := (List.getElem?_eq_some_iff.mp e).1
  have h3 : W[j + i]? = some b := by
    rw [← h1, List.getElem?_take, if_pos h2, List.getElem?_drop] at e
    exact e
  have h4 : j + i < W.length := (List.getElem?_eq_some_iff.mp h3).1
  have h5 : (code.data.toList.drop o)[j + i]? = some b := by
    rw [h, List.getElem?_append_left h4]
    exact h3
  rw [List.getElem?_drop, ← Nat.add_assoc] at h5
  exact h5
theorem dk_u1 {A : ByteArray} {p : Nat} {b : UInt8} (h : A.data.toList[p]? = some b) : (Reader.u1 : Reader DecodeError Nat) A p = .ok (b.toNat, p + 1) := by
  obtain ⟨h1, h2⟩ := List.getElem?_eq_some_iff.mp h
  have h3 : p < A.size := by simpa using h1
  have h4 : A[p]'h3 = b := h2
  have e : (Reader.u1 : Reader DecodeError Nat) A p = (if h : p < A.size then .ok (A[p].toNat, p + 1) else .error (HasTruncated.truncated p)) := by
    show (do if h : p < A.size then do set (p + 1); Pure.pure A[p].toNat else MonadExcept.throw (HasTruncated.truncated p) : Reader DecodeError Nat) A p = _
    by_cases hi : p < A.size
    · rw [dif_pos hi, dif_pos hi]; rfl
    · rw [dif_neg hi, dif_neg hi]; rfl
  rw [e, dif_pos h3, h4]
theorem dk_bind {α β : Type} {r : Reader DecodeError α} {f : α → Reader DecodeError β} {A : ByteArray} {p s : Nat} {a : α} (h : r A p = .ok (a, s)) : (r >>= f) A p = f a A s := by
  show (do let (a, s) ← r A p; f a A s : Except DecodeError (β × Nat)) = _
  rw [h]
  rfl
theorem dk_map {α β : Type} {r : Reader DecodeError α} {g : α → β} {A : ByteArray} {p s : Nat} {a : α} (h : r A p = .ok (a, s)) : (g <$> r) A p = .ok (g a, s) := by
  show (do let (a, s) ← r A p; .ok (g a, s) : Except DecodeError (β × Nat)) = _
  rw [h]
  rfl
theorem dk_u2 {A : ByteArray} {p : Nat} {a b : UInt8} (h : A.data.toList[p]? = some a) (h2 : A.data.toList[p + 1]? = some b) : (Reader.u2 : Reader DecodeError Nat) A p = .ok (a.toNat * 256 + b.toNat, p + 2) := by
  show (Reader.u1 >>= fun hi => Reader.u1 >>= fun lo => Pure.pure (hi * 256 + lo) : Reader DecodeError Nat) A p = _
  rw [dk_bind (dk_u1 h), dk_bind (dk_u1 h2)]
  rfl
theorem dk_of {code : ByteArray} {pc n : Nat} {i : Instr} (h : Decoder.instr pc code pc = .ok (i, pc + n)) : decode code pc = .ok (i, n) := by
  have e : decode code pc = (match Decoder.instr pc code pc with | .error x => .error x | .ok (j, s) => .ok (j, s - pc)) := by
    show (do let (j, s) ← Decoder.instr pc code pc; Pure.pure (j, s - pc) : Except DecodeError (Instr × Nat)) = _
    cases Decoder.instr pc code pc <;> rfl
  rw [e, h]
  show Except.ok (i, pc + n - pc) = _
  rw [Nat.add_sub_cancel_left]
theorem dk_1 {code : ByteArray} {pc : Nat} (h : DkAt code pc [1]) : decode code pc = .ok (.aconst_null, 1) := dk_of ((dk_bind (dk_u1 (h 0 _ rfl))).trans rfl)
theorem dk_2 {code : ByteArray} {pc : Nat} (h : DkAt code pc [2]) : decode code pc = .ok (.iconst (-1), 1) := dk_of ((dk_bind (dk_u1 (h 0 _ rfl))).trans rfl)
theorem dk_3 {code : ByteArray} {pc : Nat} (h : DkAt code pc [3]) : decode code pc = .ok (.iconst 0, 1) := dk_of ((dk_bind (dk_u1 (h 0 _ rfl))).trans rfl)
theorem dk_4 {code : ByteArray} {pc : Nat} (h : DkAt code pc [4]) : decode code pc = .ok (.iconst 1, 1) := dk_of ((dk_bind (dk_u1 (h 0 _ rfl))).trans rfl)
theorem dk_5 {code : ByteArray} {pc : Nat} (h : DkAt code pc [5]) : decode code pc = .ok (.iconst 2, 1) := dk_of ((dk_bind (dk_u1 (h 0 _ rfl))).trans rfl)
theorem dk_6 {code : ByteArray} {pc : Nat} (h : DkAt code pc [6]) : decode code pc = .ok (.iconst 3, 1) := dk_of ((dk_bind (dk_u1 (h 0 _ rfl))).trans rfl)
theorem dk_7 {code : ByteArray} {pc : Nat} (h : DkAt code pc [7]) : decode code pc = .ok (.iconst 4, 1) := dk_of ((dk_bind (dk_u1 (h 0 _ rfl))).trans rfl)
theorem dk_8 {code : ByteArray} {pc : Nat} (h : DkAt code pc [8]) : decode code pc = .ok (.iconst 5, 1) := dk_of ((dk_bind (dk_u1 (h 0 _ rfl))).trans rfl)
theorem dk_9 {code : ByteArray} {pc : Nat} (h : DkAt code pc [9]) : decode code pc = .ok (.lconst 0, 1) := dk_of ((dk_bind (dk_u1 (h 0 _ rfl))).trans rfl)
theorem dk_16 {code : ByteArray} {pc : Nat} (a : UInt8) (h : DkAt code pc [16, a]) : decode code pc = .ok (.bipush (Reader.signed 8 a.toNat), 2) := dk_of ((dk_bind (dk_u1 (h 0 _ rfl))).trans ((dk_bind (dk_map (dk_u1 (h 1 _ rfl)))).trans rfl))
theorem dk_17 {code : ByteArray} {pc : Nat} (a b : UInt8) (h : DkAt code pc [17, a, b]) : decode code pc = .ok (.sipush (Reader.signed 16 (a.toNat * 256 + b.toNat)), 3) := dk_of ((dk_bind (dk_u1 (h 0 _ rfl))).trans ((dk_bind (dk_map (dk_u2 (h 1 _ rfl) (h 2 _ rfl)))).trans rfl))
theorem dk_18 {code : ByteArray} {pc : Nat} (a : UInt8) (h : DkAt code pc [18, a]) : decode code pc = .ok (.ldc a.toNat, 2) := dk_of ((dk_bind (dk_u1 (h 0 _ rfl))).trans ((dk_bind (dk_u1 (h 1 _ rfl))).trans rfl))
theorem dk_20 {code : ByteArray} {pc : Nat} (a b : UInt8) (h : DkAt code pc [20, a, b]) : decode code pc = .ok (.ldc2_w (a.toNat * 256 + b.toNat), 3) := dk_of ((dk_bind (dk_u1 (h 0 _ rfl))).trans ((dk_bind (dk_u2 (h 1 _ rfl) (h 2 _ rfl))).trans rfl))
theorem dk_21 {code : ByteArray} {pc : Nat} (a : UInt8) (h : DkAt code pc [21, a]) : decode code pc = .ok (.iload a.toNat, 2) := dk_of ((dk_bind (dk_u1 (h 0 _ rfl))).trans ((dk_bind (dk_u1 (h 1 _ rfl))).trans rfl))
theorem dk_22 {code : ByteArray} {pc : Nat} (a : UInt8) (h : DkAt code pc [22, a]) : decode code pc = .ok (.lload a.toNat, 2) := dk_of ((dk_bind (dk_u1 (h 0 _ rfl))).trans ((dk_bind (dk_u1 (h 1 _ rfl))).trans rfl))
theorem dk_25 {code : ByteArray} {pc : Nat} (a : UInt8) (h : DkAt code pc [25, a]) : decode code pc = .ok (.aload a.toNat, 2) := dk_of ((dk_bind (dk_u1 (h 0 _ rfl))).trans ((dk_bind (dk_u1 (h 1 _ rfl))).trans rfl))
theorem dk_26 {code : ByteArray} {pc : Nat} (h : DkAt code pc [26]) : decode code pc = .ok (.iload_n 0, 1) := dk_of ((dk_bind (dk_u1 (h 0 _ rfl))).trans rfl)
theorem dk_27 {code : ByteArray} {pc : Nat} (h : DkAt code pc [27]) : decode code pc = .ok (.iload_n 1, 1) := dk_of ((dk_bind (dk_u1 (h 0 _ rfl))).trans rfl)
theorem dk_28 {code : ByteArray} {pc : Nat} (h : DkAt code pc [28]) : decode code pc = .ok (.iload_n 2, 1) := dk_of ((dk_bind (dk_u1 (h 0 _ rfl))).trans rfl)
theorem dk_29 {code : ByteArray} {pc : Nat} (h : DkAt code pc [29]) : decode code pc = .ok (.iload_n 3, 1) := dk_of ((dk_bind (dk_u1 (h 0 _ rfl))).trans rfl)
theorem dk_30 {code : ByteArray} {pc : Nat} (h : DkAt code pc [30]) : decode code pc = .ok (.lload_n 0, 1) := dk_of ((dk_bind (dk_u1 (h 0 _ rfl))).trans rfl)
theorem dk_32 {code : ByteArray} {pc : Nat} (h : DkAt code pc [32]) : decode code pc = .ok (.lload_n 2, 1) := dk_of ((dk_bind (dk_u1 (h 0 _ rfl))).trans rfl)
theorem dk_33 {code : ByteArray} {pc : Nat} (h : DkAt code pc [33]) : decode code pc = .ok (.lload_n 3, 1) := dk_of ((dk_bind (dk_u1 (h 0 _ rfl))).trans rfl)
theorem dk_42 {code : ByteArray} {pc : Nat} (h : DkAt code pc [42]) : decode code pc = .ok (.aload_n 0, 1) := dk_of ((dk_bind (dk_u1 (h 0 _ rfl))).trans rfl)
theorem dk_43 {code : ByteArray} {pc : Nat} (h : DkAt code pc [43]) : decode code pc = .ok (.aload_n 1, 1) := dk_of ((dk_bind (dk_u1 (h 0 _ rfl))).trans rfl)
theorem dk_44 {code : ByteArray} {pc : Nat} (h : DkAt code pc [44]) : decode code pc = .ok (.aload_n 2, 1) := dk_of ((dk_bind (dk_u1 (h 0 _ rfl))).trans rfl)
theorem dk_45 {code : ByteArray} {pc : Nat} (h : DkAt code pc [45]) : decode code pc = .ok (.aload_n 3, 1) := dk_of ((dk_bind (dk_u1 (h 0 _ rfl))).trans rfl)
theorem dk_46 {code : ByteArray} {pc : Nat} (h : DkAt code pc [46]) : decode code pc = .ok (.iaload, 1) := dk_of ((dk_bind (dk_u1 (h 0 _ rfl))).trans rfl)
theorem dk_47 {code : ByteArray} {pc : Nat} (h : DkAt code pc [47]) : decode code pc = .ok (.laload, 1) := dk_of ((dk_bind (dk_u1 (h 0 _ rfl))).trans rfl)
theorem dk_50 {code : ByteArray} {pc : Nat} (h : DkAt code pc [50]) : decode code pc = .ok (.aaload, 1) := dk_of ((dk_bind (dk_u1 (h 0 _ rfl))).trans rfl)
theorem dk_51 {code : ByteArray} {pc : Nat} (h : DkAt code pc [51]) : decode code pc = .ok (.baload, 1) := dk_of ((dk_bind (dk_u1 (h 0 _ rfl))).trans rfl)
theorem dk_54 {code : ByteArray} {pc : Nat} (a : UInt8) (h : DkAt code pc [54, a]) : decode code pc = .ok (.istore a.toNat, 2) := dk_of ((dk_bind (dk_u1 (h 0 _ rfl))).trans ((dk_bind (dk_u1 (h 1 _ rfl))).trans rfl))
theorem dk_58 {code : ByteArray} {pc : Nat} (a : UInt8) (h : DkAt code pc [58, a]) : decode code pc = .ok (.astore a.toNat, 2) := dk_of ((dk_bind (dk_u1 (h 0 _ rfl))).trans ((dk_bind (dk_u1 (h 1 _ rfl))).trans rfl))
theorem dk_60 {code : ByteArray} {pc : Nat} (h : DkAt code pc [60]) : decode code pc = .ok (.istore_n 1, 1) := dk_of ((dk_bind (dk_u1 (h 0 _ rfl))).trans rfl)
theorem dk_61 {code : ByteArray} {pc : Nat} (h : DkAt code pc [61]) : decode code pc = .ok (.istore_n 2, 1) := dk_of ((dk_bind (dk_u1 (h 0 _ rfl))).trans rfl)
theorem dk_62 {code : ByteArray} {pc : Nat} (h : DkAt code pc [62]) : decode code pc = .ok (.istore_n 3, 1) := dk_of ((dk_bind (dk_u1 (h 0 _ rfl))).trans rfl)
theorem dk_76 {code : ByteArray} {pc : Nat} (h : DkAt code pc [76]) : decode code pc = .ok (.astore_n 1, 1) := dk_of ((dk_bind (dk_u1 (h 0 _ rfl))).trans rfl)
theorem dk_77 {code : ByteArray} {pc : Nat} (h : DkAt code pc [77]) : decode code pc = .ok (.astore_n 2, 1) := dk_of ((dk_bind (dk_u1 (h 0 _ rfl))).trans rfl)
theorem dk_78 {code : ByteArray} {pc : Nat} (h : DkAt code pc [78]) : decode code pc = .ok (.astore_n 3, 1) := dk_of ((dk_bind (dk_u1 (h 0 _ rfl))).trans rfl)
theorem dk_79 {code : ByteArray} {pc : Nat} (h : DkAt code pc [79]) : decode code pc = .ok (.iastore, 1) := dk_of ((dk_bind (dk_u1 (h 0 _ rfl))).trans rfl)
theorem dk_80 {code : ByteArray} {pc : Nat} (h : DkAt code pc [80]) : decode code pc = .ok (.lastore, 1) := dk_of ((dk_bind (dk_u1 (h 0 _ rfl))).trans rfl)
theorem dk_83 {code : ByteArray} {pc : Nat} (h : DkAt code pc [83]) : decode code pc = .ok (.aastore, 1) := dk_of ((dk_bind (dk_u1 (h 0 _ rfl))).trans rfl)
theorem dk_84 {code : ByteArray} {pc : Nat} (h : DkAt code pc [84]) : decode code pc = .ok (.bastore, 1) := dk_of ((dk_bind (dk_u1 (h 0 _ rfl))).trans rfl)
theorem dk_87 {code : ByteArray} {pc : Nat} (h : DkAt code pc [87]) : decode code pc = .ok (.pop, 1) := dk_of ((dk_bind (dk_u1 (h 0 _ rfl))).trans rfl)
theorem dk_89 {code : ByteArray} {pc : Nat} (h : DkAt code pc [89]) : decode code pc = .ok (.dup, 1) := dk_of ((dk_bind (dk_u1 (h 0 _ rfl))).trans rfl)
theorem dk_92 {code : ByteArray} {pc : Nat} (h : DkAt code pc [92]) : decode code pc = .ok (.dup2, 1) := dk_of ((dk_bind (dk_u1 (h 0 _ rfl))).trans rfl)
theorem dk_96 {code : ByteArray} {pc : Nat} (h : DkAt code pc [96]) : decode code pc = .ok (.iadd, 1) := dk_of ((dk_bind (dk_u1 (h 0 _ rfl))).trans rfl)
theorem dk_100 {code : ByteArray} {pc : Nat} (h : DkAt code pc [100]) : decode code pc = .ok (.isub, 1) := dk_of ((dk_bind (dk_u1 (h 0 _ rfl))).trans rfl)
theorem dk_104 {code : ByteArray} {pc : Nat} (h : DkAt code pc [104]) : decode code pc = .ok (.imul, 1) := dk_of ((dk_bind (dk_u1 (h 0 _ rfl))).trans rfl)
theorem dk_108 {code : ByteArray} {pc : Nat} (h : DkAt code pc [108]) : decode code pc = .ok (.idiv, 1) := dk_of ((dk_bind (dk_u1 (h 0 _ rfl))).trans rfl)
theorem dk_112 {code : ByteArray} {pc : Nat} (h : DkAt code pc [112]) : decode code pc = .ok (.irem, 1) := dk_of ((dk_bind (dk_u1 (h 0 _ rfl))).trans rfl)
theorem dk_120 {code : ByteArray} {pc : Nat} (h : DkAt code pc [120]) : decode code pc = .ok (.ishl, 1) := dk_of ((dk_bind (dk_u1 (h 0 _ rfl))).trans rfl)
theorem dk_121 {code : ByteArray} {pc : Nat} (h : DkAt code pc [121]) : decode code pc = .ok (.lshl, 1) := dk_of ((dk_bind (dk_u1 (h 0 _ rfl))).trans rfl)
theorem dk_122 {code : ByteArray} {pc : Nat} (h : DkAt code pc [122]) : decode code pc = .ok (.ishr, 1) := dk_of ((dk_bind (dk_u1 (h 0 _ rfl))).trans rfl)
theorem dk_123 {code : ByteArray} {pc : Nat} (h : DkAt code pc [123]) : decode code pc = .ok (.lshr, 1) := dk_of ((dk_bind (dk_u1 (h 0 _ rfl))).trans rfl)
theorem dk_124 {code : ByteArray} {pc : Nat} (h : DkAt code pc [124]) : decode code pc = .ok (.iushr, 1) := dk_of ((dk_bind (dk_u1 (h 0 _ rfl))).trans rfl)
theorem dk_126 {code : ByteArray} {pc : Nat} (h : DkAt code pc [126]) : decode code pc = .ok (.iand, 1) := dk_of ((dk_bind (dk_u1 (h 0 _ rfl))).trans rfl)
theorem dk_127 {code : ByteArray} {pc : Nat} (h : DkAt code pc [127]) : decode code pc = .ok (.land, 1) := dk_of ((dk_bind (dk_u1 (h 0 _ rfl))).trans rfl)
theorem dk_128 {code : ByteArray} {pc : Nat} (h : DkAt code pc [128]) : decode code pc = .ok (.ior, 1) := dk_of ((dk_bind (dk_u1 (h 0 _ rfl))).trans rfl)
theorem dk_129 {code : ByteArray} {pc : Nat} (h : DkAt code pc [129]) : decode code pc = .ok (.lor, 1) := dk_of ((dk_bind (dk_u1 (h 0 _ rfl))).trans rfl)
theorem dk_130 {code : ByteArray} {pc : Nat} (h : DkAt code pc [130]) : decode code pc = .ok (.ixor, 1) := dk_of ((dk_bind (dk_u1 (h 0 _ rfl))).trans rfl)
theorem dk_132 {code : ByteArray} {pc : Nat} (a b : UInt8) (h : DkAt code pc [132, a, b]) : decode code pc = .ok (.iinc a.toNat (Reader.signed 8 b.toNat), 3) := dk_of ((dk_bind (dk_u1 (h 0 _ rfl))).trans ((dk_bind (dk_u1 (h 1 _ rfl))).trans ((dk_bind (dk_map (dk_u1 (h 2 _ rfl)))).trans rfl)))
theorem dk_133 {code : ByteArray} {pc : Nat} (h : DkAt code pc [133]) : decode code pc = .ok (.i2l, 1) := dk_of ((dk_bind (dk_u1 (h 0 _ rfl))).trans rfl)
theorem dk_136 {code : ByteArray} {pc : Nat} (h : DkAt code pc [136]) : decode code pc = .ok (.l2i, 1) := dk_of ((dk_bind (dk_u1 (h 0 _ rfl))).trans rfl)
theorem dk_148 {code : ByteArray} {pc : Nat} (h : DkAt code pc [148]) : decode code pc = .ok (.lcmp, 1) := dk_of ((dk_bind (dk_u1 (h 0 _ rfl))).trans rfl)
theorem dk_153 {code : ByteArray} {pc : Nat} (a b : UInt8) (h : DkAt code pc [153, a, b]) : decode code pc = .ok (.ifCond .eq (Reader.signed 16 (a.toNat * 256 + b.toNat)), 3) := dk_of ((dk_bind (dk_u1 (h 0 _ rfl))).trans ((dk_bind (dk_map (dk_u2 (h 1 _ rfl) (h 2 _ rfl)))).trans rfl))
theorem dk_154 {code : ByteArray} {pc : Nat} (a b : UInt8) (h : DkAt code pc [154, a, b]) : decode code pc = .ok (.ifCond .ne (Reader.signed 16 (a.toNat * 256 + b.toNat)), 3) := dk_of ((dk_bind (dk_u1 (h 0 _ rfl))).trans ((dk_bind (dk_map (dk_u2 (h 1 _ rfl) (h 2 _ rfl)))).trans rfl))
theorem dk_155 {code : ByteArray} {pc : Nat} (a b : UInt8) (h : DkAt code pc [155, a, b]) : decode code pc = .ok (.ifCond .lt (Reader.signed 16 (a.toNat * 256 + b.toNat)), 3) := dk_of ((dk_bind (dk_u1 (h 0 _ rfl))).trans ((dk_bind (dk_map (dk_u2 (h 1 _ rfl) (h 2 _ rfl)))).trans rfl))
theorem dk_156 {code : ByteArray} {pc : Nat} (a b : UInt8) (h : DkAt code pc [156, a, b]) : decode code pc = .ok (.ifCond .ge (Reader.signed 16 (a.toNat * 256 + b.toNat)), 3) := dk_of ((dk_bind (dk_u1 (h 0 _ rfl))).trans ((dk_bind (dk_map (dk_u2 (h 1 _ rfl) (h 2 _ rfl)))).trans rfl))
theorem dk_157 {code : ByteArray} {pc : Nat} (a b : UInt8) (h : DkAt code pc [157, a, b]) : decode code pc = .ok (.ifCond .gt (Reader.signed 16 (a.toNat * 256 + b.toNat)), 3) := dk_of ((dk_bind (dk_u1 (h 0 _ rfl))).trans ((dk_bind (dk_map (dk_u2 (h 1 _ rfl) (h 2 _ rfl)))).trans rfl))
theorem dk_158 {code : ByteArray} {pc : Nat} (a b : UInt8) (h : DkAt code pc [158, a, b]) : decode code pc = .ok (.ifCond .le (Reader.signed 16 (a.toNat * 256 + b.toNat)), 3) := dk_of ((dk_bind (dk_u1 (h 0 _ rfl))).trans ((dk_bind (dk_map (dk_u2 (h 1 _ rfl) (h 2 _ rfl)))).trans rfl))
theorem dk_159 {code : ByteArray} {pc : Nat} (a b : UInt8) (h : DkAt code pc [159, a, b]) : decode code pc = .ok (.if_icmp .eq (Reader.signed 16 (a.toNat * 256 + b.toNat)), 3) := dk_of ((dk_bind (dk_u1 (h 0 _ rfl))).trans ((dk_bind (dk_map (dk_u2 (h 1 _ rfl) (h 2 _ rfl)))).trans rfl))
theorem dk_160 {code : ByteArray} {pc : Nat} (a b : UInt8) (h : DkAt code pc [160, a, b]) : decode code pc = .ok (.if_icmp .ne (Reader.signed 16 (a.toNat * 256 + b.toNat)), 3) := dk_of ((dk_bind (dk_u1 (h 0 _ rfl))).trans ((dk_bind (dk_map (dk_u2 (h 1 _ rfl) (h 2 _ rfl)))).trans rfl))
theorem dk_161 {code : ByteArray} {pc : Nat} (a b : UInt8) (h : DkAt code pc [161, a, b]) : decode code pc = .ok (.if_icmp .lt (Reader.signed 16 (a.toNat * 256 + b.toNat)), 3) := dk_of ((dk_bind (dk_u1 (h 0 _ rfl))).trans ((dk_bind (dk_map (dk_u2 (h 1 _ rfl) (h 2 _ rfl)))).trans rfl))
theorem dk_162 {code : ByteArray} {pc : Nat} (a b : UInt8) (h : DkAt code pc [162, a, b]) : decode code pc = .ok (.if_icmp .ge (Reader.signed 16 (a.toNat * 256 + b.toNat)), 3) := dk_of ((dk_bind (dk_u1 (h 0 _ rfl))).trans ((dk_bind (dk_map (dk_u2 (h 1 _ rfl) (h 2 _ rfl)))).trans rfl))
theorem dk_163 {code : ByteArray} {pc : Nat} (a b : UInt8) (h : DkAt code pc [163, a, b]) : decode code pc = .ok (.if_icmp .gt (Reader.signed 16 (a.toNat * 256 + b.toNat)), 3) := dk_of ((dk_bind (dk_u1 (h 0 _ rfl))).trans ((dk_bind (dk_map (dk_u2 (h 1 _ rfl) (h 2 _ rfl)))).trans rfl))
theorem dk_164 {code : ByteArray} {pc : Nat} (a b : UInt8) (h : DkAt code pc [164, a, b]) : decode code pc = .ok (.if_icmp .le (Reader.signed 16 (a.toNat * 256 + b.toNat)), 3) := dk_of ((dk_bind (dk_u1 (h 0 _ rfl))).trans ((dk_bind (dk_map (dk_u2 (h 1 _ rfl) (h 2 _ rfl)))).trans rfl))
theorem dk_167 {code : ByteArray} {pc : Nat} (a b : UInt8) (h : DkAt code pc [167, a, b]) : decode code pc = .ok (.goto (Reader.signed 16 (a.toNat * 256 + b.toNat)), 3) := dk_of ((dk_bind (dk_u1 (h 0 _ rfl))).trans ((dk_bind (dk_map (dk_u2 (h 1 _ rfl) (h 2 _ rfl)))).trans rfl))
theorem dk_172 {code : ByteArray} {pc : Nat} (h : DkAt code pc [172]) : decode code pc = .ok (.ireturn, 1) := dk_of ((dk_bind (dk_u1 (h 0 _ rfl))).trans rfl)
theorem dk_176 {code : ByteArray} {pc : Nat} (h : DkAt code pc [176]) : decode code pc = .ok (.areturn, 1) := dk_of ((dk_bind (dk_u1 (h 0 _ rfl))).trans rfl)
theorem dk_177 {code : ByteArray} {pc : Nat} (h : DkAt code pc [177]) : decode code pc = .ok (.return_, 1) := dk_of ((dk_bind (dk_u1 (h 0 _ rfl))).trans rfl)
theorem dk_178 {code : ByteArray} {pc : Nat} (a b : UInt8) (h : DkAt code pc [178, a, b]) : decode code pc = .ok (.getstatic (a.toNat * 256 + b.toNat), 3) := dk_of ((dk_bind (dk_u1 (h 0 _ rfl))).trans ((dk_bind (dk_u2 (h 1 _ rfl) (h 2 _ rfl))).trans rfl))
theorem dk_180 {code : ByteArray} {pc : Nat} (a b : UInt8) (h : DkAt code pc [180, a, b]) : decode code pc = .ok (.getfield (a.toNat * 256 + b.toNat), 3) := dk_of ((dk_bind (dk_u1 (h 0 _ rfl))).trans ((dk_bind (dk_u2 (h 1 _ rfl) (h 2 _ rfl))).trans rfl))
theorem dk_181 {code : ByteArray} {pc : Nat} (a b : UInt8) (h : DkAt code pc [181, a, b]) : decode code pc = .ok (.putfield (a.toNat * 256 + b.toNat), 3) := dk_of ((dk_bind (dk_u1 (h 0 _ rfl))).trans ((dk_bind (dk_u2 (h 1 _ rfl) (h 2 _ rfl))).trans rfl))
theorem dk_182 {code : ByteArray} {pc : Nat} (a b : UInt8) (h : DkAt code pc [182, a, b]) : decode code pc = .ok (.invokevirtual (a.toNat * 256 + b.toNat), 3) := dk_of ((dk_bind (dk_u1 (h 0 _ rfl))).trans ((dk_bind (dk_u2 (h 1 _ rfl) (h 2 _ rfl))).trans rfl))
theorem dk_183 {code : ByteArray} {pc : Nat} (a b : UInt8) (h : DkAt code pc [183, a, b]) : decode code pc = .ok (.invokespecial (a.toNat * 256 + b.toNat), 3) := dk_of ((dk_bind (dk_u1 (h 0 _ rfl))).trans ((dk_bind (dk_u2 (h 1 _ rfl) (h 2 _ rfl))).trans rfl))
theorem dk_184 {code : ByteArray} {pc : Nat} (a b : UInt8) (h : DkAt code pc [184, a, b]) : decode code pc = .ok (.invokestatic (a.toNat * 256 + b.toNat), 3) := dk_of ((dk_bind (dk_u1 (h 0 _ rfl))).trans ((dk_bind (dk_u2 (h 1 _ rfl) (h 2 _ rfl))).trans rfl))
theorem dk_187 {code : ByteArray} {pc : Nat} (a b : UInt8) (h : DkAt code pc [187, a, b]) : decode code pc = .ok (.new (a.toNat * 256 + b.toNat), 3) := dk_of ((dk_bind (dk_u1 (h 0 _ rfl))).trans ((dk_bind (dk_u2 (h 1 _ rfl) (h 2 _ rfl))).trans rfl))
theorem dk_188_4 {code : ByteArray} {pc : Nat} (h : DkAt code pc [188, 4]) : decode code pc = .ok (.newarray .boolean, 2) := dk_of ((dk_bind (dk_u1 (h 0 _ rfl))).trans ((dk_bind (dk_u1 (h 1 _ rfl))).trans rfl))
theorem dk_188_10 {code : ByteArray} {pc : Nat} (h : DkAt code pc [188, 10]) : decode code pc = .ok (.newarray .int, 2) := dk_of ((dk_bind (dk_u1 (h 0 _ rfl))).trans ((dk_bind (dk_u1 (h 1 _ rfl))).trans rfl))
theorem dk_188_11 {code : ByteArray} {pc : Nat} (h : DkAt code pc [188, 11]) : decode code pc = .ok (.newarray .long, 2) := dk_of ((dk_bind (dk_u1 (h 0 _ rfl))).trans ((dk_bind (dk_u1 (h 1 _ rfl))).trans rfl))
theorem dk_189 {code : ByteArray} {pc : Nat} (a b : UInt8) (h : DkAt code pc [189, a, b]) : decode code pc = .ok (.anewarray (a.toNat * 256 + b.toNat), 3) := dk_of ((dk_bind (dk_u1 (h 0 _ rfl))).trans ((dk_bind (dk_u2 (h 1 _ rfl) (h 2 _ rfl))).trans rfl))
theorem dk_190 {code : ByteArray} {pc : Nat} (h : DkAt code pc [190]) : decode code pc = .ok (.arraylength, 1) := dk_of ((dk_bind (dk_u1 (h 0 _ rfl))).trans rfl)
theorem dk_192 {code : ByteArray} {pc : Nat} (a b : UInt8) (h : DkAt code pc [192, a, b]) : decode code pc = .ok (.checkcast (a.toNat * 256 + b.toNat), 3) := dk_of ((dk_bind (dk_u1 (h 0 _ rfl))).trans ((dk_bind (dk_u2 (h 1 _ rfl) (h 2 _ rfl))).trans rfl))
theorem dk_198 {code : ByteArray} {pc : Nat} (a b : UInt8) (h : DkAt code pc [198, a, b]) : decode code pc = .ok (.ifnull (Reader.signed 16 (a.toNat * 256 + b.toNat)), 3) := dk_of ((dk_bind (dk_u1 (h 0 _ rfl))).trans ((dk_bind (dk_map (dk_u2 (h 1 _ rfl) (h 2 _ rfl)))).trans rfl))
theorem dk_199 {code : ByteArray} {pc : Nat} (a b : UInt8) (h : DkAt code pc [199, a, b]) : decode code pc = .ok (.ifnonnull (Reader.signed 16 (a.toNat * 256 + b.toNat)), 3) := dk_of ((dk_bind (dk_u1 (h 0 _ rfl))).trans ((dk_bind (dk_map (dk_u2 (h 1 _ rfl) (h 2 _ rfl)))).trans rfl))

/-! java/lang/Integer -/
set_option maxRecDepth 100000
def RJ0 : String := "java/lang/Integer"
abbrev cJ0_compareUnsigned : ByteArray := prog_23_method_41_code
def yJ0_compareUnsigned : MethodName := ⟨RJ0, "compareUnsigned", "(II)I"⟩
def dkwJ0_compareUnsigned_0 : List UInt8 := [26, 18, 127, 96, 27, 18, 127, 96, 184, 1, 3, 172]
abbrev dktJ0_compareUnsigned_0 : List UInt8 := dkwJ0_compareUnsigned_0 ++ []
theorem dksJ0_compareUnsigned_0 : cJ0_compareUnsigned.data.toList.drop 0 = dktJ0_compareUnsigned_0 := by decide +kernel
theorem dJ0_compareUnsigned_0 : decode cJ0_compareUnsigned 0 = .ok (.iload_n 0, 1) := dk_26 (dk_at dksJ0_compareUnsigned_0 0 rfl rfl)
theorem dJ0_compareUnsigned_1 : decode cJ0_compareUnsigned 1 = .ok (.ldc 127, 2) := dk_18 127 (dk_at dksJ0_compareUnsigned_0 1 rfl rfl)
theorem dJ0_compareUnsigned_3 : decode cJ0_compareUnsigned 3 = .ok (.iadd, 1) := dk_96 (dk_at dksJ0_compareUnsigned_0 3 rfl rfl)
theorem dJ0_compareUnsigned_4 : decode cJ0_compareUnsigned 4 = .ok (.iload_n 1, 1) := dk_27 (dk_at dksJ0_compareUnsigned_0 4 rfl rfl)
theorem dJ0_compareUnsigned_5 : decode cJ0_compareUnsigned 5 = .ok (.ldc 127, 2) := dk_18 127 (dk_at dksJ0_compareUnsigned_0 5 rfl rfl)
theorem dJ0_compareUnsigned_7 : decode cJ0_compareUnsigned 7 = .ok (.iadd, 1) := dk_96 (dk_at dksJ0_compareUnsigned_0 7 rfl rfl)
theorem dJ0_compareUnsigned_8 : decode cJ0_compareUnsigned 8 = .ok (.invokestatic 259, 3) := dk_184 1 3 (dk_at dksJ0_compareUnsigned_0 8 rfl rfl)
theorem dJ0_compareUnsigned_11 : decode cJ0_compareUnsigned 11 = .ok (.ireturn, 1) := dk_172 (dk_at dksJ0_compareUnsigned_0 11 rfl rfl)
abbrev cJ0_compare : ByteArray := prog_23_method_40_code
def yJ0_compare : MethodName := ⟨RJ0, "compare", "(II)I"⟩
def dkwJ0_compare_0 : List UInt8 := [26, 27, 162, 0, 7, 2, 167, 0, 13, 26, 27, 160, 0, 7, 3, 167, 0, 4, 4, 172]
abbrev dktJ0_compare_0 : List UInt8 := dkwJ0_compare_0 ++ []
theorem dksJ0_compare_0 : cJ0_compare.data.toList.drop 0 = dktJ0_compare_0 := by decide +kernel
theorem dJ0_compare_0 : decode cJ0_compare 0 = .ok (.iload_n 0, 1) := dk_26 (dk_at dksJ0_compare_0 0 rfl rfl)
theorem dJ0_compare_1 : decode cJ0_compare 1 = .ok (.iload_n 1, 1) := dk_27 (dk_at dksJ0_compare_0 1 rfl rfl)
theorem dJ0_compare_2 : decode cJ0_compare 2 = .ok (.if_icmp .ge 7, 3) := dk_162 0 7 (dk_at dksJ0_compare_0 2 rfl rfl)
theorem dJ0_compare_5 : decode cJ0_compare 5 = .ok (.iconst (-1), 1) := dk_2 (dk_at dksJ0_compare_0 5 rfl rfl)
theorem dJ0_compare_6 : decode cJ0_compare 6 = .ok (.goto 13, 3) := dk_167 0 13 (dk_at dksJ0_compare_0 6 rfl rfl)
theorem dJ0_compare_9 : decode cJ0_compare 9 = .ok (.iload_n 0, 1) := dk_26 (dk_at dksJ0_compare_0 9 rfl rfl)
theorem dJ0_compare_10 : decode cJ0_compare 10 = .ok (.iload_n 1, 1) := dk_27 (dk_at dksJ0_compare_0 10 rfl rfl)
theorem dJ0_compare_11 : decode cJ0_compare 11 = .ok (.if_icmp .ne 7, 3) := dk_160 0 7 (dk_at dksJ0_compare_0 11 rfl rfl)
theorem dJ0_compare_14 : decode cJ0_compare 14 = .ok (.iconst 0, 1) := dk_3 (dk_at dksJ0_compare_0 14 rfl rfl)
theorem dJ0_compare_15 : decode cJ0_compare 15 = .ok (.goto 4, 3) := dk_167 0 4 (dk_at dksJ0_compare_0 15 rfl rfl)
theorem dJ0_compare_18 : decode cJ0_compare 18 = .ok (.iconst 1, 1) := dk_4 (dk_at dksJ0_compare_0 18 rfl rfl)
theorem dJ0_compare_19 : decode cJ0_compare 19 = .ok (.ireturn, 1) := dk_172 (dk_at dksJ0_compare_0 19 rfl rfl)
theorem q68 : (Jvm.Cond.initialized "java/lang/Integer") ∈ lw_all := lw_g (lw_at lw_m1 12 rfl) rfl
theorem q501 : (Jvm.Cond.static ({ cls := "java/lang/Integer", name := "compareUnsigned", desc := "(II)I" } : Jvm.MethodName)) ∈ lw_all := lw_g (lw_at lw_m2 205 rfl) rfl
theorem q502 : (Jvm.Cond.code ({ cls := "java/lang/Integer", name := "compareUnsigned", desc := "(II)I" } : Jvm.MethodName) prog_23_method_41_code (2 : Nat) (Option.some Jvm.ClassFile.FieldType.int)) ∈ lw_all := lw_g (lw_at lw_m2 206 rfl) rfl
theorem q503 : (Jvm.Cond.constant "java/lang/Integer" (127 : Nat) (-2147483648 : Int32)) ∈ lw_all := lw_g (lw_at lw_m2 207 rfl) rfl
theorem q504 : (Jvm.Cond.methodLink "java/lang/Integer" (259 : Nat) ({ cls := "java/lang/Integer", name := "compare", desc := "(II)I" } : Jvm.MethodName)) ∈ lw_all := lw_g (lw_at lw_m2 208 rfl) rfl
theorem q505 : (Jvm.Cond.static ({ cls := "java/lang/Integer", name := "compare", desc := "(II)I" } : Jvm.MethodName)) ∈ lw_all := lw_g (lw_at lw_m2 209 rfl) rfl
theorem q506 : (Jvm.Cond.code ({ cls := "java/lang/Integer", name := "compare", desc := "(II)I" } : Jvm.MethodName) prog_23_method_40_code (2 : Nat) (Option.some Jvm.ClassFile.FieldType.int)) ∈ lw_all := lw_g (lw_at lw_m2 210 rfl) rfl

/-! java/util/Arrays -/
set_option maxRecDepth 100000
def RJ1 : String := "java/util/Arrays"
abbrev cJ1_copyOf : ByteArray := prog_30_method_123_code
def yJ1_copyOf : MethodName := ⟨RJ1, "copyOf", "([II)[I"⟩
def dkwJ1_copyOf_1 : List UInt8 := [27, 184, 1, 48, 184, 0, 150, 44, 176]
abbrev dktJ1_copyOf_1 : List UInt8 := dkwJ1_copyOf_1 ++ []
def dkwJ1_copyOf_0 : List UInt8 := [27, 42, 190, 160, 0, 11, 42, 182, 1, 60, 192, 1, 61, 176, 27, 188, 10, 77, 42, 3, 44, 3, 42, 190]
abbrev dktJ1_copyOf_0 : List UInt8 := dkwJ1_copyOf_0 ++ dktJ1_copyOf_1
theorem dksJ1_copyOf_0 : cJ1_copyOf.data.toList.drop 0 = dktJ1_copyOf_0 := by decide +kernel
theorem dksJ1_copyOf_1 : cJ1_copyOf.data.toList.drop 24 = dktJ1_copyOf_1 := dk_seg dksJ1_copyOf_0 24 rfl rfl
theorem dJ1_copyOf_0 : decode cJ1_copyOf 0 = .ok (.iload_n 1, 1) := dk_27 (dk_at dksJ1_copyOf_0 0 rfl rfl)
theorem dJ1_copyOf_1 : decode cJ1_copyOf 1 = .ok (.aload_n 0, 1) := dk_42 (dk_at dksJ1_copyOf_0 1 rfl rfl)
theorem dJ1_copyOf_2 : decode cJ1_copyOf 2 = .ok (.arraylength, 1) := dk_190 (dk_at dksJ1_copyOf_0 2 rfl rfl)
theorem dJ1_copyOf_3 : decode cJ1_copyOf 3 = .ok (.if_icmp .ne 11, 3) := dk_160 0 11 (dk_at dksJ1_copyOf_0 3 rfl rfl)
theorem dJ1_copyOf_6 : decode cJ1_copyOf 6 = .ok (.aload_n 0, 1) := dk_42 (dk_at dksJ1_copyOf_0 6 rfl rfl)
theorem dJ1_copyOf_7 : decode cJ1_copyOf 7 = .ok (.invokevirtual 316, 3) := dk_182 1 60 (dk_at dksJ1_copyOf_0 7 rfl rfl)
theorem dJ1_copyOf_10 : decode cJ1_copyOf 10 = .ok (.checkcast 317, 3) := dk_192 1 61 (dk_at dksJ1_copyOf_0 10 rfl rfl)
theorem dJ1_copyOf_13 : decode cJ1_copyOf 13 = .ok (.areturn, 1) := dk_176 (dk_at dksJ1_copyOf_0 13 rfl rfl)
theorem dJ1_copyOf_14 : decode cJ1_copyOf 14 = .ok (.iload_n 1, 1) := dk_27 (dk_at dksJ1_copyOf_0 14 rfl rfl)
theorem dJ1_copyOf_15 : decode cJ1_copyOf 15 = .ok (.newarray .int, 2) := dk_188_10 (dk_at dksJ1_copyOf_0 15 rfl rfl)
theorem dJ1_copyOf_17 : decode cJ1_copyOf 17 = .ok (.astore_n 2, 1) := dk_77 (dk_at dksJ1_copyOf_0 17 rfl rfl)
theorem dJ1_copyOf_18 : decode cJ1_copyOf 18 = .ok (.aload_n 0, 1) := dk_42 (dk_at dksJ1_copyOf_0 18 rfl rfl)
theorem dJ1_copyOf_19 : decode cJ1_copyOf 19 = .ok (.iconst 0, 1) := dk_3 (dk_at dksJ1_copyOf_0 19 rfl rfl)
theorem dJ1_copyOf_20 : decode cJ1_copyOf 20 = .ok (.aload_n 2, 1) := dk_44 (dk_at dksJ1_copyOf_0 20 rfl rfl)
theorem dJ1_copyOf_21 : decode cJ1_copyOf 21 = .ok (.iconst 0, 1) := dk_3 (dk_at dksJ1_copyOf_0 21 rfl rfl)
theorem dJ1_copyOf_22 : decode cJ1_copyOf 22 = .ok (.aload_n 0, 1) := dk_42 (dk_at dksJ1_copyOf_0 22 rfl rfl)
theorem dJ1_copyOf_23 : decode cJ1_copyOf 23 = .ok (.arraylength, 1) := dk_190 (dk_at dksJ1_copyOf_0 23 rfl rfl)
theorem dJ1_copyOf_24 : decode cJ1_copyOf 24 = .ok (.iload_n 1, 1) := dk_27 (dk_at dksJ1_copyOf_1 0 rfl rfl)
theorem dJ1_copyOf_25 : decode cJ1_copyOf 25 = .ok (.invokestatic 304, 3) := dk_184 1 48 (dk_at dksJ1_copyOf_1 1 rfl rfl)
theorem dJ1_copyOf_28 : decode cJ1_copyOf 28 = .ok (.invokestatic 150, 3) := dk_184 0 150 (dk_at dksJ1_copyOf_1 4 rfl rfl)
theorem dJ1_copyOf_31 : decode cJ1_copyOf 31 = .ok (.aload_n 2, 1) := dk_44 (dk_at dksJ1_copyOf_1 7 rfl rfl)
theorem dJ1_copyOf_32 : decode cJ1_copyOf 32 = .ok (.areturn, 1) := dk_176 (dk_at dksJ1_copyOf_1 8 rfl rfl)
abbrev cJ1_copyOf_2 : ByteArray := prog_30_method_124_code
def yJ1_copyOf_2 : MethodName := ⟨RJ1, "copyOf", "([JI)[J"⟩
def dkwJ1_copyOf_2_1 : List UInt8 := [27, 184, 1, 48, 184, 0, 150, 44, 176]
abbrev dktJ1_copyOf_2_1 : List UInt8 := dkwJ1_copyOf_2_1 ++ []
def dkwJ1_copyOf_2_0 : List UInt8 := [27, 42, 190, 160, 0, 11, 42, 182, 1, 63, 192, 1, 64, 176, 27, 188, 11, 77, 42, 3, 44, 3, 42, 190]
abbrev dktJ1_copyOf_2_0 : List UInt8 := dkwJ1_copyOf_2_0 ++ dktJ1_copyOf_2_1
theorem dksJ1_copyOf_2_0 : cJ1_copyOf_2.data.toList.drop 0 = dktJ1_copyOf_2_0 := by decide +kernel
theorem dksJ1_copyOf_2_1 : cJ1_copyOf_2.data.toList.drop 24 = dktJ1_copyOf_2_1 := dk_seg dksJ1_copyOf_2_0 24 rfl rfl
theorem dJ1_copyOf_2_0 : decode cJ1_copyOf_2 0 = .ok (.iload_n 1, 1) := dk_27 (dk_at dksJ1_copyOf_2_0 0 rfl rfl)
theorem dJ1_copyOf_2_1 : decode cJ1_copyOf_2 1 = .ok (.aload_n 0, 1) := dk_42 (dk_at dksJ1_copyOf_2_0 1 rfl rfl)
theorem dJ1_copyOf_2_2 : decode cJ1_copyOf_2 2 = .ok (.arraylength, 1) := dk_190 (dk_at dksJ1_copyOf_2_0 2 rfl rfl)
theorem dJ1_copyOf_2_3 : decode cJ1_copyOf_2 3 = .ok (.if_icmp .ne 11, 3) := dk_160 0 11 (dk_at dksJ1_copyOf_2_0 3 rfl rfl)
theorem dJ1_copyOf_2_6 : decode cJ1_copyOf_2 6 = .ok (.aload_n 0, 1) := dk_42 (dk_at dksJ1_copyOf_2_0 6 rfl rfl)
theorem dJ1_copyOf_2_7 : decode cJ1_copyOf_2 7 = .ok (.invokevirtual 319, 3) := dk_182 1 63 (dk_at dksJ1_copyOf_2_0 7 rfl rfl)
theorem dJ1_copyOf_2_10 : decode cJ1_copyOf_2 10 = .ok (.checkcast 320, 3) := dk_192 1 64 (dk_at dksJ1_copyOf_2_0 10 rfl rfl)
theorem dJ1_copyOf_2_13 : decode cJ1_copyOf_2 13 = .ok (.areturn, 1) := dk_176 (dk_at dksJ1_copyOf_2_0 13 rfl rfl)
theorem dJ1_copyOf_2_14 : decode cJ1_copyOf_2 14 = .ok (.iload_n 1, 1) := dk_27 (dk_at dksJ1_copyOf_2_0 14 rfl rfl)
theorem dJ1_copyOf_2_15 : decode cJ1_copyOf_2 15 = .ok (.newarray .long, 2) := dk_188_11 (dk_at dksJ1_copyOf_2_0 15 rfl rfl)
theorem dJ1_copyOf_2_17 : decode cJ1_copyOf_2 17 = .ok (.astore_n 2, 1) := dk_77 (dk_at dksJ1_copyOf_2_0 17 rfl rfl)
theorem dJ1_copyOf_2_18 : decode cJ1_copyOf_2 18 = .ok (.aload_n 0, 1) := dk_42 (dk_at dksJ1_copyOf_2_0 18 rfl rfl)
theorem dJ1_copyOf_2_19 : decode cJ1_copyOf_2 19 = .ok (.iconst 0, 1) := dk_3 (dk_at dksJ1_copyOf_2_0 19 rfl rfl)
theorem dJ1_copyOf_2_20 : decode cJ1_copyOf_2 20 = .ok (.aload_n 2, 1) := dk_44 (dk_at dksJ1_copyOf_2_0 20 rfl rfl)
theorem dJ1_copyOf_2_21 : decode cJ1_copyOf_2 21 = .ok (.iconst 0, 1) := dk_3 (dk_at dksJ1_copyOf_2_0 21 rfl rfl)
theorem dJ1_copyOf_2_22 : decode cJ1_copyOf_2 22 = .ok (.aload_n 0, 1) := dk_42 (dk_at dksJ1_copyOf_2_0 22 rfl rfl)
theorem dJ1_copyOf_2_23 : decode cJ1_copyOf_2 23 = .ok (.arraylength, 1) := dk_190 (dk_at dksJ1_copyOf_2_0 23 rfl rfl)
theorem dJ1_copyOf_2_24 : decode cJ1_copyOf_2 24 = .ok (.iload_n 1, 1) := dk_27 (dk_at dksJ1_copyOf_2_1 0 rfl rfl)
theorem dJ1_copyOf_2_25 : decode cJ1_copyOf_2 25 = .ok (.invokestatic 304, 3) := dk_184 1 48 (dk_at dksJ1_copyOf_2_1 1 rfl rfl)
theorem dJ1_copyOf_2_28 : decode cJ1_copyOf_2 28 = .ok (.invokestatic 150, 3) := dk_184 0 150 (dk_at dksJ1_copyOf_2_1 4 rfl rfl)
theorem dJ1_copyOf_2_31 : decode cJ1_copyOf_2 31 = .ok (.aload_n 2, 1) := dk_44 (dk_at dksJ1_copyOf_2_1 7 rfl rfl)
theorem dJ1_copyOf_2_32 : decode cJ1_copyOf_2 32 = .ok (.areturn, 1) := dk_176 (dk_at dksJ1_copyOf_2_1 8 rfl rfl)
theorem q72 : (Jvm.Cond.initialized "java/util/Arrays") ∈ lw_all := lw_g (lw_at lw_m1 16 rfl) rfl
theorem q655 : (Jvm.Cond.static ({ cls := "java/util/Arrays", name := "copyOf", desc := "([II)[I" } : Jvm.MethodName)) ∈ lw_all := lw_g (lw_at lw_m3 119 rfl) rfl
theorem q656 : (Jvm.Cond.code ({ cls := "java/util/Arrays", name := "copyOf", desc := "([II)[I" } : Jvm.MethodName) prog_30_method_123_code (3 : Nat) (Option.some (Jvm.ClassFile.FieldType.array Jvm.ClassFile.FieldType.int))) ∈ lw_all := lw_g (lw_at lw_m3 120 rfl) rfl
theorem q657 : (Jvm.Cond.methodLink "java/util/Arrays" (316 : Nat) ({ cls := "[I", name := "clone", desc := "()Ljava/lang/Object;" } : Jvm.MethodName)) ∈ lw_all := lw_g (lw_at lw_m3 121 rfl) rfl
theorem q663 : (Jvm.Cond.classLink "java/util/Arrays" (317 : Nat) "[I") ∈ lw_all := lw_g (lw_at lw_m3 127 rfl) rfl
theorem q664 : (Jvm.Cond.methodLink "java/util/Arrays" (304 : Nat) ({ cls := "java/lang/Math", name := "min", desc := "(II)I" } : Jvm.MethodName)) ∈ lw_all := lw_g (lw_at lw_m3 128 rfl) rfl
theorem q667 : (Jvm.Cond.methodLink "java/util/Arrays" (150 : Nat) ({ cls := "java/lang/System", name := "arraycopy", desc := "(Ljava/lang/Object;ILjava/lang/Object;II)V" } : Jvm.MethodName)) ∈ lw_all := lw_g (lw_at lw_m3 131 rfl) rfl
theorem q1155 : (Jvm.Cond.static ({ cls := "java/util/Arrays", name := "copyOf", desc := "([JI)[J" } : Jvm.MethodName)) ∈ lw_all := lw_g (lw_at lw_m5 139 rfl) rfl
theorem q1156 : (Jvm.Cond.code ({ cls := "java/util/Arrays", name := "copyOf", desc := "([JI)[J" } : Jvm.MethodName) prog_30_method_124_code (3 : Nat) (Option.some (Jvm.ClassFile.FieldType.array Jvm.ClassFile.FieldType.long))) ∈ lw_all := lw_g (lw_at lw_m5 140 rfl) rfl
theorem q1157 : (Jvm.Cond.methodLink "java/util/Arrays" (319 : Nat) ({ cls := "[J", name := "clone", desc := "()Ljava/lang/Object;" } : Jvm.MethodName)) ∈ lw_all := lw_g (lw_at lw_m5 141 rfl) rfl
theorem q1161 : (Jvm.Cond.classLink "java/util/Arrays" (320 : Nat) "[J") ∈ lw_all := lw_g (lw_at lw_m5 145 rfl) rfl

/-! java/lang/Math -/
set_option maxRecDepth 100000
def RJ2 : String := "java/lang/Math"
abbrev cJ2_min : ByteArray := prog_24_method_69_code
def yJ2_min : MethodName := ⟨RJ2, "min", "(II)I"⟩
def dkwJ2_min_0 : List UInt8 := [26, 27, 163, 0, 7, 26, 167, 0, 4, 27, 172]
abbrev dktJ2_min_0 : List UInt8 := dkwJ2_min_0 ++ []
theorem dksJ2_min_0 : cJ2_min.data.toList.drop 0 = dktJ2_min_0 := by decide +kernel
theorem dJ2_min_0 : decode cJ2_min 0 = .ok (.iload_n 0, 1) := dk_26 (dk_at dksJ2_min_0 0 rfl rfl)
theorem dJ2_min_1 : decode cJ2_min 1 = .ok (.iload_n 1, 1) := dk_27 (dk_at dksJ2_min_0 1 rfl rfl)
theorem dJ2_min_2 : decode cJ2_min 2 = .ok (.if_icmp .gt 7, 3) := dk_163 0 7 (dk_at dksJ2_min_0 2 rfl rfl)
theorem dJ2_min_5 : decode cJ2_min 5 = .ok (.iload_n 0, 1) := dk_26 (dk_at dksJ2_min_0 5 rfl rfl)
theorem dJ2_min_6 : decode cJ2_min 6 = .ok (.goto 4, 3) := dk_167 0 4 (dk_at dksJ2_min_0 6 rfl rfl)
theorem dJ2_min_9 : decode cJ2_min 9 = .ok (.iload_n 1, 1) := dk_27 (dk_at dksJ2_min_0 9 rfl rfl)
theorem dJ2_min_10 : decode cJ2_min 10 = .ok (.ireturn, 1) := dk_172 (dk_at dksJ2_min_0 10 rfl rfl)
abbrev cJ2_max : ByteArray := prog_24_method_65_code
def yJ2_max : MethodName := ⟨RJ2, "max", "(II)I"⟩
def dkwJ2_max_0 : List UInt8 := [26, 27, 161, 0, 7, 26, 167, 0, 4, 27, 172]
abbrev dktJ2_max_0 : List UInt8 := dkwJ2_max_0 ++ []
theorem dksJ2_max_0 : cJ2_max.data.toList.drop 0 = dktJ2_max_0 := by decide +kernel
theorem dJ2_max_0 : decode cJ2_max 0 = .ok (.iload_n 0, 1) := dk_26 (dk_at dksJ2_max_0 0 rfl rfl)
theorem dJ2_max_1 : decode cJ2_max 1 = .ok (.iload_n 1, 1) := dk_27 (dk_at dksJ2_max_0 1 rfl rfl)
theorem dJ2_max_2 : decode cJ2_max 2 = .ok (.if_icmp .lt 7, 3) := dk_161 0 7 (dk_at dksJ2_max_0 2 rfl rfl)
theorem dJ2_max_5 : decode cJ2_max 5 = .ok (.iload_n 0, 1) := dk_26 (dk_at dksJ2_max_0 5 rfl rfl)
theorem dJ2_max_6 : decode cJ2_max 6 = .ok (.goto 4, 3) := dk_167 0 4 (dk_at dksJ2_max_0 6 rfl rfl)
theorem dJ2_max_9 : decode cJ2_max 9 = .ok (.iload_n 1, 1) := dk_27 (dk_at dksJ2_max_0 9 rfl rfl)
theorem dJ2_max_10 : decode cJ2_max 10 = .ok (.ireturn, 1) := dk_172 (dk_at dksJ2_max_0 10 rfl rfl)
theorem q73 : (Jvm.Cond.initialized "java/lang/Math") ∈ lw_all := lw_g (lw_at lw_m1 17 rfl) rfl
theorem q665 : (Jvm.Cond.static ({ cls := "java/lang/Math", name := "min", desc := "(II)I" } : Jvm.MethodName)) ∈ lw_all := lw_g (lw_at lw_m3 129 rfl) rfl
theorem q666 : (Jvm.Cond.code ({ cls := "java/lang/Math", name := "min", desc := "(II)I" } : Jvm.MethodName) prog_24_method_69_code (2 : Nat) (Option.some Jvm.ClassFile.FieldType.int)) ∈ lw_all := lw_g (lw_at lw_m3 130 rfl) rfl
theorem q1086 : (Jvm.Cond.static ({ cls := "java/lang/Math", name := "max", desc := "(II)I" } : Jvm.MethodName)) ∈ lw_all := lw_g (lw_at lw_m5 70 rfl) rfl
theorem q1087 : (Jvm.Cond.code ({ cls := "java/lang/Math", name := "max", desc := "(II)I" } : Jvm.MethodName) prog_24_method_65_code (2 : Nat) (Option.some Jvm.ClassFile.FieldType.int)) ∈ lw_all := lw_g (lw_at lw_m5 71 rfl) rfl

/-! java/lang/Throwable -/
set_option maxRecDepth 100000
def RJ3 : String := "java/lang/Throwable"
def TJ3 : u_T := fun k => match k with
  | 0 => ("java/lang/Throwable", "cause", "Ljava/lang/Throwable;", false)
  | 1 => ("java/lang/Throwable", "stackTrace", "[Ljava/lang/StackTraceElement;", false)
  | 2 => ("java/lang/Throwable", "suppressedExceptions", "Ljava/util/List;", false)
  | 3 => ("java/lang/Throwable", "detailMessage", "Ljava/lang/String;", false)
  | _ => ("java/lang/Throwable", "backtrace", "Ljava/lang/Object;", false)
def tyJ3 : Nat → FieldType := fun k => match k with
  | 0 => .object "java/lang/Throwable"
  | 1 => .array (.object "java/lang/StackTraceElement")
  | 2 => .object "java/util/List"
  | 3 => .object "java/lang/String"
  | _ => .object "java/lang/Object"
abbrev wsJ30 : List Cond := u_ws RJ3 TJ3 5
theorem nmJ3 : ∀ a, a < 5 → ∀ b, b < 5 → a ≠ b → (TJ3 a).2.1 ≠ (TJ3 b).2.1 := by decide +kernel
theorem tyJ3_ok : ∀ k, k < 5 → parseFieldDescriptor (TJ3 k).2.2.1 = some (tyJ3 k) := by decide +kernel
abbrev cJ3_init : ByteArray := prog_29_method_1_code
def yJ3_init : MethodName := ⟨RJ3, "<init>", "()V"⟩
def dkwJ3_init_1 : List UInt8 := [182, 0, 27, 87, 177]
abbrev dktJ3_init_1 : List UInt8 := dkwJ3_init_1 ++ []
def dkwJ3_init_0 : List UInt8 := [42, 183, 0, 1, 42, 42, 181, 0, 7, 42, 178, 0, 13, 181, 0, 17, 42, 178, 0, 20, 181, 0, 24, 42]
abbrev dktJ3_init_0 : List UInt8 := dkwJ3_init_0 ++ dktJ3_init_1
theorem dksJ3_init_0 : cJ3_init.data.toList.drop 0 = dktJ3_init_0 := by decide +kernel
theorem dksJ3_init_1 : cJ3_init.data.toList.drop 24 = dktJ3_init_1 := dk_seg dksJ3_init_0 24 rfl rfl
theorem dJ3_init_0 : decode cJ3_init 0 = .ok (.aload_n 0, 1) := dk_42 (dk_at dksJ3_init_0 0 rfl rfl)
theorem dJ3_init_1 : decode cJ3_init 1 = .ok (.invokespecial 1, 3) := dk_183 0 1 (dk_at dksJ3_init_0 1 rfl rfl)
theorem dJ3_init_4 : decode cJ3_init 4 = .ok (.aload_n 0, 1) := dk_42 (dk_at dksJ3_init_0 4 rfl rfl)
theorem dJ3_init_5 : decode cJ3_init 5 = .ok (.aload_n 0, 1) := dk_42 (dk_at dksJ3_init_0 5 rfl rfl)
theorem dJ3_init_6 : decode cJ3_init 6 = .ok (.putfield 7, 3) := dk_181 0 7 (dk_at dksJ3_init_0 6 rfl rfl)
theorem dJ3_init_9 : decode cJ3_init 9 = .ok (.aload_n 0, 1) := dk_42 (dk_at dksJ3_init_0 9 rfl rfl)
theorem dJ3_init_10 : decode cJ3_init 10 = .ok (.getstatic 13, 3) := dk_178 0 13 (dk_at dksJ3_init_0 10 rfl rfl)
theorem dJ3_init_13 : decode cJ3_init 13 = .ok (.putfield 17, 3) := dk_181 0 17 (dk_at dksJ3_init_0 13 rfl rfl)
theorem dJ3_init_16 : decode cJ3_init 16 = .ok (.aload_n 0, 1) := dk_42 (dk_at dksJ3_init_0 16 rfl rfl)
theorem dJ3_init_17 : decode cJ3_init 17 = .ok (.getstatic 20, 3) := dk_178 0 20 (dk_at dksJ3_init_0 17 rfl rfl)
theorem dJ3_init_20 : decode cJ3_init 20 = .ok (.putfield 24, 3) := dk_181 0 24 (dk_at dksJ3_init_0 20 rfl rfl)
theorem dJ3_init_23 : decode cJ3_init 23 = .ok (.aload_n 0, 1) := dk_42 (dk_at dksJ3_init_0 23 rfl rfl)
theorem dJ3_init_24 : decode cJ3_init 24 = .ok (.invokevirtual 27, 3) := dk_182 0 27 (dk_at dksJ3_init_1 0 rfl rfl)
theorem dJ3_init_27 : decode cJ3_init 27 = .ok (.pop, 1) := dk_87 (dk_at dksJ3_init_1 3 rfl rfl)
theorem dJ3_init_28 : decode cJ3_init 28 = .ok (.return_, 1) := dk_177 (dk_at dksJ3_init_1 4 rfl rfl)
abbrev cJ3_init_2 : ByteArray := prog_29_method_2_code
def yJ3_init_2 : MethodName := ⟨RJ3, "<init>", "(Ljava/lang/String;)V"⟩
def dkwJ3_init_2_1 : List UInt8 := [182, 0, 27, 87, 42, 43, 181, 0, 31, 177]
abbrev dktJ3_init_2_1 : List UInt8 := dkwJ3_init_2_1 ++ []
def dkwJ3_init_2_0 : List UInt8 := [42, 183, 0, 1, 42, 42, 181, 0, 7, 42, 178, 0, 13, 181, 0, 17, 42, 178, 0, 20, 181, 0, 24, 42]
abbrev dktJ3_init_2_0 : List UInt8 := dkwJ3_init_2_0 ++ dktJ3_init_2_1
theorem dksJ3_init_2_0 : cJ3_init_2.data.toList.drop 0 = dktJ3_init_2_0 := by decide +kernel
theorem dksJ3_init_2_1 : cJ3_init_2.data.toList.drop 24 = dktJ3_init_2_1 := dk_seg dksJ3_init_2_0 24 rfl rfl
theorem dJ3_init_2_0 : decode cJ3_init_2 0 = .ok (.aload_n 0, 1) := dk_42 (dk_at dksJ3_init_2_0 0 rfl rfl)
theorem dJ3_init_2_1 : decode cJ3_init_2 1 = .ok (.invokespecial 1, 3) := dk_183 0 1 (dk_at dksJ3_init_2_0 1 rfl rfl)
theorem dJ3_init_2_4 : decode cJ3_init_2 4 = .ok (.aload_n 0, 1) := dk_42 (dk_at dksJ3_init_2_0 4 rfl rfl)
theorem dJ3_init_2_5 : decode cJ3_init_2 5 = .ok (.aload_n 0, 1) := dk_42 (dk_at dksJ3_init_2_0 5 rfl rfl)
theorem dJ3_init_2_6 : decode cJ3_init_2 6 = .ok (.putfield 7, 3) := dk_181 0 7 (dk_at dksJ3_init_2_0 6 rfl rfl)
theorem dJ3_init_2_9 : decode cJ3_init_2 9 = .ok (.aload_n 0, 1) := dk_42 (dk_at dksJ3_init_2_0 9 rfl rfl)
theorem dJ3_init_2_10 : decode cJ3_init_2 10 = .ok (.getstatic 13, 3) := dk_178 0 13 (dk_at dksJ3_init_2_0 10 rfl rfl)
theorem dJ3_init_2_13 : decode cJ3_init_2 13 = .ok (.putfield 17, 3) := dk_181 0 17 (dk_at dksJ3_init_2_0 13 rfl rfl)
theorem dJ3_init_2_16 : decode cJ3_init_2 16 = .ok (.aload_n 0, 1) := dk_42 (dk_at dksJ3_init_2_0 16 rfl rfl)
theorem dJ3_init_2_17 : decode cJ3_init_2 17 = .ok (.getstatic 20, 3) := dk_178 0 20 (dk_at dksJ3_init_2_0 17 rfl rfl)
theorem dJ3_init_2_20 : decode cJ3_init_2 20 = .ok (.putfield 24, 3) := dk_181 0 24 (dk_at dksJ3_init_2_0 20 rfl rfl)
theorem dJ3_init_2_23 : decode cJ3_init_2 23 = .ok (.aload_n 0, 1) := dk_42 (dk_at dksJ3_init_2_0 23 rfl rfl)
theorem dJ3_init_2_24 : decode cJ3_init_2 24 = .ok (.invokevirtual 27, 3) := dk_182 0 27 (dk_at dksJ3_init_2_1 0 rfl rfl)
theorem dJ3_init_2_27 : decode cJ3_init_2 27 = .ok (.pop, 1) := dk_87 (dk_at dksJ3_init_2_1 3 rfl rfl)
theorem dJ3_init_2_28 : decode cJ3_init_2 28 = .ok (.aload_n 0, 1) := dk_42 (dk_at dksJ3_init_2_1 4 rfl rfl)
theorem dJ3_init_2_29 : decode cJ3_init_2 29 = .ok (.aload_n 1, 1) := dk_43 (dk_at dksJ3_init_2_1 5 rfl rfl)
theorem dJ3_init_2_30 : decode cJ3_init_2 30 = .ok (.putfield 31, 3) := dk_181 0 31 (dk_at dksJ3_init_2_1 6 rfl rfl)
theorem dJ3_init_2_33 : decode cJ3_init_2 33 = .ok (.return_, 1) := dk_177 (dk_at dksJ3_init_2_1 9 rfl rfl)
theorem q77 : (Jvm.Cond.initialized "java/lang/Throwable") ∈ lw_all := lw_g (lw_at lw_m1 21 rfl) rfl
theorem q852 : (Jvm.Cond.instanceMethod ({ cls := "java/lang/Throwable", name := "<init>", desc := "()V" } : Jvm.MethodName)) ∈ lw_all := lw_g (lw_at lw_m4 76 rfl) rfl
theorem q853 : (Jvm.Cond.code ({ cls := "java/lang/Throwable", name := "<init>", desc := "()V" } : Jvm.MethodName) prog_29_method_1_code (1 : Nat) (Option.none : Option Jvm.ClassFile.FieldType)) ∈ lw_all := lw_g (lw_at lw_m4 77 rfl) rfl
theorem q854 : (Jvm.Cond.methodLink "java/lang/Throwable" (1 : Nat) ({ cls := "java/lang/Object", name := "<init>", desc := "()V" } : Jvm.MethodName)) ∈ lw_all := lw_g (lw_at lw_m4 78 rfl) rfl
theorem q855 : (Jvm.Cond.fieldLink "java/lang/Throwable" (13 : Nat) "java/lang/Throwable" "UNASSIGNED_STACK" "[Ljava/lang/StackTraceElement;") ∈ lw_all := lw_g (lw_at lw_m4 79 rfl) rfl
theorem q856 : (Jvm.Cond.laysStatic "java/lang/Throwable" "UNASSIGNED_STACK" "[Ljava/lang/StackTraceElement;") ∈ lw_tbl := lw_at lw_m4 80 rfl
theorem q857 : (Jvm.Cond.fieldLink "java/lang/Throwable" (20 : Nat) "java/lang/Throwable" "SUPPRESSED_SENTINEL" "Ljava/util/List;") ∈ lw_all := lw_g (lw_at lw_m4 81 rfl) rfl
theorem q858 : (Jvm.Cond.laysStatic "java/lang/Throwable" "SUPPRESSED_SENTINEL" "Ljava/util/List;") ∈ lw_tbl := lw_at lw_m4 82 rfl
theorem q859 : (Jvm.Cond.methodLink "java/lang/Throwable" (27 : Nat) ({ cls := "java/lang/Throwable", name := "fillInStackTrace", desc := "()Ljava/lang/Throwable;" } : Jvm.MethodName)) ∈ lw_all := lw_g (lw_at lw_m4 83 rfl) rfl
theorem q860 : (Jvm.Cond.instanceMethod ({ cls := "java/lang/Throwable", name := "fillInStackTrace", desc := "()Ljava/lang/Throwable;" } : Jvm.MethodName)) ∈ lw_all := lw_g (lw_at lw_m4 84 rfl) rfl
theorem q861 : (Jvm.Cond.sameMethod "java/lang/Throwable" "java/lang/Throwable" "fillInStackTrace" "()Ljava/lang/Throwable;") ∈ lw_all := lw_g (lw_at lw_m4 85 rfl) rfl
theorem q873 : (Jvm.Cond.declares ({ cls := "java/lang/Throwable", name := "fillInStackTrace", desc := "()Ljava/lang/Throwable;" } : Jvm.MethodName)) ∈ lw_tbl := lw_at lw_m4 97 rfl
theorem q877 : (Jvm.Cond.codeSync ({ cls := "java/lang/Throwable", name := "fillInStackTrace", desc := "()Ljava/lang/Throwable;" } : Jvm.MethodName) prog_29_method_18_code (1 : Nat) (Option.some (Jvm.ClassFile.FieldType.object "java/lang/Throwable"))) ∈ lw_all := lw_g (lw_at lw_m4 101 rfl) rfl
theorem q878 : (Jvm.Cond.methodLink "java/lang/Throwable" (202 : Nat) ({ cls := "java/lang/Throwable", name := "fillInStackTrace", desc := "(I)Ljava/lang/Throwable;" } : Jvm.MethodName)) ∈ lw_all := lw_g (lw_at lw_m4 102 rfl) rfl
theorem q879 : (Jvm.Cond.privateMethod ({ cls := "java/lang/Throwable", name := "fillInStackTrace", desc := "(I)Ljava/lang/Throwable;" } : Jvm.MethodName)) ∈ lw_tbl := lw_at lw_m4 103 rfl
theorem q880 : (Jvm.Cond.instanceMethod ({ cls := "java/lang/Throwable", name := "fillInStackTrace", desc := "(I)Ljava/lang/Throwable;" } : Jvm.MethodName)) ∈ lw_all := lw_g (lw_at lw_m4 104 rfl) rfl
theorem q881 : (Jvm.Cond.instantiable "java/lang/Throwable" (6 : Nat)) ∈ lw_all := lw_g (lw_at lw_m4 105 rfl) rfl
theorem q882 : (Jvm.Cond.native ({ cls := "java/lang/Throwable", name := "fillInStackTrace", desc := "(I)Ljava/lang/Throwable;" } : Jvm.MethodName)) ∈ lw_all := lw_g (lw_at lw_m4 106 rfl) rfl
theorem q885 : (Jvm.Cond.fieldLink "java/lang/Throwable" (198 : Nat) "java/lang/Throwable" "backtrace" "Ljava/lang/Object;") ∈ lw_all := lw_g (lw_at lw_m4 109 rfl) rfl
theorem q886 : (Jvm.Cond.fieldLink "java/lang/Throwable" (31 : Nat) "java/lang/Throwable" "detailMessage" "Ljava/lang/String;") ∈ lw_all := lw_g (lw_at lw_m4 110 rfl) rfl
theorem q887 : (Jvm.Cond.fieldLink "java/lang/Throwable" (7 : Nat) "java/lang/Throwable" "cause" "Ljava/lang/Throwable;") ∈ lw_all := lw_g (lw_at lw_m4 111 rfl) rfl
theorem q888 : (Jvm.Cond.fieldLink "java/lang/Throwable" (17 : Nat) "java/lang/Throwable" "stackTrace" "[Ljava/lang/StackTraceElement;") ∈ lw_all := lw_g (lw_at lw_m4 112 rfl) rfl
theorem q889 : (Jvm.Cond.fieldLink "java/lang/Throwable" (24 : Nat) "java/lang/Throwable" "suppressedExceptions" "Ljava/util/List;") ∈ lw_all := lw_g (lw_at lw_m4 113 rfl) rfl
theorem q895 : (Jvm.Cond.soleField "java/lang/Throwable" "backtrace") ∈ lw_all := lw_g (lw_at lw_m4 119 rfl) rfl
theorem q897 : (Jvm.Cond.soleField "java/lang/Throwable" "detailMessage") ∈ lw_all := lw_g (lw_at lw_m4 121 rfl) rfl
theorem q899 : (Jvm.Cond.soleField "java/lang/Throwable" "cause") ∈ lw_all := lw_g (lw_at lw_m4 123 rfl) rfl
theorem q901 : (Jvm.Cond.soleField "java/lang/Throwable" "stackTrace") ∈ lw_all := lw_g (lw_at lw_m4 125 rfl) rfl
theorem q903 : (Jvm.Cond.soleField "java/lang/Throwable" "depth") ∈ lw_all := lw_g (lw_at lw_m4 127 rfl) rfl
theorem q905 : (Jvm.Cond.soleField "java/lang/Throwable" "suppressedExceptions") ∈ lw_all := lw_g (lw_at lw_m4 129 rfl) rfl
theorem q911 : (Jvm.Cond.declares ({ cls := "java/lang/Throwable", name := "<init>", desc := "()V" } : Jvm.MethodName)) ∈ lw_tbl := lw_at lw_m4 135 rfl
theorem q912 : (Jvm.Cond.declares ({ cls := "java/lang/Throwable", name := "<init>", desc := "(Ljava/lang/String;)V" } : Jvm.MethodName)) ∈ lw_tbl := lw_at lw_m4 136 rfl
theorem q914 : (Jvm.Cond.lays "java/lang/Throwable" "java/lang/Throwable" "cause" "Ljava/lang/Throwable;") ∈ lw_all := lw_g (lw_at lw_m4 138 rfl) rfl
theorem q915 : (Jvm.Cond.lays "java/lang/Throwable" "java/lang/Throwable" "stackTrace" "[Ljava/lang/StackTraceElement;") ∈ lw_all := lw_g (lw_at lw_m4 139 rfl) rfl
theorem q916 : (Jvm.Cond.lays "java/lang/Throwable" "java/lang/Throwable" "suppressedExceptions" "Ljava/util/List;") ∈ lw_all := lw_g (lw_at lw_m4 140 rfl) rfl
theorem q917 : (Jvm.Cond.lays "java/lang/Throwable" "java/lang/Throwable" "detailMessage" "Ljava/lang/String;") ∈ lw_all := lw_g (lw_at lw_m4 141 rfl) rfl
theorem q918 : (Jvm.Cond.lays "java/lang/Throwable" "java/lang/Throwable" "backtrace" "Ljava/lang/Object;") ∈ lw_all := lw_g (lw_at lw_m4 142 rfl) rfl
theorem q919 : (Jvm.Cond.fieldLink "java/lang/Throwable" (198 : Nat) "java/lang/Throwable" "backtrace" "Ljava/lang/Object;") ∈ lw_all := lw_g (lw_at lw_m4 143 rfl) rfl
theorem q920 : (Jvm.Cond.superclass "java/lang/Throwable" "java/lang/Object") ∈ lw_all := lw_g (lw_at lw_m4 144 rfl) rfl
theorem q933 : (Jvm.Cond.instanceMethod ({ cls := "java/lang/Throwable", name := "<init>", desc := "(Ljava/lang/String;)V" } : Jvm.MethodName)) ∈ lw_all := lw_g (lw_at lw_m4 157 rfl) rfl
theorem q934 : (Jvm.Cond.code ({ cls := "java/lang/Throwable", name := "<init>", desc := "(Ljava/lang/String;)V" } : Jvm.MethodName) prog_29_method_2_code (2 : Nat) (Option.none : Option Jvm.ClassFile.FieldType)) ∈ lw_all := lw_g (lw_at lw_m4 158 rfl) rfl
theorem q1695 : (Jvm.Cond.sameMethod "java/lang/Throwable" "java/lang/Throwable" "fillInStackTrace" "(I)Ljava/lang/Throwable;") ∈ lw_all := lw_g (lw_at lw_m7 199 rfl) rfl
theorem in_J3 : ∀ w ∈ wsJ30, w ∈ lw_all := lw_in wsJ30 [914, 915, 916, 917, 918] (by decide +kernel) (by decide +kernel)

/-! java/lang/Exception -/
set_option maxRecDepth 100000
def RJ4 : String := "java/lang/Exception"
abbrev cJ4_init : ByteArray := prog_21_method_1_code
def yJ4_init : MethodName := ⟨RJ4, "<init>", "()V"⟩
theorem dJ4_init_0 : decode cJ4_init 0 = .ok (.aload_n 0, 1) := by decide +kernel
theorem dJ4_init_1 : decode cJ4_init 1 = .ok (.invokespecial 1, 3) := by decide +kernel
theorem dJ4_init_4 : decode cJ4_init 4 = .ok (.return_, 1) := by decide +kernel
abbrev cJ4_init_2 : ByteArray := prog_21_method_2_code
def yJ4_init_2 : MethodName := ⟨RJ4, "<init>", "(Ljava/lang/String;)V"⟩
def dkwJ4_init_2_0 : List UInt8 := [42, 43, 183, 0, 7, 177]
abbrev dktJ4_init_2_0 : List UInt8 := dkwJ4_init_2_0 ++ []
theorem dksJ4_init_2_0 : cJ4_init_2.data.toList.drop 0 = dktJ4_init_2_0 := by decide +kernel
theorem dJ4_init_2_0 : decode cJ4_init_2 0 = .ok (.aload_n 0, 1) := dk_42 (dk_at dksJ4_init_2_0 0 rfl rfl)
theorem dJ4_init_2_1 : decode cJ4_init_2 1 = .ok (.aload_n 1, 1) := dk_43 (dk_at dksJ4_init_2_0 1 rfl rfl)
theorem dJ4_init_2_2 : decode cJ4_init_2 2 = .ok (.invokespecial 7, 3) := dk_183 0 7 (dk_at dksJ4_init_2_0 2 rfl rfl)
theorem dJ4_init_2_5 : decode cJ4_init_2 5 = .ok (.return_, 1) := dk_177 (dk_at dksJ4_init_2_0 5 rfl rfl)
theorem q78 : (Jvm.Cond.initialized "java/lang/Exception") ∈ lw_all := lw_g (lw_at lw_m1 22 rfl) rfl
theorem q849 : (Jvm.Cond.instanceMethod ({ cls := "java/lang/Exception", name := "<init>", desc := "()V" } : Jvm.MethodName)) ∈ lw_all := lw_g (lw_at lw_m4 73 rfl) rfl
theorem q850 : (Jvm.Cond.code ({ cls := "java/lang/Exception", name := "<init>", desc := "()V" } : Jvm.MethodName) prog_21_method_1_code (1 : Nat) (Option.none : Option Jvm.ClassFile.FieldType)) ∈ lw_all := lw_g (lw_at lw_m4 74 rfl) rfl
theorem q851 : (Jvm.Cond.methodLink "java/lang/Exception" (1 : Nat) ({ cls := "java/lang/Throwable", name := "<init>", desc := "()V" } : Jvm.MethodName)) ∈ lw_all := lw_g (lw_at lw_m4 75 rfl) rfl
theorem q876 : (Jvm.Cond.superclass "java/lang/Exception" "java/lang/Throwable") ∈ lw_all := lw_g (lw_at lw_m4 100 rfl) rfl
theorem q909 : (Jvm.Cond.declares ({ cls := "java/lang/Exception", name := "<init>", desc := "()V" } : Jvm.MethodName)) ∈ lw_tbl := lw_at lw_m4 133 rfl
theorem q910 : (Jvm.Cond.declares ({ cls := "java/lang/Exception", name := "<init>", desc := "(Ljava/lang/String;)V" } : Jvm.MethodName)) ∈ lw_tbl := lw_at lw_m4 134 rfl
theorem q930 : (Jvm.Cond.instanceMethod ({ cls := "java/lang/Exception", name := "<init>", desc := "(Ljava/lang/String;)V" } : Jvm.MethodName)) ∈ lw_all := lw_g (lw_at lw_m4 154 rfl) rfl
theorem q931 : (Jvm.Cond.code ({ cls := "java/lang/Exception", name := "<init>", desc := "(Ljava/lang/String;)V" } : Jvm.MethodName) prog_21_method_2_code (2 : Nat) (Option.none : Option Jvm.ClassFile.FieldType)) ∈ lw_all := lw_g (lw_at lw_m4 155 rfl) rfl
theorem q932 : (Jvm.Cond.methodLink "java/lang/Exception" (7 : Nat) ({ cls := "java/lang/Throwable", name := "<init>", desc := "(Ljava/lang/String;)V" } : Jvm.MethodName)) ∈ lw_all := lw_g (lw_at lw_m4 156 rfl) rfl

/-! java/lang/RuntimeException -/
set_option maxRecDepth 100000
def RJ5 : String := "java/lang/RuntimeException"
abbrev cJ5_init : ByteArray := prog_26_method_1_code
def yJ5_init : MethodName := ⟨RJ5, "<init>", "()V"⟩
theorem dJ5_init_0 : decode cJ5_init 0 = .ok (.aload_n 0, 1) := by decide +kernel
theorem dJ5_init_1 : decode cJ5_init 1 = .ok (.invokespecial 1, 3) := by decide +kernel
theorem dJ5_init_4 : decode cJ5_init 4 = .ok (.return_, 1) := by decide +kernel
abbrev cJ5_init_2 : ByteArray := prog_26_method_2_code
def yJ5_init_2 : MethodName := ⟨RJ5, "<init>", "(Ljava/lang/String;)V"⟩
def dkwJ5_init_2_0 : List UInt8 := [42, 43, 183, 0, 7, 177]
abbrev dktJ5_init_2_0 : List UInt8 := dkwJ5_init_2_0 ++ []
theorem dksJ5_init_2_0 : cJ5_init_2.data.toList.drop 0 = dktJ5_init_2_0 := by decide +kernel
theorem dJ5_init_2_0 : decode cJ5_init_2 0 = .ok (.aload_n 0, 1) := dk_42 (dk_at dksJ5_init_2_0 0 rfl rfl)
theorem dJ5_init_2_1 : decode cJ5_init_2 1 = .ok (.aload_n 1, 1) := dk_43 (dk_at dksJ5_init_2_0 1 rfl rfl)
theorem dJ5_init_2_2 : decode cJ5_init_2 2 = .ok (.invokespecial 7, 3) := dk_183 0 7 (dk_at dksJ5_init_2_0 2 rfl rfl)
theorem dJ5_init_2_5 : decode cJ5_init_2 5 = .ok (.return_, 1) := dk_177 (dk_at dksJ5_init_2_0 5 rfl rfl)
theorem q79 : (Jvm.Cond.initialized "java/lang/RuntimeException") ∈ lw_all := lw_g (lw_at lw_m1 23 rfl) rfl
theorem q846 : (Jvm.Cond.instanceMethod ({ cls := "java/lang/RuntimeException", name := "<init>", desc := "()V" } : Jvm.MethodName)) ∈ lw_all := lw_g (lw_at lw_m4 70 rfl) rfl
theorem q847 : (Jvm.Cond.code ({ cls := "java/lang/RuntimeException", name := "<init>", desc := "()V" } : Jvm.MethodName) prog_26_method_1_code (1 : Nat) (Option.none : Option Jvm.ClassFile.FieldType)) ∈ lw_all := lw_g (lw_at lw_m4 71 rfl) rfl
theorem q848 : (Jvm.Cond.methodLink "java/lang/RuntimeException" (1 : Nat) ({ cls := "java/lang/Exception", name := "<init>", desc := "()V" } : Jvm.MethodName)) ∈ lw_all := lw_g (lw_at lw_m4 72 rfl) rfl
theorem q872 : (Jvm.Cond.sameMethod "java/lang/RuntimeException" "java/lang/Throwable" "fillInStackTrace" "()Ljava/lang/Throwable;") ∈ lw_all := lw_g (lw_at lw_m4 96 rfl) rfl
theorem q875 : (Jvm.Cond.superclass "java/lang/RuntimeException" "java/lang/Exception") ∈ lw_all := lw_g (lw_at lw_m4 99 rfl) rfl
theorem q907 : (Jvm.Cond.declares ({ cls := "java/lang/RuntimeException", name := "<init>", desc := "()V" } : Jvm.MethodName)) ∈ lw_tbl := lw_at lw_m4 131 rfl
theorem q908 : (Jvm.Cond.declares ({ cls := "java/lang/RuntimeException", name := "<init>", desc := "(Ljava/lang/String;)V" } : Jvm.MethodName)) ∈ lw_tbl := lw_at lw_m4 132 rfl
theorem q921 : (Jvm.Cond.castable "java/lang/RuntimeException" "java/lang/Throwable") ∈ lw_tbl := lw_at lw_m4 145 rfl
theorem q927 : (Jvm.Cond.instanceMethod ({ cls := "java/lang/RuntimeException", name := "<init>", desc := "(Ljava/lang/String;)V" } : Jvm.MethodName)) ∈ lw_all := lw_g (lw_at lw_m4 151 rfl) rfl
theorem q928 : (Jvm.Cond.code ({ cls := "java/lang/RuntimeException", name := "<init>", desc := "(Ljava/lang/String;)V" } : Jvm.MethodName) prog_26_method_2_code (2 : Nat) (Option.none : Option Jvm.ClassFile.FieldType)) ∈ lw_all := lw_g (lw_at lw_m4 152 rfl) rfl
theorem q929 : (Jvm.Cond.methodLink "java/lang/RuntimeException" (7 : Nat) ({ cls := "java/lang/Exception", name := "<init>", desc := "(Ljava/lang/String;)V" } : Jvm.MethodName)) ∈ lw_all := lw_g (lw_at lw_m4 153 rfl) rfl

/-! java/lang/NullPointerException -/
set_option maxRecDepth 100000
def RJ6 : String := "java/lang/NullPointerException"
def TJ6 : u_T := fun k => match k with
  | 0 => ("java/lang/Throwable", "backtrace", "Ljava/lang/Object;", false)
  | 1 => ("java/lang/Throwable", "detailMessage", "Ljava/lang/String;", false)
  | 2 => ("java/lang/Throwable", "cause", "Ljava/lang/Throwable;", false)
  | 3 => ("java/lang/Throwable", "stackTrace", "[Ljava/lang/StackTraceElement;", false)
  | 4 => ("java/lang/Throwable", "depth", "I", false)
  | 5 => ("java/lang/Throwable", "suppressedExceptions", "Ljava/util/List;", false)
  | 6 => ("java/lang/NullPointerException", "extendedMessageState", "I", false)
  | _ => ("java/lang/NullPointerException", "extendedMessage", "Ljava/lang/String;", false)
def tyJ6 : Nat → FieldType := fun k => match k with
  | 0 => .object "java/lang/Object"
  | 1 => .object "java/lang/String"
  | 2 => .object "java/lang/Throwable"
  | 3 => .array (.object "java/lang/StackTraceElement")
  | 4 => .int
  | 5 => .object "java/util/List"
  | 6 => .int
  | _ => .object "java/lang/String"
abbrev wsJ60 : List Cond := u_ws RJ6 TJ6 8
theorem nmJ6 : ∀ a, a < 8 → ∀ b, b < 8 → a ≠ b → (TJ6 a).2.1 ≠ (TJ6 b).2.1 := by decide +kernel
theorem tyJ6_ok : ∀ k, k < 8 → parseFieldDescriptor (TJ6 k).2.2.1 = some (tyJ6 k) := by decide +kernel
abbrev cJ6_init : ByteArray := prog_25_method_1_code
def yJ6_init : MethodName := ⟨RJ6, "<init>", "()V"⟩
theorem dJ6_init_0 : decode cJ6_init 0 = .ok (.aload_n 0, 1) := by decide +kernel
theorem dJ6_init_1 : decode cJ6_init 1 = .ok (.invokespecial 1, 3) := by decide +kernel
theorem dJ6_init_4 : decode cJ6_init 4 = .ok (.return_, 1) := by decide +kernel
theorem q80 : (Jvm.Cond.initialized "java/lang/NullPointerException") ∈ lw_all := lw_g (lw_at lw_m1 24 rfl) rfl
theorem q842 : (Jvm.Cond.instantiable "java/lang/NullPointerException" (8 : Nat)) ∈ lw_all := lw_g (lw_at lw_m4 66 rfl) rfl
theorem q843 : (Jvm.Cond.instanceMethod ({ cls := "java/lang/NullPointerException", name := "<init>", desc := "()V" } : Jvm.MethodName)) ∈ lw_all := lw_g (lw_at lw_m4 67 rfl) rfl
theorem q844 : (Jvm.Cond.code ({ cls := "java/lang/NullPointerException", name := "<init>", desc := "()V" } : Jvm.MethodName) prog_25_method_1_code (1 : Nat) (Option.none : Option Jvm.ClassFile.FieldType)) ∈ lw_all := lw_g (lw_at lw_m4 68 rfl) rfl
theorem q845 : (Jvm.Cond.methodLink "java/lang/NullPointerException" (1 : Nat) ({ cls := "java/lang/RuntimeException", name := "<init>", desc := "()V" } : Jvm.MethodName)) ∈ lw_all := lw_g (lw_at lw_m4 69 rfl) rfl
theorem q864 : (Jvm.Cond.selects "java/lang/NullPointerException" ({ cls := "java/lang/Throwable", name := "fillInStackTrace", desc := "()Ljava/lang/Throwable;" } : Jvm.MethodName) ({ cls := "java/lang/NullPointerException", name := "fillInStackTrace", desc := "()Ljava/lang/Throwable;" } : Jvm.MethodName)) ∈ lw_all := lw_g (lw_at lw_m4 88 rfl) rfl
theorem q865 : (Jvm.Cond.instanceMethod ({ cls := "java/lang/NullPointerException", name := "fillInStackTrace", desc := "()Ljava/lang/Throwable;" } : Jvm.MethodName)) ∈ lw_all := lw_g (lw_at lw_m4 89 rfl) rfl
theorem q866 : (Jvm.Cond.codeSync ({ cls := "java/lang/NullPointerException", name := "fillInStackTrace", desc := "()Ljava/lang/Throwable;" } : Jvm.MethodName) prog_25_method_3_code (1 : Nat) (Option.some (Jvm.ClassFile.FieldType.object "java/lang/Throwable"))) ∈ lw_all := lw_g (lw_at lw_m4 90 rfl) rfl
theorem q867 : (Jvm.Cond.methodLink "java/lang/NullPointerException" (16 : Nat) ({ cls := "java/lang/NullPointerException", name := "getExtendedNPEMessage", desc := "()Ljava/lang/String;" } : Jvm.MethodName)) ∈ lw_all := lw_g (lw_at lw_m4 91 rfl) rfl
theorem q868 : (Jvm.Cond.privateMethod ({ cls := "java/lang/NullPointerException", name := "getExtendedNPEMessage", desc := "()Ljava/lang/String;" } : Jvm.MethodName)) ∈ lw_tbl := lw_at lw_m4 92 rfl
theorem q869 : (Jvm.Cond.instanceMethod ({ cls := "java/lang/NullPointerException", name := "getExtendedNPEMessage", desc := "()Ljava/lang/String;" } : Jvm.MethodName)) ∈ lw_all := lw_g (lw_at lw_m4 93 rfl) rfl
theorem q870 : (Jvm.Cond.native ({ cls := "java/lang/NullPointerException", name := "getExtendedNPEMessage", desc := "()Ljava/lang/String;" } : Jvm.MethodName)) ∈ lw_all := lw_g (lw_at lw_m4 94 rfl) rfl
theorem q871 : (Jvm.Cond.methodLink "java/lang/NullPointerException" (24 : Nat) ({ cls := "java/lang/RuntimeException", name := "fillInStackTrace", desc := "()Ljava/lang/Throwable;" } : Jvm.MethodName)) ∈ lw_all := lw_g (lw_at lw_m4 95 rfl) rfl
theorem q874 : (Jvm.Cond.superclass "java/lang/NullPointerException" "java/lang/RuntimeException") ∈ lw_all := lw_g (lw_at lw_m4 98 rfl) rfl
theorem q883 : (Jvm.Cond.fieldLink "java/lang/NullPointerException" (10 : Nat) "java/lang/NullPointerException" "extendedMessageState" "I") ∈ lw_all := lw_g (lw_at lw_m4 107 rfl) rfl
theorem q884 : (Jvm.Cond.fieldLink "java/lang/NullPointerException" (20 : Nat) "java/lang/NullPointerException" "extendedMessage" "Ljava/lang/String;") ∈ lw_all := lw_g (lw_at lw_m4 108 rfl) rfl
theorem q890 : (Jvm.Cond.lays "java/lang/NullPointerException" "java/lang/NullPointerException" "extendedMessageState" "I") ∈ lw_all := lw_g (lw_at lw_m4 114 rfl) rfl
theorem q891 : (Jvm.Cond.soleField "java/lang/NullPointerException" "extendedMessageState") ∈ lw_all := lw_g (lw_at lw_m4 115 rfl) rfl
theorem q892 : (Jvm.Cond.lays "java/lang/NullPointerException" "java/lang/NullPointerException" "extendedMessage" "Ljava/lang/String;") ∈ lw_all := lw_g (lw_at lw_m4 116 rfl) rfl
theorem q893 : (Jvm.Cond.soleField "java/lang/NullPointerException" "extendedMessage") ∈ lw_all := lw_g (lw_at lw_m4 117 rfl) rfl
theorem q894 : (Jvm.Cond.lays "java/lang/NullPointerException" "java/lang/Throwable" "backtrace" "Ljava/lang/Object;") ∈ lw_all := lw_g (lw_at lw_m4 118 rfl) rfl
theorem q896 : (Jvm.Cond.lays "java/lang/NullPointerException" "java/lang/Throwable" "detailMessage" "Ljava/lang/String;") ∈ lw_all := lw_g (lw_at lw_m4 120 rfl) rfl
theorem q898 : (Jvm.Cond.lays "java/lang/NullPointerException" "java/lang/Throwable" "cause" "Ljava/lang/Throwable;") ∈ lw_all := lw_g (lw_at lw_m4 122 rfl) rfl
theorem q900 : (Jvm.Cond.lays "java/lang/NullPointerException" "java/lang/Throwable" "stackTrace" "[Ljava/lang/StackTraceElement;") ∈ lw_all := lw_g (lw_at lw_m4 124 rfl) rfl
theorem q902 : (Jvm.Cond.lays "java/lang/NullPointerException" "java/lang/Throwable" "depth" "I") ∈ lw_all := lw_g (lw_at lw_m4 126 rfl) rfl
theorem q904 : (Jvm.Cond.lays "java/lang/NullPointerException" "java/lang/Throwable" "suppressedExceptions" "Ljava/util/List;") ∈ lw_all := lw_g (lw_at lw_m4 128 rfl) rfl
theorem q906 : (Jvm.Cond.castable "java/lang/NullPointerException" "java/lang/NullPointerException") ∈ lw_tbl := lw_at lw_m4 130 rfl
theorem q913 : (Jvm.Cond.selects "java/lang/NullPointerException" ({ cls := "java/lang/Throwable", name := "fillInStackTrace", desc := "(I)Ljava/lang/Throwable;" } : Jvm.MethodName) ({ cls := "java/lang/Throwable", name := "fillInStackTrace", desc := "(I)Ljava/lang/Throwable;" } : Jvm.MethodName)) ∈ lw_all := lw_g (lw_at lw_m4 137 rfl) rfl
theorem in_J6 : ∀ w ∈ wsJ60, w ∈ lw_all := lw_in wsJ60 [894, 896, 898, 900, 902, 904, 890, 892] (by decide +kernel) (by decide +kernel)

/-! java/lang/ClassCastException -/
set_option maxRecDepth 100000
def RJ7 : String := "java/lang/ClassCastException"
def TJ7 : u_T := fun k => match k with
  | 0 => ("java/lang/Throwable", "backtrace", "Ljava/lang/Object;", false)
  | 1 => ("java/lang/Throwable", "detailMessage", "Ljava/lang/String;", false)
  | 2 => ("java/lang/Throwable", "cause", "Ljava/lang/Throwable;", false)
  | 3 => ("java/lang/Throwable", "stackTrace", "[Ljava/lang/StackTraceElement;", false)
  | 4 => ("java/lang/Throwable", "depth", "I", false)
  | _ => ("java/lang/Throwable", "suppressedExceptions", "Ljava/util/List;", false)
def tyJ7 : Nat → FieldType := fun k => match k with
  | 0 => .object "java/lang/Object"
  | 1 => .object "java/lang/String"
  | 2 => .object "java/lang/Throwable"
  | 3 => .array (.object "java/lang/StackTraceElement")
  | 4 => .int
  | _ => .object "java/util/List"
abbrev wsJ70 : List Cond := u_ws RJ7 TJ7 6
theorem nmJ7 : ∀ a, a < 6 → ∀ b, b < 6 → a ≠ b → (TJ7 a).2.1 ≠ (TJ7 b).2.1 := by decide +kernel
theorem tyJ7_ok : ∀ k, k < 6 → parseFieldDescriptor (TJ7 k).2.2.1 = some (tyJ7 k) := by decide +kernel
abbrev cJ7_init : ByteArray := prog_19_method_2_code
def yJ7_init : MethodName := ⟨RJ7, "<init>", "(Ljava/lang/String;)V"⟩
def dkwJ7_init_0 : List UInt8 := [42, 43, 183, 0, 7, 177]
abbrev dktJ7_init_0 : List UInt8 := dkwJ7_init_0 ++ []
theorem dksJ7_init_0 : cJ7_init.data.toList.drop 0 = dktJ7_init_0 := by decide +kernel
theorem dJ7_init_0 : decode cJ7_init 0 = .ok (.aload_n 0, 1) := dk_42 (dk_at dksJ7_init_0 0 rfl rfl)
theorem dJ7_init_1 : decode cJ7_init 1 = .ok (.aload_n 1, 1) := dk_43 (dk_at dksJ7_init_0 1 rfl rfl)
theorem dJ7_init_2 : decode cJ7_init 2 = .ok (.invokespecial 7, 3) := dk_183 0 7 (dk_at dksJ7_init_0 2 rfl rfl)
theorem dJ7_init_5 : decode cJ7_init 5 = .ok (.return_, 1) := dk_177 (dk_at dksJ7_init_0 5 rfl rfl)
theorem q81 : (Jvm.Cond.initialized "java/lang/ClassCastException") ∈ lw_all := lw_g (lw_at lw_m1 25 rfl) rfl
theorem q863 : (Jvm.Cond.selects "java/lang/ClassCastException" ({ cls := "java/lang/Throwable", name := "fillInStackTrace", desc := "()Ljava/lang/Throwable;" } : Jvm.MethodName) ({ cls := "java/lang/Throwable", name := "fillInStackTrace", desc := "()Ljava/lang/Throwable;" } : Jvm.MethodName)) ∈ lw_all := lw_g (lw_at lw_m4 87 rfl) rfl
theorem q923 : (Jvm.Cond.instantiable "java/lang/ClassCastException" (6 : Nat)) ∈ lw_all := lw_g (lw_at lw_m4 147 rfl) rfl
theorem q924 : (Jvm.Cond.instanceMethod ({ cls := "java/lang/ClassCastException", name := "<init>", desc := "(Ljava/lang/String;)V" } : Jvm.MethodName)) ∈ lw_all := lw_g (lw_at lw_m4 148 rfl) rfl
theorem q925 : (Jvm.Cond.code ({ cls := "java/lang/ClassCastException", name := "<init>", desc := "(Ljava/lang/String;)V" } : Jvm.MethodName) prog_19_method_2_code (2 : Nat) (Option.none : Option Jvm.ClassFile.FieldType)) ∈ lw_all := lw_g (lw_at lw_m4 149 rfl) rfl
theorem q926 : (Jvm.Cond.methodLink "java/lang/ClassCastException" (7 : Nat) ({ cls := "java/lang/RuntimeException", name := "<init>", desc := "(Ljava/lang/String;)V" } : Jvm.MethodName)) ∈ lw_all := lw_g (lw_at lw_m4 150 rfl) rfl
theorem q935 : (Jvm.Cond.lays "java/lang/ClassCastException" "java/lang/Throwable" "backtrace" "Ljava/lang/Object;") ∈ lw_all := lw_g (lw_at lw_m4 159 rfl) rfl
theorem q936 : (Jvm.Cond.lays "java/lang/ClassCastException" "java/lang/Throwable" "detailMessage" "Ljava/lang/String;") ∈ lw_all := lw_g (lw_at lw_m4 160 rfl) rfl
theorem q937 : (Jvm.Cond.lays "java/lang/ClassCastException" "java/lang/Throwable" "cause" "Ljava/lang/Throwable;") ∈ lw_all := lw_g (lw_at lw_m4 161 rfl) rfl
theorem q938 : (Jvm.Cond.lays "java/lang/ClassCastException" "java/lang/Throwable" "stackTrace" "[Ljava/lang/StackTraceElement;") ∈ lw_all := lw_g (lw_at lw_m4 162 rfl) rfl
theorem q939 : (Jvm.Cond.lays "java/lang/ClassCastException" "java/lang/Throwable" "depth" "I") ∈ lw_all := lw_g (lw_at lw_m4 163 rfl) rfl
theorem q940 : (Jvm.Cond.lays "java/lang/ClassCastException" "java/lang/Throwable" "suppressedExceptions" "Ljava/util/List;") ∈ lw_all := lw_g (lw_at lw_m4 164 rfl) rfl
theorem q941 : (Jvm.Cond.superclass "java/lang/ClassCastException" "java/lang/RuntimeException") ∈ lw_all := lw_g (lw_at lw_m4 165 rfl) rfl
theorem q942 : (Jvm.Cond.castable "java/lang/ClassCastException" "java/lang/ClassCastException") ∈ lw_tbl := lw_at lw_m4 166 rfl
theorem q943 : (Jvm.Cond.selects "java/lang/ClassCastException" ({ cls := "java/lang/Throwable", name := "fillInStackTrace", desc := "(I)Ljava/lang/Throwable;" } : Jvm.MethodName) ({ cls := "java/lang/Throwable", name := "fillInStackTrace", desc := "(I)Ljava/lang/Throwable;" } : Jvm.MethodName)) ∈ lw_all := lw_g (lw_at lw_m4 167 rfl) rfl
theorem in_J7 : ∀ w ∈ wsJ70, w ∈ lw_all := lw_in wsJ70 [935, 936, 937, 938, 939, 940] (by decide +kernel) (by decide +kernel)

/-! java/lang/String -/
set_option maxRecDepth 100000
def RJ8 : String := "java/lang/String"
def TJ8 : u_T := fun k => match k with
  | 0 => ("java/lang/String", "value", "[B", true)
  | _ => ("java/lang/String", "coder", "B", true)
def tyJ8 : Nat → FieldType := fun k => match k with
  | 0 => .array .byte
  | _ => .byte
abbrev wsJ80 : List Cond := u_ws RJ8 TJ8 2
theorem nmJ8 : ∀ a, a < 2 → ∀ b, b < 2 → a ≠ b → (TJ8 a).2.1 ≠ (TJ8 b).2.1 := by decide +kernel
theorem tyJ8_ok : ∀ k, k < 2 → parseFieldDescriptor (TJ8 k).2.2.1 = some (tyJ8 k) := by decide +kernel
theorem q82 : (Jvm.Cond.initialized "java/lang/String") ∈ lw_all := lw_g (lw_at lw_m1 26 rfl) rfl
theorem q944 : (Jvm.Cond.instantiable "java/lang/String" (4 : Nat)) ∈ lw_all := lw_g (lw_at lw_m4 168 rfl) rfl
theorem q946 : (Jvm.Cond.laysFinal "java/lang/String" "java/lang/String" "value" "[B") ∈ lw_all := lw_g (lw_at lw_m4 170 rfl) rfl
theorem q947 : (Jvm.Cond.soleField "java/lang/String" "value") ∈ lw_all := lw_g (lw_at lw_m4 171 rfl) rfl
theorem q948 : (Jvm.Cond.laysFinal "java/lang/String" "java/lang/String" "coder" "B") ∈ lw_all := lw_g (lw_at lw_m4 172 rfl) rfl
theorem q949 : (Jvm.Cond.soleField "java/lang/String" "coder") ∈ lw_all := lw_g (lw_at lw_m4 173 rfl) rfl
theorem in_J8 : ∀ w ∈ wsJ80, w ∈ lw_all := lw_in wsJ80 [946, 948] (by decide +kernel) (by decide +kernel)

/-! java/lang/IndexOutOfBoundsException -/
set_option maxRecDepth 100000
def RJ9 : String := "java/lang/IndexOutOfBoundsException"
abbrev cJ9_init : ByteArray := prog_22_method_2_code
def yJ9_init : MethodName := ⟨RJ9, "<init>", "(Ljava/lang/String;)V"⟩
def dkwJ9_init_0 : List UInt8 := [42, 43, 183, 0, 7, 177]
abbrev dktJ9_init_0 : List UInt8 := dkwJ9_init_0 ++ []
theorem dksJ9_init_0 : cJ9_init.data.toList.drop 0 = dktJ9_init_0 := by decide +kernel
theorem dJ9_init_0 : decode cJ9_init 0 = .ok (.aload_n 0, 1) := dk_42 (dk_at dksJ9_init_0 0 rfl rfl)
theorem dJ9_init_1 : decode cJ9_init 1 = .ok (.aload_n 1, 1) := dk_43 (dk_at dksJ9_init_0 1 rfl rfl)
theorem dJ9_init_2 : decode cJ9_init 2 = .ok (.invokespecial 7, 3) := dk_183 0 7 (dk_at dksJ9_init_0 2 rfl rfl)
theorem dJ9_init_5 : decode cJ9_init 5 = .ok (.return_, 1) := dk_177 (dk_at dksJ9_init_0 5 rfl rfl)
theorem q83 : (Jvm.Cond.initialized "java/lang/IndexOutOfBoundsException") ∈ lw_all := lw_g (lw_at lw_m1 27 rfl) rfl
theorem q955 : (Jvm.Cond.instanceMethod ({ cls := "java/lang/IndexOutOfBoundsException", name := "<init>", desc := "(Ljava/lang/String;)V" } : Jvm.MethodName)) ∈ lw_all := lw_g (lw_at lw_m4 179 rfl) rfl
theorem q956 : (Jvm.Cond.code ({ cls := "java/lang/IndexOutOfBoundsException", name := "<init>", desc := "(Ljava/lang/String;)V" } : Jvm.MethodName) prog_22_method_2_code (2 : Nat) (Option.none : Option Jvm.ClassFile.FieldType)) ∈ lw_all := lw_g (lw_at lw_m4 180 rfl) rfl
theorem q957 : (Jvm.Cond.methodLink "java/lang/IndexOutOfBoundsException" (7 : Nat) ({ cls := "java/lang/RuntimeException", name := "<init>", desc := "(Ljava/lang/String;)V" } : Jvm.MethodName)) ∈ lw_all := lw_g (lw_at lw_m4 181 rfl) rfl
theorem q966 : (Jvm.Cond.declares ({ cls := "java/lang/IndexOutOfBoundsException", name := "<init>", desc := "()V" } : Jvm.MethodName)) ∈ lw_tbl := lw_at lw_m4 190 rfl
theorem q967 : (Jvm.Cond.declares ({ cls := "java/lang/IndexOutOfBoundsException", name := "<init>", desc := "(Ljava/lang/String;)V" } : Jvm.MethodName)) ∈ lw_tbl := lw_at lw_m4 191 rfl

/-! java/lang/ArrayIndexOutOfBoundsException -/
set_option maxRecDepth 100000
def RJ10 : String := "java/lang/ArrayIndexOutOfBoundsException"
def TJ10 : u_T := fun k => match k with
  | 0 => ("java/lang/Throwable", "backtrace", "Ljava/lang/Object;", false)
  | 1 => ("java/lang/Throwable", "detailMessage", "Ljava/lang/String;", false)
  | 2 => ("java/lang/Throwable", "cause", "Ljava/lang/Throwable;", false)
  | 3 => ("java/lang/Throwable", "stackTrace", "[Ljava/lang/StackTraceElement;", false)
  | 4 => ("java/lang/Throwable", "depth", "I", false)
  | _ => ("java/lang/Throwable", "suppressedExceptions", "Ljava/util/List;", false)
def tyJ10 : Nat → FieldType := fun k => match k with
  | 0 => .object "java/lang/Object"
  | 1 => .object "java/lang/String"
  | 2 => .object "java/lang/Throwable"
  | 3 => .array (.object "java/lang/StackTraceElement")
  | 4 => .int
  | _ => .object "java/util/List"
abbrev wsJ100 : List Cond := u_ws RJ10 TJ10 6
theorem nmJ10 : ∀ a, a < 6 → ∀ b, b < 6 → a ≠ b → (TJ10 a).2.1 ≠ (TJ10 b).2.1 := by decide +kernel
theorem tyJ10_ok : ∀ k, k < 6 → parseFieldDescriptor (TJ10 k).2.2.1 = some (tyJ10 k) := by decide +kernel
abbrev cJ10_init : ByteArray := prog_18_method_2_code
def yJ10_init : MethodName := ⟨RJ10, "<init>", "(Ljava/lang/String;)V"⟩
def dkwJ10_init_0 : List UInt8 := [42, 43, 183, 0, 7, 177]
abbrev dktJ10_init_0 : List UInt8 := dkwJ10_init_0 ++ []
theorem dksJ10_init_0 : cJ10_init.data.toList.drop 0 = dktJ10_init_0 := by decide +kernel
theorem dJ10_init_0 : decode cJ10_init 0 = .ok (.aload_n 0, 1) := dk_42 (dk_at dksJ10_init_0 0 rfl rfl)
theorem dJ10_init_1 : decode cJ10_init 1 = .ok (.aload_n 1, 1) := dk_43 (dk_at dksJ10_init_0 1 rfl rfl)
theorem dJ10_init_2 : decode cJ10_init 2 = .ok (.invokespecial 7, 3) := dk_183 0 7 (dk_at dksJ10_init_0 2 rfl rfl)
theorem dJ10_init_5 : decode cJ10_init 5 = .ok (.return_, 1) := dk_177 (dk_at dksJ10_init_0 5 rfl rfl)
theorem q84 : (Jvm.Cond.initialized "java/lang/ArrayIndexOutOfBoundsException") ∈ lw_all := lw_g (lw_at lw_m1 28 rfl) rfl
theorem q862 : (Jvm.Cond.selects "java/lang/ArrayIndexOutOfBoundsException" ({ cls := "java/lang/Throwable", name := "fillInStackTrace", desc := "()Ljava/lang/Throwable;" } : Jvm.MethodName) ({ cls := "java/lang/Throwable", name := "fillInStackTrace", desc := "()Ljava/lang/Throwable;" } : Jvm.MethodName)) ∈ lw_all := lw_g (lw_at lw_m4 86 rfl) rfl
theorem q951 : (Jvm.Cond.instantiable "java/lang/ArrayIndexOutOfBoundsException" (6 : Nat)) ∈ lw_all := lw_g (lw_at lw_m4 175 rfl) rfl
theorem q952 : (Jvm.Cond.instanceMethod ({ cls := "java/lang/ArrayIndexOutOfBoundsException", name := "<init>", desc := "(Ljava/lang/String;)V" } : Jvm.MethodName)) ∈ lw_all := lw_g (lw_at lw_m4 176 rfl) rfl
theorem q953 : (Jvm.Cond.code ({ cls := "java/lang/ArrayIndexOutOfBoundsException", name := "<init>", desc := "(Ljava/lang/String;)V" } : Jvm.MethodName) prog_18_method_2_code (2 : Nat) (Option.none : Option Jvm.ClassFile.FieldType)) ∈ lw_all := lw_g (lw_at lw_m4 177 rfl) rfl
theorem q954 : (Jvm.Cond.methodLink "java/lang/ArrayIndexOutOfBoundsException" (7 : Nat) ({ cls := "java/lang/IndexOutOfBoundsException", name := "<init>", desc := "(Ljava/lang/String;)V" } : Jvm.MethodName)) ∈ lw_all := lw_g (lw_at lw_m4 178 rfl) rfl
theorem q958 : (Jvm.Cond.lays "java/lang/ArrayIndexOutOfBoundsException" "java/lang/Throwable" "backtrace" "Ljava/lang/Object;") ∈ lw_all := lw_g (lw_at lw_m4 182 rfl) rfl
theorem q959 : (Jvm.Cond.lays "java/lang/ArrayIndexOutOfBoundsException" "java/lang/Throwable" "detailMessage" "Ljava/lang/String;") ∈ lw_all := lw_g (lw_at lw_m4 183 rfl) rfl
theorem q960 : (Jvm.Cond.lays "java/lang/ArrayIndexOutOfBoundsException" "java/lang/Throwable" "cause" "Ljava/lang/Throwable;") ∈ lw_all := lw_g (lw_at lw_m4 184 rfl) rfl
theorem q961 : (Jvm.Cond.lays "java/lang/ArrayIndexOutOfBoundsException" "java/lang/Throwable" "stackTrace" "[Ljava/lang/StackTraceElement;") ∈ lw_all := lw_g (lw_at lw_m4 185 rfl) rfl
theorem q962 : (Jvm.Cond.lays "java/lang/ArrayIndexOutOfBoundsException" "java/lang/Throwable" "depth" "I") ∈ lw_all := lw_g (lw_at lw_m4 186 rfl) rfl
theorem q963 : (Jvm.Cond.lays "java/lang/ArrayIndexOutOfBoundsException" "java/lang/Throwable" "suppressedExceptions" "Ljava/util/List;") ∈ lw_all := lw_g (lw_at lw_m4 187 rfl) rfl
theorem q964 : (Jvm.Cond.superclass "java/lang/ArrayIndexOutOfBoundsException" "java/lang/IndexOutOfBoundsException") ∈ lw_all := lw_g (lw_at lw_m4 188 rfl) rfl
theorem q965 : (Jvm.Cond.castable "java/lang/ArrayIndexOutOfBoundsException" "java/lang/ArrayIndexOutOfBoundsException") ∈ lw_tbl := lw_at lw_m4 189 rfl
theorem q968 : (Jvm.Cond.selects "java/lang/ArrayIndexOutOfBoundsException" ({ cls := "java/lang/Throwable", name := "fillInStackTrace", desc := "(I)Ljava/lang/Throwable;" } : Jvm.MethodName) ({ cls := "java/lang/Throwable", name := "fillInStackTrace", desc := "(I)Ljava/lang/Throwable;" } : Jvm.MethodName)) ∈ lw_all := lw_g (lw_at lw_m4 192 rfl) rfl
theorem in_J10 : ∀ w ∈ wsJ100, w ∈ lw_all := lw_in wsJ100 [958, 959, 960, 961, 962, 963] (by decide +kernel) (by decide +kernel)

/-! java/lang/Object -/
set_option maxRecDepth 100000
def RJ11 : String := "java/lang/Object"
abbrev cJ11_init : ByteArray := object_method_1_code
def yJ11_init : MethodName := ⟨RJ11, "<init>", "()V"⟩
theorem dJ11_init_0 : decode cJ11_init 0 = .ok (.return_, 1) := by decide +kernel
theorem q91 : (Jvm.Cond.instanceMethod ({ cls := "java/lang/Object", name := "<init>", desc := "()V" } : Jvm.MethodName)) ∈ lw_all := lw_g (lw_at lw_m1 35 rfl) rfl
theorem q92 : (Jvm.Cond.code ({ cls := "java/lang/Object", name := "<init>", desc := "()V" } : Jvm.MethodName) object_method_1_code (1 : Nat) (Option.none : Option Jvm.ClassFile.FieldType)) ∈ lw_all := lw_g (lw_at lw_m1 36 rfl) rfl
theorem q659 : (Jvm.Cond.native ({ cls := "java/lang/Object", name := "clone", desc := "()Ljava/lang/Object;" } : Jvm.MethodName)) ∈ lw_all := lw_g (lw_at lw_m3 123 rfl) rfl
theorem q660 : (Jvm.Cond.instanceMethod ({ cls := "java/lang/Object", name := "clone", desc := "()Ljava/lang/Object;" } : Jvm.MethodName)) ∈ lw_all := lw_g (lw_at lw_m3 124 rfl) rfl

theorem q100 : (Jvm.Cond.arrayOver (Jvm.ClassFile.FieldType.object "GlassLog$Log")) ∈ lw_tbl := lw_at lw_m1 44 rfl
set_option maxRecDepth 100000
theorem q102 : (Jvm.Cond.arrayOver (Jvm.ClassFile.FieldType.object "GlassLog$Slot")) ∈ lw_tbl := lw_at lw_m1 46 rfl
theorem q104 : (Jvm.Cond.arrayOver (Jvm.ClassFile.FieldType.object "GlassLog$Head")) ∈ lw_tbl := lw_at lw_m1 48 rfl
theorem q106 : (Jvm.Cond.arrayOver (Jvm.ClassFile.FieldType.object "GlassLog$Watcher")) ∈ lw_tbl := lw_at lw_m1 50 rfl
theorem q113 : (Jvm.Cond.arrayOver (Jvm.ClassFile.FieldType.array Jvm.ClassFile.FieldType.int)) ∈ lw_tbl := lw_at lw_m1 57 rfl
theorem q159 : (Jvm.Cond.arrayClass Jvm.ClassFile.FieldType.int) ∈ lw_all := lw_g (lw_at lw_m1 103 rfl) rfl
theorem q160 : (Jvm.Cond.arrayClass Jvm.ClassFile.FieldType.long) ∈ lw_all := lw_g (lw_at lw_m1 104 rfl) rfl
theorem q161 : (Jvm.Cond.arrayClass Jvm.ClassFile.FieldType.boolean) ∈ lw_all := lw_g (lw_at lw_m1 105 rfl) rfl
theorem q945 : (Jvm.Cond.arrayClass Jvm.ClassFile.FieldType.byte) ∈ lw_all := lw_g (lw_at lw_m4 169 rfl) rfl

theorem q56 : (Jvm.Cond.initialized "GlassLogLaw") ∈ lw_all := lw_g (lw_at lw_m1 0 rfl) rfl
set_option maxRecDepth 100000
theorem q85 : (Jvm.Cond.classLink "GlassLogLaw" (7 : Nat) "GlassLog") ∈ lw_all := lw_g (lw_at lw_m1 29 rfl) rfl
theorem q87 : (Jvm.Cond.methodLink "GlassLogLaw" (9 : Nat) ({ cls := "GlassLog", name := "<init>", desc := "()V" } : Jvm.MethodName)) ∈ lw_all := lw_g (lw_at lw_m1 31 rfl) rfl
theorem q384 : (Jvm.Cond.methodLink "GlassLogLaw" (13 : Nat) ({ cls := "GlassLog", name := "open", desc := "(I)I" } : Jvm.MethodName)) ∈ lw_all := lw_g (lw_at lw_m2 88 rfl) rfl
theorem q396 : (Jvm.Cond.methodLink "GlassLogLaw" (20 : Nat) ({ cls := "GlassLog", name := "add", desc := "(IIJ)I" } : Jvm.MethodName)) ∈ lw_all := lw_g (lw_at lw_m2 100 rfl) rfl
theorem q437 : (Jvm.Cond.methodLink "GlassLogLaw" (25 : Nat) ({ cls := "GlassLog", name := "fork", desc := "(II)I" } : Jvm.MethodName)) ∈ lw_all := lw_g (lw_at lw_m2 141 rfl) rfl
theorem q452 : (Jvm.Cond.methodLink "GlassLogLaw" (30 : Nat) ({ cls := "GlassLog", name := "hide", desc := "(II)Z" } : Jvm.MethodName)) ∈ lw_all := lw_g (lw_at lw_m2 156 rfl) rfl
theorem q464 : (Jvm.Cond.methodLink "GlassLogLaw" (35 : Nat) ({ cls := "GlassLog", name := "lag", desc := "(II)Z" } : Jvm.MethodName)) ∈ lw_all := lw_g (lw_at lw_m2 168 rfl) rfl
theorem q468 : (Jvm.Cond.methodLink "GlassLogLaw" (39 : Nat) ({ cls := "GlassLog", name := "prune", desc := "(II)I" } : Jvm.MethodName)) ∈ lw_all := lw_g (lw_at lw_m2 172 rfl) rfl
theorem q472 : (Jvm.Cond.methodLink "GlassLogLaw" (43 : Nat) ({ cls := "GlassLog", name := "keep", desc := "(II)Z" } : Jvm.MethodName)) ∈ lw_all := lw_g (lw_at lw_m2 176 rfl) rfl
theorem q476 : (Jvm.Cond.methodLink "GlassLogLaw" (47 : Nat) ({ cls := "GlassLog", name := "count", desc := "(II)I" } : Jvm.MethodName)) ∈ lw_all := lw_g (lw_at lw_m2 180 rfl) rfl
theorem q508 : (Jvm.Cond.methodLink "GlassLogLaw" (51 : Nat) ({ cls := "GlassLog", name := "latest", desc := "(III)I" } : Jvm.MethodName)) ∈ lw_all := lw_g (lw_at lw_m2 212 rfl) rfl
theorem q513 : (Jvm.Cond.methodLink "GlassLogLaw" (56 : Nat) ({ cls := "GlassLog", name := "head", desc := "(IIII)I" } : Jvm.MethodName)) ∈ lw_all := lw_g (lw_at lw_m2 217 rfl) rfl
theorem q577 : (Jvm.Cond.methodLink "GlassLogLaw" (61 : Nat) ({ cls := "GlassLog", name := "within", desc := "(IIII)I" } : Jvm.MethodName)) ∈ lw_all := lw_g (lw_at lw_m3 41 rfl) rfl
theorem q668 : (Jvm.Cond.methodLink "GlassLogLaw" (65 : Nat) ({ cls := "GlassLog", name := "grown", desc := "(IIII)I" } : Jvm.MethodName)) ∈ lw_all := lw_g (lw_at lw_m3 132 rfl) rfl
theorem q684 : (Jvm.Cond.methodLink "GlassLogLaw" (69 : Nat) ({ cls := "GlassLog", name := "held", desc := "(IIII)I" } : Jvm.MethodName)) ∈ lw_all := lw_g (lw_at lw_m3 148 rfl) rfl
theorem q718 : (Jvm.Cond.methodLink "GlassLogLaw" (73 : Nat) ({ cls := "GlassLog", name := "absent", desc := "(IIII)I" } : Jvm.MethodName)) ∈ lw_all := lw_g (lw_at lw_m3 182 rfl) rfl
theorem q740 : (Jvm.Cond.methodLink "GlassLogLaw" (77 : Nat) ({ cls := "GlassLog", name := "span", desc := "(IIIII)I" } : Jvm.MethodName)) ∈ lw_all := lw_g (lw_at lw_m3 204 rfl) rfl
theorem q759 : (Jvm.Cond.methodLink "GlassLogLaw" (82 : Nat) ({ cls := "GlassLog", name := "drop", desc := "(I)I" } : Jvm.MethodName)) ∈ lw_all := lw_g (lw_at lw_m3 223 rfl) rfl
theorem q825 : (Jvm.Cond.methodLink "GlassLogLaw" (86 : Nat) ({ cls := "GlassLog", name := "proof", desc := "(II)I" } : Jvm.MethodName)) ∈ lw_all := lw_g (lw_at lw_m4 49 rfl) rfl
theorem q826 : (Jvm.Cond.methodLink "GlassLogLaw" (90 : Nat) ({ cls := "GlassLog", name := "step", desc := "(III)I" } : Jvm.MethodName)) ∈ lw_all := lw_g (lw_at lw_m4 50 rfl) rfl
theorem q833 : (Jvm.Cond.methodLink "GlassLogLaw" (94 : Nat) ({ cls := "GlassLog", name := "bend", desc := "(IIII)Z" } : Jvm.MethodName)) ∈ lw_all := lw_g (lw_at lw_m4 57 rfl) rfl
theorem q837 : (Jvm.Cond.methodLink "GlassLogLaw" (99 : Nat) ({ cls := "GlassLog", name := "forge", desc := "(IIIJ)Z" } : Jvm.MethodName)) ∈ lw_all := lw_g (lw_at lw_m4 61 rfl) rfl
theorem q969 : (Jvm.Cond.methodLink "GlassLogLaw" (104 : Nat) ({ cls := "GlassLog", name := "check", desc := "(III)I" } : Jvm.MethodName)) ∈ lw_all := lw_g (lw_at lw_m4 193 rfl) rfl
theorem q1035 : (Jvm.Cond.methodLink "GlassLogLaw" (108 : Nat) ({ cls := "GlassLog", name := "take", desc := "(III)I" } : Jvm.MethodName)) ∈ lw_all := lw_g (lw_at lw_m5 19 rfl) rfl
theorem q1053 : (Jvm.Cond.methodLink "GlassLogLaw" (112 : Nat) ({ cls := "GlassLog", name := "talk", desc := "(II)I" } : Jvm.MethodName)) ∈ lw_all := lw_g (lw_at lw_m5 37 rfl) rfl
theorem q1057 : (Jvm.Cond.methodLink "GlassLogLaw" (116 : Nat) ({ cls := "GlassLog", name := "reader", desc := "(II)I" } : Jvm.MethodName)) ∈ lw_all := lw_g (lw_at lw_m5 41 rfl) rfl
theorem q1061 : (Jvm.Cond.methodLink "GlassLogLaw" (120 : Nat) ({ cls := "GlassLog", name := "blame", desc := "(II)I" } : Jvm.MethodName)) ∈ lw_all := lw_g (lw_at lw_m5 45 rfl) rfl
theorem q1069 : (Jvm.Cond.methodLink "GlassLogLaw" (124 : Nat) ({ cls := "GlassLog", name := "smear", desc := "(III)Z" } : Jvm.MethodName)) ∈ lw_all := lw_g (lw_at lw_m5 53 rfl) rfl
theorem q1073 : (Jvm.Cond.methodLink "GlassLogLaw" (129 : Nat) ({ cls := "GlassLog", name := "watcher", desc := "(IIII)Z" } : Jvm.MethodName)) ∈ lw_all := lw_g (lw_at lw_m5 57 rfl) rfl
theorem q1077 : (Jvm.Cond.methodLink "GlassLogLaw" (133 : Nat) ({ cls := "GlassLog", name := "watch", desc := "(I)I" } : Jvm.MethodName)) ∈ lw_all := lw_g (lw_at lw_m5 61 rfl) rfl
theorem q1088 : (Jvm.Cond.methodLink "GlassLogLaw" (137 : Nat) ({ cls := "GlassLog", name := "watching", desc := "(II)I" } : Jvm.MethodName)) ∈ lw_all := lw_g (lw_at lw_m5 72 rfl) rfl
theorem q1092 : (Jvm.Cond.methodLink "GlassLogLaw" (141 : Nat) ({ cls := "GlassLog", name := "all", desc := "(I)I" } : Jvm.MethodName)) ∈ lw_all := lw_g (lw_at lw_m5 76 rfl) rfl
theorem q1096 : (Jvm.Cond.methodLink "GlassLogLaw" (145 : Nat) ({ cls := "GlassLog", name := "image", desc := "()Z" } : Jvm.MethodName)) ∈ lw_all := lw_g (lw_at lw_m5 80 rfl) rfl
theorem q1181 : (Jvm.Cond.methodLink "GlassLogLaw" (150 : Nat) ({ cls := "GlassLog", name := "back", desc := "()Z" } : Jvm.MethodName)) ∈ lw_all := lw_g (lw_at lw_m5 165 rfl) rfl
theorem q1185 : (Jvm.Cond.classLink "GlassLogLaw" (10 : Nat) "GlassLogModel") ∈ lw_all := lw_g (lw_at lw_m5 169 rfl) rfl
theorem q1187 : (Jvm.Cond.methodLink "GlassLogLaw" (12 : Nat) ({ cls := "GlassLogModel", name := "<init>", desc := "()V" } : Jvm.MethodName)) ∈ lw_all := lw_g (lw_at lw_m5 171 rfl) rfl
theorem q1391 : (Jvm.Cond.methodLink "GlassLogLaw" (17 : Nat) ({ cls := "GlassLogModel", name := "open", desc := "(I)I" } : Jvm.MethodName)) ∈ lw_all := lw_g (lw_at lw_m6 135 rfl) rfl
theorem q1395 : (Jvm.Cond.methodLink "GlassLogLaw" (24 : Nat) ({ cls := "GlassLogModel", name := "add", desc := "(IIJ)I" } : Jvm.MethodName)) ∈ lw_all := lw_g (lw_at lw_m6 139 rfl) rfl
theorem q1407 : (Jvm.Cond.methodLink "GlassLogLaw" (29 : Nat) ({ cls := "GlassLogModel", name := "fork", desc := "(II)I" } : Jvm.MethodName)) ∈ lw_all := lw_g (lw_at lw_m6 151 rfl) rfl
theorem q1415 : (Jvm.Cond.methodLink "GlassLogLaw" (34 : Nat) ({ cls := "GlassLogModel", name := "hide", desc := "(II)Z" } : Jvm.MethodName)) ∈ lw_all := lw_g (lw_at lw_m6 159 rfl) rfl
theorem q1427 : (Jvm.Cond.methodLink "GlassLogLaw" (38 : Nat) ({ cls := "GlassLogModel", name := "lag", desc := "(II)Z" } : Jvm.MethodName)) ∈ lw_all := lw_g (lw_at lw_m6 171 rfl) rfl
theorem q1431 : (Jvm.Cond.methodLink "GlassLogLaw" (42 : Nat) ({ cls := "GlassLogModel", name := "prune", desc := "(II)I" } : Jvm.MethodName)) ∈ lw_all := lw_g (lw_at lw_m6 175 rfl) rfl
theorem q1435 : (Jvm.Cond.methodLink "GlassLogLaw" (46 : Nat) ({ cls := "GlassLogModel", name := "keep", desc := "(II)Z" } : Jvm.MethodName)) ∈ lw_all := lw_g (lw_at lw_m6 179 rfl) rfl
theorem q1439 : (Jvm.Cond.methodLink "GlassLogLaw" (50 : Nat) ({ cls := "GlassLogModel", name := "count", desc := "(II)I" } : Jvm.MethodName)) ∈ lw_all := lw_g (lw_at lw_m6 183 rfl) rfl
theorem q1472 : (Jvm.Cond.methodLink "GlassLogLaw" (55 : Nat) ({ cls := "GlassLogModel", name := "latest", desc := "(III)I" } : Jvm.MethodName)) ∈ lw_all := lw_g (lw_at lw_m6 216 rfl) rfl
theorem q1476 : (Jvm.Cond.methodLink "GlassLogLaw" (60 : Nat) ({ cls := "GlassLogModel", name := "head", desc := "(IIII)I" } : Jvm.MethodName)) ∈ lw_all := lw_g (lw_at lw_m6 220 rfl) rfl
theorem q1531 : (Jvm.Cond.methodLink "GlassLogLaw" (64 : Nat) ({ cls := "GlassLogModel", name := "within", desc := "(IIII)I" } : Jvm.MethodName)) ∈ lw_all := lw_g (lw_at lw_m7 35 rfl) rfl
theorem q1551 : (Jvm.Cond.methodLink "GlassLogLaw" (68 : Nat) ({ cls := "GlassLogModel", name := "grown", desc := "(IIII)I" } : Jvm.MethodName)) ∈ lw_all := lw_g (lw_at lw_m7 55 rfl) rfl
theorem q1555 : (Jvm.Cond.methodLink "GlassLogLaw" (72 : Nat) ({ cls := "GlassLogModel", name := "held", desc := "(IIII)I" } : Jvm.MethodName)) ∈ lw_all := lw_g (lw_at lw_m7 59 rfl) rfl
theorem q1563 : (Jvm.Cond.methodLink "GlassLogLaw" (76 : Nat) ({ cls := "GlassLogModel", name := "absent", desc := "(IIII)I" } : Jvm.MethodName)) ∈ lw_all := lw_g (lw_at lw_m7 67 rfl) rfl
theorem q1567 : (Jvm.Cond.methodLink "GlassLogLaw" (81 : Nat) ({ cls := "GlassLogModel", name := "span", desc := "(IIIII)I" } : Jvm.MethodName)) ∈ lw_all := lw_g (lw_at lw_m7 71 rfl) rfl
theorem q1571 : (Jvm.Cond.methodLink "GlassLogLaw" (85 : Nat) ({ cls := "GlassLogModel", name := "drop", desc := "(I)I" } : Jvm.MethodName)) ∈ lw_all := lw_g (lw_at lw_m7 75 rfl) rfl
theorem q1575 : (Jvm.Cond.methodLink "GlassLogLaw" (89 : Nat) ({ cls := "GlassLogModel", name := "proof", desc := "(II)I" } : Jvm.MethodName)) ∈ lw_all := lw_g (lw_at lw_m7 79 rfl) rfl
theorem q1579 : (Jvm.Cond.methodLink "GlassLogLaw" (93 : Nat) ({ cls := "GlassLogModel", name := "step", desc := "(III)I" } : Jvm.MethodName)) ∈ lw_all := lw_g (lw_at lw_m7 83 rfl) rfl
theorem q1587 : (Jvm.Cond.methodLink "GlassLogLaw" (98 : Nat) ({ cls := "GlassLogModel", name := "bend", desc := "(IIII)Z" } : Jvm.MethodName)) ∈ lw_all := lw_g (lw_at lw_m7 91 rfl) rfl
theorem q1591 : (Jvm.Cond.methodLink "GlassLogLaw" (103 : Nat) ({ cls := "GlassLogModel", name := "forge", desc := "(IIIJ)Z" } : Jvm.MethodName)) ∈ lw_all := lw_g (lw_at lw_m7 95 rfl) rfl
theorem q1595 : (Jvm.Cond.methodLink "GlassLogLaw" (107 : Nat) ({ cls := "GlassLogModel", name := "check", desc := "(III)I" } : Jvm.MethodName)) ∈ lw_all := lw_g (lw_at lw_m7 99 rfl) rfl
theorem q1622 : (Jvm.Cond.methodLink "GlassLogLaw" (111 : Nat) ({ cls := "GlassLogModel", name := "take", desc := "(III)I" } : Jvm.MethodName)) ∈ lw_all := lw_g (lw_at lw_m7 126 rfl) rfl
theorem q1637 : (Jvm.Cond.methodLink "GlassLogLaw" (115 : Nat) ({ cls := "GlassLogModel", name := "talk", desc := "(II)I" } : Jvm.MethodName)) ∈ lw_all := lw_g (lw_at lw_m7 141 rfl) rfl
theorem q1641 : (Jvm.Cond.methodLink "GlassLogLaw" (119 : Nat) ({ cls := "GlassLogModel", name := "reader", desc := "(II)I" } : Jvm.MethodName)) ∈ lw_all := lw_g (lw_at lw_m7 145 rfl) rfl
theorem q1645 : (Jvm.Cond.methodLink "GlassLogLaw" (123 : Nat) ({ cls := "GlassLogModel", name := "blame", desc := "(II)I" } : Jvm.MethodName)) ∈ lw_all := lw_g (lw_at lw_m7 149 rfl) rfl
theorem q1653 : (Jvm.Cond.methodLink "GlassLogLaw" (128 : Nat) ({ cls := "GlassLogModel", name := "smear", desc := "(III)Z" } : Jvm.MethodName)) ∈ lw_all := lw_g (lw_at lw_m7 157 rfl) rfl
theorem q1657 : (Jvm.Cond.methodLink "GlassLogLaw" (132 : Nat) ({ cls := "GlassLogModel", name := "watcher", desc := "(IIII)Z" } : Jvm.MethodName)) ∈ lw_all := lw_g (lw_at lw_m7 161 rfl) rfl
theorem q1665 : (Jvm.Cond.methodLink "GlassLogLaw" (136 : Nat) ({ cls := "GlassLogModel", name := "watch", desc := "(I)I" } : Jvm.MethodName)) ∈ lw_all := lw_g (lw_at lw_m7 169 rfl) rfl
theorem q1669 : (Jvm.Cond.methodLink "GlassLogLaw" (140 : Nat) ({ cls := "GlassLogModel", name := "watching", desc := "(II)I" } : Jvm.MethodName)) ∈ lw_all := lw_g (lw_at lw_m7 173 rfl) rfl
theorem q1673 : (Jvm.Cond.methodLink "GlassLogLaw" (144 : Nat) ({ cls := "GlassLogModel", name := "all", desc := "(I)I" } : Jvm.MethodName)) ∈ lw_all := lw_g (lw_at lw_m7 177 rfl) rfl
theorem q1677 : (Jvm.Cond.methodLink "GlassLogLaw" (149 : Nat) ({ cls := "GlassLogModel", name := "image", desc := "()Z" } : Jvm.MethodName)) ∈ lw_all := lw_g (lw_at lw_m7 181 rfl) rfl
theorem q1690 : (Jvm.Cond.methodLink "GlassLogLaw" (153 : Nat) ({ cls := "GlassLogModel", name := "back", desc := "()Z" } : Jvm.MethodName)) ∈ lw_all := lw_g (lw_at lw_m7 194 rfl) rfl
theorem q1694 : (Jvm.Cond.constantLong "GlassLogLaw" (18 : Nat) (4294967295 : Int64)) ∈ lw_all := lw_g (lw_at lw_m7 198 rfl) rfl

theorem q67 : (Jvm.Cond.initialized "java/lang/System") ∈ lw_all := lw_g (lw_at lw_m1 11 rfl) rfl
set_option maxRecDepth 100000
theorem q450 : (Jvm.Cond.static ({ cls := "java/lang/System", name := "arraycopy", desc := "(Ljava/lang/Object;ILjava/lang/Object;II)V" } : Jvm.MethodName)) ∈ lw_all := lw_g (lw_at lw_m2 154 rfl) rfl
theorem q451 : (Jvm.Cond.native ({ cls := "java/lang/System", name := "arraycopy", desc := "(Ljava/lang/Object;ILjava/lang/Object;II)V" } : Jvm.MethodName)) ∈ lw_all := lw_g (lw_at lw_m2 155 rfl) rfl

theorem q658 : (Jvm.Cond.sameMethod "[I" "java/lang/Object" "clone" "()Ljava/lang/Object;") ∈ lw_all := lw_g (lw_at lw_m3 122 rfl) rfl
set_option maxRecDepth 100000
theorem q661 : (Jvm.Cond.selects "[I" ({ cls := "[I", name := "clone", desc := "()Ljava/lang/Object;" } : Jvm.MethodName) ({ cls := "java/lang/Object", name := "clone", desc := "()Ljava/lang/Object;" } : Jvm.MethodName)) ∈ lw_all := lw_g (lw_at lw_m3 125 rfl) rfl
theorem q662 : (Jvm.Cond.castable "[I" "java/lang/Cloneable") ∈ lw_tbl := lw_at lw_m3 126 rfl

theorem q1158 : (Jvm.Cond.sameMethod "[J" "java/lang/Object" "clone" "()Ljava/lang/Object;") ∈ lw_all := lw_g (lw_at lw_m5 142 rfl) rfl
set_option maxRecDepth 100000
theorem q1159 : (Jvm.Cond.selects "[J" ({ cls := "[J", name := "clone", desc := "()Ljava/lang/Object;" } : Jvm.MethodName) ({ cls := "java/lang/Object", name := "clone", desc := "()Ljava/lang/Object;" } : Jvm.MethodName)) ∈ lw_all := lw_g (lw_at lw_m5 143 rfl) rfl
theorem q1160 : (Jvm.Cond.castable "[J" "java/lang/Cloneable") ∈ lw_tbl := lw_at lw_m5 144 rfl

/-! GlassLog$House -/
set_option maxRecDepth 100000
def RX1 : String := "GlassLog$House"
def TX1 : u_T := fun k => match k with
  | 0 => ("GlassLog$House", "logs", "[LGlassLog$Log;", true)
  | 1 => ("GlassLog$House", "slots", "[LGlassLog$Slot;", true)
  | 2 => ("GlassLog$House", "heads", "[LGlassLog$Head;", true)
  | 3 => ("GlassLog$House", "blamed", "[LGlassLog$Head;", true)
  | 4 => ("GlassLog$House", "watchers", "[LGlassLog$Watcher;", true)
  | 5 => ("GlassLog$House", "blames", "[I", true)
  | 6 => ("GlassLog$House", "opened", "I", false)
  | _ => ("GlassLog$House", "blame", "I", false)
def tyX1 : Nat → FieldType := fun k => match k with
  | 0 => .array (.object "GlassLog$Log")
  | 1 => .array (.object "GlassLog$Slot")
  | 2 => .array (.object "GlassLog$Head")
  | 3 => .array (.object "GlassLog$Head")
  | 4 => .array (.object "GlassLog$Watcher")
  | 5 => .array .int
  | 6 => .int
  | _ => .int
abbrev wsX10 : List Cond := u_ws RX1 TX1 8
theorem nmX1 : ∀ a, a < 8 → ∀ b, b < 8 → a ≠ b → (TX1 a).2.1 ≠ (TX1 b).2.1 := by decide +kernel
theorem tyX1_ok : ∀ k, k < 8 → parseFieldDescriptor (TX1 k).2.2.1 = some (tyX1 k) := by decide +kernel
abbrev cX1_init : ByteArray := prog_6_method_1_code
def yX1_init : MethodName := ⟨RX1, "<init>", "()V"⟩
def dkwX1_init_8 : List UInt8 := [132, 1, 1, 167, 255, 234, 177]
abbrev dktX1_init_8 : List UInt8 := dkwX1_init_8 ++ []
def dkwX1_init_7 : List UInt8 := [167, 255, 234, 3, 60, 27, 16, 8, 162, 0, 22, 42, 180, 0, 34, 27, 187, 0, 32, 89, 183, 0, 45, 83]
abbrev dktX1_init_7 : List UInt8 := dkwX1_init_7 ++ dktX1_init_8
def dkwX1_init_6 : List UInt8 := [27, 16, 120, 162, 0, 22, 42, 180, 0, 29, 27, 187, 0, 23, 89, 183, 0, 44, 83, 132, 1, 1]
abbrev dktX1_init_6 : List UInt8 := dkwX1_init_6 ++ dktX1_init_7
def dkwX1_init_5 : List UInt8 := [162, 0, 22, 42, 180, 0, 25, 27, 187, 0, 23, 89, 183, 0, 44, 83, 132, 1, 1, 167, 255, 234, 3, 60]
abbrev dktX1_init_5 : List UInt8 := dkwX1_init_5 ++ dktX1_init_6
def dkwX1_init_4 : List UInt8 := [180, 0, 19, 27, 187, 0, 17, 89, 183, 0, 43, 83, 132, 1, 1, 167, 255, 234, 3, 60, 27, 16, 12]
abbrev dktX1_init_4 : List UInt8 := dkwX1_init_4 ++ dktX1_init_5
def dkwX1_init_3 : List UInt8 := [187, 0, 9, 89, 183, 0, 42, 83, 132, 1, 1, 167, 255, 234, 3, 60, 27, 16, 16, 162, 0, 22, 42]
abbrev dktX1_init_3 : List UInt8 := dkwX1_init_3 ++ dktX1_init_4
def dkwX1_init_2 : List UInt8 := [181, 0, 34, 42, 16, 12, 188, 10, 181, 0, 38, 3, 60, 27, 16, 6, 162, 0, 22, 42, 180, 0, 11, 27]
abbrev dktX1_init_2 : List UInt8 := dkwX1_init_2 ++ dktX1_init_3
def dkwX1_init_1 : List UInt8 := [16, 12, 189, 0, 23, 181, 0, 25, 42, 16, 120, 189, 0, 23, 181, 0, 29, 42, 16, 8, 189, 0, 32]
abbrev dktX1_init_1 : List UInt8 := dkwX1_init_1 ++ dktX1_init_2
def dkwX1_init_0 : List UInt8 := [42, 183, 0, 3, 42, 16, 6, 189, 0, 9, 181, 0, 11, 42, 16, 16, 189, 0, 17, 181, 0, 19, 42]
abbrev dktX1_init_0 : List UInt8 := dkwX1_init_0 ++ dktX1_init_1
theorem dksX1_init_0 : cX1_init.data.toList.drop 0 = dktX1_init_0 := by decide +kernel
theorem dksX1_init_1 : cX1_init.data.toList.drop 23 = dktX1_init_1 := dk_seg dksX1_init_0 23 rfl rfl
theorem dksX1_init_2 : cX1_init.data.toList.drop 46 = dktX1_init_2 := dk_seg dksX1_init_1 23 rfl rfl
theorem dksX1_init_3 : cX1_init.data.toList.drop 70 = dktX1_init_3 := dk_seg dksX1_init_2 24 rfl rfl
theorem dksX1_init_4 : cX1_init.data.toList.drop 93 = dktX1_init_4 := dk_seg dksX1_init_3 23 rfl rfl
theorem dksX1_init_5 : cX1_init.data.toList.drop 116 = dktX1_init_5 := dk_seg dksX1_init_4 23 rfl rfl
theorem dksX1_init_6 : cX1_init.data.toList.drop 140 = dktX1_init_6 := dk_seg dksX1_init_5 24 rfl rfl
theorem dksX1_init_7 : cX1_init.data.toList.drop 162 = dktX1_init_7 := dk_seg dksX1_init_6 22 rfl rfl
theorem dksX1_init_8 : cX1_init.data.toList.drop 186 = dktX1_init_8 := dk_seg dksX1_init_7 24 rfl rfl
theorem dX1_init_0 : decode cX1_init 0 = .ok (.aload_n 0, 1) := dk_42 (dk_at dksX1_init_0 0 rfl rfl)
theorem dX1_init_1 : decode cX1_init 1 = .ok (.invokespecial 3, 3) := dk_183 0 3 (dk_at dksX1_init_0 1 rfl rfl)
theorem dX1_init_4 : decode cX1_init 4 = .ok (.aload_n 0, 1) := dk_42 (dk_at dksX1_init_0 4 rfl rfl)
theorem dX1_init_5 : decode cX1_init 5 = .ok (.bipush 6, 2) := dk_16 6 (dk_at dksX1_init_0 5 rfl rfl)
theorem dX1_init_7 : decode cX1_init 7 = .ok (.anewarray 9, 3) := dk_189 0 9 (dk_at dksX1_init_0 7 rfl rfl)
theorem dX1_init_10 : decode cX1_init 10 = .ok (.putfield 11, 3) := dk_181 0 11 (dk_at dksX1_init_0 10 rfl rfl)
theorem dX1_init_13 : decode cX1_init 13 = .ok (.aload_n 0, 1) := dk_42 (dk_at dksX1_init_0 13 rfl rfl)
theorem dX1_init_14 : decode cX1_init 14 = .ok (.bipush 16, 2) := dk_16 16 (dk_at dksX1_init_0 14 rfl rfl)
theorem dX1_init_16 : decode cX1_init 16 = .ok (.anewarray 17, 3) := dk_189 0 17 (dk_at dksX1_init_0 16 rfl rfl)
theorem dX1_init_19 : decode cX1_init 19 = .ok (.putfield 19, 3) := dk_181 0 19 (dk_at dksX1_init_0 19 rfl rfl)
theorem dX1_init_22 : decode cX1_init 22 = .ok (.aload_n 0, 1) := dk_42 (dk_at dksX1_init_0 22 rfl rfl)
theorem dX1_init_23 : decode cX1_init 23 = .ok (.bipush 12, 2) := dk_16 12 (dk_at dksX1_init_1 0 rfl rfl)
theorem dX1_init_25 : decode cX1_init 25 = .ok (.anewarray 23, 3) := dk_189 0 23 (dk_at dksX1_init_1 2 rfl rfl)
theorem dX1_init_28 : decode cX1_init 28 = .ok (.putfield 25, 3) := dk_181 0 25 (dk_at dksX1_init_1 5 rfl rfl)
theorem dX1_init_31 : decode cX1_init 31 = .ok (.aload_n 0, 1) := dk_42 (dk_at dksX1_init_1 8 rfl rfl)
theorem dX1_init_32 : decode cX1_init 32 = .ok (.bipush 120, 2) := dk_16 120 (dk_at dksX1_init_1 9 rfl rfl)
theorem dX1_init_34 : decode cX1_init 34 = .ok (.anewarray 23, 3) := dk_189 0 23 (dk_at dksX1_init_1 11 rfl rfl)
theorem dX1_init_37 : decode cX1_init 37 = .ok (.putfield 29, 3) := dk_181 0 29 (dk_at dksX1_init_1 14 rfl rfl)
theorem dX1_init_40 : decode cX1_init 40 = .ok (.aload_n 0, 1) := dk_42 (dk_at dksX1_init_1 17 rfl rfl)
theorem dX1_init_41 : decode cX1_init 41 = .ok (.bipush 8, 2) := dk_16 8 (dk_at dksX1_init_1 18 rfl rfl)
theorem dX1_init_43 : decode cX1_init 43 = .ok (.anewarray 32, 3) := dk_189 0 32 (dk_at dksX1_init_1 20 rfl rfl)
theorem dX1_init_46 : decode cX1_init 46 = .ok (.putfield 34, 3) := dk_181 0 34 (dk_at dksX1_init_2 0 rfl rfl)
theorem dX1_init_49 : decode cX1_init 49 = .ok (.aload_n 0, 1) := dk_42 (dk_at dksX1_init_2 3 rfl rfl)
theorem dX1_init_50 : decode cX1_init 50 = .ok (.bipush 12, 2) := dk_16 12 (dk_at dksX1_init_2 4 rfl rfl)
theorem dX1_init_52 : decode cX1_init 52 = .ok (.newarray .int, 2) := dk_188_10 (dk_at dksX1_init_2 6 rfl rfl)
theorem dX1_init_54 : decode cX1_init 54 = .ok (.putfield 38, 3) := dk_181 0 38 (dk_at dksX1_init_2 8 rfl rfl)
theorem dX1_init_57 : decode cX1_init 57 = .ok (.iconst 0, 1) := dk_3 (dk_at dksX1_init_2 11 rfl rfl)
theorem dX1_init_58 : decode cX1_init 58 = .ok (.istore_n 1, 1) := dk_60 (dk_at dksX1_init_2 12 rfl rfl)
theorem dX1_init_59 : decode cX1_init 59 = .ok (.iload_n 1, 1) := dk_27 (dk_at dksX1_init_2 13 rfl rfl)
theorem dX1_init_60 : decode cX1_init 60 = .ok (.bipush 6, 2) := dk_16 6 (dk_at dksX1_init_2 14 rfl rfl)
theorem dX1_init_62 : decode cX1_init 62 = .ok (.if_icmp .ge 22, 3) := dk_162 0 22 (dk_at dksX1_init_2 16 rfl rfl)
theorem dX1_init_65 : decode cX1_init 65 = .ok (.aload_n 0, 1) := dk_42 (dk_at dksX1_init_2 19 rfl rfl)
theorem dX1_init_66 : decode cX1_init 66 = .ok (.getfield 11, 3) := dk_180 0 11 (dk_at dksX1_init_2 20 rfl rfl)
theorem dX1_init_69 : decode cX1_init 69 = .ok (.iload_n 1, 1) := dk_27 (dk_at dksX1_init_2 23 rfl rfl)
theorem dX1_init_70 : decode cX1_init 70 = .ok (.new 9, 3) := dk_187 0 9 (dk_at dksX1_init_3 0 rfl rfl)
theorem dX1_init_73 : decode cX1_init 73 = .ok (.dup, 1) := dk_89 (dk_at dksX1_init_3 3 rfl rfl)
theorem dX1_init_74 : decode cX1_init 74 = .ok (.invokespecial 42, 3) := dk_183 0 42 (dk_at dksX1_init_3 4 rfl rfl)
theorem dX1_init_77 : decode cX1_init 77 = .ok (.aastore, 1) := dk_83 (dk_at dksX1_init_3 7 rfl rfl)
theorem dX1_init_78 : decode cX1_init 78 = .ok (.iinc 1 1, 3) := dk_132 1 1 (dk_at dksX1_init_3 8 rfl rfl)
theorem dX1_init_81 : decode cX1_init 81 = .ok (.goto (-22), 3) := dk_167 255 234 (dk_at dksX1_init_3 11 rfl rfl)
theorem dX1_init_84 : decode cX1_init 84 = .ok (.iconst 0, 1) := dk_3 (dk_at dksX1_init_3 14 rfl rfl)
theorem dX1_init_85 : decode cX1_init 85 = .ok (.istore_n 1, 1) := dk_60 (dk_at dksX1_init_3 15 rfl rfl)
theorem dX1_init_86 : decode cX1_init 86 = .ok (.iload_n 1, 1) := dk_27 (dk_at dksX1_init_3 16 rfl rfl)
theorem dX1_init_87 : decode cX1_init 87 = .ok (.bipush 16, 2) := dk_16 16 (dk_at dksX1_init_3 17 rfl rfl)
theorem dX1_init_89 : decode cX1_init 89 = .ok (.if_icmp .ge 22, 3) := dk_162 0 22 (dk_at dksX1_init_3 19 rfl rfl)
theorem dX1_init_92 : decode cX1_init 92 = .ok (.aload_n 0, 1) := dk_42 (dk_at dksX1_init_3 22 rfl rfl)
theorem dX1_init_93 : decode cX1_init 93 = .ok (.getfield 19, 3) := dk_180 0 19 (dk_at dksX1_init_4 0 rfl rfl)
theorem dX1_init_96 : decode cX1_init 96 = .ok (.iload_n 1, 1) := dk_27 (dk_at dksX1_init_4 3 rfl rfl)
theorem dX1_init_97 : decode cX1_init 97 = .ok (.new 17, 3) := dk_187 0 17 (dk_at dksX1_init_4 4 rfl rfl)
theorem dX1_init_100 : decode cX1_init 100 = .ok (.dup, 1) := dk_89 (dk_at dksX1_init_4 7 rfl rfl)
theorem dX1_init_101 : decode cX1_init 101 = .ok (.invokespecial 43, 3) := dk_183 0 43 (dk_at dksX1_init_4 8 rfl rfl)
theorem dX1_init_104 : decode cX1_init 104 = .ok (.aastore, 1) := dk_83 (dk_at dksX1_init_4 11 rfl rfl)
theorem dX1_init_105 : decode cX1_init 105 = .ok (.iinc 1 1, 3) := dk_132 1 1 (dk_at dksX1_init_4 12 rfl rfl)
theorem dX1_init_108 : decode cX1_init 108 = .ok (.goto (-22), 3) := dk_167 255 234 (dk_at dksX1_init_4 15 rfl rfl)
theorem dX1_init_111 : decode cX1_init 111 = .ok (.iconst 0, 1) := dk_3 (dk_at dksX1_init_4 18 rfl rfl)
theorem dX1_init_112 : decode cX1_init 112 = .ok (.istore_n 1, 1) := dk_60 (dk_at dksX1_init_4 19 rfl rfl)
theorem dX1_init_113 : decode cX1_init 113 = .ok (.iload_n 1, 1) := dk_27 (dk_at dksX1_init_4 20 rfl rfl)
theorem dX1_init_114 : decode cX1_init 114 = .ok (.bipush 12, 2) := dk_16 12 (dk_at dksX1_init_4 21 rfl rfl)
theorem dX1_init_116 : decode cX1_init 116 = .ok (.if_icmp .ge 22, 3) := dk_162 0 22 (dk_at dksX1_init_5 0 rfl rfl)
theorem dX1_init_119 : decode cX1_init 119 = .ok (.aload_n 0, 1) := dk_42 (dk_at dksX1_init_5 3 rfl rfl)
theorem dX1_init_120 : decode cX1_init 120 = .ok (.getfield 25, 3) := dk_180 0 25 (dk_at dksX1_init_5 4 rfl rfl)
theorem dX1_init_123 : decode cX1_init 123 = .ok (.iload_n 1, 1) := dk_27 (dk_at dksX1_init_5 7 rfl rfl)
theorem dX1_init_124 : decode cX1_init 124 = .ok (.new 23, 3) := dk_187 0 23 (dk_at dksX1_init_5 8 rfl rfl)
theorem dX1_init_127 : decode cX1_init 127 = .ok (.dup, 1) := dk_89 (dk_at dksX1_init_5 11 rfl rfl)
theorem dX1_init_128 : decode cX1_init 128 = .ok (.invokespecial 44, 3) := dk_183 0 44 (dk_at dksX1_init_5 12 rfl rfl)
theorem dX1_init_131 : decode cX1_init 131 = .ok (.aastore, 1) := dk_83 (dk_at dksX1_init_5 15 rfl rfl)
theorem dX1_init_132 : decode cX1_init 132 = .ok (.iinc 1 1, 3) := dk_132 1 1 (dk_at dksX1_init_5 16 rfl rfl)
theorem dX1_init_135 : decode cX1_init 135 = .ok (.goto (-22), 3) := dk_167 255 234 (dk_at dksX1_init_5 19 rfl rfl)
theorem dX1_init_138 : decode cX1_init 138 = .ok (.iconst 0, 1) := dk_3 (dk_at dksX1_init_5 22 rfl rfl)
theorem dX1_init_139 : decode cX1_init 139 = .ok (.istore_n 1, 1) := dk_60 (dk_at dksX1_init_5 23 rfl rfl)
theorem dX1_init_140 : decode cX1_init 140 = .ok (.iload_n 1, 1) := dk_27 (dk_at dksX1_init_6 0 rfl rfl)
theorem dX1_init_141 : decode cX1_init 141 = .ok (.bipush 120, 2) := dk_16 120 (dk_at dksX1_init_6 1 rfl rfl)
theorem dX1_init_143 : decode cX1_init 143 = .ok (.if_icmp .ge 22, 3) := dk_162 0 22 (dk_at dksX1_init_6 3 rfl rfl)
theorem dX1_init_146 : decode cX1_init 146 = .ok (.aload_n 0, 1) := dk_42 (dk_at dksX1_init_6 6 rfl rfl)
theorem dX1_init_147 : decode cX1_init 147 = .ok (.getfield 29, 3) := dk_180 0 29 (dk_at dksX1_init_6 7 rfl rfl)
theorem dX1_init_150 : decode cX1_init 150 = .ok (.iload_n 1, 1) := dk_27 (dk_at dksX1_init_6 10 rfl rfl)
theorem dX1_init_151 : decode cX1_init 151 = .ok (.new 23, 3) := dk_187 0 23 (dk_at dksX1_init_6 11 rfl rfl)
theorem dX1_init_154 : decode cX1_init 154 = .ok (.dup, 1) := dk_89 (dk_at dksX1_init_6 14 rfl rfl)
theorem dX1_init_155 : decode cX1_init 155 = .ok (.invokespecial 44, 3) := dk_183 0 44 (dk_at dksX1_init_6 15 rfl rfl)
theorem dX1_init_158 : decode cX1_init 158 = .ok (.aastore, 1) := dk_83 (dk_at dksX1_init_6 18 rfl rfl)
theorem dX1_init_159 : decode cX1_init 159 = .ok (.iinc 1 1, 3) := dk_132 1 1 (dk_at dksX1_init_6 19 rfl rfl)
theorem dX1_init_162 : decode cX1_init 162 = .ok (.goto (-22), 3) := dk_167 255 234 (dk_at dksX1_init_7 0 rfl rfl)
theorem dX1_init_165 : decode cX1_init 165 = .ok (.iconst 0, 1) := dk_3 (dk_at dksX1_init_7 3 rfl rfl)
theorem dX1_init_166 : decode cX1_init 166 = .ok (.istore_n 1, 1) := dk_60 (dk_at dksX1_init_7 4 rfl rfl)
theorem dX1_init_167 : decode cX1_init 167 = .ok (.iload_n 1, 1) := dk_27 (dk_at dksX1_init_7 5 rfl rfl)
theorem dX1_init_168 : decode cX1_init 168 = .ok (.bipush 8, 2) := dk_16 8 (dk_at dksX1_init_7 6 rfl rfl)
theorem dX1_init_170 : decode cX1_init 170 = .ok (.if_icmp .ge 22, 3) := dk_162 0 22 (dk_at dksX1_init_7 8 rfl rfl)
theorem dX1_init_173 : decode cX1_init 173 = .ok (.aload_n 0, 1) := dk_42 (dk_at dksX1_init_7 11 rfl rfl)
theorem dX1_init_174 : decode cX1_init 174 = .ok (.getfield 34, 3) := dk_180 0 34 (dk_at dksX1_init_7 12 rfl rfl)
theorem dX1_init_177 : decode cX1_init 177 = .ok (.iload_n 1, 1) := dk_27 (dk_at dksX1_init_7 15 rfl rfl)
theorem dX1_init_178 : decode cX1_init 178 = .ok (.new 32, 3) := dk_187 0 32 (dk_at dksX1_init_7 16 rfl rfl)
theorem dX1_init_181 : decode cX1_init 181 = .ok (.dup, 1) := dk_89 (dk_at dksX1_init_7 19 rfl rfl)
theorem dX1_init_182 : decode cX1_init 182 = .ok (.invokespecial 45, 3) := dk_183 0 45 (dk_at dksX1_init_7 20 rfl rfl)
theorem dX1_init_185 : decode cX1_init 185 = .ok (.aastore, 1) := dk_83 (dk_at dksX1_init_7 23 rfl rfl)
theorem dX1_init_186 : decode cX1_init 186 = .ok (.iinc 1 1, 3) := dk_132 1 1 (dk_at dksX1_init_8 0 rfl rfl)
theorem dX1_init_189 : decode cX1_init 189 = .ok (.goto (-22), 3) := dk_167 255 234 (dk_at dksX1_init_8 3 rfl rfl)
theorem dX1_init_192 : decode cX1_init 192 = .ok (.return_, 1) := dk_177 (dk_at dksX1_init_8 6 rfl rfl)
abbrev cX1_become : ByteArray := prog_6_method_2_code
def yX1_become : MethodName := ⟨RX1, "become", "(LGlassLog$House;)V"⟩
def dkwX1_become_9 : List UInt8 := [167, 255, 232, 177]
abbrev dktX1_become_9 : List UInt8 := dkwX1_become_9 ++ []
def dkwX1_become_8 : List UInt8 := [16, 8, 162, 0, 24, 42, 180, 0, 34, 28, 50, 43, 180, 0, 34, 28, 50, 182, 0, 73, 132, 2, 1]
abbrev dktX1_become_8 : List UInt8 := dkwX1_become_8 ++ dktX1_become_9
def dkwX1_become_7 : List UInt8 := [42, 180, 0, 29, 28, 50, 43, 180, 0, 29, 28, 50, 182, 0, 70, 132, 2, 1, 167, 255, 228, 3, 61, 28]
abbrev dktX1_become_7 : List UInt8 := dkwX1_become_7 ++ dktX1_become_8
def dkwX1_become_6 : List UInt8 := [180, 0, 38, 28, 46, 79, 132, 2, 1, 167, 255, 220, 3, 61, 28, 5, 42, 180, 0, 50, 104, 162, 0, 24]
abbrev dktX1_become_6 : List UInt8 := dkwX1_become_6 ++ dktX1_become_7
def dkwX1_become_5 : List UInt8 := [162, 0, 36, 42, 180, 0, 25, 28, 50, 43, 180, 0, 25, 28, 50, 182, 0, 70, 42, 180, 0, 38, 28, 43]
abbrev dktX1_become_5 : List UInt8 := dkwX1_become_5 ++ dktX1_become_6
def dkwX1_become_4 : List UInt8 := [180, 0, 60, 192, 0, 64, 182, 0, 66, 181, 0, 60, 132, 2, 1, 167, 255, 207, 3, 61, 28, 16, 12]
abbrev dktX1_become_4 : List UInt8 := dkwX1_become_4 ++ dktX1_become_5
def dkwX1_become_3 : List UInt8 := [43, 180, 0, 19, 28, 50, 180, 0, 60, 199, 0, 7, 1, 167, 0, 18, 43, 180, 0, 19, 28, 50]
abbrev dktX1_become_3 : List UInt8 := dkwX1_become_3 ++ dktX1_become_4
def dkwX1_become_2 : List UInt8 := [4, 182, 0, 56, 132, 2, 1, 167, 255, 220, 3, 61, 28, 16, 16, 162, 0, 49, 42, 180, 0, 19, 28, 50]
abbrev dktX1_become_2 : List UInt8 := dkwX1_become_2 ++ dktX1_become_3
def dkwX1_become_1 : List UInt8 := [162, 0, 34, 42, 180, 0, 11, 28, 50, 43, 180, 0, 11, 28, 50, 43, 180, 0, 11, 28, 50, 180, 0, 53]
abbrev dktX1_become_1 : List UInt8 := dkwX1_become_1 ++ dktX1_become_2
def dkwX1_become_0 : List UInt8 := [42, 43, 180, 0, 46, 181, 0, 46, 42, 43, 180, 0, 50, 181, 0, 50, 3, 61, 28, 42, 180, 0, 46]
abbrev dktX1_become_0 : List UInt8 := dkwX1_become_0 ++ dktX1_become_1
theorem dksX1_become_0 : cX1_become.data.toList.drop 0 = dktX1_become_0 := by decide +kernel
theorem dksX1_become_1 : cX1_become.data.toList.drop 23 = dktX1_become_1 := dk_seg dksX1_become_0 23 rfl rfl
theorem dksX1_become_2 : cX1_become.data.toList.drop 47 = dktX1_become_2 := dk_seg dksX1_become_1 24 rfl rfl
theorem dksX1_become_3 : cX1_become.data.toList.drop 71 = dktX1_become_3 := dk_seg dksX1_become_2 24 rfl rfl
theorem dksX1_become_4 : cX1_become.data.toList.drop 93 = dktX1_become_4 := dk_seg dksX1_become_3 22 rfl rfl
theorem dksX1_become_5 : cX1_become.data.toList.drop 116 = dktX1_become_5 := dk_seg dksX1_become_4 23 rfl rfl
theorem dksX1_become_6 : cX1_become.data.toList.drop 140 = dktX1_become_6 := dk_seg dksX1_become_5 24 rfl rfl
theorem dksX1_become_7 : cX1_become.data.toList.drop 164 = dktX1_become_7 := dk_seg dksX1_become_6 24 rfl rfl
theorem dksX1_become_8 : cX1_become.data.toList.drop 188 = dktX1_become_8 := dk_seg dksX1_become_7 24 rfl rfl
theorem dksX1_become_9 : cX1_become.data.toList.drop 211 = dktX1_become_9 := dk_seg dksX1_become_8 23 rfl rfl
theorem dX1_become_0 : decode cX1_become 0 = .ok (.aload_n 0, 1) := dk_42 (dk_at dksX1_become_0 0 rfl rfl)
theorem dX1_become_1 : decode cX1_become 1 = .ok (.aload_n 1, 1) := dk_43 (dk_at dksX1_become_0 1 rfl rfl)
theorem dX1_become_2 : decode cX1_become 2 = .ok (.getfield 46, 3) := dk_180 0 46 (dk_at dksX1_become_0 2 rfl rfl)
theorem dX1_become_5 : decode cX1_become 5 = .ok (.putfield 46, 3) := dk_181 0 46 (dk_at dksX1_become_0 5 rfl rfl)
theorem dX1_become_8 : decode cX1_become 8 = .ok (.aload_n 0, 1) := dk_42 (dk_at dksX1_become_0 8 rfl rfl)
theorem dX1_become_9 : decode cX1_become 9 = .ok (.aload_n 1, 1) := dk_43 (dk_at dksX1_become_0 9 rfl rfl)
theorem dX1_become_10 : decode cX1_become 10 = .ok (.getfield 50, 3) := dk_180 0 50 (dk_at dksX1_become_0 10 rfl rfl)
theorem dX1_become_13 : decode cX1_become 13 = .ok (.putfield 50, 3) := dk_181 0 50 (dk_at dksX1_become_0 13 rfl rfl)
theorem dX1_become_16 : decode cX1_become 16 = .ok (.iconst 0, 1) := dk_3 (dk_at dksX1_become_0 16 rfl rfl)
theorem dX1_become_17 : decode cX1_become 17 = .ok (.istore_n 2, 1) := dk_61 (dk_at dksX1_become_0 17 rfl rfl)
theorem dX1_become_18 : decode cX1_become 18 = .ok (.iload_n 2, 1) := dk_28 (dk_at dksX1_become_0 18 rfl rfl)
theorem dX1_become_19 : decode cX1_become 19 = .ok (.aload_n 0, 1) := dk_42 (dk_at dksX1_become_0 19 rfl rfl)
theorem dX1_become_20 : decode cX1_become 20 = .ok (.getfield 46, 3) := dk_180 0 46 (dk_at dksX1_become_0 20 rfl rfl)
theorem dX1_become_23 : decode cX1_become 23 = .ok (.if_icmp .ge 34, 3) := dk_162 0 34 (dk_at dksX1_become_1 0 rfl rfl)
theorem dX1_become_26 : decode cX1_become 26 = .ok (.aload_n 0, 1) := dk_42 (dk_at dksX1_become_1 3 rfl rfl)
theorem dX1_become_27 : decode cX1_become 27 = .ok (.getfield 11, 3) := dk_180 0 11 (dk_at dksX1_become_1 4 rfl rfl)
theorem dX1_become_30 : decode cX1_become 30 = .ok (.iload_n 2, 1) := dk_28 (dk_at dksX1_become_1 7 rfl rfl)
theorem dX1_become_31 : decode cX1_become 31 = .ok (.aaload, 1) := dk_50 (dk_at dksX1_become_1 8 rfl rfl)
theorem dX1_become_32 : decode cX1_become 32 = .ok (.aload_n 1, 1) := dk_43 (dk_at dksX1_become_1 9 rfl rfl)
theorem dX1_become_33 : decode cX1_become 33 = .ok (.getfield 11, 3) := dk_180 0 11 (dk_at dksX1_become_1 10 rfl rfl)
theorem dX1_become_36 : decode cX1_become 36 = .ok (.iload_n 2, 1) := dk_28 (dk_at dksX1_become_1 13 rfl rfl)
theorem dX1_become_37 : decode cX1_become 37 = .ok (.aaload, 1) := dk_50 (dk_at dksX1_become_1 14 rfl rfl)
theorem dX1_become_38 : decode cX1_become 38 = .ok (.aload_n 1, 1) := dk_43 (dk_at dksX1_become_1 15 rfl rfl)
theorem dX1_become_39 : decode cX1_become 39 = .ok (.getfield 11, 3) := dk_180 0 11 (dk_at dksX1_become_1 16 rfl rfl)
theorem dX1_become_42 : decode cX1_become 42 = .ok (.iload_n 2, 1) := dk_28 (dk_at dksX1_become_1 19 rfl rfl)
theorem dX1_become_43 : decode cX1_become 43 = .ok (.aaload, 1) := dk_50 (dk_at dksX1_become_1 20 rfl rfl)
theorem dX1_become_44 : decode cX1_become 44 = .ok (.getfield 53, 3) := dk_180 0 53 (dk_at dksX1_become_1 21 rfl rfl)
theorem dX1_become_47 : decode cX1_become 47 = .ok (.iconst 1, 1) := dk_4 (dk_at dksX1_become_2 0 rfl rfl)
theorem dX1_become_48 : decode cX1_become 48 = .ok (.invokevirtual 56, 3) := dk_182 0 56 (dk_at dksX1_become_2 1 rfl rfl)
theorem dX1_become_51 : decode cX1_become 51 = .ok (.iinc 2 1, 3) := dk_132 2 1 (dk_at dksX1_become_2 4 rfl rfl)
theorem dX1_become_54 : decode cX1_become 54 = .ok (.goto (-36), 3) := dk_167 255 220 (dk_at dksX1_become_2 7 rfl rfl)
theorem dX1_become_57 : decode cX1_become 57 = .ok (.iconst 0, 1) := dk_3 (dk_at dksX1_become_2 10 rfl rfl)
theorem dX1_become_58 : decode cX1_become 58 = .ok (.istore_n 2, 1) := dk_61 (dk_at dksX1_become_2 11 rfl rfl)
theorem dX1_become_59 : decode cX1_become 59 = .ok (.iload_n 2, 1) := dk_28 (dk_at dksX1_become_2 12 rfl rfl)
theorem dX1_become_60 : decode cX1_become 60 = .ok (.bipush 16, 2) := dk_16 16 (dk_at dksX1_become_2 13 rfl rfl)
theorem dX1_become_62 : decode cX1_become 62 = .ok (.if_icmp .ge 49, 3) := dk_162 0 49 (dk_at dksX1_become_2 15 rfl rfl)
theorem dX1_become_65 : decode cX1_become 65 = .ok (.aload_n 0, 1) := dk_42 (dk_at dksX1_become_2 18 rfl rfl)
theorem dX1_become_66 : decode cX1_become 66 = .ok (.getfield 19, 3) := dk_180 0 19 (dk_at dksX1_become_2 19 rfl rfl)
theorem dX1_become_69 : decode cX1_become 69 = .ok (.iload_n 2, 1) := dk_28 (dk_at dksX1_become_2 22 rfl rfl)
theorem dX1_become_70 : decode cX1_become 70 = .ok (.aaload, 1) := dk_50 (dk_at dksX1_become_2 23 rfl rfl)
theorem dX1_become_71 : decode cX1_become 71 = .ok (.aload_n 1, 1) := dk_43 (dk_at dksX1_become_3 0 rfl rfl)
theorem dX1_become_72 : decode cX1_become 72 = .ok (.getfield 19, 3) := dk_180 0 19 (dk_at dksX1_become_3 1 rfl rfl)
theorem dX1_become_75 : decode cX1_become 75 = .ok (.iload_n 2, 1) := dk_28 (dk_at dksX1_become_3 4 rfl rfl)
theorem dX1_become_76 : decode cX1_become 76 = .ok (.aaload, 1) := dk_50 (dk_at dksX1_become_3 5 rfl rfl)
theorem dX1_become_77 : decode cX1_become 77 = .ok (.getfield 60, 3) := dk_180 0 60 (dk_at dksX1_become_3 6 rfl rfl)
theorem dX1_become_80 : decode cX1_become 80 = .ok (.ifnonnull 7, 3) := dk_199 0 7 (dk_at dksX1_become_3 9 rfl rfl)
theorem dX1_become_83 : decode cX1_become 83 = .ok (.aconst_null, 1) := dk_1 (dk_at dksX1_become_3 12 rfl rfl)
theorem dX1_become_84 : decode cX1_become 84 = .ok (.goto 18, 3) := dk_167 0 18 (dk_at dksX1_become_3 13 rfl rfl)
theorem dX1_become_87 : decode cX1_become 87 = .ok (.aload_n 1, 1) := dk_43 (dk_at dksX1_become_3 16 rfl rfl)
theorem dX1_become_88 : decode cX1_become 88 = .ok (.getfield 19, 3) := dk_180 0 19 (dk_at dksX1_become_3 17 rfl rfl)
theorem dX1_become_91 : decode cX1_become 91 = .ok (.iload_n 2, 1) := dk_28 (dk_at dksX1_become_3 20 rfl rfl)
theorem dX1_become_92 : decode cX1_become 92 = .ok (.aaload, 1) := dk_50 (dk_at dksX1_become_3 21 rfl rfl)
theorem dX1_become_93 : decode cX1_become 93 = .ok (.getfield 60, 3) := dk_180 0 60 (dk_at dksX1_become_4 0 rfl rfl)
theorem dX1_become_96 : decode cX1_become 96 = .ok (.checkcast 64, 3) := dk_192 0 64 (dk_at dksX1_become_4 3 rfl rfl)
theorem dX1_become_99 : decode cX1_become 99 = .ok (.invokevirtual 66, 3) := dk_182 0 66 (dk_at dksX1_become_4 6 rfl rfl)
theorem dX1_become_102 : decode cX1_become 102 = .ok (.putfield 60, 3) := dk_181 0 60 (dk_at dksX1_become_4 9 rfl rfl)
theorem dX1_become_105 : decode cX1_become 105 = .ok (.iinc 2 1, 3) := dk_132 2 1 (dk_at dksX1_become_4 12 rfl rfl)
theorem dX1_become_108 : decode cX1_become 108 = .ok (.goto (-49), 3) := dk_167 255 207 (dk_at dksX1_become_4 15 rfl rfl)
theorem dX1_become_111 : decode cX1_become 111 = .ok (.iconst 0, 1) := dk_3 (dk_at dksX1_become_4 18 rfl rfl)
theorem dX1_become_112 : decode cX1_become 112 = .ok (.istore_n 2, 1) := dk_61 (dk_at dksX1_become_4 19 rfl rfl)
theorem dX1_become_113 : decode cX1_become 113 = .ok (.iload_n 2, 1) := dk_28 (dk_at dksX1_become_4 20 rfl rfl)
theorem dX1_become_114 : decode cX1_become 114 = .ok (.bipush 12, 2) := dk_16 12 (dk_at dksX1_become_4 21 rfl rfl)
theorem dX1_become_116 : decode cX1_become 116 = .ok (.if_icmp .ge 36, 3) := dk_162 0 36 (dk_at dksX1_become_5 0 rfl rfl)
theorem dX1_become_119 : decode cX1_become 119 = .ok (.aload_n 0, 1) := dk_42 (dk_at dksX1_become_5 3 rfl rfl)
theorem dX1_become_120 : decode cX1_become 120 = .ok (.getfield 25, 3) := dk_180 0 25 (dk_at dksX1_become_5 4 rfl rfl)
theorem dX1_become_123 : decode cX1_become 123 = .ok (.iload_n 2, 1) := dk_28 (dk_at dksX1_become_5 7 rfl rfl)
theorem dX1_become_124 : decode cX1_become 124 = .ok (.aaload, 1) := dk_50 (dk_at dksX1_become_5 8 rfl rfl)
theorem dX1_become_125 : decode cX1_become 125 = .ok (.aload_n 1, 1) := dk_43 (dk_at dksX1_become_5 9 rfl rfl)
theorem dX1_become_126 : decode cX1_become 126 = .ok (.getfield 25, 3) := dk_180 0 25 (dk_at dksX1_become_5 10 rfl rfl)
theorem dX1_become_129 : decode cX1_become 129 = .ok (.iload_n 2, 1) := dk_28 (dk_at dksX1_become_5 13 rfl rfl)
theorem dX1_become_130 : decode cX1_become 130 = .ok (.aaload, 1) := dk_50 (dk_at dksX1_become_5 14 rfl rfl)
theorem dX1_become_131 : decode cX1_become 131 = .ok (.invokevirtual 70, 3) := dk_182 0 70 (dk_at dksX1_become_5 15 rfl rfl)
theorem dX1_become_134 : decode cX1_become 134 = .ok (.aload_n 0, 1) := dk_42 (dk_at dksX1_become_5 18 rfl rfl)
theorem dX1_become_135 : decode cX1_become 135 = .ok (.getfield 38, 3) := dk_180 0 38 (dk_at dksX1_become_5 19 rfl rfl)
theorem dX1_become_138 : decode cX1_become 138 = .ok (.iload_n 2, 1) := dk_28 (dk_at dksX1_become_5 22 rfl rfl)
theorem dX1_become_139 : decode cX1_become 139 = .ok (.aload_n 1, 1) := dk_43 (dk_at dksX1_become_5 23 rfl rfl)
theorem dX1_become_140 : decode cX1_become 140 = .ok (.getfield 38, 3) := dk_180 0 38 (dk_at dksX1_become_6 0 rfl rfl)
theorem dX1_become_143 : decode cX1_become 143 = .ok (.iload_n 2, 1) := dk_28 (dk_at dksX1_become_6 3 rfl rfl)
theorem dX1_become_144 : decode cX1_become 144 = .ok (.iaload, 1) := dk_46 (dk_at dksX1_become_6 4 rfl rfl)
theorem dX1_become_145 : decode cX1_become 145 = .ok (.iastore, 1) := dk_79 (dk_at dksX1_become_6 5 rfl rfl)
theorem dX1_become_146 : decode cX1_become 146 = .ok (.iinc 2 1, 3) := dk_132 2 1 (dk_at dksX1_become_6 6 rfl rfl)
theorem dX1_become_149 : decode cX1_become 149 = .ok (.goto (-36), 3) := dk_167 255 220 (dk_at dksX1_become_6 9 rfl rfl)
theorem dX1_become_152 : decode cX1_become 152 = .ok (.iconst 0, 1) := dk_3 (dk_at dksX1_become_6 12 rfl rfl)
theorem dX1_become_153 : decode cX1_become 153 = .ok (.istore_n 2, 1) := dk_61 (dk_at dksX1_become_6 13 rfl rfl)
theorem dX1_become_154 : decode cX1_become 154 = .ok (.iload_n 2, 1) := dk_28 (dk_at dksX1_become_6 14 rfl rfl)
theorem dX1_become_155 : decode cX1_become 155 = .ok (.iconst 2, 1) := dk_5 (dk_at dksX1_become_6 15 rfl rfl)
theorem dX1_become_156 : decode cX1_become 156 = .ok (.aload_n 0, 1) := dk_42 (dk_at dksX1_become_6 16 rfl rfl)
theorem dX1_become_157 : decode cX1_become 157 = .ok (.getfield 50, 3) := dk_180 0 50 (dk_at dksX1_become_6 17 rfl rfl)
theorem dX1_become_160 : decode cX1_become 160 = .ok (.imul, 1) := dk_104 (dk_at dksX1_become_6 20 rfl rfl)
theorem dX1_become_161 : decode cX1_become 161 = .ok (.if_icmp .ge 24, 3) := dk_162 0 24 (dk_at dksX1_become_6 21 rfl rfl)
theorem dX1_become_164 : decode cX1_become 164 = .ok (.aload_n 0, 1) := dk_42 (dk_at dksX1_become_7 0 rfl rfl)
theorem dX1_become_165 : decode cX1_become 165 = .ok (.getfield 29, 3) := dk_180 0 29 (dk_at dksX1_become_7 1 rfl rfl)
theorem dX1_become_168 : decode cX1_become 168 = .ok (.iload_n 2, 1) := dk_28 (dk_at dksX1_become_7 4 rfl rfl)
theorem dX1_become_169 : decode cX1_become 169 = .ok (.aaload, 1) := dk_50 (dk_at dksX1_become_7 5 rfl rfl)
theorem dX1_become_170 : decode cX1_become 170 = .ok (.aload_n 1, 1) := dk_43 (dk_at dksX1_become_7 6 rfl rfl)
theorem dX1_become_171 : decode cX1_become 171 = .ok (.getfield 29, 3) := dk_180 0 29 (dk_at dksX1_become_7 7 rfl rfl)
theorem dX1_become_174 : decode cX1_become 174 = .ok (.iload_n 2, 1) := dk_28 (dk_at dksX1_become_7 10 rfl rfl)
theorem dX1_become_175 : decode cX1_become 175 = .ok (.aaload, 1) := dk_50 (dk_at dksX1_become_7 11 rfl rfl)
theorem dX1_become_176 : decode cX1_become 176 = .ok (.invokevirtual 70, 3) := dk_182 0 70 (dk_at dksX1_become_7 12 rfl rfl)
theorem dX1_become_179 : decode cX1_become 179 = .ok (.iinc 2 1, 3) := dk_132 2 1 (dk_at dksX1_become_7 15 rfl rfl)
theorem dX1_become_182 : decode cX1_become 182 = .ok (.goto (-28), 3) := dk_167 255 228 (dk_at dksX1_become_7 18 rfl rfl)
theorem dX1_become_185 : decode cX1_become 185 = .ok (.iconst 0, 1) := dk_3 (dk_at dksX1_become_7 21 rfl rfl)
theorem dX1_become_186 : decode cX1_become 186 = .ok (.istore_n 2, 1) := dk_61 (dk_at dksX1_become_7 22 rfl rfl)
theorem dX1_become_187 : decode cX1_become 187 = .ok (.iload_n 2, 1) := dk_28 (dk_at dksX1_become_7 23 rfl rfl)
theorem dX1_become_188 : decode cX1_become 188 = .ok (.bipush 8, 2) := dk_16 8 (dk_at dksX1_become_8 0 rfl rfl)
theorem dX1_become_190 : decode cX1_become 190 = .ok (.if_icmp .ge 24, 3) := dk_162 0 24 (dk_at dksX1_become_8 2 rfl rfl)
theorem dX1_become_193 : decode cX1_become 193 = .ok (.aload_n 0, 1) := dk_42 (dk_at dksX1_become_8 5 rfl rfl)
theorem dX1_become_194 : decode cX1_become 194 = .ok (.getfield 34, 3) := dk_180 0 34 (dk_at dksX1_become_8 6 rfl rfl)
theorem dX1_become_197 : decode cX1_become 197 = .ok (.iload_n 2, 1) := dk_28 (dk_at dksX1_become_8 9 rfl rfl)
theorem dX1_become_198 : decode cX1_become 198 = .ok (.aaload, 1) := dk_50 (dk_at dksX1_become_8 10 rfl rfl)
theorem dX1_become_199 : decode cX1_become 199 = .ok (.aload_n 1, 1) := dk_43 (dk_at dksX1_become_8 11 rfl rfl)
theorem dX1_become_200 : decode cX1_become 200 = .ok (.getfield 34, 3) := dk_180 0 34 (dk_at dksX1_become_8 12 rfl rfl)
theorem dX1_become_203 : decode cX1_become 203 = .ok (.iload_n 2, 1) := dk_28 (dk_at dksX1_become_8 15 rfl rfl)
theorem dX1_become_204 : decode cX1_become 204 = .ok (.aaload, 1) := dk_50 (dk_at dksX1_become_8 16 rfl rfl)
theorem dX1_become_205 : decode cX1_become 205 = .ok (.invokevirtual 73, 3) := dk_182 0 73 (dk_at dksX1_become_8 17 rfl rfl)
theorem dX1_become_208 : decode cX1_become 208 = .ok (.iinc 2 1, 3) := dk_132 2 1 (dk_at dksX1_become_8 20 rfl rfl)
theorem dX1_become_211 : decode cX1_become 211 = .ok (.goto (-24), 3) := dk_167 255 232 (dk_at dksX1_become_9 0 rfl rfl)
theorem dX1_become_214 : decode cX1_become 214 = .ok (.return_, 1) := dk_177 (dk_at dksX1_become_9 3 rfl rfl)
theorem q58 : (Jvm.Cond.initialized "GlassLog$House") ∈ lw_all := lw_g (lw_at lw_m1 2 rfl) rfl
theorem q94 : (Jvm.Cond.instantiable "GlassLog$House" (8 : Nat)) ∈ lw_all := lw_g (lw_at lw_m1 38 rfl) rfl
theorem q96 : (Jvm.Cond.instanceMethod ({ cls := "GlassLog$House", name := "<init>", desc := "()V" } : Jvm.MethodName)) ∈ lw_all := lw_g (lw_at lw_m1 40 rfl) rfl
theorem q97 : (Jvm.Cond.code ({ cls := "GlassLog$House", name := "<init>", desc := "()V" } : Jvm.MethodName) prog_6_method_1_code (2 : Nat) (Option.none : Option Jvm.ClassFile.FieldType)) ∈ lw_all := lw_g (lw_at lw_m1 41 rfl) rfl
theorem q98 : (Jvm.Cond.methodLink "GlassLog$House" (3 : Nat) ({ cls := "java/lang/Object", name := "<init>", desc := "()V" } : Jvm.MethodName)) ∈ lw_all := lw_g (lw_at lw_m1 42 rfl) rfl
theorem q99 : (Jvm.Cond.classLink "GlassLog$House" (9 : Nat) "GlassLog$Log") ∈ lw_all := lw_g (lw_at lw_m1 43 rfl) rfl
theorem q101 : (Jvm.Cond.classLink "GlassLog$House" (17 : Nat) "GlassLog$Slot") ∈ lw_all := lw_g (lw_at lw_m1 45 rfl) rfl
theorem q103 : (Jvm.Cond.classLink "GlassLog$House" (23 : Nat) "GlassLog$Head") ∈ lw_all := lw_g (lw_at lw_m1 47 rfl) rfl
theorem q105 : (Jvm.Cond.classLink "GlassLog$House" (32 : Nat) "GlassLog$Watcher") ∈ lw_all := lw_g (lw_at lw_m1 49 rfl) rfl
theorem q108 : (Jvm.Cond.methodLink "GlassLog$House" (42 : Nat) ({ cls := "GlassLog$Log", name := "<init>", desc := "()V" } : Jvm.MethodName)) ∈ lw_all := lw_g (lw_at lw_m1 52 rfl) rfl
theorem q132 : (Jvm.Cond.fieldLinkNest "GlassLog$House" (53 : Nat) "GlassLog$Log" "many" "I" "GlassLog") ∈ lw_tbl := lw_at lw_m1 76 rfl
theorem q163 : (Jvm.Cond.methodLinkNest "GlassLog$House" (43 : Nat) ({ cls := "GlassLog$Slot", name := "<init>", desc := "()V" } : Jvm.MethodName) "GlassLog") ∈ lw_tbl := lw_at lw_m1 107 rfl
theorem q167 : (Jvm.Cond.fieldLinkNest "GlassLog$House" (60 : Nat) "GlassLog$Slot" "held" "Ljava/lang/Object;" "GlassLog") ∈ lw_tbl := lw_at lw_m1 111 rfl
theorem q173 : (Jvm.Cond.methodLinkNest "GlassLog$House" (44 : Nat) ({ cls := "GlassLog$Head", name := "<init>", desc := "()V" } : Jvm.MethodName) "GlassLog") ∈ lw_tbl := lw_at lw_m1 117 rfl
theorem q213 : (Jvm.Cond.methodLinkNest "GlassLog$House" (45 : Nat) ({ cls := "GlassLog$Watcher", name := "<init>", desc := "()V" } : Jvm.MethodName) "GlassLog") ∈ lw_tbl := lw_at lw_m1 157 rfl
theorem q250 : (Jvm.Cond.fieldLink "GlassLog$House" (11 : Nat) "GlassLog$House" "logs" "[LGlassLog$Log;") ∈ lw_all := lw_g (lw_at lw_m1 194 rfl) rfl
theorem q252 : (Jvm.Cond.fieldLink "GlassLog$House" (19 : Nat) "GlassLog$House" "slots" "[LGlassLog$Slot;") ∈ lw_all := lw_g (lw_at lw_m1 196 rfl) rfl
theorem q254 : (Jvm.Cond.fieldLink "GlassLog$House" (25 : Nat) "GlassLog$House" "heads" "[LGlassLog$Head;") ∈ lw_all := lw_g (lw_at lw_m1 198 rfl) rfl
theorem q256 : (Jvm.Cond.fieldLink "GlassLog$House" (29 : Nat) "GlassLog$House" "blamed" "[LGlassLog$Head;") ∈ lw_all := lw_g (lw_at lw_m1 200 rfl) rfl
theorem q258 : (Jvm.Cond.fieldLink "GlassLog$House" (34 : Nat) "GlassLog$House" "watchers" "[LGlassLog$Watcher;") ∈ lw_all := lw_g (lw_at lw_m1 202 rfl) rfl
theorem q260 : (Jvm.Cond.fieldLink "GlassLog$House" (38 : Nat) "GlassLog$House" "blames" "[I") ∈ lw_all := lw_g (lw_at lw_m1 204 rfl) rfl
theorem q262 : (Jvm.Cond.fieldLink "GlassLog$House" (46 : Nat) "GlassLog$House" "opened" "I") ∈ lw_all := lw_g (lw_at lw_m1 206 rfl) rfl
theorem q264 : (Jvm.Cond.fieldLink "GlassLog$House" (50 : Nat) "GlassLog$House" "blame" "I") ∈ lw_all := lw_g (lw_at lw_m1 208 rfl) rfl
theorem q266 : (Jvm.Cond.laysFinal "GlassLog$House" "GlassLog$House" "logs" "[LGlassLog$Log;") ∈ lw_all := lw_g (lw_at lw_m1 210 rfl) rfl
theorem q267 : (Jvm.Cond.soleField "GlassLog$House" "logs") ∈ lw_all := lw_g (lw_at lw_m1 211 rfl) rfl
theorem q268 : (Jvm.Cond.laysFinal "GlassLog$House" "GlassLog$House" "slots" "[LGlassLog$Slot;") ∈ lw_all := lw_g (lw_at lw_m1 212 rfl) rfl
theorem q269 : (Jvm.Cond.soleField "GlassLog$House" "slots") ∈ lw_all := lw_g (lw_at lw_m1 213 rfl) rfl
theorem q270 : (Jvm.Cond.laysFinal "GlassLog$House" "GlassLog$House" "heads" "[LGlassLog$Head;") ∈ lw_all := lw_g (lw_at lw_m1 214 rfl) rfl
theorem q271 : (Jvm.Cond.soleField "GlassLog$House" "heads") ∈ lw_all := lw_g (lw_at lw_m1 215 rfl) rfl
theorem q272 : (Jvm.Cond.laysFinal "GlassLog$House" "GlassLog$House" "blamed" "[LGlassLog$Head;") ∈ lw_all := lw_g (lw_at lw_m1 216 rfl) rfl
theorem q273 : (Jvm.Cond.soleField "GlassLog$House" "blamed") ∈ lw_all := lw_g (lw_at lw_m1 217 rfl) rfl
theorem q274 : (Jvm.Cond.laysFinal "GlassLog$House" "GlassLog$House" "watchers" "[LGlassLog$Watcher;") ∈ lw_all := lw_g (lw_at lw_m1 218 rfl) rfl
theorem q275 : (Jvm.Cond.soleField "GlassLog$House" "watchers") ∈ lw_all := lw_g (lw_at lw_m1 219 rfl) rfl
theorem q276 : (Jvm.Cond.laysFinal "GlassLog$House" "GlassLog$House" "blames" "[I") ∈ lw_all := lw_g (lw_at lw_m1 220 rfl) rfl
theorem q277 : (Jvm.Cond.soleField "GlassLog$House" "blames") ∈ lw_all := lw_g (lw_at lw_m1 221 rfl) rfl
theorem q278 : (Jvm.Cond.lays "GlassLog$House" "GlassLog$House" "opened" "I") ∈ lw_all := lw_g (lw_at lw_m1 222 rfl) rfl
theorem q279 : (Jvm.Cond.soleField "GlassLog$House" "opened") ∈ lw_all := lw_g (lw_at lw_m1 223 rfl) rfl
theorem q280 : (Jvm.Cond.lays "GlassLog$House" "GlassLog$House" "blame" "I") ∈ lw_all := lw_g (lw_at lw_m1 224 rfl) rfl
theorem q281 : (Jvm.Cond.soleField "GlassLog$House" "blame") ∈ lw_all := lw_g (lw_at lw_m1 225 rfl) rfl
theorem q282 : (Jvm.Cond.superclass "GlassLog$House" "java/lang/Object") ∈ lw_all := lw_g (lw_at lw_m1 226 rfl) rfl
theorem q1101 : (Jvm.Cond.instanceMethod ({ cls := "GlassLog$House", name := "become", desc := "(LGlassLog$House;)V" } : Jvm.MethodName)) ∈ lw_all := lw_g (lw_at lw_m5 85 rfl) rfl
theorem q1102 : (Jvm.Cond.selects "GlassLog$House" ({ cls := "GlassLog$House", name := "become", desc := "(LGlassLog$House;)V" } : Jvm.MethodName) ({ cls := "GlassLog$House", name := "become", desc := "(LGlassLog$House;)V" } : Jvm.MethodName)) ∈ lw_all := lw_g (lw_at lw_m5 86 rfl) rfl
theorem q1103 : (Jvm.Cond.code ({ cls := "GlassLog$House", name := "become", desc := "(LGlassLog$House;)V" } : Jvm.MethodName) prog_6_method_2_code (3 : Nat) (Option.none : Option Jvm.ClassFile.FieldType)) ∈ lw_all := lw_g (lw_at lw_m5 87 rfl) rfl
theorem q1104 : (Jvm.Cond.methodLink "GlassLog$House" (56 : Nat) ({ cls := "GlassLog$Log", name := "become", desc := "(LGlassLog$Log;IZ)V" } : Jvm.MethodName)) ∈ lw_all := lw_g (lw_at lw_m5 88 rfl) rfl
theorem q1105 : (Jvm.Cond.classLink "GlassLog$House" (64 : Nat) "GlassLog$Proof") ∈ lw_all := lw_g (lw_at lw_m5 89 rfl) rfl
theorem q1106 : (Jvm.Cond.methodLink "GlassLog$House" (66 : Nat) ({ cls := "GlassLog$Proof", name := "twin", desc := "()LGlassLog$Proof;" } : Jvm.MethodName)) ∈ lw_all := lw_g (lw_at lw_m5 90 rfl) rfl
theorem q1175 : (Jvm.Cond.methodLink "GlassLog$House" (70 : Nat) ({ cls := "GlassLog$Head", name := "become", desc := "(LGlassLog$Head;)V" } : Jvm.MethodName)) ∈ lw_all := lw_g (lw_at lw_m5 159 rfl) rfl
theorem q1176 : (Jvm.Cond.methodLink "GlassLog$House" (73 : Nat) ({ cls := "GlassLog$Watcher", name := "become", desc := "(LGlassLog$Watcher;)V" } : Jvm.MethodName)) ∈ lw_all := lw_g (lw_at lw_m5 160 rfl) rfl
theorem in_X1 : ∀ w ∈ wsX10, w ∈ lw_all := lw_in wsX10 [266, 268, 270, 272, 274, 276, 278, 280] (by decide +kernel) (by decide +kernel)

/-! GlassLog$Log -/
set_option maxRecDepth 100000
def RX2 : String := "GlassLog$Log"
def TX2 : u_T := fun k => match k with
  | 0 => ("GlassLog$Log", "keys", "[I", true)
  | 1 => ("GlassLog$Log", "lies", "[I", true)
  | 2 => ("GlassLog$Log", "since", "[I", true)
  | 3 => ("GlassLog$Log", "values", "[J", true)
  | 4 => ("GlassLog$Log", "gone", "[Z", true)
  | 5 => ("GlassLog$Log", "told", "[Z", true)
  | 6 => ("GlassLog$Log", "lags", "[Z", true)
  | 7 => ("GlassLog$Log", "sums", "[[I", true)
  | 8 => ("GlassLog$Log", "keeper", "I", false)
  | 9 => ("GlassLog$Log", "many", "I", false)
  | _ => ("GlassLog$Log", "liesMany", "I", false)
def tyX2 : Nat → FieldType := fun k => match k with
  | 0 => .array .int
  | 1 => .array .int
  | 2 => .array .int
  | 3 => .array .long
  | 4 => .array .boolean
  | 5 => .array .boolean
  | 6 => .array .boolean
  | 7 => .array (.array .int)
  | 8 => .int
  | 9 => .int
  | _ => .int
abbrev wsX20 : List Cond := u_ws RX2 TX2 11
theorem nmX2 : ∀ a, a < 11 → ∀ b, b < 11 → a ≠ b → (TX2 a).2.1 ≠ (TX2 b).2.1 := by decide +kernel
theorem tyX2_ok : ∀ k, k < 11 → parseFieldDescriptor (TX2 k).2.2.1 = some (tyX2 k) := by decide +kernel
abbrev cX2_init : ByteArray := prog_7_method_1_code
def yX2_init : MethodName := ⟨RX2, "<init>", "()V"⟩
def dkwX2_init_4 : List UInt8 := [16, 8, 104, 188, 10, 83, 132, 1, 1, 167, 255, 229, 177]
abbrev dktX2_init_4 : List UInt8 := dkwX2_init_4 ++ []
def dkwX2_init_3 : List UInt8 := [181, 0, 36, 3, 60, 27, 16, 10, 162, 0, 27, 42, 180, 0, 36, 27, 17, 1, 144, 27, 122, 4, 96]
abbrev dktX2_init_3 : List UInt8 := dkwX2_init_3 ++ dktX2_init_4
def dkwX2_init_2 : List UInt8 := [17, 1, 144, 188, 4, 181, 0, 29, 42, 16, 100, 188, 4, 181, 0, 32, 42, 16, 10, 189, 0, 35]
abbrev dktX2_init_2 : List UInt8 := dkwX2_init_2 ++ dktX2_init_3
def dkwX2_init_1 : List UInt8 := [188, 10, 181, 0, 18, 42, 17, 1, 144, 188, 11, 181, 0, 21, 42, 17, 1, 144, 188, 4, 181, 0, 25, 42]
abbrev dktX2_init_1 : List UInt8 := dkwX2_init_1 ++ dktX2_init_2
def dkwX2_init_0 : List UInt8 := [42, 183, 0, 3, 42, 17, 1, 144, 188, 10, 181, 0, 9, 42, 16, 100, 188, 10, 181, 0, 15, 42, 16, 100]
abbrev dktX2_init_0 : List UInt8 := dkwX2_init_0 ++ dktX2_init_1
theorem dksX2_init_0 : cX2_init.data.toList.drop 0 = dktX2_init_0 := by decide +kernel
theorem dksX2_init_1 : cX2_init.data.toList.drop 24 = dktX2_init_1 := dk_seg dksX2_init_0 24 rfl rfl
theorem dksX2_init_2 : cX2_init.data.toList.drop 48 = dktX2_init_2 := dk_seg dksX2_init_1 24 rfl rfl
theorem dksX2_init_3 : cX2_init.data.toList.drop 70 = dktX2_init_3 := dk_seg dksX2_init_2 22 rfl rfl
theorem dksX2_init_4 : cX2_init.data.toList.drop 93 = dktX2_init_4 := dk_seg dksX2_init_3 23 rfl rfl
theorem dX2_init_0 : decode cX2_init 0 = .ok (.aload_n 0, 1) := dk_42 (dk_at dksX2_init_0 0 rfl rfl)
theorem dX2_init_1 : decode cX2_init 1 = .ok (.invokespecial 3, 3) := dk_183 0 3 (dk_at dksX2_init_0 1 rfl rfl)
theorem dX2_init_4 : decode cX2_init 4 = .ok (.aload_n 0, 1) := dk_42 (dk_at dksX2_init_0 4 rfl rfl)
theorem dX2_init_5 : decode cX2_init 5 = .ok (.sipush 400, 3) := dk_17 1 144 (dk_at dksX2_init_0 5 rfl rfl)
theorem dX2_init_8 : decode cX2_init 8 = .ok (.newarray .int, 2) := dk_188_10 (dk_at dksX2_init_0 8 rfl rfl)
theorem dX2_init_10 : decode cX2_init 10 = .ok (.putfield 9, 3) := dk_181 0 9 (dk_at dksX2_init_0 10 rfl rfl)
theorem dX2_init_13 : decode cX2_init 13 = .ok (.aload_n 0, 1) := dk_42 (dk_at dksX2_init_0 13 rfl rfl)
theorem dX2_init_14 : decode cX2_init 14 = .ok (.bipush 100, 2) := dk_16 100 (dk_at dksX2_init_0 14 rfl rfl)
theorem dX2_init_16 : decode cX2_init 16 = .ok (.newarray .int, 2) := dk_188_10 (dk_at dksX2_init_0 16 rfl rfl)
theorem dX2_init_18 : decode cX2_init 18 = .ok (.putfield 15, 3) := dk_181 0 15 (dk_at dksX2_init_0 18 rfl rfl)
theorem dX2_init_21 : decode cX2_init 21 = .ok (.aload_n 0, 1) := dk_42 (dk_at dksX2_init_0 21 rfl rfl)
theorem dX2_init_22 : decode cX2_init 22 = .ok (.bipush 100, 2) := dk_16 100 (dk_at dksX2_init_0 22 rfl rfl)
theorem dX2_init_24 : decode cX2_init 24 = .ok (.newarray .int, 2) := dk_188_10 (dk_at dksX2_init_1 0 rfl rfl)
theorem dX2_init_26 : decode cX2_init 26 = .ok (.putfield 18, 3) := dk_181 0 18 (dk_at dksX2_init_1 2 rfl rfl)
theorem dX2_init_29 : decode cX2_init 29 = .ok (.aload_n 0, 1) := dk_42 (dk_at dksX2_init_1 5 rfl rfl)
theorem dX2_init_30 : decode cX2_init 30 = .ok (.sipush 400, 3) := dk_17 1 144 (dk_at dksX2_init_1 6 rfl rfl)
theorem dX2_init_33 : decode cX2_init 33 = .ok (.newarray .long, 2) := dk_188_11 (dk_at dksX2_init_1 9 rfl rfl)
theorem dX2_init_35 : decode cX2_init 35 = .ok (.putfield 21, 3) := dk_181 0 21 (dk_at dksX2_init_1 11 rfl rfl)
theorem dX2_init_38 : decode cX2_init 38 = .ok (.aload_n 0, 1) := dk_42 (dk_at dksX2_init_1 14 rfl rfl)
theorem dX2_init_39 : decode cX2_init 39 = .ok (.sipush 400, 3) := dk_17 1 144 (dk_at dksX2_init_1 15 rfl rfl)
theorem dX2_init_42 : decode cX2_init 42 = .ok (.newarray .boolean, 2) := dk_188_4 (dk_at dksX2_init_1 18 rfl rfl)
theorem dX2_init_44 : decode cX2_init 44 = .ok (.putfield 25, 3) := dk_181 0 25 (dk_at dksX2_init_1 20 rfl rfl)
theorem dX2_init_47 : decode cX2_init 47 = .ok (.aload_n 0, 1) := dk_42 (dk_at dksX2_init_1 23 rfl rfl)
theorem dX2_init_48 : decode cX2_init 48 = .ok (.sipush 400, 3) := dk_17 1 144 (dk_at dksX2_init_2 0 rfl rfl)
theorem dX2_init_51 : decode cX2_init 51 = .ok (.newarray .boolean, 2) := dk_188_4 (dk_at dksX2_init_2 3 rfl rfl)
theorem dX2_init_53 : decode cX2_init 53 = .ok (.putfield 29, 3) := dk_181 0 29 (dk_at dksX2_init_2 5 rfl rfl)
theorem dX2_init_56 : decode cX2_init 56 = .ok (.aload_n 0, 1) := dk_42 (dk_at dksX2_init_2 8 rfl rfl)
theorem dX2_init_57 : decode cX2_init 57 = .ok (.bipush 100, 2) := dk_16 100 (dk_at dksX2_init_2 9 rfl rfl)
theorem dX2_init_59 : decode cX2_init 59 = .ok (.newarray .boolean, 2) := dk_188_4 (dk_at dksX2_init_2 11 rfl rfl)
theorem dX2_init_61 : decode cX2_init 61 = .ok (.putfield 32, 3) := dk_181 0 32 (dk_at dksX2_init_2 13 rfl rfl)
theorem dX2_init_64 : decode cX2_init 64 = .ok (.aload_n 0, 1) := dk_42 (dk_at dksX2_init_2 16 rfl rfl)
theorem dX2_init_65 : decode cX2_init 65 = .ok (.bipush 10, 2) := dk_16 10 (dk_at dksX2_init_2 17 rfl rfl)
theorem dX2_init_67 : decode cX2_init 67 = .ok (.anewarray 35, 3) := dk_189 0 35 (dk_at dksX2_init_2 19 rfl rfl)
theorem dX2_init_70 : decode cX2_init 70 = .ok (.putfield 36, 3) := dk_181 0 36 (dk_at dksX2_init_3 0 rfl rfl)
theorem dX2_init_73 : decode cX2_init 73 = .ok (.iconst 0, 1) := dk_3 (dk_at dksX2_init_3 3 rfl rfl)
theorem dX2_init_74 : decode cX2_init 74 = .ok (.istore_n 1, 1) := dk_60 (dk_at dksX2_init_3 4 rfl rfl)
theorem dX2_init_75 : decode cX2_init 75 = .ok (.iload_n 1, 1) := dk_27 (dk_at dksX2_init_3 5 rfl rfl)
theorem dX2_init_76 : decode cX2_init 76 = .ok (.bipush 10, 2) := dk_16 10 (dk_at dksX2_init_3 6 rfl rfl)
theorem dX2_init_78 : decode cX2_init 78 = .ok (.if_icmp .ge 27, 3) := dk_162 0 27 (dk_at dksX2_init_3 8 rfl rfl)
theorem dX2_init_81 : decode cX2_init 81 = .ok (.aload_n 0, 1) := dk_42 (dk_at dksX2_init_3 11 rfl rfl)
theorem dX2_init_82 : decode cX2_init 82 = .ok (.getfield 36, 3) := dk_180 0 36 (dk_at dksX2_init_3 12 rfl rfl)
theorem dX2_init_85 : decode cX2_init 85 = .ok (.iload_n 1, 1) := dk_27 (dk_at dksX2_init_3 15 rfl rfl)
theorem dX2_init_86 : decode cX2_init 86 = .ok (.sipush 400, 3) := dk_17 1 144 (dk_at dksX2_init_3 16 rfl rfl)
theorem dX2_init_89 : decode cX2_init 89 = .ok (.iload_n 1, 1) := dk_27 (dk_at dksX2_init_3 19 rfl rfl)
theorem dX2_init_90 : decode cX2_init 90 = .ok (.ishr, 1) := dk_122 (dk_at dksX2_init_3 20 rfl rfl)
theorem dX2_init_91 : decode cX2_init 91 = .ok (.iconst 1, 1) := dk_4 (dk_at dksX2_init_3 21 rfl rfl)
theorem dX2_init_92 : decode cX2_init 92 = .ok (.iadd, 1) := dk_96 (dk_at dksX2_init_3 22 rfl rfl)
theorem dX2_init_93 : decode cX2_init 93 = .ok (.bipush 8, 2) := dk_16 8 (dk_at dksX2_init_4 0 rfl rfl)
theorem dX2_init_95 : decode cX2_init 95 = .ok (.imul, 1) := dk_104 (dk_at dksX2_init_4 2 rfl rfl)
theorem dX2_init_96 : decode cX2_init 96 = .ok (.newarray .int, 2) := dk_188_10 (dk_at dksX2_init_4 3 rfl rfl)
theorem dX2_init_98 : decode cX2_init 98 = .ok (.aastore, 1) := dk_83 (dk_at dksX2_init_4 5 rfl rfl)
theorem dX2_init_99 : decode cX2_init 99 = .ok (.iinc 1 1, 3) := dk_132 1 1 (dk_at dksX2_init_4 6 rfl rfl)
theorem dX2_init_102 : decode cX2_init 102 = .ok (.goto (-27), 3) := dk_167 255 229 (dk_at dksX2_init_4 9 rfl rfl)
theorem dX2_init_105 : decode cX2_init 105 = .ok (.return_, 1) := dk_177 (dk_at dksX2_init_4 12 rfl rfl)
abbrev cX2_begin : ByteArray := prog_7_method_2_code
def yX2_begin : MethodName := ⟨RX2, "begin", "(I)V"⟩
def dkwX2_begin_0 : List UInt8 := [42, 27, 181, 0, 40, 42, 3, 181, 0, 44, 42, 3, 181, 0, 47, 177]
abbrev dktX2_begin_0 : List UInt8 := dkwX2_begin_0 ++ []
theorem dksX2_begin_0 : cX2_begin.data.toList.drop 0 = dktX2_begin_0 := by decide +kernel
theorem dX2_begin_0 : decode cX2_begin 0 = .ok (.aload_n 0, 1) := dk_42 (dk_at dksX2_begin_0 0 rfl rfl)
theorem dX2_begin_1 : decode cX2_begin 1 = .ok (.iload_n 1, 1) := dk_27 (dk_at dksX2_begin_0 1 rfl rfl)
theorem dX2_begin_2 : decode cX2_begin 2 = .ok (.putfield 40, 3) := dk_181 0 40 (dk_at dksX2_begin_0 2 rfl rfl)
theorem dX2_begin_5 : decode cX2_begin 5 = .ok (.aload_n 0, 1) := dk_42 (dk_at dksX2_begin_0 5 rfl rfl)
theorem dX2_begin_6 : decode cX2_begin 6 = .ok (.iconst 0, 1) := dk_3 (dk_at dksX2_begin_0 6 rfl rfl)
theorem dX2_begin_7 : decode cX2_begin 7 = .ok (.putfield 44, 3) := dk_181 0 44 (dk_at dksX2_begin_0 7 rfl rfl)
theorem dX2_begin_10 : decode cX2_begin 10 = .ok (.aload_n 0, 1) := dk_42 (dk_at dksX2_begin_0 10 rfl rfl)
theorem dX2_begin_11 : decode cX2_begin 11 = .ok (.iconst 0, 1) := dk_3 (dk_at dksX2_begin_0 11 rfl rfl)
theorem dX2_begin_12 : decode cX2_begin 12 = .ok (.putfield 47, 3) := dk_181 0 47 (dk_at dksX2_begin_0 12 rfl rfl)
theorem dX2_begin_15 : decode cX2_begin 15 = .ok (.return_, 1) := dk_177 (dk_at dksX2_begin_0 15 rfl rfl)
abbrev cX2_add : ByteArray := prog_7_method_3_code
def yX2_add : MethodName := ⟨RX2, "add", "(LGlassLog$Mixer;IJ)V"⟩
def dkwX2_add_6 : List UInt8 := [182, 0, 56, 132, 5, 1, 167, 255, 180, 177]
abbrev dktX2_add_6 : List UInt8 := dkwX2_add_6 ++ []
def dkwX2_add_5 : List UInt8 := [50, 5, 21, 6, 104, 4, 96, 16, 8, 104, 42, 180, 0, 36, 21, 5, 50, 21, 6, 16, 8, 104]
abbrev dktX2_add_5 : List UInt8 := dkwX2_add_5 ++ dktX2_add_6
def dkwX2_add_4 : List UInt8 := [42, 180, 0, 36, 21, 5, 4, 100, 50, 5, 21, 6, 104, 16, 8, 104, 42, 180, 0, 36, 21, 5, 4, 100]
abbrev dktX2_add_4 : List UInt8 := dkwX2_add_4 ++ dktX2_add_5
def dkwX2_add_3 : List UInt8 := [42, 180, 0, 44, 4, 21, 5, 120, 112, 154, 0, 70, 42, 180, 0, 44, 21, 5, 122, 4, 100, 54, 6, 43]
abbrev dktX2_add_3 : List UInt8 := dkwX2_add_3 ++ dktX2_add_4
def dkwX2_add_2 : List UInt8 := [50, 42, 180, 0, 44, 16, 8, 104, 182, 0, 50, 42, 89, 180, 0, 44, 4, 96, 181, 0, 44, 4, 54, 5]
abbrev dktX2_add_2 : List UInt8 := dkwX2_add_2 ++ dktX2_add_3
def dkwX2_add_1 : List UInt8 := [42, 180, 0, 44, 3, 84, 42, 180, 0, 29, 42, 180, 0, 44, 3, 84, 43, 28, 33, 42, 180, 0, 36, 3]
abbrev dktX2_add_1 : List UInt8 := dkwX2_add_1 ++ dktX2_add_2
def dkwX2_add_0 : List UInt8 := [42, 180, 0, 9, 42, 180, 0, 44, 28, 79, 42, 180, 0, 21, 42, 180, 0, 44, 33, 80, 42, 180, 0, 25]
abbrev dktX2_add_0 : List UInt8 := dkwX2_add_0 ++ dktX2_add_1
theorem dksX2_add_0 : cX2_add.data.toList.drop 0 = dktX2_add_0 := by decide +kernel
theorem dksX2_add_1 : cX2_add.data.toList.drop 24 = dktX2_add_1 := dk_seg dksX2_add_0 24 rfl rfl
theorem dksX2_add_2 : cX2_add.data.toList.drop 48 = dktX2_add_2 := dk_seg dksX2_add_1 24 rfl rfl
theorem dksX2_add_3 : cX2_add.data.toList.drop 72 = dktX2_add_3 := dk_seg dksX2_add_2 24 rfl rfl
theorem dksX2_add_4 : cX2_add.data.toList.drop 96 = dktX2_add_4 := dk_seg dksX2_add_3 24 rfl rfl
theorem dksX2_add_5 : cX2_add.data.toList.drop 120 = dktX2_add_5 := dk_seg dksX2_add_4 24 rfl rfl
theorem dksX2_add_6 : cX2_add.data.toList.drop 142 = dktX2_add_6 := dk_seg dksX2_add_5 22 rfl rfl
theorem dX2_add_0 : decode cX2_add 0 = .ok (.aload_n 0, 1) := dk_42 (dk_at dksX2_add_0 0 rfl rfl)
theorem dX2_add_1 : decode cX2_add 1 = .ok (.getfield 9, 3) := dk_180 0 9 (dk_at dksX2_add_0 1 rfl rfl)
theorem dX2_add_4 : decode cX2_add 4 = .ok (.aload_n 0, 1) := dk_42 (dk_at dksX2_add_0 4 rfl rfl)
theorem dX2_add_5 : decode cX2_add 5 = .ok (.getfield 44, 3) := dk_180 0 44 (dk_at dksX2_add_0 5 rfl rfl)
theorem dX2_add_8 : decode cX2_add 8 = .ok (.iload_n 2, 1) := dk_28 (dk_at dksX2_add_0 8 rfl rfl)
theorem dX2_add_9 : decode cX2_add 9 = .ok (.iastore, 1) := dk_79 (dk_at dksX2_add_0 9 rfl rfl)
theorem dX2_add_10 : decode cX2_add 10 = .ok (.aload_n 0, 1) := dk_42 (dk_at dksX2_add_0 10 rfl rfl)
theorem dX2_add_11 : decode cX2_add 11 = .ok (.getfield 21, 3) := dk_180 0 21 (dk_at dksX2_add_0 11 rfl rfl)
theorem dX2_add_14 : decode cX2_add 14 = .ok (.aload_n 0, 1) := dk_42 (dk_at dksX2_add_0 14 rfl rfl)
theorem dX2_add_15 : decode cX2_add 15 = .ok (.getfield 44, 3) := dk_180 0 44 (dk_at dksX2_add_0 15 rfl rfl)
theorem dX2_add_18 : decode cX2_add 18 = .ok (.lload_n 3, 1) := dk_33 (dk_at dksX2_add_0 18 rfl rfl)
theorem dX2_add_19 : decode cX2_add 19 = .ok (.lastore, 1) := dk_80 (dk_at dksX2_add_0 19 rfl rfl)
theorem dX2_add_20 : decode cX2_add 20 = .ok (.aload_n 0, 1) := dk_42 (dk_at dksX2_add_0 20 rfl rfl)
theorem dX2_add_21 : decode cX2_add 21 = .ok (.getfield 25, 3) := dk_180 0 25 (dk_at dksX2_add_0 21 rfl rfl)
theorem dX2_add_24 : decode cX2_add 24 = .ok (.aload_n 0, 1) := dk_42 (dk_at dksX2_add_1 0 rfl rfl)
theorem dX2_add_25 : decode cX2_add 25 = .ok (.getfield 44, 3) := dk_180 0 44 (dk_at dksX2_add_1 1 rfl rfl)
theorem dX2_add_28 : decode cX2_add 28 = .ok (.iconst 0, 1) := dk_3 (dk_at dksX2_add_1 4 rfl rfl)
theorem dX2_add_29 : decode cX2_add 29 = .ok (.bastore, 1) := dk_84 (dk_at dksX2_add_1 5 rfl rfl)
theorem dX2_add_30 : decode cX2_add 30 = .ok (.aload_n 0, 1) := dk_42 (dk_at dksX2_add_1 6 rfl rfl)
theorem dX2_add_31 : decode cX2_add 31 = .ok (.getfield 29, 3) := dk_180 0 29 (dk_at dksX2_add_1 7 rfl rfl)
theorem dX2_add_34 : decode cX2_add 34 = .ok (.aload_n 0, 1) := dk_42 (dk_at dksX2_add_1 10 rfl rfl)
theorem dX2_add_35 : decode cX2_add 35 = .ok (.getfield 44, 3) := dk_180 0 44 (dk_at dksX2_add_1 11 rfl rfl)
theorem dX2_add_38 : decode cX2_add 38 = .ok (.iconst 0, 1) := dk_3 (dk_at dksX2_add_1 14 rfl rfl)
theorem dX2_add_39 : decode cX2_add 39 = .ok (.bastore, 1) := dk_84 (dk_at dksX2_add_1 15 rfl rfl)
theorem dX2_add_40 : decode cX2_add 40 = .ok (.aload_n 1, 1) := dk_43 (dk_at dksX2_add_1 16 rfl rfl)
theorem dX2_add_41 : decode cX2_add 41 = .ok (.iload_n 2, 1) := dk_28 (dk_at dksX2_add_1 17 rfl rfl)
theorem dX2_add_42 : decode cX2_add 42 = .ok (.lload_n 3, 1) := dk_33 (dk_at dksX2_add_1 18 rfl rfl)
theorem dX2_add_43 : decode cX2_add 43 = .ok (.aload_n 0, 1) := dk_42 (dk_at dksX2_add_1 19 rfl rfl)
theorem dX2_add_44 : decode cX2_add 44 = .ok (.getfield 36, 3) := dk_180 0 36 (dk_at dksX2_add_1 20 rfl rfl)
theorem dX2_add_47 : decode cX2_add 47 = .ok (.iconst 0, 1) := dk_3 (dk_at dksX2_add_1 23 rfl rfl)
theorem dX2_add_48 : decode cX2_add 48 = .ok (.aaload, 1) := dk_50 (dk_at dksX2_add_2 0 rfl rfl)
theorem dX2_add_49 : decode cX2_add 49 = .ok (.aload_n 0, 1) := dk_42 (dk_at dksX2_add_2 1 rfl rfl)
theorem dX2_add_50 : decode cX2_add 50 = .ok (.getfield 44, 3) := dk_180 0 44 (dk_at dksX2_add_2 2 rfl rfl)
theorem dX2_add_53 : decode cX2_add 53 = .ok (.bipush 8, 2) := dk_16 8 (dk_at dksX2_add_2 5 rfl rfl)
theorem dX2_add_55 : decode cX2_add 55 = .ok (.imul, 1) := dk_104 (dk_at dksX2_add_2 7 rfl rfl)
theorem dX2_add_56 : decode cX2_add 56 = .ok (.invokevirtual 50, 3) := dk_182 0 50 (dk_at dksX2_add_2 8 rfl rfl)
theorem dX2_add_59 : decode cX2_add 59 = .ok (.aload_n 0, 1) := dk_42 (dk_at dksX2_add_2 11 rfl rfl)
theorem dX2_add_60 : decode cX2_add 60 = .ok (.dup, 1) := dk_89 (dk_at dksX2_add_2 12 rfl rfl)
theorem dX2_add_61 : decode cX2_add 61 = .ok (.getfield 44, 3) := dk_180 0 44 (dk_at dksX2_add_2 13 rfl rfl)
theorem dX2_add_64 : decode cX2_add 64 = .ok (.iconst 1, 1) := dk_4 (dk_at dksX2_add_2 16 rfl rfl)
theorem dX2_add_65 : decode cX2_add 65 = .ok (.iadd, 1) := dk_96 (dk_at dksX2_add_2 17 rfl rfl)
theorem dX2_add_66 : decode cX2_add 66 = .ok (.putfield 44, 3) := dk_181 0 44 (dk_at dksX2_add_2 18 rfl rfl)
theorem dX2_add_69 : decode cX2_add 69 = .ok (.iconst 1, 1) := dk_4 (dk_at dksX2_add_2 21 rfl rfl)
theorem dX2_add_70 : decode cX2_add 70 = .ok (.istore 5, 2) := dk_54 5 (dk_at dksX2_add_2 22 rfl rfl)
theorem dX2_add_72 : decode cX2_add 72 = .ok (.aload_n 0, 1) := dk_42 (dk_at dksX2_add_3 0 rfl rfl)
theorem dX2_add_73 : decode cX2_add 73 = .ok (.getfield 44, 3) := dk_180 0 44 (dk_at dksX2_add_3 1 rfl rfl)
theorem dX2_add_76 : decode cX2_add 76 = .ok (.iconst 1, 1) := dk_4 (dk_at dksX2_add_3 4 rfl rfl)
theorem dX2_add_77 : decode cX2_add 77 = .ok (.iload 5, 2) := dk_21 5 (dk_at dksX2_add_3 5 rfl rfl)
theorem dX2_add_79 : decode cX2_add 79 = .ok (.ishl, 1) := dk_120 (dk_at dksX2_add_3 7 rfl rfl)
theorem dX2_add_80 : decode cX2_add 80 = .ok (.irem, 1) := dk_112 (dk_at dksX2_add_3 8 rfl rfl)
theorem dX2_add_81 : decode cX2_add 81 = .ok (.ifCond .ne 70, 3) := dk_154 0 70 (dk_at dksX2_add_3 9 rfl rfl)
theorem dX2_add_84 : decode cX2_add 84 = .ok (.aload_n 0, 1) := dk_42 (dk_at dksX2_add_3 12 rfl rfl)
theorem dX2_add_85 : decode cX2_add 85 = .ok (.getfield 44, 3) := dk_180 0 44 (dk_at dksX2_add_3 13 rfl rfl)
theorem dX2_add_88 : decode cX2_add 88 = .ok (.iload 5, 2) := dk_21 5 (dk_at dksX2_add_3 16 rfl rfl)
theorem dX2_add_90 : decode cX2_add 90 = .ok (.ishr, 1) := dk_122 (dk_at dksX2_add_3 18 rfl rfl)
theorem dX2_add_91 : decode cX2_add 91 = .ok (.iconst 1, 1) := dk_4 (dk_at dksX2_add_3 19 rfl rfl)
theorem dX2_add_92 : decode cX2_add 92 = .ok (.isub, 1) := dk_100 (dk_at dksX2_add_3 20 rfl rfl)
theorem dX2_add_93 : decode cX2_add 93 = .ok (.istore 6, 2) := dk_54 6 (dk_at dksX2_add_3 21 rfl rfl)
theorem dX2_add_95 : decode cX2_add 95 = .ok (.aload_n 1, 1) := dk_43 (dk_at dksX2_add_3 23 rfl rfl)
theorem dX2_add_96 : decode cX2_add 96 = .ok (.aload_n 0, 1) := dk_42 (dk_at dksX2_add_4 0 rfl rfl)
theorem dX2_add_97 : decode cX2_add 97 = .ok (.getfield 36, 3) := dk_180 0 36 (dk_at dksX2_add_4 1 rfl rfl)
theorem dX2_add_100 : decode cX2_add 100 = .ok (.iload 5, 2) := dk_21 5 (dk_at dksX2_add_4 4 rfl rfl)
theorem dX2_add_102 : decode cX2_add 102 = .ok (.iconst 1, 1) := dk_4 (dk_at dksX2_add_4 6 rfl rfl)
theorem dX2_add_103 : decode cX2_add 103 = .ok (.isub, 1) := dk_100 (dk_at dksX2_add_4 7 rfl rfl)
theorem dX2_add_104 : decode cX2_add 104 = .ok (.aaload, 1) := dk_50 (dk_at dksX2_add_4 8 rfl rfl)
theorem dX2_add_105 : decode cX2_add 105 = .ok (.iconst 2, 1) := dk_5 (dk_at dksX2_add_4 9 rfl rfl)
theorem dX2_add_106 : decode cX2_add 106 = .ok (.iload 6, 2) := dk_21 6 (dk_at dksX2_add_4 10 rfl rfl)
theorem dX2_add_108 : decode cX2_add 108 = .ok (.imul, 1) := dk_104 (dk_at dksX2_add_4 12 rfl rfl)
theorem dX2_add_109 : decode cX2_add 109 = .ok (.bipush 8, 2) := dk_16 8 (dk_at dksX2_add_4 13 rfl rfl)
theorem dX2_add_111 : decode cX2_add 111 = .ok (.imul, 1) := dk_104 (dk_at dksX2_add_4 15 rfl rfl)
theorem dX2_add_112 : decode cX2_add 112 = .ok (.aload_n 0, 1) := dk_42 (dk_at dksX2_add_4 16 rfl rfl)
theorem dX2_add_113 : decode cX2_add 113 = .ok (.getfield 36, 3) := dk_180 0 36 (dk_at dksX2_add_4 17 rfl rfl)
theorem dX2_add_116 : decode cX2_add 116 = .ok (.iload 5, 2) := dk_21 5 (dk_at dksX2_add_4 20 rfl rfl)
theorem dX2_add_118 : decode cX2_add 118 = .ok (.iconst 1, 1) := dk_4 (dk_at dksX2_add_4 22 rfl rfl)
theorem dX2_add_119 : decode cX2_add 119 = .ok (.isub, 1) := dk_100 (dk_at dksX2_add_4 23 rfl rfl)
theorem dX2_add_120 : decode cX2_add 120 = .ok (.aaload, 1) := dk_50 (dk_at dksX2_add_5 0 rfl rfl)
theorem dX2_add_121 : decode cX2_add 121 = .ok (.iconst 2, 1) := dk_5 (dk_at dksX2_add_5 1 rfl rfl)
theorem dX2_add_122 : decode cX2_add 122 = .ok (.iload 6, 2) := dk_21 6 (dk_at dksX2_add_5 2 rfl rfl)
theorem dX2_add_124 : decode cX2_add 124 = .ok (.imul, 1) := dk_104 (dk_at dksX2_add_5 4 rfl rfl)
theorem dX2_add_125 : decode cX2_add 125 = .ok (.iconst 1, 1) := dk_4 (dk_at dksX2_add_5 5 rfl rfl)
theorem dX2_add_126 : decode cX2_add 126 = .ok (.iadd, 1) := dk_96 (dk_at dksX2_add_5 6 rfl rfl)
theorem dX2_add_127 : decode cX2_add 127 = .ok (.bipush 8, 2) := dk_16 8 (dk_at dksX2_add_5 7 rfl rfl)
theorem dX2_add_129 : decode cX2_add 129 = .ok (.imul, 1) := dk_104 (dk_at dksX2_add_5 9 rfl rfl)
theorem dX2_add_130 : decode cX2_add 130 = .ok (.aload_n 0, 1) := dk_42 (dk_at dksX2_add_5 10 rfl rfl)
theorem dX2_add_131 : decode cX2_add 131 = .ok (.getfield 36, 3) := dk_180 0 36 (dk_at dksX2_add_5 11 rfl rfl)
theorem dX2_add_134 : decode cX2_add 134 = .ok (.iload 5, 2) := dk_21 5 (dk_at dksX2_add_5 14 rfl rfl)
theorem dX2_add_136 : decode cX2_add 136 = .ok (.aaload, 1) := dk_50 (dk_at dksX2_add_5 16 rfl rfl)
theorem dX2_add_137 : decode cX2_add 137 = .ok (.iload 6, 2) := dk_21 6 (dk_at dksX2_add_5 17 rfl rfl)
theorem dX2_add_139 : decode cX2_add 139 = .ok (.bipush 8, 2) := dk_16 8 (dk_at dksX2_add_5 19 rfl rfl)
theorem dX2_add_141 : decode cX2_add 141 = .ok (.imul, 1) := dk_104 (dk_at dksX2_add_5 21 rfl rfl)
theorem dX2_add_142 : decode cX2_add 142 = .ok (.invokevirtual 56, 3) := dk_182 0 56 (dk_at dksX2_add_6 0 rfl rfl)
theorem dX2_add_145 : decode cX2_add 145 = .ok (.iinc 5 1, 3) := dk_132 5 1 (dk_at dksX2_add_6 3 rfl rfl)
theorem dX2_add_148 : decode cX2_add 148 = .ok (.goto (-76), 3) := dk_167 255 180 (dk_at dksX2_add_6 6 rfl rfl)
theorem dX2_add_151 : decode cX2_add 151 = .ok (.return_, 1) := dk_177 (dk_at dksX2_add_6 9 rfl rfl)
abbrev cX2_become : ByteArray := prog_7_method_4_code
def yX2_become : MethodName := ⟨RX2, "become", "(LGlassLog$Log;IZ)V"⟩
def dkwX2_become_8 : List UInt8 := [180, 0, 32, 21, 4, 51, 84, 42, 89, 180, 0, 47, 4, 96, 181, 0, 47, 132, 4, 1, 167, 255, 168, 177]
abbrev dktX2_become_8 : List UInt8 := dkwX2_become_8 ++ []
def dkwX2_become_7 : List UInt8 := [180, 0, 18, 42, 180, 0, 47, 43, 180, 0, 18, 21, 4, 46, 79, 42, 180, 0, 32, 42, 180, 0, 47, 43]
abbrev dktX2_become_7 : List UInt8 := dkwX2_become_7 ++ dktX2_become_8
def dkwX2_become_6 : List UInt8 := [164, 0, 6, 167, 0, 61, 42, 180, 0, 15, 42, 180, 0, 47, 43, 180, 0, 15, 21, 4, 46, 79, 42]
abbrev dktX2_become_6 : List UInt8 := dkwX2_become_6 ++ dktX2_become_7
def dkwX2_become_5 : List UInt8 := [54, 4, 21, 4, 43, 180, 0, 47, 162, 0, 85, 29, 154, 0, 17, 43, 180, 0, 18, 21, 4, 46, 28]
abbrev dktX2_become_5 : List UInt8 := dkwX2_become_5 ++ dktX2_become_6
def dkwX2_become_4 : List UInt8 := [3, 28, 21, 4, 122, 16, 8, 104, 184, 0, 60, 132, 4, 1, 167, 255, 220, 42, 3, 181, 0, 47, 3]
abbrev dktX2_become_4 : List UInt8 := dkwX2_become_4 ++ dktX2_become_5
def dkwX2_become_3 : List UInt8 := [54, 4, 21, 4, 16, 10, 162, 0, 35, 43, 180, 0, 36, 21, 4, 50, 3, 42, 180, 0, 36, 21, 4, 50]
abbrev dktX2_become_3 : List UInt8 := dkwX2_become_3 ++ dktX2_become_4
def dkwX2_become_2 : List UInt8 := [180, 0, 25, 3, 28, 184, 0, 60, 43, 180, 0, 29, 3, 42, 180, 0, 29, 3, 28, 184, 0, 60, 3]
abbrev dktX2_become_2 : List UInt8 := dkwX2_become_2 ++ dktX2_become_3
def dkwX2_become_1 : List UInt8 := [184, 0, 60, 43, 180, 0, 21, 3, 42, 180, 0, 21, 3, 28, 184, 0, 60, 43, 180, 0, 25, 3, 42]
abbrev dktX2_become_1 : List UInt8 := dkwX2_become_1 ++ dktX2_become_2
def dkwX2_become_0 : List UInt8 := [42, 43, 180, 0, 40, 181, 0, 40, 42, 28, 181, 0, 44, 43, 180, 0, 9, 3, 42, 180, 0, 9, 3, 28]
abbrev dktX2_become_0 : List UInt8 := dkwX2_become_0 ++ dktX2_become_1
theorem dksX2_become_0 : cX2_become.data.toList.drop 0 = dktX2_become_0 := by decide +kernel
theorem dksX2_become_1 : cX2_become.data.toList.drop 24 = dktX2_become_1 := dk_seg dksX2_become_0 24 rfl rfl
theorem dksX2_become_2 : cX2_become.data.toList.drop 47 = dktX2_become_2 := dk_seg dksX2_become_1 23 rfl rfl
theorem dksX2_become_3 : cX2_become.data.toList.drop 70 = dktX2_become_3 := dk_seg dksX2_become_2 23 rfl rfl
theorem dksX2_become_4 : cX2_become.data.toList.drop 94 = dktX2_become_4 := dk_seg dksX2_become_3 24 rfl rfl
theorem dksX2_become_5 : cX2_become.data.toList.drop 117 = dktX2_become_5 := dk_seg dksX2_become_4 23 rfl rfl
theorem dksX2_become_6 : cX2_become.data.toList.drop 140 = dktX2_become_6 := dk_seg dksX2_become_5 23 rfl rfl
theorem dksX2_become_7 : cX2_become.data.toList.drop 163 = dktX2_become_7 := dk_seg dksX2_become_6 23 rfl rfl
theorem dksX2_become_8 : cX2_become.data.toList.drop 187 = dktX2_become_8 := dk_seg dksX2_become_7 24 rfl rfl
theorem dX2_become_0 : decode cX2_become 0 = .ok (.aload_n 0, 1) := dk_42 (dk_at dksX2_become_0 0 rfl rfl)
theorem dX2_become_1 : decode cX2_become 1 = .ok (.aload_n 1, 1) := dk_43 (dk_at dksX2_become_0 1 rfl rfl)
theorem dX2_become_2 : decode cX2_become 2 = .ok (.getfield 40, 3) := dk_180 0 40 (dk_at dksX2_become_0 2 rfl rfl)
theorem dX2_become_5 : decode cX2_become 5 = .ok (.putfield 40, 3) := dk_181 0 40 (dk_at dksX2_become_0 5 rfl rfl)
theorem dX2_become_8 : decode cX2_become 8 = .ok (.aload_n 0, 1) := dk_42 (dk_at dksX2_become_0 8 rfl rfl)
theorem dX2_become_9 : decode cX2_become 9 = .ok (.iload_n 2, 1) := dk_28 (dk_at dksX2_become_0 9 rfl rfl)
theorem dX2_become_10 : decode cX2_become 10 = .ok (.putfield 44, 3) := dk_181 0 44 (dk_at dksX2_become_0 10 rfl rfl)
theorem dX2_become_13 : decode cX2_become 13 = .ok (.aload_n 1, 1) := dk_43 (dk_at dksX2_become_0 13 rfl rfl)
theorem dX2_become_14 : decode cX2_become 14 = .ok (.getfield 9, 3) := dk_180 0 9 (dk_at dksX2_become_0 14 rfl rfl)
theorem dX2_become_17 : decode cX2_become 17 = .ok (.iconst 0, 1) := dk_3 (dk_at dksX2_become_0 17 rfl rfl)
theorem dX2_become_18 : decode cX2_become 18 = .ok (.aload_n 0, 1) := dk_42 (dk_at dksX2_become_0 18 rfl rfl)
theorem dX2_become_19 : decode cX2_become 19 = .ok (.getfield 9, 3) := dk_180 0 9 (dk_at dksX2_become_0 19 rfl rfl)
theorem dX2_become_22 : decode cX2_become 22 = .ok (.iconst 0, 1) := dk_3 (dk_at dksX2_become_0 22 rfl rfl)
theorem dX2_become_23 : decode cX2_become 23 = .ok (.iload_n 2, 1) := dk_28 (dk_at dksX2_become_0 23 rfl rfl)
theorem dX2_become_24 : decode cX2_become 24 = .ok (.invokestatic 60, 3) := dk_184 0 60 (dk_at dksX2_become_1 0 rfl rfl)
theorem dX2_become_27 : decode cX2_become 27 = .ok (.aload_n 1, 1) := dk_43 (dk_at dksX2_become_1 3 rfl rfl)
theorem dX2_become_28 : decode cX2_become 28 = .ok (.getfield 21, 3) := dk_180 0 21 (dk_at dksX2_become_1 4 rfl rfl)
theorem dX2_become_31 : decode cX2_become 31 = .ok (.iconst 0, 1) := dk_3 (dk_at dksX2_become_1 7 rfl rfl)
theorem dX2_become_32 : decode cX2_become 32 = .ok (.aload_n 0, 1) := dk_42 (dk_at dksX2_become_1 8 rfl rfl)
theorem dX2_become_33 : decode cX2_become 33 = .ok (.getfield 21, 3) := dk_180 0 21 (dk_at dksX2_become_1 9 rfl rfl)
theorem dX2_become_36 : decode cX2_become 36 = .ok (.iconst 0, 1) := dk_3 (dk_at dksX2_become_1 12 rfl rfl)
theorem dX2_become_37 : decode cX2_become 37 = .ok (.iload_n 2, 1) := dk_28 (dk_at dksX2_become_1 13 rfl rfl)
theorem dX2_become_38 : decode cX2_become 38 = .ok (.invokestatic 60, 3) := dk_184 0 60 (dk_at dksX2_become_1 14 rfl rfl)
theorem dX2_become_41 : decode cX2_become 41 = .ok (.aload_n 1, 1) := dk_43 (dk_at dksX2_become_1 17 rfl rfl)
theorem dX2_become_42 : decode cX2_become 42 = .ok (.getfield 25, 3) := dk_180 0 25 (dk_at dksX2_become_1 18 rfl rfl)
theorem dX2_become_45 : decode cX2_become 45 = .ok (.iconst 0, 1) := dk_3 (dk_at dksX2_become_1 21 rfl rfl)
theorem dX2_become_46 : decode cX2_become 46 = .ok (.aload_n 0, 1) := dk_42 (dk_at dksX2_become_1 22 rfl rfl)
theorem dX2_become_47 : decode cX2_become 47 = .ok (.getfield 25, 3) := dk_180 0 25 (dk_at dksX2_become_2 0 rfl rfl)
theorem dX2_become_50 : decode cX2_become 50 = .ok (.iconst 0, 1) := dk_3 (dk_at dksX2_become_2 3 rfl rfl)
theorem dX2_become_51 : decode cX2_become 51 = .ok (.iload_n 2, 1) := dk_28 (dk_at dksX2_become_2 4 rfl rfl)
theorem dX2_become_52 : decode cX2_become 52 = .ok (.invokestatic 60, 3) := dk_184 0 60 (dk_at dksX2_become_2 5 rfl rfl)
theorem dX2_become_55 : decode cX2_become 55 = .ok (.aload_n 1, 1) := dk_43 (dk_at dksX2_become_2 8 rfl rfl)
theorem dX2_become_56 : decode cX2_become 56 = .ok (.getfield 29, 3) := dk_180 0 29 (dk_at dksX2_become_2 9 rfl rfl)
theorem dX2_become_59 : decode cX2_become 59 = .ok (.iconst 0, 1) := dk_3 (dk_at dksX2_become_2 12 rfl rfl)
theorem dX2_become_60 : decode cX2_become 60 = .ok (.aload_n 0, 1) := dk_42 (dk_at dksX2_become_2 13 rfl rfl)
theorem dX2_become_61 : decode cX2_become 61 = .ok (.getfield 29, 3) := dk_180 0 29 (dk_at dksX2_become_2 14 rfl rfl)
theorem dX2_become_64 : decode cX2_become 64 = .ok (.iconst 0, 1) := dk_3 (dk_at dksX2_become_2 17 rfl rfl)
theorem dX2_become_65 : decode cX2_become 65 = .ok (.iload_n 2, 1) := dk_28 (dk_at dksX2_become_2 18 rfl rfl)
theorem dX2_become_66 : decode cX2_become 66 = .ok (.invokestatic 60, 3) := dk_184 0 60 (dk_at dksX2_become_2 19 rfl rfl)
theorem dX2_become_69 : decode cX2_become 69 = .ok (.iconst 0, 1) := dk_3 (dk_at dksX2_become_2 22 rfl rfl)
theorem dX2_become_70 : decode cX2_become 70 = .ok (.istore 4, 2) := dk_54 4 (dk_at dksX2_become_3 0 rfl rfl)
theorem dX2_become_72 : decode cX2_become 72 = .ok (.iload 4, 2) := dk_21 4 (dk_at dksX2_become_3 2 rfl rfl)
theorem dX2_become_74 : decode cX2_become 74 = .ok (.bipush 10, 2) := dk_16 10 (dk_at dksX2_become_3 4 rfl rfl)
theorem dX2_become_76 : decode cX2_become 76 = .ok (.if_icmp .ge 35, 3) := dk_162 0 35 (dk_at dksX2_become_3 6 rfl rfl)
theorem dX2_become_79 : decode cX2_become 79 = .ok (.aload_n 1, 1) := dk_43 (dk_at dksX2_become_3 9 rfl rfl)
theorem dX2_become_80 : decode cX2_become 80 = .ok (.getfield 36, 3) := dk_180 0 36 (dk_at dksX2_become_3 10 rfl rfl)
theorem dX2_become_83 : decode cX2_become 83 = .ok (.iload 4, 2) := dk_21 4 (dk_at dksX2_become_3 13 rfl rfl)
theorem dX2_become_85 : decode cX2_become 85 = .ok (.aaload, 1) := dk_50 (dk_at dksX2_become_3 15 rfl rfl)
theorem dX2_become_86 : decode cX2_become 86 = .ok (.iconst 0, 1) := dk_3 (dk_at dksX2_become_3 16 rfl rfl)
theorem dX2_become_87 : decode cX2_become 87 = .ok (.aload_n 0, 1) := dk_42 (dk_at dksX2_become_3 17 rfl rfl)
theorem dX2_become_88 : decode cX2_become 88 = .ok (.getfield 36, 3) := dk_180 0 36 (dk_at dksX2_become_3 18 rfl rfl)
theorem dX2_become_91 : decode cX2_become 91 = .ok (.iload 4, 2) := dk_21 4 (dk_at dksX2_become_3 21 rfl rfl)
theorem dX2_become_93 : decode cX2_become 93 = .ok (.aaload, 1) := dk_50 (dk_at dksX2_become_3 23 rfl rfl)
theorem dX2_become_94 : decode cX2_become 94 = .ok (.iconst 0, 1) := dk_3 (dk_at dksX2_become_4 0 rfl rfl)
theorem dX2_become_95 : decode cX2_become 95 = .ok (.iload_n 2, 1) := dk_28 (dk_at dksX2_become_4 1 rfl rfl)
theorem dX2_become_96 : decode cX2_become 96 = .ok (.iload 4, 2) := dk_21 4 (dk_at dksX2_become_4 2 rfl rfl)
theorem dX2_become_98 : decode cX2_become 98 = .ok (.ishr, 1) := dk_122 (dk_at dksX2_become_4 4 rfl rfl)
theorem dX2_become_99 : decode cX2_become 99 = .ok (.bipush 8, 2) := dk_16 8 (dk_at dksX2_become_4 5 rfl rfl)
theorem dX2_become_101 : decode cX2_become 101 = .ok (.imul, 1) := dk_104 (dk_at dksX2_become_4 7 rfl rfl)
theorem dX2_become_102 : decode cX2_become 102 = .ok (.invokestatic 60, 3) := dk_184 0 60 (dk_at dksX2_become_4 8 rfl rfl)
theorem dX2_become_105 : decode cX2_become 105 = .ok (.iinc 4 1, 3) := dk_132 4 1 (dk_at dksX2_become_4 11 rfl rfl)
theorem dX2_become_108 : decode cX2_become 108 = .ok (.goto (-36), 3) := dk_167 255 220 (dk_at dksX2_become_4 14 rfl rfl)
theorem dX2_become_111 : decode cX2_become 111 = .ok (.aload_n 0, 1) := dk_42 (dk_at dksX2_become_4 17 rfl rfl)
theorem dX2_become_112 : decode cX2_become 112 = .ok (.iconst 0, 1) := dk_3 (dk_at dksX2_become_4 18 rfl rfl)
theorem dX2_become_113 : decode cX2_become 113 = .ok (.putfield 47, 3) := dk_181 0 47 (dk_at dksX2_become_4 19 rfl rfl)
theorem dX2_become_116 : decode cX2_become 116 = .ok (.iconst 0, 1) := dk_3 (dk_at dksX2_become_4 22 rfl rfl)
theorem dX2_become_117 : decode cX2_become 117 = .ok (.istore 4, 2) := dk_54 4 (dk_at dksX2_become_5 0 rfl rfl)
theorem dX2_become_119 : decode cX2_become 119 = .ok (.iload 4, 2) := dk_21 4 (dk_at dksX2_become_5 2 rfl rfl)
theorem dX2_become_121 : decode cX2_become 121 = .ok (.aload_n 1, 1) := dk_43 (dk_at dksX2_become_5 4 rfl rfl)
theorem dX2_become_122 : decode cX2_become 122 = .ok (.getfield 47, 3) := dk_180 0 47 (dk_at dksX2_become_5 5 rfl rfl)
theorem dX2_become_125 : decode cX2_become 125 = .ok (.if_icmp .ge 85, 3) := dk_162 0 85 (dk_at dksX2_become_5 8 rfl rfl)
theorem dX2_become_128 : decode cX2_become 128 = .ok (.iload_n 3, 1) := dk_29 (dk_at dksX2_become_5 11 rfl rfl)
theorem dX2_become_129 : decode cX2_become 129 = .ok (.ifCond .ne 17, 3) := dk_154 0 17 (dk_at dksX2_become_5 12 rfl rfl)
theorem dX2_become_132 : decode cX2_become 132 = .ok (.aload_n 1, 1) := dk_43 (dk_at dksX2_become_5 15 rfl rfl)
theorem dX2_become_133 : decode cX2_become 133 = .ok (.getfield 18, 3) := dk_180 0 18 (dk_at dksX2_become_5 16 rfl rfl)
theorem dX2_become_136 : decode cX2_become 136 = .ok (.iload 4, 2) := dk_21 4 (dk_at dksX2_become_5 19 rfl rfl)
theorem dX2_become_138 : decode cX2_become 138 = .ok (.iaload, 1) := dk_46 (dk_at dksX2_become_5 21 rfl rfl)
theorem dX2_become_139 : decode cX2_become 139 = .ok (.iload_n 2, 1) := dk_28 (dk_at dksX2_become_5 22 rfl rfl)
theorem dX2_become_140 : decode cX2_become 140 = .ok (.if_icmp .le 6, 3) := dk_164 0 6 (dk_at dksX2_become_6 0 rfl rfl)
theorem dX2_become_143 : decode cX2_become 143 = .ok (.goto 61, 3) := dk_167 0 61 (dk_at dksX2_become_6 3 rfl rfl)
theorem dX2_become_146 : decode cX2_become 146 = .ok (.aload_n 0, 1) := dk_42 (dk_at dksX2_become_6 6 rfl rfl)
theorem dX2_become_147 : decode cX2_become 147 = .ok (.getfield 15, 3) := dk_180 0 15 (dk_at dksX2_become_6 7 rfl rfl)
theorem dX2_become_150 : decode cX2_become 150 = .ok (.aload_n 0, 1) := dk_42 (dk_at dksX2_become_6 10 rfl rfl)
theorem dX2_become_151 : decode cX2_become 151 = .ok (.getfield 47, 3) := dk_180 0 47 (dk_at dksX2_become_6 11 rfl rfl)
theorem dX2_become_154 : decode cX2_become 154 = .ok (.aload_n 1, 1) := dk_43 (dk_at dksX2_become_6 14 rfl rfl)
theorem dX2_become_155 : decode cX2_become 155 = .ok (.getfield 15, 3) := dk_180 0 15 (dk_at dksX2_become_6 15 rfl rfl)
theorem dX2_become_158 : decode cX2_become 158 = .ok (.iload 4, 2) := dk_21 4 (dk_at dksX2_become_6 18 rfl rfl)
theorem dX2_become_160 : decode cX2_become 160 = .ok (.iaload, 1) := dk_46 (dk_at dksX2_become_6 20 rfl rfl)
theorem dX2_become_161 : decode cX2_become 161 = .ok (.iastore, 1) := dk_79 (dk_at dksX2_become_6 21 rfl rfl)
theorem dX2_become_162 : decode cX2_become 162 = .ok (.aload_n 0, 1) := dk_42 (dk_at dksX2_become_6 22 rfl rfl)
theorem dX2_become_163 : decode cX2_become 163 = .ok (.getfield 18, 3) := dk_180 0 18 (dk_at dksX2_become_7 0 rfl rfl)
theorem dX2_become_166 : decode cX2_become 166 = .ok (.aload_n 0, 1) := dk_42 (dk_at dksX2_become_7 3 rfl rfl)
theorem dX2_become_167 : decode cX2_become 167 = .ok (.getfield 47, 3) := dk_180 0 47 (dk_at dksX2_become_7 4 rfl rfl)
theorem dX2_become_170 : decode cX2_become 170 = .ok (.aload_n 1, 1) := dk_43 (dk_at dksX2_become_7 7 rfl rfl)
theorem dX2_become_171 : decode cX2_become 171 = .ok (.getfield 18, 3) := dk_180 0 18 (dk_at dksX2_become_7 8 rfl rfl)
theorem dX2_become_174 : decode cX2_become 174 = .ok (.iload 4, 2) := dk_21 4 (dk_at dksX2_become_7 11 rfl rfl)
theorem dX2_become_176 : decode cX2_become 176 = .ok (.iaload, 1) := dk_46 (dk_at dksX2_become_7 13 rfl rfl)
theorem dX2_become_177 : decode cX2_become 177 = .ok (.iastore, 1) := dk_79 (dk_at dksX2_become_7 14 rfl rfl)
theorem dX2_become_178 : decode cX2_become 178 = .ok (.aload_n 0, 1) := dk_42 (dk_at dksX2_become_7 15 rfl rfl)
theorem dX2_become_179 : decode cX2_become 179 = .ok (.getfield 32, 3) := dk_180 0 32 (dk_at dksX2_become_7 16 rfl rfl)
theorem dX2_become_182 : decode cX2_become 182 = .ok (.aload_n 0, 1) := dk_42 (dk_at dksX2_become_7 19 rfl rfl)
theorem dX2_become_183 : decode cX2_become 183 = .ok (.getfield 47, 3) := dk_180 0 47 (dk_at dksX2_become_7 20 rfl rfl)
theorem dX2_become_186 : decode cX2_become 186 = .ok (.aload_n 1, 1) := dk_43 (dk_at dksX2_become_7 23 rfl rfl)
theorem dX2_become_187 : decode cX2_become 187 = .ok (.getfield 32, 3) := dk_180 0 32 (dk_at dksX2_become_8 0 rfl rfl)
theorem dX2_become_190 : decode cX2_become 190 = .ok (.iload 4, 2) := dk_21 4 (dk_at dksX2_become_8 3 rfl rfl)
theorem dX2_become_192 : decode cX2_become 192 = .ok (.baload, 1) := dk_51 (dk_at dksX2_become_8 5 rfl rfl)
theorem dX2_become_193 : decode cX2_become 193 = .ok (.bastore, 1) := dk_84 (dk_at dksX2_become_8 6 rfl rfl)
theorem dX2_become_194 : decode cX2_become 194 = .ok (.aload_n 0, 1) := dk_42 (dk_at dksX2_become_8 7 rfl rfl)
theorem dX2_become_195 : decode cX2_become 195 = .ok (.dup, 1) := dk_89 (dk_at dksX2_become_8 8 rfl rfl)
theorem dX2_become_196 : decode cX2_become 196 = .ok (.getfield 47, 3) := dk_180 0 47 (dk_at dksX2_become_8 9 rfl rfl)
theorem dX2_become_199 : decode cX2_become 199 = .ok (.iconst 1, 1) := dk_4 (dk_at dksX2_become_8 12 rfl rfl)
theorem dX2_become_200 : decode cX2_become 200 = .ok (.iadd, 1) := dk_96 (dk_at dksX2_become_8 13 rfl rfl)
theorem dX2_become_201 : decode cX2_become 201 = .ok (.putfield 47, 3) := dk_181 0 47 (dk_at dksX2_become_8 14 rfl rfl)
theorem dX2_become_204 : decode cX2_become 204 = .ok (.iinc 4 1, 3) := dk_132 4 1 (dk_at dksX2_become_8 17 rfl rfl)
theorem dX2_become_207 : decode cX2_become 207 = .ok (.goto (-88), 3) := dk_167 255 168 (dk_at dksX2_become_8 20 rfl rfl)
theorem dX2_become_210 : decode cX2_become 210 = .ok (.return_, 1) := dk_177 (dk_at dksX2_become_8 23 rfl rfl)
abbrev cX2_lies : ByteArray := prog_7_method_7_code
def yX2_lies : MethodName := ⟨RX2, "lies", "(IZ)Z"⟩
def dkwX2_lies_2 : List UInt8 := [180, 0, 47, 28, 84, 42, 89, 180, 0, 47, 4, 96, 181, 0, 47, 4, 172]
abbrev dktX2_lies_2 : List UInt8 := dkwX2_lies_2 ++ []
def dkwX2_lies_1 : List UInt8 := [180, 0, 47, 27, 79, 42, 180, 0, 18, 42, 180, 0, 47, 42, 180, 0, 44, 79, 42, 180, 0, 32, 42]
abbrev dktX2_lies_1 : List UInt8 := dkwX2_lies_1 ++ dktX2_lies_2
def dkwX2_lies_0 : List UInt8 := [42, 27, 182, 0, 76, 156, 0, 12, 42, 180, 0, 47, 16, 100, 160, 0, 5, 3, 172, 42, 180, 0, 15, 42]
abbrev dktX2_lies_0 : List UInt8 := dkwX2_lies_0 ++ dktX2_lies_1
theorem dksX2_lies_0 : cX2_lies.data.toList.drop 0 = dktX2_lies_0 := by decide +kernel
theorem dksX2_lies_1 : cX2_lies.data.toList.drop 24 = dktX2_lies_1 := dk_seg dksX2_lies_0 24 rfl rfl
theorem dksX2_lies_2 : cX2_lies.data.toList.drop 47 = dktX2_lies_2 := dk_seg dksX2_lies_1 23 rfl rfl
theorem dX2_lies_0 : decode cX2_lies 0 = .ok (.aload_n 0, 1) := dk_42 (dk_at dksX2_lies_0 0 rfl rfl)
theorem dX2_lies_1 : decode cX2_lies 1 = .ok (.iload_n 1, 1) := dk_27 (dk_at dksX2_lies_0 1 rfl rfl)
theorem dX2_lies_2 : decode cX2_lies 2 = .ok (.invokevirtual 76, 3) := dk_182 0 76 (dk_at dksX2_lies_0 2 rfl rfl)
theorem dX2_lies_5 : decode cX2_lies 5 = .ok (.ifCond .ge 12, 3) := dk_156 0 12 (dk_at dksX2_lies_0 5 rfl rfl)
theorem dX2_lies_8 : decode cX2_lies 8 = .ok (.aload_n 0, 1) := dk_42 (dk_at dksX2_lies_0 8 rfl rfl)
theorem dX2_lies_9 : decode cX2_lies 9 = .ok (.getfield 47, 3) := dk_180 0 47 (dk_at dksX2_lies_0 9 rfl rfl)
theorem dX2_lies_12 : decode cX2_lies 12 = .ok (.bipush 100, 2) := dk_16 100 (dk_at dksX2_lies_0 12 rfl rfl)
theorem dX2_lies_14 : decode cX2_lies 14 = .ok (.if_icmp .ne 5, 3) := dk_160 0 5 (dk_at dksX2_lies_0 14 rfl rfl)
theorem dX2_lies_17 : decode cX2_lies 17 = .ok (.iconst 0, 1) := dk_3 (dk_at dksX2_lies_0 17 rfl rfl)
theorem dX2_lies_18 : decode cX2_lies 18 = .ok (.ireturn, 1) := dk_172 (dk_at dksX2_lies_0 18 rfl rfl)
theorem dX2_lies_19 : decode cX2_lies 19 = .ok (.aload_n 0, 1) := dk_42 (dk_at dksX2_lies_0 19 rfl rfl)
theorem dX2_lies_20 : decode cX2_lies 20 = .ok (.getfield 15, 3) := dk_180 0 15 (dk_at dksX2_lies_0 20 rfl rfl)
theorem dX2_lies_23 : decode cX2_lies 23 = .ok (.aload_n 0, 1) := dk_42 (dk_at dksX2_lies_0 23 rfl rfl)
theorem dX2_lies_24 : decode cX2_lies 24 = .ok (.getfield 47, 3) := dk_180 0 47 (dk_at dksX2_lies_1 0 rfl rfl)
theorem dX2_lies_27 : decode cX2_lies 27 = .ok (.iload_n 1, 1) := dk_27 (dk_at dksX2_lies_1 3 rfl rfl)
theorem dX2_lies_28 : decode cX2_lies 28 = .ok (.iastore, 1) := dk_79 (dk_at dksX2_lies_1 4 rfl rfl)
theorem dX2_lies_29 : decode cX2_lies 29 = .ok (.aload_n 0, 1) := dk_42 (dk_at dksX2_lies_1 5 rfl rfl)
theorem dX2_lies_30 : decode cX2_lies 30 = .ok (.getfield 18, 3) := dk_180 0 18 (dk_at dksX2_lies_1 6 rfl rfl)
theorem dX2_lies_33 : decode cX2_lies 33 = .ok (.aload_n 0, 1) := dk_42 (dk_at dksX2_lies_1 9 rfl rfl)
theorem dX2_lies_34 : decode cX2_lies 34 = .ok (.getfield 47, 3) := dk_180 0 47 (dk_at dksX2_lies_1 10 rfl rfl)
theorem dX2_lies_37 : decode cX2_lies 37 = .ok (.aload_n 0, 1) := dk_42 (dk_at dksX2_lies_1 13 rfl rfl)
theorem dX2_lies_38 : decode cX2_lies 38 = .ok (.getfield 44, 3) := dk_180 0 44 (dk_at dksX2_lies_1 14 rfl rfl)
theorem dX2_lies_41 : decode cX2_lies 41 = .ok (.iastore, 1) := dk_79 (dk_at dksX2_lies_1 17 rfl rfl)
theorem dX2_lies_42 : decode cX2_lies 42 = .ok (.aload_n 0, 1) := dk_42 (dk_at dksX2_lies_1 18 rfl rfl)
theorem dX2_lies_43 : decode cX2_lies 43 = .ok (.getfield 32, 3) := dk_180 0 32 (dk_at dksX2_lies_1 19 rfl rfl)
theorem dX2_lies_46 : decode cX2_lies 46 = .ok (.aload_n 0, 1) := dk_42 (dk_at dksX2_lies_1 22 rfl rfl)
theorem dX2_lies_47 : decode cX2_lies 47 = .ok (.getfield 47, 3) := dk_180 0 47 (dk_at dksX2_lies_2 0 rfl rfl)
theorem dX2_lies_50 : decode cX2_lies 50 = .ok (.iload_n 2, 1) := dk_28 (dk_at dksX2_lies_2 3 rfl rfl)
theorem dX2_lies_51 : decode cX2_lies 51 = .ok (.bastore, 1) := dk_84 (dk_at dksX2_lies_2 4 rfl rfl)
theorem dX2_lies_52 : decode cX2_lies 52 = .ok (.aload_n 0, 1) := dk_42 (dk_at dksX2_lies_2 5 rfl rfl)
theorem dX2_lies_53 : decode cX2_lies 53 = .ok (.dup, 1) := dk_89 (dk_at dksX2_lies_2 6 rfl rfl)
theorem dX2_lies_54 : decode cX2_lies 54 = .ok (.getfield 47, 3) := dk_180 0 47 (dk_at dksX2_lies_2 7 rfl rfl)
theorem dX2_lies_57 : decode cX2_lies 57 = .ok (.iconst 1, 1) := dk_4 (dk_at dksX2_lies_2 10 rfl rfl)
theorem dX2_lies_58 : decode cX2_lies 58 = .ok (.iadd, 1) := dk_96 (dk_at dksX2_lies_2 11 rfl rfl)
theorem dX2_lies_59 : decode cX2_lies 59 = .ok (.putfield 47, 3) := dk_181 0 47 (dk_at dksX2_lies_2 12 rfl rfl)
theorem dX2_lies_62 : decode cX2_lies 62 = .ok (.iconst 1, 1) := dk_4 (dk_at dksX2_lies_2 15 rfl rfl)
theorem dX2_lies_63 : decode cX2_lies 63 = .ok (.ireturn, 1) := dk_172 (dk_at dksX2_lies_2 16 rfl rfl)
abbrev cX2_lie : ByteArray := prog_7_method_6_code
def yX2_lie : MethodName := ⟨RX2, "lie", "(I)I"⟩
def dkwX2_lie_1 : List UInt8 := [132, 2, 1, 167, 255, 233, 2, 172]
abbrev dktX2_lie_1 : List UInt8 := dkwX2_lie_1 ++ []
def dkwX2_lie_0 : List UInt8 := [3, 61, 28, 42, 180, 0, 47, 162, 0, 21, 42, 180, 0, 15, 28, 46, 27, 160, 0, 5, 28, 172]
abbrev dktX2_lie_0 : List UInt8 := dkwX2_lie_0 ++ dktX2_lie_1
theorem dksX2_lie_0 : cX2_lie.data.toList.drop 0 = dktX2_lie_0 := by decide +kernel
theorem dksX2_lie_1 : cX2_lie.data.toList.drop 22 = dktX2_lie_1 := dk_seg dksX2_lie_0 22 rfl rfl
theorem dX2_lie_0 : decode cX2_lie 0 = .ok (.iconst 0, 1) := dk_3 (dk_at dksX2_lie_0 0 rfl rfl)
theorem dX2_lie_1 : decode cX2_lie 1 = .ok (.istore_n 2, 1) := dk_61 (dk_at dksX2_lie_0 1 rfl rfl)
theorem dX2_lie_2 : decode cX2_lie 2 = .ok (.iload_n 2, 1) := dk_28 (dk_at dksX2_lie_0 2 rfl rfl)
theorem dX2_lie_3 : decode cX2_lie 3 = .ok (.aload_n 0, 1) := dk_42 (dk_at dksX2_lie_0 3 rfl rfl)
theorem dX2_lie_4 : decode cX2_lie 4 = .ok (.getfield 47, 3) := dk_180 0 47 (dk_at dksX2_lie_0 4 rfl rfl)
theorem dX2_lie_7 : decode cX2_lie 7 = .ok (.if_icmp .ge 21, 3) := dk_162 0 21 (dk_at dksX2_lie_0 7 rfl rfl)
theorem dX2_lie_10 : decode cX2_lie 10 = .ok (.aload_n 0, 1) := dk_42 (dk_at dksX2_lie_0 10 rfl rfl)
theorem dX2_lie_11 : decode cX2_lie 11 = .ok (.getfield 15, 3) := dk_180 0 15 (dk_at dksX2_lie_0 11 rfl rfl)
theorem dX2_lie_14 : decode cX2_lie 14 = .ok (.iload_n 2, 1) := dk_28 (dk_at dksX2_lie_0 14 rfl rfl)
theorem dX2_lie_15 : decode cX2_lie 15 = .ok (.iaload, 1) := dk_46 (dk_at dksX2_lie_0 15 rfl rfl)
theorem dX2_lie_16 : decode cX2_lie 16 = .ok (.iload_n 1, 1) := dk_27 (dk_at dksX2_lie_0 16 rfl rfl)
theorem dX2_lie_17 : decode cX2_lie 17 = .ok (.if_icmp .ne 5, 3) := dk_160 0 5 (dk_at dksX2_lie_0 17 rfl rfl)
theorem dX2_lie_20 : decode cX2_lie 20 = .ok (.iload_n 2, 1) := dk_28 (dk_at dksX2_lie_0 20 rfl rfl)
theorem dX2_lie_21 : decode cX2_lie 21 = .ok (.ireturn, 1) := dk_172 (dk_at dksX2_lie_0 21 rfl rfl)
theorem dX2_lie_22 : decode cX2_lie 22 = .ok (.iinc 2 1, 3) := dk_132 2 1 (dk_at dksX2_lie_1 0 rfl rfl)
theorem dX2_lie_25 : decode cX2_lie 25 = .ok (.goto (-23), 3) := dk_167 255 233 (dk_at dksX2_lie_1 3 rfl rfl)
theorem dX2_lie_28 : decode cX2_lie 28 = .ok (.iconst (-1), 1) := dk_2 (dk_at dksX2_lie_1 6 rfl rfl)
theorem dX2_lie_29 : decode cX2_lie 29 = .ok (.ireturn, 1) := dk_172 (dk_at dksX2_lie_1 7 rfl rfl)
abbrev cX2_latest : ByteArray := prog_7_method_8_code
def yX2_latest : MethodName := ⟨RX2, "latest", "(II)I"⟩
def dkwX2_latest_3 : List UInt8 := [167, 255, 234, 2, 172]
abbrev dktX2_latest_3 : List UInt8 := dkwX2_latest_3 ++ []
def dkwX2_latest_2 : List UInt8 := [21, 5, 155, 0, 23, 42, 180, 0, 9, 21, 5, 46, 28, 160, 0, 6, 21, 5, 172, 132, 5, 255]
abbrev dktX2_latest_2 : List UInt8 := dkwX2_latest_2 ++ dktX2_latest_3
def dkwX2_latest_1 : List UInt8 := [180, 0, 32, 29, 51, 154, 0, 5, 2, 172, 42, 180, 0, 18, 29, 46, 54, 4, 21, 4, 4, 100, 54, 5]
abbrev dktX2_latest_1 : List UInt8 := dkwX2_latest_1 ++ dktX2_latest_2
def dkwX2_latest_0 : List UInt8 := [42, 28, 182, 0, 76, 62, 27, 54, 4, 29, 155, 0, 32, 27, 42, 180, 0, 18, 29, 46, 161, 0, 22, 42]
abbrev dktX2_latest_0 : List UInt8 := dkwX2_latest_0 ++ dktX2_latest_1
theorem dksX2_latest_0 : cX2_latest.data.toList.drop 0 = dktX2_latest_0 := by decide +kernel
theorem dksX2_latest_1 : cX2_latest.data.toList.drop 24 = dktX2_latest_1 := dk_seg dksX2_latest_0 24 rfl rfl
theorem dksX2_latest_2 : cX2_latest.data.toList.drop 48 = dktX2_latest_2 := dk_seg dksX2_latest_1 24 rfl rfl
theorem dksX2_latest_3 : cX2_latest.data.toList.drop 70 = dktX2_latest_3 := dk_seg dksX2_latest_2 22 rfl rfl
theorem dX2_latest_0 : decode cX2_latest 0 = .ok (.aload_n 0, 1) := dk_42 (dk_at dksX2_latest_0 0 rfl rfl)
theorem dX2_latest_1 : decode cX2_latest 1 = .ok (.iload_n 2, 1) := dk_28 (dk_at dksX2_latest_0 1 rfl rfl)
theorem dX2_latest_2 : decode cX2_latest 2 = .ok (.invokevirtual 76, 3) := dk_182 0 76 (dk_at dksX2_latest_0 2 rfl rfl)
theorem dX2_latest_5 : decode cX2_latest 5 = .ok (.istore_n 3, 1) := dk_62 (dk_at dksX2_latest_0 5 rfl rfl)
theorem dX2_latest_6 : decode cX2_latest 6 = .ok (.iload_n 1, 1) := dk_27 (dk_at dksX2_latest_0 6 rfl rfl)
theorem dX2_latest_7 : decode cX2_latest 7 = .ok (.istore 4, 2) := dk_54 4 (dk_at dksX2_latest_0 7 rfl rfl)
theorem dX2_latest_9 : decode cX2_latest 9 = .ok (.iload_n 3, 1) := dk_29 (dk_at dksX2_latest_0 9 rfl rfl)
theorem dX2_latest_10 : decode cX2_latest 10 = .ok (.ifCond .lt 32, 3) := dk_155 0 32 (dk_at dksX2_latest_0 10 rfl rfl)
theorem dX2_latest_13 : decode cX2_latest 13 = .ok (.iload_n 1, 1) := dk_27 (dk_at dksX2_latest_0 13 rfl rfl)
theorem dX2_latest_14 : decode cX2_latest 14 = .ok (.aload_n 0, 1) := dk_42 (dk_at dksX2_latest_0 14 rfl rfl)
theorem dX2_latest_15 : decode cX2_latest 15 = .ok (.getfield 18, 3) := dk_180 0 18 (dk_at dksX2_latest_0 15 rfl rfl)
theorem dX2_latest_18 : decode cX2_latest 18 = .ok (.iload_n 3, 1) := dk_29 (dk_at dksX2_latest_0 18 rfl rfl)
theorem dX2_latest_19 : decode cX2_latest 19 = .ok (.iaload, 1) := dk_46 (dk_at dksX2_latest_0 19 rfl rfl)
theorem dX2_latest_20 : decode cX2_latest 20 = .ok (.if_icmp .lt 22, 3) := dk_161 0 22 (dk_at dksX2_latest_0 20 rfl rfl)
theorem dX2_latest_23 : decode cX2_latest 23 = .ok (.aload_n 0, 1) := dk_42 (dk_at dksX2_latest_0 23 rfl rfl)
theorem dX2_latest_24 : decode cX2_latest 24 = .ok (.getfield 32, 3) := dk_180 0 32 (dk_at dksX2_latest_1 0 rfl rfl)
theorem dX2_latest_27 : decode cX2_latest 27 = .ok (.iload_n 3, 1) := dk_29 (dk_at dksX2_latest_1 3 rfl rfl)
theorem dX2_latest_28 : decode cX2_latest 28 = .ok (.baload, 1) := dk_51 (dk_at dksX2_latest_1 4 rfl rfl)
theorem dX2_latest_29 : decode cX2_latest 29 = .ok (.ifCond .ne 5, 3) := dk_154 0 5 (dk_at dksX2_latest_1 5 rfl rfl)
theorem dX2_latest_32 : decode cX2_latest 32 = .ok (.iconst (-1), 1) := dk_2 (dk_at dksX2_latest_1 8 rfl rfl)
theorem dX2_latest_33 : decode cX2_latest 33 = .ok (.ireturn, 1) := dk_172 (dk_at dksX2_latest_1 9 rfl rfl)
theorem dX2_latest_34 : decode cX2_latest 34 = .ok (.aload_n 0, 1) := dk_42 (dk_at dksX2_latest_1 10 rfl rfl)
theorem dX2_latest_35 : decode cX2_latest 35 = .ok (.getfield 18, 3) := dk_180 0 18 (dk_at dksX2_latest_1 11 rfl rfl)
theorem dX2_latest_38 : decode cX2_latest 38 = .ok (.iload_n 3, 1) := dk_29 (dk_at dksX2_latest_1 14 rfl rfl)
theorem dX2_latest_39 : decode cX2_latest 39 = .ok (.iaload, 1) := dk_46 (dk_at dksX2_latest_1 15 rfl rfl)
theorem dX2_latest_40 : decode cX2_latest 40 = .ok (.istore 4, 2) := dk_54 4 (dk_at dksX2_latest_1 16 rfl rfl)
theorem dX2_latest_42 : decode cX2_latest 42 = .ok (.iload 4, 2) := dk_21 4 (dk_at dksX2_latest_1 18 rfl rfl)
theorem dX2_latest_44 : decode cX2_latest 44 = .ok (.iconst 1, 1) := dk_4 (dk_at dksX2_latest_1 20 rfl rfl)
theorem dX2_latest_45 : decode cX2_latest 45 = .ok (.isub, 1) := dk_100 (dk_at dksX2_latest_1 21 rfl rfl)
theorem dX2_latest_46 : decode cX2_latest 46 = .ok (.istore 5, 2) := dk_54 5 (dk_at dksX2_latest_1 22 rfl rfl)
theorem dX2_latest_48 : decode cX2_latest 48 = .ok (.iload 5, 2) := dk_21 5 (dk_at dksX2_latest_2 0 rfl rfl)
theorem dX2_latest_50 : decode cX2_latest 50 = .ok (.ifCond .lt 23, 3) := dk_155 0 23 (dk_at dksX2_latest_2 2 rfl rfl)
theorem dX2_latest_53 : decode cX2_latest 53 = .ok (.aload_n 0, 1) := dk_42 (dk_at dksX2_latest_2 5 rfl rfl)
theorem dX2_latest_54 : decode cX2_latest 54 = .ok (.getfield 9, 3) := dk_180 0 9 (dk_at dksX2_latest_2 6 rfl rfl)
theorem dX2_latest_57 : decode cX2_latest 57 = .ok (.iload 5, 2) := dk_21 5 (dk_at dksX2_latest_2 9 rfl rfl)
theorem dX2_latest_59 : decode cX2_latest 59 = .ok (.iaload, 1) := dk_46 (dk_at dksX2_latest_2 11 rfl rfl)
theorem dX2_latest_60 : decode cX2_latest 60 = .ok (.iload_n 2, 1) := dk_28 (dk_at dksX2_latest_2 12 rfl rfl)
theorem dX2_latest_61 : decode cX2_latest 61 = .ok (.if_icmp .ne 6, 3) := dk_160 0 6 (dk_at dksX2_latest_2 13 rfl rfl)
theorem dX2_latest_64 : decode cX2_latest 64 = .ok (.iload 5, 2) := dk_21 5 (dk_at dksX2_latest_2 16 rfl rfl)
theorem dX2_latest_66 : decode cX2_latest 66 = .ok (.ireturn, 1) := dk_172 (dk_at dksX2_latest_2 18 rfl rfl)
theorem dX2_latest_67 : decode cX2_latest 67 = .ok (.iinc 5 (-1), 3) := dk_132 5 255 (dk_at dksX2_latest_2 19 rfl rfl)
theorem dX2_latest_70 : decode cX2_latest 70 = .ok (.goto (-22), 3) := dk_167 255 234 (dk_at dksX2_latest_3 0 rfl rfl)
theorem dX2_latest_73 : decode cX2_latest 73 = .ok (.iconst (-1), 1) := dk_2 (dk_at dksX2_latest_3 3 rfl rfl)
theorem dX2_latest_74 : decode cX2_latest 74 = .ok (.ireturn, 1) := dk_172 (dk_at dksX2_latest_3 4 rfl rfl)
abbrev cX2_blocks : ByteArray := prog_7_method_5_code
def yX2_blocks : MethodName := ⟨RX2, "blocks", "(LGlassLog$Pile;II)V"⟩
def dkwX2_blocks_2 : List UInt8 := [167, 255, 212, 177]
abbrev dktX2_blocks_2 : List UInt8 := dkwX2_blocks_2 ++ []
def dkwX2_blocks_1 : List UInt8 := [21, 5, 50, 21, 4, 21, 5, 122, 16, 8, 104, 182, 0, 70, 21, 4, 4, 21, 5, 120, 96, 54, 4]
abbrev dktX2_blocks_1 : List UInt8 := dkwX2_blocks_1 ++ dktX2_blocks_2
def dkwX2_blocks_0 : List UInt8 := [28, 54, 4, 21, 4, 29, 162, 0, 44, 21, 4, 29, 184, 0, 66, 54, 5, 43, 21, 5, 42, 180, 0, 36]
abbrev dktX2_blocks_0 : List UInt8 := dkwX2_blocks_0 ++ dktX2_blocks_1
theorem dksX2_blocks_0 : cX2_blocks.data.toList.drop 0 = dktX2_blocks_0 := by decide +kernel
theorem dksX2_blocks_1 : cX2_blocks.data.toList.drop 24 = dktX2_blocks_1 := dk_seg dksX2_blocks_0 24 rfl rfl
theorem dksX2_blocks_2 : cX2_blocks.data.toList.drop 47 = dktX2_blocks_2 := dk_seg dksX2_blocks_1 23 rfl rfl
theorem dX2_blocks_0 : decode cX2_blocks 0 = .ok (.iload_n 2, 1) := dk_28 (dk_at dksX2_blocks_0 0 rfl rfl)
theorem dX2_blocks_1 : decode cX2_blocks 1 = .ok (.istore 4, 2) := dk_54 4 (dk_at dksX2_blocks_0 1 rfl rfl)
theorem dX2_blocks_3 : decode cX2_blocks 3 = .ok (.iload 4, 2) := dk_21 4 (dk_at dksX2_blocks_0 3 rfl rfl)
theorem dX2_blocks_5 : decode cX2_blocks 5 = .ok (.iload_n 3, 1) := dk_29 (dk_at dksX2_blocks_0 5 rfl rfl)
theorem dX2_blocks_6 : decode cX2_blocks 6 = .ok (.if_icmp .ge 44, 3) := dk_162 0 44 (dk_at dksX2_blocks_0 6 rfl rfl)
theorem dX2_blocks_9 : decode cX2_blocks 9 = .ok (.iload 4, 2) := dk_21 4 (dk_at dksX2_blocks_0 9 rfl rfl)
theorem dX2_blocks_11 : decode cX2_blocks 11 = .ok (.iload_n 3, 1) := dk_29 (dk_at dksX2_blocks_0 11 rfl rfl)
theorem dX2_blocks_12 : decode cX2_blocks 12 = .ok (.invokestatic 66, 3) := dk_184 0 66 (dk_at dksX2_blocks_0 12 rfl rfl)
theorem dX2_blocks_15 : decode cX2_blocks 15 = .ok (.istore 5, 2) := dk_54 5 (dk_at dksX2_blocks_0 15 rfl rfl)
theorem dX2_blocks_17 : decode cX2_blocks 17 = .ok (.aload_n 1, 1) := dk_43 (dk_at dksX2_blocks_0 17 rfl rfl)
theorem dX2_blocks_18 : decode cX2_blocks 18 = .ok (.iload 5, 2) := dk_21 5 (dk_at dksX2_blocks_0 18 rfl rfl)
theorem dX2_blocks_20 : decode cX2_blocks 20 = .ok (.aload_n 0, 1) := dk_42 (dk_at dksX2_blocks_0 20 rfl rfl)
theorem dX2_blocks_21 : decode cX2_blocks 21 = .ok (.getfield 36, 3) := dk_180 0 36 (dk_at dksX2_blocks_0 21 rfl rfl)
theorem dX2_blocks_24 : decode cX2_blocks 24 = .ok (.iload 5, 2) := dk_21 5 (dk_at dksX2_blocks_1 0 rfl rfl)
theorem dX2_blocks_26 : decode cX2_blocks 26 = .ok (.aaload, 1) := dk_50 (dk_at dksX2_blocks_1 2 rfl rfl)
theorem dX2_blocks_27 : decode cX2_blocks 27 = .ok (.iload 4, 2) := dk_21 4 (dk_at dksX2_blocks_1 3 rfl rfl)
theorem dX2_blocks_29 : decode cX2_blocks 29 = .ok (.iload 5, 2) := dk_21 5 (dk_at dksX2_blocks_1 5 rfl rfl)
theorem dX2_blocks_31 : decode cX2_blocks 31 = .ok (.ishr, 1) := dk_122 (dk_at dksX2_blocks_1 7 rfl rfl)
theorem dX2_blocks_32 : decode cX2_blocks 32 = .ok (.bipush 8, 2) := dk_16 8 (dk_at dksX2_blocks_1 8 rfl rfl)
theorem dX2_blocks_34 : decode cX2_blocks 34 = .ok (.imul, 1) := dk_104 (dk_at dksX2_blocks_1 10 rfl rfl)
theorem dX2_blocks_35 : decode cX2_blocks 35 = .ok (.invokevirtual 70, 3) := dk_182 0 70 (dk_at dksX2_blocks_1 11 rfl rfl)
theorem dX2_blocks_38 : decode cX2_blocks 38 = .ok (.iload 4, 2) := dk_21 4 (dk_at dksX2_blocks_1 14 rfl rfl)
theorem dX2_blocks_40 : decode cX2_blocks 40 = .ok (.iconst 1, 1) := dk_4 (dk_at dksX2_blocks_1 16 rfl rfl)
theorem dX2_blocks_41 : decode cX2_blocks 41 = .ok (.iload 5, 2) := dk_21 5 (dk_at dksX2_blocks_1 17 rfl rfl)
theorem dX2_blocks_43 : decode cX2_blocks 43 = .ok (.ishl, 1) := dk_120 (dk_at dksX2_blocks_1 19 rfl rfl)
theorem dX2_blocks_44 : decode cX2_blocks 44 = .ok (.iadd, 1) := dk_96 (dk_at dksX2_blocks_1 20 rfl rfl)
theorem dX2_blocks_45 : decode cX2_blocks 45 = .ok (.istore 4, 2) := dk_54 4 (dk_at dksX2_blocks_1 21 rfl rfl)
theorem dX2_blocks_47 : decode cX2_blocks 47 = .ok (.goto (-44), 3) := dk_167 255 212 (dk_at dksX2_blocks_2 0 rfl rfl)
theorem dX2_blocks_50 : decode cX2_blocks 50 = .ok (.return_, 1) := dk_177 (dk_at dksX2_blocks_2 3 rfl rfl)
abbrev cX2_hasGone : ByteArray := prog_7_method_9_code
def yX2_hasGone : MethodName := ⟨RX2, "hasGone", "(II)Z"⟩
def dkwX2_hasGone_1 : List UInt8 := [153, 0, 7, 4, 167, 0, 4, 3, 62, 132, 4, 1, 167, 255, 227, 29, 172]
abbrev dktX2_hasGone_1 : List UInt8 := dkwX2_hasGone_1 ++ []
def dkwX2_hasGone_0 : List UInt8 := [3, 62, 27, 54, 4, 21, 4, 28, 162, 0, 29, 29, 154, 0, 13, 42, 180, 0, 25, 21, 4, 51]
abbrev dktX2_hasGone_0 : List UInt8 := dkwX2_hasGone_0 ++ dktX2_hasGone_1
theorem dksX2_hasGone_0 : cX2_hasGone.data.toList.drop 0 = dktX2_hasGone_0 := by decide +kernel
theorem dksX2_hasGone_1 : cX2_hasGone.data.toList.drop 22 = dktX2_hasGone_1 := dk_seg dksX2_hasGone_0 22 rfl rfl
theorem dX2_hasGone_0 : decode cX2_hasGone 0 = .ok (.iconst 0, 1) := dk_3 (dk_at dksX2_hasGone_0 0 rfl rfl)
theorem dX2_hasGone_1 : decode cX2_hasGone 1 = .ok (.istore_n 3, 1) := dk_62 (dk_at dksX2_hasGone_0 1 rfl rfl)
theorem dX2_hasGone_2 : decode cX2_hasGone 2 = .ok (.iload_n 1, 1) := dk_27 (dk_at dksX2_hasGone_0 2 rfl rfl)
theorem dX2_hasGone_3 : decode cX2_hasGone 3 = .ok (.istore 4, 2) := dk_54 4 (dk_at dksX2_hasGone_0 3 rfl rfl)
theorem dX2_hasGone_5 : decode cX2_hasGone 5 = .ok (.iload 4, 2) := dk_21 4 (dk_at dksX2_hasGone_0 5 rfl rfl)
theorem dX2_hasGone_7 : decode cX2_hasGone 7 = .ok (.iload_n 2, 1) := dk_28 (dk_at dksX2_hasGone_0 7 rfl rfl)
theorem dX2_hasGone_8 : decode cX2_hasGone 8 = .ok (.if_icmp .ge 29, 3) := dk_162 0 29 (dk_at dksX2_hasGone_0 8 rfl rfl)
theorem dX2_hasGone_11 : decode cX2_hasGone 11 = .ok (.iload_n 3, 1) := dk_29 (dk_at dksX2_hasGone_0 11 rfl rfl)
theorem dX2_hasGone_12 : decode cX2_hasGone 12 = .ok (.ifCond .ne 13, 3) := dk_154 0 13 (dk_at dksX2_hasGone_0 12 rfl rfl)
theorem dX2_hasGone_15 : decode cX2_hasGone 15 = .ok (.aload_n 0, 1) := dk_42 (dk_at dksX2_hasGone_0 15 rfl rfl)
theorem dX2_hasGone_16 : decode cX2_hasGone 16 = .ok (.getfield 25, 3) := dk_180 0 25 (dk_at dksX2_hasGone_0 16 rfl rfl)
theorem dX2_hasGone_19 : decode cX2_hasGone 19 = .ok (.iload 4, 2) := dk_21 4 (dk_at dksX2_hasGone_0 19 rfl rfl)
theorem dX2_hasGone_21 : decode cX2_hasGone 21 = .ok (.baload, 1) := dk_51 (dk_at dksX2_hasGone_0 21 rfl rfl)
theorem dX2_hasGone_22 : decode cX2_hasGone 22 = .ok (.ifCond .eq 7, 3) := dk_153 0 7 (dk_at dksX2_hasGone_1 0 rfl rfl)
theorem dX2_hasGone_25 : decode cX2_hasGone 25 = .ok (.iconst 1, 1) := dk_4 (dk_at dksX2_hasGone_1 3 rfl rfl)
theorem dX2_hasGone_26 : decode cX2_hasGone 26 = .ok (.goto 4, 3) := dk_167 0 4 (dk_at dksX2_hasGone_1 4 rfl rfl)
theorem dX2_hasGone_29 : decode cX2_hasGone 29 = .ok (.iconst 0, 1) := dk_3 (dk_at dksX2_hasGone_1 7 rfl rfl)
theorem dX2_hasGone_30 : decode cX2_hasGone 30 = .ok (.istore_n 3, 1) := dk_62 (dk_at dksX2_hasGone_1 8 rfl rfl)
theorem dX2_hasGone_31 : decode cX2_hasGone 31 = .ok (.iinc 4 1, 3) := dk_132 4 1 (dk_at dksX2_hasGone_1 9 rfl rfl)
theorem dX2_hasGone_34 : decode cX2_hasGone 34 = .ok (.goto (-29), 3) := dk_167 255 227 (dk_at dksX2_hasGone_1 12 rfl rfl)
theorem dX2_hasGone_37 : decode cX2_hasGone 37 = .ok (.iload_n 3, 1) := dk_29 (dk_at dksX2_hasGone_1 15 rfl rfl)
theorem dX2_hasGone_38 : decode cX2_hasGone 38 = .ok (.ireturn, 1) := dk_172 (dk_at dksX2_hasGone_1 16 rfl rfl)
theorem q59 : (Jvm.Cond.initialized "GlassLog$Log") ∈ lw_all := lw_g (lw_at lw_m1 3 rfl) rfl
theorem q107 : (Jvm.Cond.instantiable "GlassLog$Log" (11 : Nat)) ∈ lw_all := lw_g (lw_at lw_m1 51 rfl) rfl
theorem q109 : (Jvm.Cond.instanceMethod ({ cls := "GlassLog$Log", name := "<init>", desc := "()V" } : Jvm.MethodName)) ∈ lw_all := lw_g (lw_at lw_m1 53 rfl) rfl
theorem q110 : (Jvm.Cond.code ({ cls := "GlassLog$Log", name := "<init>", desc := "()V" } : Jvm.MethodName) prog_7_method_1_code (2 : Nat) (Option.none : Option Jvm.ClassFile.FieldType)) ∈ lw_all := lw_g (lw_at lw_m1 54 rfl) rfl
theorem q111 : (Jvm.Cond.methodLink "GlassLog$Log" (3 : Nat) ({ cls := "java/lang/Object", name := "<init>", desc := "()V" } : Jvm.MethodName)) ∈ lw_all := lw_g (lw_at lw_m1 55 rfl) rfl
theorem q112 : (Jvm.Cond.classLink "GlassLog$Log" (35 : Nat) "[I") ∈ lw_all := lw_g (lw_at lw_m1 56 rfl) rfl
theorem q114 : (Jvm.Cond.fieldLink "GlassLog$Log" (9 : Nat) "GlassLog$Log" "keys" "[I") ∈ lw_all := lw_g (lw_at lw_m1 58 rfl) rfl
theorem q117 : (Jvm.Cond.fieldLink "GlassLog$Log" (15 : Nat) "GlassLog$Log" "lies" "[I") ∈ lw_all := lw_g (lw_at lw_m1 61 rfl) rfl
theorem q118 : (Jvm.Cond.fieldLink "GlassLog$Log" (18 : Nat) "GlassLog$Log" "since" "[I") ∈ lw_all := lw_g (lw_at lw_m1 62 rfl) rfl
theorem q119 : (Jvm.Cond.fieldLink "GlassLog$Log" (21 : Nat) "GlassLog$Log" "values" "[J") ∈ lw_all := lw_g (lw_at lw_m1 63 rfl) rfl
theorem q121 : (Jvm.Cond.fieldLink "GlassLog$Log" (25 : Nat) "GlassLog$Log" "gone" "[Z") ∈ lw_all := lw_g (lw_at lw_m1 65 rfl) rfl
theorem q123 : (Jvm.Cond.fieldLink "GlassLog$Log" (29 : Nat) "GlassLog$Log" "told" "[Z") ∈ lw_all := lw_g (lw_at lw_m1 67 rfl) rfl
theorem q125 : (Jvm.Cond.fieldLink "GlassLog$Log" (32 : Nat) "GlassLog$Log" "lags" "[Z") ∈ lw_all := lw_g (lw_at lw_m1 69 rfl) rfl
theorem q127 : (Jvm.Cond.fieldLink "GlassLog$Log" (36 : Nat) "GlassLog$Log" "sums" "[[I") ∈ lw_all := lw_g (lw_at lw_m1 71 rfl) rfl
theorem q129 : (Jvm.Cond.fieldLink "GlassLog$Log" (40 : Nat) "GlassLog$Log" "keeper" "I") ∈ lw_all := lw_g (lw_at lw_m1 73 rfl) rfl
theorem q131 : (Jvm.Cond.fieldLink "GlassLog$Log" (44 : Nat) "GlassLog$Log" "many" "I") ∈ lw_all := lw_g (lw_at lw_m1 75 rfl) rfl
theorem q134 : (Jvm.Cond.fieldLink "GlassLog$Log" (47 : Nat) "GlassLog$Log" "liesMany" "I") ∈ lw_all := lw_g (lw_at lw_m1 78 rfl) rfl
theorem q136 : (Jvm.Cond.laysFinal "GlassLog$Log" "GlassLog$Log" "keys" "[I") ∈ lw_all := lw_g (lw_at lw_m1 80 rfl) rfl
theorem q137 : (Jvm.Cond.soleField "GlassLog$Log" "keys") ∈ lw_all := lw_g (lw_at lw_m1 81 rfl) rfl
theorem q138 : (Jvm.Cond.laysFinal "GlassLog$Log" "GlassLog$Log" "lies" "[I") ∈ lw_all := lw_g (lw_at lw_m1 82 rfl) rfl
theorem q139 : (Jvm.Cond.soleField "GlassLog$Log" "lies") ∈ lw_all := lw_g (lw_at lw_m1 83 rfl) rfl
theorem q140 : (Jvm.Cond.laysFinal "GlassLog$Log" "GlassLog$Log" "since" "[I") ∈ lw_all := lw_g (lw_at lw_m1 84 rfl) rfl
theorem q141 : (Jvm.Cond.soleField "GlassLog$Log" "since") ∈ lw_all := lw_g (lw_at lw_m1 85 rfl) rfl
theorem q142 : (Jvm.Cond.laysFinal "GlassLog$Log" "GlassLog$Log" "values" "[J") ∈ lw_all := lw_g (lw_at lw_m1 86 rfl) rfl
theorem q143 : (Jvm.Cond.soleField "GlassLog$Log" "values") ∈ lw_all := lw_g (lw_at lw_m1 87 rfl) rfl
theorem q144 : (Jvm.Cond.laysFinal "GlassLog$Log" "GlassLog$Log" "gone" "[Z") ∈ lw_all := lw_g (lw_at lw_m1 88 rfl) rfl
theorem q145 : (Jvm.Cond.soleField "GlassLog$Log" "gone") ∈ lw_all := lw_g (lw_at lw_m1 89 rfl) rfl
theorem q146 : (Jvm.Cond.laysFinal "GlassLog$Log" "GlassLog$Log" "told" "[Z") ∈ lw_all := lw_g (lw_at lw_m1 90 rfl) rfl
theorem q147 : (Jvm.Cond.soleField "GlassLog$Log" "told") ∈ lw_all := lw_g (lw_at lw_m1 91 rfl) rfl
theorem q148 : (Jvm.Cond.laysFinal "GlassLog$Log" "GlassLog$Log" "lags" "[Z") ∈ lw_all := lw_g (lw_at lw_m1 92 rfl) rfl
theorem q149 : (Jvm.Cond.soleField "GlassLog$Log" "lags") ∈ lw_all := lw_g (lw_at lw_m1 93 rfl) rfl
theorem q150 : (Jvm.Cond.laysFinal "GlassLog$Log" "GlassLog$Log" "sums" "[[I") ∈ lw_all := lw_g (lw_at lw_m1 94 rfl) rfl
theorem q151 : (Jvm.Cond.soleField "GlassLog$Log" "sums") ∈ lw_all := lw_g (lw_at lw_m1 95 rfl) rfl
theorem q152 : (Jvm.Cond.lays "GlassLog$Log" "GlassLog$Log" "keeper" "I") ∈ lw_all := lw_g (lw_at lw_m1 96 rfl) rfl
theorem q153 : (Jvm.Cond.soleField "GlassLog$Log" "keeper") ∈ lw_all := lw_g (lw_at lw_m1 97 rfl) rfl
theorem q154 : (Jvm.Cond.lays "GlassLog$Log" "GlassLog$Log" "many" "I") ∈ lw_all := lw_g (lw_at lw_m1 98 rfl) rfl
theorem q155 : (Jvm.Cond.soleField "GlassLog$Log" "many") ∈ lw_all := lw_g (lw_at lw_m1 99 rfl) rfl
theorem q156 : (Jvm.Cond.lays "GlassLog$Log" "GlassLog$Log" "liesMany" "I") ∈ lw_all := lw_g (lw_at lw_m1 100 rfl) rfl
theorem q157 : (Jvm.Cond.soleField "GlassLog$Log" "liesMany") ∈ lw_all := lw_g (lw_at lw_m1 101 rfl) rfl
theorem q158 : (Jvm.Cond.superclass "GlassLog$Log" "java/lang/Object") ∈ lw_all := lw_g (lw_at lw_m1 102 rfl) rfl
theorem q393 : (Jvm.Cond.instanceMethod ({ cls := "GlassLog$Log", name := "begin", desc := "(I)V" } : Jvm.MethodName)) ∈ lw_all := lw_g (lw_at lw_m2 97 rfl) rfl
theorem q394 : (Jvm.Cond.selects "GlassLog$Log" ({ cls := "GlassLog$Log", name := "begin", desc := "(I)V" } : Jvm.MethodName) ({ cls := "GlassLog$Log", name := "begin", desc := "(I)V" } : Jvm.MethodName)) ∈ lw_all := lw_g (lw_at lw_m2 98 rfl) rfl
theorem q395 : (Jvm.Cond.code ({ cls := "GlassLog$Log", name := "begin", desc := "(I)V" } : Jvm.MethodName) prog_7_method_2_code (2 : Nat) (Option.none : Option Jvm.ClassFile.FieldType)) ∈ lw_all := lw_g (lw_at lw_m2 99 rfl) rfl
theorem q405 : (Jvm.Cond.instanceMethod ({ cls := "GlassLog$Log", name := "add", desc := "(LGlassLog$Mixer;IJ)V" } : Jvm.MethodName)) ∈ lw_all := lw_g (lw_at lw_m2 109 rfl) rfl
theorem q406 : (Jvm.Cond.selects "GlassLog$Log" ({ cls := "GlassLog$Log", name := "add", desc := "(LGlassLog$Mixer;IJ)V" } : Jvm.MethodName) ({ cls := "GlassLog$Log", name := "add", desc := "(LGlassLog$Mixer;IJ)V" } : Jvm.MethodName)) ∈ lw_all := lw_g (lw_at lw_m2 110 rfl) rfl
theorem q407 : (Jvm.Cond.code ({ cls := "GlassLog$Log", name := "add", desc := "(LGlassLog$Mixer;IJ)V" } : Jvm.MethodName) prog_7_method_3_code (7 : Nat) (Option.none : Option Jvm.ClassFile.FieldType)) ∈ lw_all := lw_g (lw_at lw_m2 111 rfl) rfl
theorem q408 : (Jvm.Cond.methodLink "GlassLog$Log" (50 : Nat) ({ cls := "GlassLog$Mixer", name := "entry", desc := "(IJ[II)V" } : Jvm.MethodName)) ∈ lw_all := lw_g (lw_at lw_m2 112 rfl) rfl
theorem q429 : (Jvm.Cond.methodLink "GlassLog$Log" (56 : Nat) ({ cls := "GlassLog$Mixer", name := "join", desc := "([II[II[II)V" } : Jvm.MethodName)) ∈ lw_all := lw_g (lw_at lw_m2 133 rfl) rfl
theorem q446 : (Jvm.Cond.instanceMethod ({ cls := "GlassLog$Log", name := "become", desc := "(LGlassLog$Log;IZ)V" } : Jvm.MethodName)) ∈ lw_all := lw_g (lw_at lw_m2 150 rfl) rfl
theorem q447 : (Jvm.Cond.selects "GlassLog$Log" ({ cls := "GlassLog$Log", name := "become", desc := "(LGlassLog$Log;IZ)V" } : Jvm.MethodName) ({ cls := "GlassLog$Log", name := "become", desc := "(LGlassLog$Log;IZ)V" } : Jvm.MethodName)) ∈ lw_all := lw_g (lw_at lw_m2 151 rfl) rfl
theorem q448 : (Jvm.Cond.code ({ cls := "GlassLog$Log", name := "become", desc := "(LGlassLog$Log;IZ)V" } : Jvm.MethodName) prog_7_method_4_code (5 : Nat) (Option.none : Option Jvm.ClassFile.FieldType)) ∈ lw_all := lw_g (lw_at lw_m2 152 rfl) rfl
theorem q449 : (Jvm.Cond.methodLink "GlassLog$Log" (60 : Nat) ({ cls := "java/lang/System", name := "arraycopy", desc := "(Ljava/lang/Object;ILjava/lang/Object;II)V" } : Jvm.MethodName)) ∈ lw_all := lw_g (lw_at lw_m2 153 rfl) rfl
theorem q457 : (Jvm.Cond.instanceMethod ({ cls := "GlassLog$Log", name := "lies", desc := "(IZ)Z" } : Jvm.MethodName)) ∈ lw_all := lw_g (lw_at lw_m2 161 rfl) rfl
theorem q458 : (Jvm.Cond.selects "GlassLog$Log" ({ cls := "GlassLog$Log", name := "lies", desc := "(IZ)Z" } : Jvm.MethodName) ({ cls := "GlassLog$Log", name := "lies", desc := "(IZ)Z" } : Jvm.MethodName)) ∈ lw_all := lw_g (lw_at lw_m2 162 rfl) rfl
theorem q459 : (Jvm.Cond.code ({ cls := "GlassLog$Log", name := "lies", desc := "(IZ)Z" } : Jvm.MethodName) prog_7_method_7_code (3 : Nat) (Option.some Jvm.ClassFile.FieldType.boolean)) ∈ lw_all := lw_g (lw_at lw_m2 163 rfl) rfl
theorem q460 : (Jvm.Cond.methodLink "GlassLog$Log" (76 : Nat) ({ cls := "GlassLog$Log", name := "lie", desc := "(I)I" } : Jvm.MethodName)) ∈ lw_all := lw_g (lw_at lw_m2 164 rfl) rfl
theorem q461 : (Jvm.Cond.instanceMethod ({ cls := "GlassLog$Log", name := "lie", desc := "(I)I" } : Jvm.MethodName)) ∈ lw_all := lw_g (lw_at lw_m2 165 rfl) rfl
theorem q462 : (Jvm.Cond.selects "GlassLog$Log" ({ cls := "GlassLog$Log", name := "lie", desc := "(I)I" } : Jvm.MethodName) ({ cls := "GlassLog$Log", name := "lie", desc := "(I)I" } : Jvm.MethodName)) ∈ lw_all := lw_g (lw_at lw_m2 166 rfl) rfl
theorem q463 : (Jvm.Cond.code ({ cls := "GlassLog$Log", name := "lie", desc := "(I)I" } : Jvm.MethodName) prog_7_method_6_code (3 : Nat) (Option.some Jvm.ClassFile.FieldType.int)) ∈ lw_all := lw_g (lw_at lw_m2 167 rfl) rfl
theorem q485 : (Jvm.Cond.instanceMethod ({ cls := "GlassLog$Log", name := "latest", desc := "(II)I" } : Jvm.MethodName)) ∈ lw_all := lw_g (lw_at lw_m2 189 rfl) rfl
theorem q486 : (Jvm.Cond.selects "GlassLog$Log" ({ cls := "GlassLog$Log", name := "latest", desc := "(II)I" } : Jvm.MethodName) ({ cls := "GlassLog$Log", name := "latest", desc := "(II)I" } : Jvm.MethodName)) ∈ lw_all := lw_g (lw_at lw_m2 190 rfl) rfl
theorem q487 : (Jvm.Cond.code ({ cls := "GlassLog$Log", name := "latest", desc := "(II)I" } : Jvm.MethodName) prog_7_method_8_code (6 : Nat) (Option.some Jvm.ClassFile.FieldType.int)) ∈ lw_all := lw_g (lw_at lw_m2 191 rfl) rfl
theorem q528 : (Jvm.Cond.instanceMethod ({ cls := "GlassLog$Log", name := "blocks", desc := "(LGlassLog$Pile;II)V" } : Jvm.MethodName)) ∈ lw_all := lw_g (lw_at lw_m2 232 rfl) rfl
theorem q529 : (Jvm.Cond.selects "GlassLog$Log" ({ cls := "GlassLog$Log", name := "blocks", desc := "(LGlassLog$Pile;II)V" } : Jvm.MethodName) ({ cls := "GlassLog$Log", name := "blocks", desc := "(LGlassLog$Pile;II)V" } : Jvm.MethodName)) ∈ lw_all := lw_g (lw_at lw_m2 233 rfl) rfl
theorem q530 : (Jvm.Cond.code ({ cls := "GlassLog$Log", name := "blocks", desc := "(LGlassLog$Pile;II)V" } : Jvm.MethodName) prog_7_method_5_code (6 : Nat) (Option.none : Option Jvm.ClassFile.FieldType)) ∈ lw_all := lw_g (lw_at lw_m2 234 rfl) rfl
theorem q531 : (Jvm.Cond.methodLinkNest "GlassLog$Log" (66 : Nat) ({ cls := "GlassLog", name := "level", desc := "(II)I" } : Jvm.MethodName) "GlassLog") ∈ lw_tbl := lw_at lw_m2 235 rfl
theorem q534 : (Jvm.Cond.methodLink "GlassLog$Log" (70 : Nat) ({ cls := "GlassLog$Pile", name := "add", desc := "(I[II)V" } : Jvm.MethodName)) ∈ lw_all := lw_g (lw_at lw_m2 238 rfl) rfl
theorem q745 : (Jvm.Cond.instanceMethod ({ cls := "GlassLog$Log", name := "hasGone", desc := "(II)Z" } : Jvm.MethodName)) ∈ lw_all := lw_g (lw_at lw_m3 209 rfl) rfl
theorem q746 : (Jvm.Cond.selects "GlassLog$Log" ({ cls := "GlassLog$Log", name := "hasGone", desc := "(II)Z" } : Jvm.MethodName) ({ cls := "GlassLog$Log", name := "hasGone", desc := "(II)Z" } : Jvm.MethodName)) ∈ lw_all := lw_g (lw_at lw_m3 210 rfl) rfl
theorem q747 : (Jvm.Cond.code ({ cls := "GlassLog$Log", name := "hasGone", desc := "(II)Z" } : Jvm.MethodName) prog_7_method_9_code (5 : Nat) (Option.some Jvm.ClassFile.FieldType.boolean)) ∈ lw_all := lw_g (lw_at lw_m3 211 rfl) rfl
theorem in_X2 : ∀ w ∈ wsX20, w ∈ lw_all := lw_in wsX20 [136, 138, 140, 142, 144, 146, 148, 150, 152, 154, 156] (by decide +kernel) (by decide +kernel)

/-! GlassLog$Slot -/
set_option maxRecDepth 100000
def RX3 : String := "GlassLog$Slot"
def TX3 : u_T := fun k => match k with
  | _ => ("GlassLog$Slot", "held", "Ljava/lang/Object;", false)
def tyX3 : Nat → FieldType := fun k => match k with
  | _ => .object "java/lang/Object"
abbrev wsX30 : List Cond := u_ws RX3 TX3 1
theorem nmX3 : ∀ a, a < 1 → ∀ b, b < 1 → a ≠ b → (TX3 a).2.1 ≠ (TX3 b).2.1 := by decide +kernel
theorem tyX3_ok : ∀ k, k < 1 → parseFieldDescriptor (TX3 k).2.2.1 = some (tyX3 k) := by decide +kernel
abbrev cX3_init : ByteArray := prog_12_method_1_code
def yX3_init : MethodName := ⟨RX3, "<init>", "()V"⟩
theorem dX3_init_0 : decode cX3_init 0 = .ok (.aload_n 0, 1) := by decide +kernel
theorem dX3_init_1 : decode cX3_init 1 = .ok (.invokespecial 1, 3) := by decide +kernel
theorem dX3_init_4 : decode cX3_init 4 = .ok (.return_, 1) := by decide +kernel
theorem q60 : (Jvm.Cond.initialized "GlassLog$Slot") ∈ lw_all := lw_g (lw_at lw_m1 4 rfl) rfl
theorem q162 : (Jvm.Cond.instantiable "GlassLog$Slot" (1 : Nat)) ∈ lw_all := lw_g (lw_at lw_m1 106 rfl) rfl
theorem q164 : (Jvm.Cond.instanceMethod ({ cls := "GlassLog$Slot", name := "<init>", desc := "()V" } : Jvm.MethodName)) ∈ lw_all := lw_g (lw_at lw_m1 108 rfl) rfl
theorem q165 : (Jvm.Cond.code ({ cls := "GlassLog$Slot", name := "<init>", desc := "()V" } : Jvm.MethodName) prog_12_method_1_code (1 : Nat) (Option.none : Option Jvm.ClassFile.FieldType)) ∈ lw_all := lw_g (lw_at lw_m1 109 rfl) rfl
theorem q166 : (Jvm.Cond.methodLink "GlassLog$Slot" (1 : Nat) ({ cls := "java/lang/Object", name := "<init>", desc := "()V" } : Jvm.MethodName)) ∈ lw_all := lw_g (lw_at lw_m1 110 rfl) rfl
theorem q169 : (Jvm.Cond.lays "GlassLog$Slot" "GlassLog$Slot" "held" "Ljava/lang/Object;") ∈ lw_all := lw_g (lw_at lw_m1 113 rfl) rfl
theorem q170 : (Jvm.Cond.soleField "GlassLog$Slot" "held") ∈ lw_all := lw_g (lw_at lw_m1 114 rfl) rfl
theorem q171 : (Jvm.Cond.superclass "GlassLog$Slot" "java/lang/Object") ∈ lw_all := lw_g (lw_at lw_m1 115 rfl) rfl
theorem in_X3 : ∀ w ∈ wsX30, w ∈ lw_all := lw_in wsX30 [169] (by decide +kernel) (by decide +kernel)

/-! GlassLog$Head -/
set_option maxRecDepth 100000
def RX4 : String := "GlassLog$Head"
def TX4 : u_T := fun k => match k with
  | 0 => ("GlassLog$Head", "top", "[I", true)
  | 1 => ("GlassLog$Head", "tree", "[I", true)
  | 2 => ("GlassLog$Head", "mark", "[I", true)
  | 3 => ("GlassLog$Head", "n", "I", false)
  | 4 => ("GlassLog$Head", "log", "I", false)
  | 5 => ("GlassLog$Head", "keeper", "I", false)
  | _ => ("GlassLog$Head", "is", "Z", false)
def tyX4 : Nat → FieldType := fun k => match k with
  | 0 => .array .int
  | 1 => .array .int
  | 2 => .array .int
  | 3 => .int
  | 4 => .int
  | 5 => .int
  | _ => .boolean
abbrev wsX40 : List Cond := u_ws RX4 TX4 7
theorem nmX4 : ∀ a, a < 7 → ∀ b, b < 7 → a ≠ b → (TX4 a).2.1 ≠ (TX4 b).2.1 := by decide +kernel
theorem tyX4_ok : ∀ k, k < 7 → parseFieldDescriptor (TX4 k).2.2.1 = some (tyX4 k) := by decide +kernel
abbrev cX4_init : ByteArray := prog_4_method_1_code
def yX4_init : MethodName := ⟨RX4, "<init>", "()V"⟩
def dkwX4_init_1 : List UInt8 := [188, 10, 181, 0, 18, 177]
abbrev dktX4_init_1 : List UInt8 := dkwX4_init_1 ++ []
def dkwX4_init_0 : List UInt8 := [42, 183, 0, 3, 42, 16, 8, 188, 10, 181, 0, 9, 42, 16, 8, 188, 10, 181, 0, 15, 42, 16, 8]
abbrev dktX4_init_0 : List UInt8 := dkwX4_init_0 ++ dktX4_init_1
theorem dksX4_init_0 : cX4_init.data.toList.drop 0 = dktX4_init_0 := by decide +kernel
theorem dksX4_init_1 : cX4_init.data.toList.drop 23 = dktX4_init_1 := dk_seg dksX4_init_0 23 rfl rfl
theorem dX4_init_0 : decode cX4_init 0 = .ok (.aload_n 0, 1) := dk_42 (dk_at dksX4_init_0 0 rfl rfl)
theorem dX4_init_1 : decode cX4_init 1 = .ok (.invokespecial 3, 3) := dk_183 0 3 (dk_at dksX4_init_0 1 rfl rfl)
theorem dX4_init_4 : decode cX4_init 4 = .ok (.aload_n 0, 1) := dk_42 (dk_at dksX4_init_0 4 rfl rfl)
theorem dX4_init_5 : decode cX4_init 5 = .ok (.bipush 8, 2) := dk_16 8 (dk_at dksX4_init_0 5 rfl rfl)
theorem dX4_init_7 : decode cX4_init 7 = .ok (.newarray .int, 2) := dk_188_10 (dk_at dksX4_init_0 7 rfl rfl)
theorem dX4_init_9 : decode cX4_init 9 = .ok (.putfield 9, 3) := dk_181 0 9 (dk_at dksX4_init_0 9 rfl rfl)
theorem dX4_init_12 : decode cX4_init 12 = .ok (.aload_n 0, 1) := dk_42 (dk_at dksX4_init_0 12 rfl rfl)
theorem dX4_init_13 : decode cX4_init 13 = .ok (.bipush 8, 2) := dk_16 8 (dk_at dksX4_init_0 13 rfl rfl)
theorem dX4_init_15 : decode cX4_init 15 = .ok (.newarray .int, 2) := dk_188_10 (dk_at dksX4_init_0 15 rfl rfl)
theorem dX4_init_17 : decode cX4_init 17 = .ok (.putfield 15, 3) := dk_181 0 15 (dk_at dksX4_init_0 17 rfl rfl)
theorem dX4_init_20 : decode cX4_init 20 = .ok (.aload_n 0, 1) := dk_42 (dk_at dksX4_init_0 20 rfl rfl)
theorem dX4_init_21 : decode cX4_init 21 = .ok (.bipush 8, 2) := dk_16 8 (dk_at dksX4_init_0 21 rfl rfl)
theorem dX4_init_23 : decode cX4_init 23 = .ok (.newarray .int, 2) := dk_188_10 (dk_at dksX4_init_1 0 rfl rfl)
theorem dX4_init_25 : decode cX4_init 25 = .ok (.putfield 18, 3) := dk_181 0 18 (dk_at dksX4_init_1 2 rfl rfl)
theorem dX4_init_28 : decode cX4_init 28 = .ok (.return_, 1) := dk_177 (dk_at dksX4_init_1 5 rfl rfl)
abbrev cX4_marks : ByteArray := prog_4_method_3_code
def yX4_marks : MethodName := ⟨RX4, "marks", "(LGlassLog$Mixer;[I)V"⟩
def dkwX4_marks_2 : List UInt8 := [182, 0, 51, 43, 42, 180, 0, 15, 3, 182, 0, 51, 43, 44, 3, 182, 0, 54, 177]
abbrev dktX4_marks_2 : List UInt8 := dkwX4_marks_2 ++ []
def dkwX4_marks_1 : List UInt8 := [180, 0, 32, 104, 16, 77, 96, 182, 0, 46, 43, 42, 180, 0, 25, 182, 0, 46, 43, 42, 180, 0, 9, 3]
abbrev dktX4_marks_1 : List UInt8 := dkwX4_marks_1 ++ dktX4_marks_2
def dkwX4_marks_0 : List UInt8 := [43, 182, 0, 41, 43, 16, 6, 182, 0, 46, 43, 42, 180, 0, 32, 182, 0, 46, 43, 18, 50, 42]
abbrev dktX4_marks_0 : List UInt8 := dkwX4_marks_0 ++ dktX4_marks_1
theorem dksX4_marks_0 : cX4_marks.data.toList.drop 0 = dktX4_marks_0 := by decide +kernel
theorem dksX4_marks_1 : cX4_marks.data.toList.drop 22 = dktX4_marks_1 := dk_seg dksX4_marks_0 22 rfl rfl
theorem dksX4_marks_2 : cX4_marks.data.toList.drop 46 = dktX4_marks_2 := dk_seg dksX4_marks_1 24 rfl rfl
theorem dX4_marks_0 : decode cX4_marks 0 = .ok (.aload_n 1, 1) := dk_43 (dk_at dksX4_marks_0 0 rfl rfl)
theorem dX4_marks_1 : decode cX4_marks 1 = .ok (.invokevirtual 41, 3) := dk_182 0 41 (dk_at dksX4_marks_0 1 rfl rfl)
theorem dX4_marks_4 : decode cX4_marks 4 = .ok (.aload_n 1, 1) := dk_43 (dk_at dksX4_marks_0 4 rfl rfl)
theorem dX4_marks_5 : decode cX4_marks 5 = .ok (.bipush 6, 2) := dk_16 6 (dk_at dksX4_marks_0 5 rfl rfl)
theorem dX4_marks_7 : decode cX4_marks 7 = .ok (.invokevirtual 46, 3) := dk_182 0 46 (dk_at dksX4_marks_0 7 rfl rfl)
theorem dX4_marks_10 : decode cX4_marks 10 = .ok (.aload_n 1, 1) := dk_43 (dk_at dksX4_marks_0 10 rfl rfl)
theorem dX4_marks_11 : decode cX4_marks 11 = .ok (.aload_n 0, 1) := dk_42 (dk_at dksX4_marks_0 11 rfl rfl)
theorem dX4_marks_12 : decode cX4_marks 12 = .ok (.getfield 32, 3) := dk_180 0 32 (dk_at dksX4_marks_0 12 rfl rfl)
theorem dX4_marks_15 : decode cX4_marks 15 = .ok (.invokevirtual 46, 3) := dk_182 0 46 (dk_at dksX4_marks_0 15 rfl rfl)
theorem dX4_marks_18 : decode cX4_marks 18 = .ok (.aload_n 1, 1) := dk_43 (dk_at dksX4_marks_0 18 rfl rfl)
theorem dX4_marks_19 : decode cX4_marks 19 = .ok (.ldc 50, 2) := dk_18 50 (dk_at dksX4_marks_0 19 rfl rfl)
theorem dX4_marks_21 : decode cX4_marks 21 = .ok (.aload_n 0, 1) := dk_42 (dk_at dksX4_marks_0 21 rfl rfl)
theorem dX4_marks_22 : decode cX4_marks 22 = .ok (.getfield 32, 3) := dk_180 0 32 (dk_at dksX4_marks_1 0 rfl rfl)
theorem dX4_marks_25 : decode cX4_marks 25 = .ok (.imul, 1) := dk_104 (dk_at dksX4_marks_1 3 rfl rfl)
theorem dX4_marks_26 : decode cX4_marks 26 = .ok (.bipush 77, 2) := dk_16 77 (dk_at dksX4_marks_1 4 rfl rfl)
theorem dX4_marks_28 : decode cX4_marks 28 = .ok (.iadd, 1) := dk_96 (dk_at dksX4_marks_1 6 rfl rfl)
theorem dX4_marks_29 : decode cX4_marks 29 = .ok (.invokevirtual 46, 3) := dk_182 0 46 (dk_at dksX4_marks_1 7 rfl rfl)
theorem dX4_marks_32 : decode cX4_marks 32 = .ok (.aload_n 1, 1) := dk_43 (dk_at dksX4_marks_1 10 rfl rfl)
theorem dX4_marks_33 : decode cX4_marks 33 = .ok (.aload_n 0, 1) := dk_42 (dk_at dksX4_marks_1 11 rfl rfl)
theorem dX4_marks_34 : decode cX4_marks 34 = .ok (.getfield 25, 3) := dk_180 0 25 (dk_at dksX4_marks_1 12 rfl rfl)
theorem dX4_marks_37 : decode cX4_marks 37 = .ok (.invokevirtual 46, 3) := dk_182 0 46 (dk_at dksX4_marks_1 15 rfl rfl)
theorem dX4_marks_40 : decode cX4_marks 40 = .ok (.aload_n 1, 1) := dk_43 (dk_at dksX4_marks_1 18 rfl rfl)
theorem dX4_marks_41 : decode cX4_marks 41 = .ok (.aload_n 0, 1) := dk_42 (dk_at dksX4_marks_1 19 rfl rfl)
theorem dX4_marks_42 : decode cX4_marks 42 = .ok (.getfield 9, 3) := dk_180 0 9 (dk_at dksX4_marks_1 20 rfl rfl)
theorem dX4_marks_45 : decode cX4_marks 45 = .ok (.iconst 0, 1) := dk_3 (dk_at dksX4_marks_1 23 rfl rfl)
theorem dX4_marks_46 : decode cX4_marks 46 = .ok (.invokevirtual 51, 3) := dk_182 0 51 (dk_at dksX4_marks_2 0 rfl rfl)
theorem dX4_marks_49 : decode cX4_marks 49 = .ok (.aload_n 1, 1) := dk_43 (dk_at dksX4_marks_2 3 rfl rfl)
theorem dX4_marks_50 : decode cX4_marks 50 = .ok (.aload_n 0, 1) := dk_42 (dk_at dksX4_marks_2 4 rfl rfl)
theorem dX4_marks_51 : decode cX4_marks 51 = .ok (.getfield 15, 3) := dk_180 0 15 (dk_at dksX4_marks_2 5 rfl rfl)
theorem dX4_marks_54 : decode cX4_marks 54 = .ok (.iconst 0, 1) := dk_3 (dk_at dksX4_marks_2 8 rfl rfl)
theorem dX4_marks_55 : decode cX4_marks 55 = .ok (.invokevirtual 51, 3) := dk_182 0 51 (dk_at dksX4_marks_2 9 rfl rfl)
theorem dX4_marks_58 : decode cX4_marks 58 = .ok (.aload_n 1, 1) := dk_43 (dk_at dksX4_marks_2 12 rfl rfl)
theorem dX4_marks_59 : decode cX4_marks 59 = .ok (.aload_n 2, 1) := dk_44 (dk_at dksX4_marks_2 13 rfl rfl)
theorem dX4_marks_60 : decode cX4_marks 60 = .ok (.iconst 0, 1) := dk_3 (dk_at dksX4_marks_2 14 rfl rfl)
theorem dX4_marks_61 : decode cX4_marks 61 = .ok (.invokevirtual 54, 3) := dk_182 0 54 (dk_at dksX4_marks_2 15 rfl rfl)
theorem dX4_marks_64 : decode cX4_marks 64 = .ok (.return_, 1) := dk_177 (dk_at dksX4_marks_2 18 rfl rfl)
abbrev cX4_become : ByteArray := prog_4_method_2_code
def yX4_become : MethodName := ⟨RX4, "become", "(LGlassLog$Head;)V"⟩
def dkwX4_become_3 : List UInt8 := [16, 8, 184, 0, 35, 177]
abbrev dktX4_become_3 : List UInt8 := dkwX4_become_3 ++ []
def dkwX4_become_2 : List UInt8 := [180, 0, 15, 3, 42, 180, 0, 15, 3, 16, 8, 184, 0, 35, 43, 180, 0, 18, 3, 42, 180, 0, 18, 3]
abbrev dktX4_become_2 : List UInt8 := dkwX4_become_2 ++ dktX4_become_3
def dkwX4_become_1 : List UInt8 := [42, 43, 180, 0, 32, 181, 0, 32, 43, 180, 0, 9, 3, 42, 180, 0, 9, 3, 16, 8, 184, 0, 35, 43]
abbrev dktX4_become_1 : List UInt8 := dkwX4_become_1 ++ dktX4_become_2
def dkwX4_become_0 : List UInt8 := [42, 43, 180, 0, 21, 181, 0, 21, 42, 43, 180, 0, 25, 181, 0, 25, 42, 43, 180, 0, 29, 181, 0, 29]
abbrev dktX4_become_0 : List UInt8 := dkwX4_become_0 ++ dktX4_become_1
theorem dksX4_become_0 : cX4_become.data.toList.drop 0 = dktX4_become_0 := by decide +kernel
theorem dksX4_become_1 : cX4_become.data.toList.drop 24 = dktX4_become_1 := dk_seg dksX4_become_0 24 rfl rfl
theorem dksX4_become_2 : cX4_become.data.toList.drop 48 = dktX4_become_2 := dk_seg dksX4_become_1 24 rfl rfl
theorem dksX4_become_3 : cX4_become.data.toList.drop 72 = dktX4_become_3 := dk_seg dksX4_become_2 24 rfl rfl
theorem dX4_become_0 : decode cX4_become 0 = .ok (.aload_n 0, 1) := dk_42 (dk_at dksX4_become_0 0 rfl rfl)
theorem dX4_become_1 : decode cX4_become 1 = .ok (.aload_n 1, 1) := dk_43 (dk_at dksX4_become_0 1 rfl rfl)
theorem dX4_become_2 : decode cX4_become 2 = .ok (.getfield 21, 3) := dk_180 0 21 (dk_at dksX4_become_0 2 rfl rfl)
theorem dX4_become_5 : decode cX4_become 5 = .ok (.putfield 21, 3) := dk_181 0 21 (dk_at dksX4_become_0 5 rfl rfl)
theorem dX4_become_8 : decode cX4_become 8 = .ok (.aload_n 0, 1) := dk_42 (dk_at dksX4_become_0 8 rfl rfl)
theorem dX4_become_9 : decode cX4_become 9 = .ok (.aload_n 1, 1) := dk_43 (dk_at dksX4_become_0 9 rfl rfl)
theorem dX4_become_10 : decode cX4_become 10 = .ok (.getfield 25, 3) := dk_180 0 25 (dk_at dksX4_become_0 10 rfl rfl)
theorem dX4_become_13 : decode cX4_become 13 = .ok (.putfield 25, 3) := dk_181 0 25 (dk_at dksX4_become_0 13 rfl rfl)
theorem dX4_become_16 : decode cX4_become 16 = .ok (.aload_n 0, 1) := dk_42 (dk_at dksX4_become_0 16 rfl rfl)
theorem dX4_become_17 : decode cX4_become 17 = .ok (.aload_n 1, 1) := dk_43 (dk_at dksX4_become_0 17 rfl rfl)
theorem dX4_become_18 : decode cX4_become 18 = .ok (.getfield 29, 3) := dk_180 0 29 (dk_at dksX4_become_0 18 rfl rfl)
theorem dX4_become_21 : decode cX4_become 21 = .ok (.putfield 29, 3) := dk_181 0 29 (dk_at dksX4_become_0 21 rfl rfl)
theorem dX4_become_24 : decode cX4_become 24 = .ok (.aload_n 0, 1) := dk_42 (dk_at dksX4_become_1 0 rfl rfl)
theorem dX4_become_25 : decode cX4_become 25 = .ok (.aload_n 1, 1) := dk_43 (dk_at dksX4_become_1 1 rfl rfl)
theorem dX4_become_26 : decode cX4_become 26 = .ok (.getfield 32, 3) := dk_180 0 32 (dk_at dksX4_become_1 2 rfl rfl)
theorem dX4_become_29 : decode cX4_become 29 = .ok (.putfield 32, 3) := dk_181 0 32 (dk_at dksX4_become_1 5 rfl rfl)
theorem dX4_become_32 : decode cX4_become 32 = .ok (.aload_n 1, 1) := dk_43 (dk_at dksX4_become_1 8 rfl rfl)
theorem dX4_become_33 : decode cX4_become 33 = .ok (.getfield 9, 3) := dk_180 0 9 (dk_at dksX4_become_1 9 rfl rfl)
theorem dX4_become_36 : decode cX4_become 36 = .ok (.iconst 0, 1) := dk_3 (dk_at dksX4_become_1 12 rfl rfl)
theorem dX4_become_37 : decode cX4_become 37 = .ok (.aload_n 0, 1) := dk_42 (dk_at dksX4_become_1 13 rfl rfl)
theorem dX4_become_38 : decode cX4_become 38 = .ok (.getfield 9, 3) := dk_180 0 9 (dk_at dksX4_become_1 14 rfl rfl)
theorem dX4_become_41 : decode cX4_become 41 = .ok (.iconst 0, 1) := dk_3 (dk_at dksX4_become_1 17 rfl rfl)
theorem dX4_become_42 : decode cX4_become 42 = .ok (.bipush 8, 2) := dk_16 8 (dk_at dksX4_become_1 18 rfl rfl)
theorem dX4_become_44 : decode cX4_become 44 = .ok (.invokestatic 35, 3) := dk_184 0 35 (dk_at dksX4_become_1 20 rfl rfl)
theorem dX4_become_47 : decode cX4_become 47 = .ok (.aload_n 1, 1) := dk_43 (dk_at dksX4_become_1 23 rfl rfl)
theorem dX4_become_48 : decode cX4_become 48 = .ok (.getfield 15, 3) := dk_180 0 15 (dk_at dksX4_become_2 0 rfl rfl)
theorem dX4_become_51 : decode cX4_become 51 = .ok (.iconst 0, 1) := dk_3 (dk_at dksX4_become_2 3 rfl rfl)
theorem dX4_become_52 : decode cX4_become 52 = .ok (.aload_n 0, 1) := dk_42 (dk_at dksX4_become_2 4 rfl rfl)
theorem dX4_become_53 : decode cX4_become 53 = .ok (.getfield 15, 3) := dk_180 0 15 (dk_at dksX4_become_2 5 rfl rfl)
theorem dX4_become_56 : decode cX4_become 56 = .ok (.iconst 0, 1) := dk_3 (dk_at dksX4_become_2 8 rfl rfl)
theorem dX4_become_57 : decode cX4_become 57 = .ok (.bipush 8, 2) := dk_16 8 (dk_at dksX4_become_2 9 rfl rfl)
theorem dX4_become_59 : decode cX4_become 59 = .ok (.invokestatic 35, 3) := dk_184 0 35 (dk_at dksX4_become_2 11 rfl rfl)
theorem dX4_become_62 : decode cX4_become 62 = .ok (.aload_n 1, 1) := dk_43 (dk_at dksX4_become_2 14 rfl rfl)
theorem dX4_become_63 : decode cX4_become 63 = .ok (.getfield 18, 3) := dk_180 0 18 (dk_at dksX4_become_2 15 rfl rfl)
theorem dX4_become_66 : decode cX4_become 66 = .ok (.iconst 0, 1) := dk_3 (dk_at dksX4_become_2 18 rfl rfl)
theorem dX4_become_67 : decode cX4_become 67 = .ok (.aload_n 0, 1) := dk_42 (dk_at dksX4_become_2 19 rfl rfl)
theorem dX4_become_68 : decode cX4_become 68 = .ok (.getfield 18, 3) := dk_180 0 18 (dk_at dksX4_become_2 20 rfl rfl)
theorem dX4_become_71 : decode cX4_become 71 = .ok (.iconst 0, 1) := dk_3 (dk_at dksX4_become_2 23 rfl rfl)
theorem dX4_become_72 : decode cX4_become 72 = .ok (.bipush 8, 2) := dk_16 8 (dk_at dksX4_become_3 0 rfl rfl)
theorem dX4_become_74 : decode cX4_become 74 = .ok (.invokestatic 35, 3) := dk_184 0 35 (dk_at dksX4_become_3 2 rfl rfl)
theorem dX4_become_77 : decode cX4_become 77 = .ok (.return_, 1) := dk_177 (dk_at dksX4_become_3 5 rfl rfl)
theorem q61 : (Jvm.Cond.initialized "GlassLog$Head") ∈ lw_all := lw_g (lw_at lw_m1 5 rfl) rfl
theorem q172 : (Jvm.Cond.instantiable "GlassLog$Head" (7 : Nat)) ∈ lw_all := lw_g (lw_at lw_m1 116 rfl) rfl
theorem q174 : (Jvm.Cond.instanceMethod ({ cls := "GlassLog$Head", name := "<init>", desc := "()V" } : Jvm.MethodName)) ∈ lw_all := lw_g (lw_at lw_m1 118 rfl) rfl
theorem q175 : (Jvm.Cond.code ({ cls := "GlassLog$Head", name := "<init>", desc := "()V" } : Jvm.MethodName) prog_4_method_1_code (1 : Nat) (Option.none : Option Jvm.ClassFile.FieldType)) ∈ lw_all := lw_g (lw_at lw_m1 119 rfl) rfl
theorem q176 : (Jvm.Cond.methodLink "GlassLog$Head" (3 : Nat) ({ cls := "java/lang/Object", name := "<init>", desc := "()V" } : Jvm.MethodName)) ∈ lw_all := lw_g (lw_at lw_m1 120 rfl) rfl
theorem q177 : (Jvm.Cond.fieldLink "GlassLog$Head" (9 : Nat) "GlassLog$Head" "top" "[I") ∈ lw_all := lw_g (lw_at lw_m1 121 rfl) rfl
theorem q181 : (Jvm.Cond.fieldLink "GlassLog$Head" (15 : Nat) "GlassLog$Head" "tree" "[I") ∈ lw_all := lw_g (lw_at lw_m1 125 rfl) rfl
theorem q184 : (Jvm.Cond.fieldLink "GlassLog$Head" (18 : Nat) "GlassLog$Head" "mark" "[I") ∈ lw_all := lw_g (lw_at lw_m1 128 rfl) rfl
theorem q186 : (Jvm.Cond.fieldLink "GlassLog$Head" (25 : Nat) "GlassLog$Head" "n" "I") ∈ lw_all := lw_g (lw_at lw_m1 130 rfl) rfl
theorem q191 : (Jvm.Cond.fieldLink "GlassLog$Head" (29 : Nat) "GlassLog$Head" "log" "I") ∈ lw_all := lw_g (lw_at lw_m1 135 rfl) rfl
theorem q193 : (Jvm.Cond.fieldLink "GlassLog$Head" (32 : Nat) "GlassLog$Head" "keeper" "I") ∈ lw_all := lw_g (lw_at lw_m1 137 rfl) rfl
theorem q195 : (Jvm.Cond.fieldLink "GlassLog$Head" (21 : Nat) "GlassLog$Head" "is" "Z") ∈ lw_all := lw_g (lw_at lw_m1 139 rfl) rfl
theorem q197 : (Jvm.Cond.laysFinal "GlassLog$Head" "GlassLog$Head" "top" "[I") ∈ lw_all := lw_g (lw_at lw_m1 141 rfl) rfl
theorem q198 : (Jvm.Cond.soleField "GlassLog$Head" "top") ∈ lw_all := lw_g (lw_at lw_m1 142 rfl) rfl
theorem q199 : (Jvm.Cond.laysFinal "GlassLog$Head" "GlassLog$Head" "tree" "[I") ∈ lw_all := lw_g (lw_at lw_m1 143 rfl) rfl
theorem q200 : (Jvm.Cond.soleField "GlassLog$Head" "tree") ∈ lw_all := lw_g (lw_at lw_m1 144 rfl) rfl
theorem q201 : (Jvm.Cond.laysFinal "GlassLog$Head" "GlassLog$Head" "mark" "[I") ∈ lw_all := lw_g (lw_at lw_m1 145 rfl) rfl
theorem q202 : (Jvm.Cond.soleField "GlassLog$Head" "mark") ∈ lw_all := lw_g (lw_at lw_m1 146 rfl) rfl
theorem q203 : (Jvm.Cond.lays "GlassLog$Head" "GlassLog$Head" "n" "I") ∈ lw_all := lw_g (lw_at lw_m1 147 rfl) rfl
theorem q204 : (Jvm.Cond.soleField "GlassLog$Head" "n") ∈ lw_all := lw_g (lw_at lw_m1 148 rfl) rfl
theorem q205 : (Jvm.Cond.lays "GlassLog$Head" "GlassLog$Head" "log" "I") ∈ lw_all := lw_g (lw_at lw_m1 149 rfl) rfl
theorem q206 : (Jvm.Cond.soleField "GlassLog$Head" "log") ∈ lw_all := lw_g (lw_at lw_m1 150 rfl) rfl
theorem q207 : (Jvm.Cond.lays "GlassLog$Head" "GlassLog$Head" "keeper" "I") ∈ lw_all := lw_g (lw_at lw_m1 151 rfl) rfl
theorem q208 : (Jvm.Cond.soleField "GlassLog$Head" "keeper") ∈ lw_all := lw_g (lw_at lw_m1 152 rfl) rfl
theorem q209 : (Jvm.Cond.lays "GlassLog$Head" "GlassLog$Head" "is" "Z") ∈ lw_all := lw_g (lw_at lw_m1 153 rfl) rfl
theorem q210 : (Jvm.Cond.soleField "GlassLog$Head" "is") ∈ lw_all := lw_g (lw_at lw_m1 154 rfl) rfl
theorem q211 : (Jvm.Cond.superclass "GlassLog$Head" "java/lang/Object") ∈ lw_all := lw_g (lw_at lw_m1 155 rfl) rfl
theorem q569 : (Jvm.Cond.instanceMethod ({ cls := "GlassLog$Head", name := "marks", desc := "(LGlassLog$Mixer;[I)V" } : Jvm.MethodName)) ∈ lw_all := lw_g (lw_at lw_m3 33 rfl) rfl
theorem q570 : (Jvm.Cond.selects "GlassLog$Head" ({ cls := "GlassLog$Head", name := "marks", desc := "(LGlassLog$Mixer;[I)V" } : Jvm.MethodName) ({ cls := "GlassLog$Head", name := "marks", desc := "(LGlassLog$Mixer;[I)V" } : Jvm.MethodName)) ∈ lw_all := lw_g (lw_at lw_m3 34 rfl) rfl
theorem q571 : (Jvm.Cond.code ({ cls := "GlassLog$Head", name := "marks", desc := "(LGlassLog$Mixer;[I)V" } : Jvm.MethodName) prog_4_method_3_code (3 : Nat) (Option.none : Option Jvm.ClassFile.FieldType)) ∈ lw_all := lw_g (lw_at lw_m3 35 rfl) rfl
theorem q572 : (Jvm.Cond.methodLink "GlassLog$Head" (41 : Nat) ({ cls := "GlassLog$Mixer", name := "begin", desc := "()V" } : Jvm.MethodName)) ∈ lw_all := lw_g (lw_at lw_m3 36 rfl) rfl
theorem q573 : (Jvm.Cond.methodLink "GlassLog$Head" (46 : Nat) ({ cls := "GlassLog$Mixer", name := "put", desc := "(I)V" } : Jvm.MethodName)) ∈ lw_all := lw_g (lw_at lw_m3 37 rfl) rfl
theorem q574 : (Jvm.Cond.constant "GlassLog$Head" (50 : Nat) (1000003 : Int32)) ∈ lw_all := lw_g (lw_at lw_m3 38 rfl) rfl
theorem q575 : (Jvm.Cond.methodLink "GlassLog$Head" (51 : Nat) ({ cls := "GlassLog$Mixer", name := "put", desc := "([II)V" } : Jvm.MethodName)) ∈ lw_all := lw_g (lw_at lw_m3 39 rfl) rfl
theorem q576 : (Jvm.Cond.methodLink "GlassLog$Head" (54 : Nat) ({ cls := "GlassLog$Mixer", name := "end", desc := "([II)V" } : Jvm.MethodName)) ∈ lw_all := lw_g (lw_at lw_m3 40 rfl) rfl
theorem q1040 : (Jvm.Cond.instanceMethod ({ cls := "GlassLog$Head", name := "become", desc := "(LGlassLog$Head;)V" } : Jvm.MethodName)) ∈ lw_all := lw_g (lw_at lw_m5 24 rfl) rfl
theorem q1041 : (Jvm.Cond.selects "GlassLog$Head" ({ cls := "GlassLog$Head", name := "become", desc := "(LGlassLog$Head;)V" } : Jvm.MethodName) ({ cls := "GlassLog$Head", name := "become", desc := "(LGlassLog$Head;)V" } : Jvm.MethodName)) ∈ lw_all := lw_g (lw_at lw_m5 25 rfl) rfl
theorem q1042 : (Jvm.Cond.code ({ cls := "GlassLog$Head", name := "become", desc := "(LGlassLog$Head;)V" } : Jvm.MethodName) prog_4_method_2_code (2 : Nat) (Option.none : Option Jvm.ClassFile.FieldType)) ∈ lw_all := lw_g (lw_at lw_m5 26 rfl) rfl
theorem q1043 : (Jvm.Cond.methodLink "GlassLog$Head" (35 : Nat) ({ cls := "java/lang/System", name := "arraycopy", desc := "(Ljava/lang/Object;ILjava/lang/Object;II)V" } : Jvm.MethodName)) ∈ lw_all := lw_g (lw_at lw_m5 27 rfl) rfl
theorem in_X4 : ∀ w ∈ wsX40, w ∈ lw_all := lw_in wsX40 [197, 199, 201, 203, 205, 207, 209] (by decide +kernel) (by decide +kernel)

/-! GlassLog$Watcher -/
set_option maxRecDepth 100000
def RX5 : String := "GlassLog$Watcher"
def TX5 : u_T := fun k => match k with
  | 0 => ("GlassLog$Watcher", "keys", "[I", true)
  | 1 => ("GlassLog$Watcher", "last", "[I", true)
  | 2 => ("GlassLog$Watcher", "log", "I", false)
  | 3 => ("GlassLog$Watcher", "low", "I", false)
  | 4 => ("GlassLog$Watcher", "high", "I", false)
  | 5 => ("GlassLog$Watcher", "gone", "I", false)
  | 6 => ("GlassLog$Watcher", "many", "I", false)
  | _ => ("GlassLog$Watcher", "is", "Z", false)
def tyX5 : Nat → FieldType := fun k => match k with
  | 0 => .array .int
  | 1 => .array .int
  | 2 => .int
  | 3 => .int
  | 4 => .int
  | 5 => .int
  | 6 => .int
  | _ => .boolean
abbrev wsX50 : List Cond := u_ws RX5 TX5 8
theorem nmX5 : ∀ a, a < 8 → ∀ b, b < 8 → a ≠ b → (TX5 a).2.1 ≠ (TX5 b).2.1 := by decide +kernel
theorem tyX5_ok : ∀ k, k < 8 → parseFieldDescriptor (TX5 k).2.2.1 = some (tyX5 k) := by decide +kernel
abbrev cX5_init : ByteArray := prog_14_method_1_code
def yX5_init : MethodName := ⟨RX5, "<init>", "()V"⟩
def dkwX5_init_0 : List UInt8 := [42, 183, 0, 3, 42, 17, 1, 144, 188, 10, 181, 0, 9, 42, 17, 1, 144, 188, 10, 181, 0, 15, 177]
abbrev dktX5_init_0 : List UInt8 := dkwX5_init_0 ++ []
theorem dksX5_init_0 : cX5_init.data.toList.drop 0 = dktX5_init_0 := by decide +kernel
theorem dX5_init_0 : decode cX5_init 0 = .ok (.aload_n 0, 1) := dk_42 (dk_at dksX5_init_0 0 rfl rfl)
theorem dX5_init_1 : decode cX5_init 1 = .ok (.invokespecial 3, 3) := dk_183 0 3 (dk_at dksX5_init_0 1 rfl rfl)
theorem dX5_init_4 : decode cX5_init 4 = .ok (.aload_n 0, 1) := dk_42 (dk_at dksX5_init_0 4 rfl rfl)
theorem dX5_init_5 : decode cX5_init 5 = .ok (.sipush 400, 3) := dk_17 1 144 (dk_at dksX5_init_0 5 rfl rfl)
theorem dX5_init_8 : decode cX5_init 8 = .ok (.newarray .int, 2) := dk_188_10 (dk_at dksX5_init_0 8 rfl rfl)
theorem dX5_init_10 : decode cX5_init 10 = .ok (.putfield 9, 3) := dk_181 0 9 (dk_at dksX5_init_0 10 rfl rfl)
theorem dX5_init_13 : decode cX5_init 13 = .ok (.aload_n 0, 1) := dk_42 (dk_at dksX5_init_0 13 rfl rfl)
theorem dX5_init_14 : decode cX5_init 14 = .ok (.sipush 400, 3) := dk_17 1 144 (dk_at dksX5_init_0 14 rfl rfl)
theorem dX5_init_17 : decode cX5_init 17 = .ok (.newarray .int, 2) := dk_188_10 (dk_at dksX5_init_0 17 rfl rfl)
theorem dX5_init_19 : decode cX5_init 19 = .ok (.putfield 15, 3) := dk_181 0 15 (dk_at dksX5_init_0 19 rfl rfl)
theorem dX5_init_22 : decode cX5_init 22 = .ok (.return_, 1) := dk_177 (dk_at dksX5_init_0 22 rfl rfl)
abbrev cX5_reads : ByteArray := prog_14_method_2_code
def yX5_reads : MethodName := ⟨RX5, "reads", "(II)V"⟩
def dkwX5_reads_2 : List UInt8 := [96, 184, 0, 22, 181, 0, 18, 177]
abbrev dktX5_reads_2 : List UInt8 := dkwX5_reads_2 ++ []
def dkwX5_reads_1 : List UInt8 := [167, 255, 235, 42, 180, 0, 9, 29, 27, 79, 42, 180, 0, 15, 29, 28, 79, 42, 42, 180, 0, 18, 29, 4]
abbrev dktX5_reads_1 : List UInt8 := dkwX5_reads_1 ++ dktX5_reads_2
def dkwX5_reads_0 : List UInt8 := [3, 62, 29, 42, 180, 0, 18, 162, 0, 19, 42, 180, 0, 9, 29, 46, 27, 159, 0, 9, 132, 3, 1]
abbrev dktX5_reads_0 : List UInt8 := dkwX5_reads_0 ++ dktX5_reads_1
theorem dksX5_reads_0 : cX5_reads.data.toList.drop 0 = dktX5_reads_0 := by decide +kernel
theorem dksX5_reads_1 : cX5_reads.data.toList.drop 23 = dktX5_reads_1 := dk_seg dksX5_reads_0 23 rfl rfl
theorem dksX5_reads_2 : cX5_reads.data.toList.drop 47 = dktX5_reads_2 := dk_seg dksX5_reads_1 24 rfl rfl
theorem dX5_reads_0 : decode cX5_reads 0 = .ok (.iconst 0, 1) := dk_3 (dk_at dksX5_reads_0 0 rfl rfl)
theorem dX5_reads_1 : decode cX5_reads 1 = .ok (.istore_n 3, 1) := dk_62 (dk_at dksX5_reads_0 1 rfl rfl)
theorem dX5_reads_2 : decode cX5_reads 2 = .ok (.iload_n 3, 1) := dk_29 (dk_at dksX5_reads_0 2 rfl rfl)
theorem dX5_reads_3 : decode cX5_reads 3 = .ok (.aload_n 0, 1) := dk_42 (dk_at dksX5_reads_0 3 rfl rfl)
theorem dX5_reads_4 : decode cX5_reads 4 = .ok (.getfield 18, 3) := dk_180 0 18 (dk_at dksX5_reads_0 4 rfl rfl)
theorem dX5_reads_7 : decode cX5_reads 7 = .ok (.if_icmp .ge 19, 3) := dk_162 0 19 (dk_at dksX5_reads_0 7 rfl rfl)
theorem dX5_reads_10 : decode cX5_reads 10 = .ok (.aload_n 0, 1) := dk_42 (dk_at dksX5_reads_0 10 rfl rfl)
theorem dX5_reads_11 : decode cX5_reads 11 = .ok (.getfield 9, 3) := dk_180 0 9 (dk_at dksX5_reads_0 11 rfl rfl)
theorem dX5_reads_14 : decode cX5_reads 14 = .ok (.iload_n 3, 1) := dk_29 (dk_at dksX5_reads_0 14 rfl rfl)
theorem dX5_reads_15 : decode cX5_reads 15 = .ok (.iaload, 1) := dk_46 (dk_at dksX5_reads_0 15 rfl rfl)
theorem dX5_reads_16 : decode cX5_reads 16 = .ok (.iload_n 1, 1) := dk_27 (dk_at dksX5_reads_0 16 rfl rfl)
theorem dX5_reads_17 : decode cX5_reads 17 = .ok (.if_icmp .eq 9, 3) := dk_159 0 9 (dk_at dksX5_reads_0 17 rfl rfl)
theorem dX5_reads_20 : decode cX5_reads 20 = .ok (.iinc 3 1, 3) := dk_132 3 1 (dk_at dksX5_reads_0 20 rfl rfl)
theorem dX5_reads_23 : decode cX5_reads 23 = .ok (.goto (-21), 3) := dk_167 255 235 (dk_at dksX5_reads_1 0 rfl rfl)
theorem dX5_reads_26 : decode cX5_reads 26 = .ok (.aload_n 0, 1) := dk_42 (dk_at dksX5_reads_1 3 rfl rfl)
theorem dX5_reads_27 : decode cX5_reads 27 = .ok (.getfield 9, 3) := dk_180 0 9 (dk_at dksX5_reads_1 4 rfl rfl)
theorem dX5_reads_30 : decode cX5_reads 30 = .ok (.iload_n 3, 1) := dk_29 (dk_at dksX5_reads_1 7 rfl rfl)
theorem dX5_reads_31 : decode cX5_reads 31 = .ok (.iload_n 1, 1) := dk_27 (dk_at dksX5_reads_1 8 rfl rfl)
theorem dX5_reads_32 : decode cX5_reads 32 = .ok (.iastore, 1) := dk_79 (dk_at dksX5_reads_1 9 rfl rfl)
theorem dX5_reads_33 : decode cX5_reads 33 = .ok (.aload_n 0, 1) := dk_42 (dk_at dksX5_reads_1 10 rfl rfl)
theorem dX5_reads_34 : decode cX5_reads 34 = .ok (.getfield 15, 3) := dk_180 0 15 (dk_at dksX5_reads_1 11 rfl rfl)
theorem dX5_reads_37 : decode cX5_reads 37 = .ok (.iload_n 3, 1) := dk_29 (dk_at dksX5_reads_1 14 rfl rfl)
theorem dX5_reads_38 : decode cX5_reads 38 = .ok (.iload_n 2, 1) := dk_28 (dk_at dksX5_reads_1 15 rfl rfl)
theorem dX5_reads_39 : decode cX5_reads 39 = .ok (.iastore, 1) := dk_79 (dk_at dksX5_reads_1 16 rfl rfl)
theorem dX5_reads_40 : decode cX5_reads 40 = .ok (.aload_n 0, 1) := dk_42 (dk_at dksX5_reads_1 17 rfl rfl)
theorem dX5_reads_41 : decode cX5_reads 41 = .ok (.aload_n 0, 1) := dk_42 (dk_at dksX5_reads_1 18 rfl rfl)
theorem dX5_reads_42 : decode cX5_reads 42 = .ok (.getfield 18, 3) := dk_180 0 18 (dk_at dksX5_reads_1 19 rfl rfl)
theorem dX5_reads_45 : decode cX5_reads 45 = .ok (.iload_n 3, 1) := dk_29 (dk_at dksX5_reads_1 22 rfl rfl)
theorem dX5_reads_46 : decode cX5_reads 46 = .ok (.iconst 1, 1) := dk_4 (dk_at dksX5_reads_1 23 rfl rfl)
theorem dX5_reads_47 : decode cX5_reads 47 = .ok (.iadd, 1) := dk_96 (dk_at dksX5_reads_2 0 rfl rfl)
theorem dX5_reads_48 : decode cX5_reads 48 = .ok (.invokestatic 22, 3) := dk_184 0 22 (dk_at dksX5_reads_2 1 rfl rfl)
theorem dX5_reads_51 : decode cX5_reads 51 = .ok (.putfield 18, 3) := dk_181 0 18 (dk_at dksX5_reads_2 4 rfl rfl)
theorem dX5_reads_54 : decode cX5_reads 54 = .ok (.return_, 1) := dk_177 (dk_at dksX5_reads_2 7 rfl rfl)
abbrev cX5_become : ByteArray := prog_14_method_3_code
def yX5_become : MethodName := ⟨RX5, "become", "(LGlassLog$Watcher;)V"⟩
def dkwX5_become_3 : List UInt8 := [180, 0, 15, 3, 42, 180, 0, 18, 184, 0, 44, 177]
abbrev dktX5_become_3 : List UInt8 := dkwX5_become_3 ++ []
def dkwX5_become_2 : List UInt8 := [43, 180, 0, 9, 3, 42, 180, 0, 9, 3, 42, 180, 0, 18, 184, 0, 44, 43, 180, 0, 15, 3, 42]
abbrev dktX5_become_2 : List UInt8 := dkwX5_become_2 ++ dktX5_become_3
def dkwX5_become_1 : List UInt8 := [42, 43, 180, 0, 38, 181, 0, 38, 42, 43, 180, 0, 41, 181, 0, 41, 42, 43, 180, 0, 18, 181, 0, 18]
abbrev dktX5_become_1 : List UInt8 := dkwX5_become_1 ++ dktX5_become_2
def dkwX5_become_0 : List UInt8 := [42, 43, 180, 0, 28, 181, 0, 28, 42, 43, 180, 0, 32, 181, 0, 32, 42, 43, 180, 0, 35, 181, 0, 35]
abbrev dktX5_become_0 : List UInt8 := dkwX5_become_0 ++ dktX5_become_1
theorem dksX5_become_0 : cX5_become.data.toList.drop 0 = dktX5_become_0 := by decide +kernel
theorem dksX5_become_1 : cX5_become.data.toList.drop 24 = dktX5_become_1 := dk_seg dksX5_become_0 24 rfl rfl
theorem dksX5_become_2 : cX5_become.data.toList.drop 48 = dktX5_become_2 := dk_seg dksX5_become_1 24 rfl rfl
theorem dksX5_become_3 : cX5_become.data.toList.drop 71 = dktX5_become_3 := dk_seg dksX5_become_2 23 rfl rfl
theorem dX5_become_0 : decode cX5_become 0 = .ok (.aload_n 0, 1) := dk_42 (dk_at dksX5_become_0 0 rfl rfl)
theorem dX5_become_1 : decode cX5_become 1 = .ok (.aload_n 1, 1) := dk_43 (dk_at dksX5_become_0 1 rfl rfl)
theorem dX5_become_2 : decode cX5_become 2 = .ok (.getfield 28, 3) := dk_180 0 28 (dk_at dksX5_become_0 2 rfl rfl)
theorem dX5_become_5 : decode cX5_become 5 = .ok (.putfield 28, 3) := dk_181 0 28 (dk_at dksX5_become_0 5 rfl rfl)
theorem dX5_become_8 : decode cX5_become 8 = .ok (.aload_n 0, 1) := dk_42 (dk_at dksX5_become_0 8 rfl rfl)
theorem dX5_become_9 : decode cX5_become 9 = .ok (.aload_n 1, 1) := dk_43 (dk_at dksX5_become_0 9 rfl rfl)
theorem dX5_become_10 : decode cX5_become 10 = .ok (.getfield 32, 3) := dk_180 0 32 (dk_at dksX5_become_0 10 rfl rfl)
theorem dX5_become_13 : decode cX5_become 13 = .ok (.putfield 32, 3) := dk_181 0 32 (dk_at dksX5_become_0 13 rfl rfl)
theorem dX5_become_16 : decode cX5_become 16 = .ok (.aload_n 0, 1) := dk_42 (dk_at dksX5_become_0 16 rfl rfl)
theorem dX5_become_17 : decode cX5_become 17 = .ok (.aload_n 1, 1) := dk_43 (dk_at dksX5_become_0 17 rfl rfl)
theorem dX5_become_18 : decode cX5_become 18 = .ok (.getfield 35, 3) := dk_180 0 35 (dk_at dksX5_become_0 18 rfl rfl)
theorem dX5_become_21 : decode cX5_become 21 = .ok (.putfield 35, 3) := dk_181 0 35 (dk_at dksX5_become_0 21 rfl rfl)
theorem dX5_become_24 : decode cX5_become 24 = .ok (.aload_n 0, 1) := dk_42 (dk_at dksX5_become_1 0 rfl rfl)
theorem dX5_become_25 : decode cX5_become 25 = .ok (.aload_n 1, 1) := dk_43 (dk_at dksX5_become_1 1 rfl rfl)
theorem dX5_become_26 : decode cX5_become 26 = .ok (.getfield 38, 3) := dk_180 0 38 (dk_at dksX5_become_1 2 rfl rfl)
theorem dX5_become_29 : decode cX5_become 29 = .ok (.putfield 38, 3) := dk_181 0 38 (dk_at dksX5_become_1 5 rfl rfl)
theorem dX5_become_32 : decode cX5_become 32 = .ok (.aload_n 0, 1) := dk_42 (dk_at dksX5_become_1 8 rfl rfl)
theorem dX5_become_33 : decode cX5_become 33 = .ok (.aload_n 1, 1) := dk_43 (dk_at dksX5_become_1 9 rfl rfl)
theorem dX5_become_34 : decode cX5_become 34 = .ok (.getfield 41, 3) := dk_180 0 41 (dk_at dksX5_become_1 10 rfl rfl)
theorem dX5_become_37 : decode cX5_become 37 = .ok (.putfield 41, 3) := dk_181 0 41 (dk_at dksX5_become_1 13 rfl rfl)
theorem dX5_become_40 : decode cX5_become 40 = .ok (.aload_n 0, 1) := dk_42 (dk_at dksX5_become_1 16 rfl rfl)
theorem dX5_become_41 : decode cX5_become 41 = .ok (.aload_n 1, 1) := dk_43 (dk_at dksX5_become_1 17 rfl rfl)
theorem dX5_become_42 : decode cX5_become 42 = .ok (.getfield 18, 3) := dk_180 0 18 (dk_at dksX5_become_1 18 rfl rfl)
theorem dX5_become_45 : decode cX5_become 45 = .ok (.putfield 18, 3) := dk_181 0 18 (dk_at dksX5_become_1 21 rfl rfl)
theorem dX5_become_48 : decode cX5_become 48 = .ok (.aload_n 1, 1) := dk_43 (dk_at dksX5_become_2 0 rfl rfl)
theorem dX5_become_49 : decode cX5_become 49 = .ok (.getfield 9, 3) := dk_180 0 9 (dk_at dksX5_become_2 1 rfl rfl)
theorem dX5_become_52 : decode cX5_become 52 = .ok (.iconst 0, 1) := dk_3 (dk_at dksX5_become_2 4 rfl rfl)
theorem dX5_become_53 : decode cX5_become 53 = .ok (.aload_n 0, 1) := dk_42 (dk_at dksX5_become_2 5 rfl rfl)
theorem dX5_become_54 : decode cX5_become 54 = .ok (.getfield 9, 3) := dk_180 0 9 (dk_at dksX5_become_2 6 rfl rfl)
theorem dX5_become_57 : decode cX5_become 57 = .ok (.iconst 0, 1) := dk_3 (dk_at dksX5_become_2 9 rfl rfl)
theorem dX5_become_58 : decode cX5_become 58 = .ok (.aload_n 0, 1) := dk_42 (dk_at dksX5_become_2 10 rfl rfl)
theorem dX5_become_59 : decode cX5_become 59 = .ok (.getfield 18, 3) := dk_180 0 18 (dk_at dksX5_become_2 11 rfl rfl)
theorem dX5_become_62 : decode cX5_become 62 = .ok (.invokestatic 44, 3) := dk_184 0 44 (dk_at dksX5_become_2 14 rfl rfl)
theorem dX5_become_65 : decode cX5_become 65 = .ok (.aload_n 1, 1) := dk_43 (dk_at dksX5_become_2 17 rfl rfl)
theorem dX5_become_66 : decode cX5_become 66 = .ok (.getfield 15, 3) := dk_180 0 15 (dk_at dksX5_become_2 18 rfl rfl)
theorem dX5_become_69 : decode cX5_become 69 = .ok (.iconst 0, 1) := dk_3 (dk_at dksX5_become_2 21 rfl rfl)
theorem dX5_become_70 : decode cX5_become 70 = .ok (.aload_n 0, 1) := dk_42 (dk_at dksX5_become_2 22 rfl rfl)
theorem dX5_become_71 : decode cX5_become 71 = .ok (.getfield 15, 3) := dk_180 0 15 (dk_at dksX5_become_3 0 rfl rfl)
theorem dX5_become_74 : decode cX5_become 74 = .ok (.iconst 0, 1) := dk_3 (dk_at dksX5_become_3 3 rfl rfl)
theorem dX5_become_75 : decode cX5_become 75 = .ok (.aload_n 0, 1) := dk_42 (dk_at dksX5_become_3 4 rfl rfl)
theorem dX5_become_76 : decode cX5_become 76 = .ok (.getfield 18, 3) := dk_180 0 18 (dk_at dksX5_become_3 5 rfl rfl)
theorem dX5_become_79 : decode cX5_become 79 = .ok (.invokestatic 44, 3) := dk_184 0 44 (dk_at dksX5_become_3 8 rfl rfl)
theorem dX5_become_82 : decode cX5_become 82 = .ok (.return_, 1) := dk_177 (dk_at dksX5_become_3 11 rfl rfl)
theorem q62 : (Jvm.Cond.initialized "GlassLog$Watcher") ∈ lw_all := lw_g (lw_at lw_m1 6 rfl) rfl
theorem q212 : (Jvm.Cond.instantiable "GlassLog$Watcher" (8 : Nat)) ∈ lw_all := lw_g (lw_at lw_m1 156 rfl) rfl
theorem q214 : (Jvm.Cond.instanceMethod ({ cls := "GlassLog$Watcher", name := "<init>", desc := "()V" } : Jvm.MethodName)) ∈ lw_all := lw_g (lw_at lw_m1 158 rfl) rfl
theorem q215 : (Jvm.Cond.code ({ cls := "GlassLog$Watcher", name := "<init>", desc := "()V" } : Jvm.MethodName) prog_14_method_1_code (1 : Nat) (Option.none : Option Jvm.ClassFile.FieldType)) ∈ lw_all := lw_g (lw_at lw_m1 159 rfl) rfl
theorem q216 : (Jvm.Cond.methodLink "GlassLog$Watcher" (3 : Nat) ({ cls := "java/lang/Object", name := "<init>", desc := "()V" } : Jvm.MethodName)) ∈ lw_all := lw_g (lw_at lw_m1 160 rfl) rfl
theorem q217 : (Jvm.Cond.fieldLink "GlassLog$Watcher" (9 : Nat) "GlassLog$Watcher" "keys" "[I") ∈ lw_all := lw_g (lw_at lw_m1 161 rfl) rfl
theorem q219 : (Jvm.Cond.fieldLink "GlassLog$Watcher" (15 : Nat) "GlassLog$Watcher" "last" "[I") ∈ lw_all := lw_g (lw_at lw_m1 163 rfl) rfl
theorem q221 : (Jvm.Cond.fieldLink "GlassLog$Watcher" (32 : Nat) "GlassLog$Watcher" "log" "I") ∈ lw_all := lw_g (lw_at lw_m1 165 rfl) rfl
theorem q223 : (Jvm.Cond.fieldLink "GlassLog$Watcher" (35 : Nat) "GlassLog$Watcher" "low" "I") ∈ lw_all := lw_g (lw_at lw_m1 167 rfl) rfl
theorem q225 : (Jvm.Cond.fieldLink "GlassLog$Watcher" (38 : Nat) "GlassLog$Watcher" "high" "I") ∈ lw_all := lw_g (lw_at lw_m1 169 rfl) rfl
theorem q227 : (Jvm.Cond.fieldLink "GlassLog$Watcher" (41 : Nat) "GlassLog$Watcher" "gone" "I") ∈ lw_all := lw_g (lw_at lw_m1 171 rfl) rfl
theorem q229 : (Jvm.Cond.fieldLink "GlassLog$Watcher" (18 : Nat) "GlassLog$Watcher" "many" "I") ∈ lw_all := lw_g (lw_at lw_m1 173 rfl) rfl
theorem q231 : (Jvm.Cond.fieldLink "GlassLog$Watcher" (28 : Nat) "GlassLog$Watcher" "is" "Z") ∈ lw_all := lw_g (lw_at lw_m1 175 rfl) rfl
theorem q233 : (Jvm.Cond.laysFinal "GlassLog$Watcher" "GlassLog$Watcher" "keys" "[I") ∈ lw_all := lw_g (lw_at lw_m1 177 rfl) rfl
theorem q234 : (Jvm.Cond.soleField "GlassLog$Watcher" "keys") ∈ lw_all := lw_g (lw_at lw_m1 178 rfl) rfl
theorem q235 : (Jvm.Cond.laysFinal "GlassLog$Watcher" "GlassLog$Watcher" "last" "[I") ∈ lw_all := lw_g (lw_at lw_m1 179 rfl) rfl
theorem q236 : (Jvm.Cond.soleField "GlassLog$Watcher" "last") ∈ lw_all := lw_g (lw_at lw_m1 180 rfl) rfl
theorem q237 : (Jvm.Cond.lays "GlassLog$Watcher" "GlassLog$Watcher" "log" "I") ∈ lw_all := lw_g (lw_at lw_m1 181 rfl) rfl
theorem q238 : (Jvm.Cond.soleField "GlassLog$Watcher" "log") ∈ lw_all := lw_g (lw_at lw_m1 182 rfl) rfl
theorem q239 : (Jvm.Cond.lays "GlassLog$Watcher" "GlassLog$Watcher" "low" "I") ∈ lw_all := lw_g (lw_at lw_m1 183 rfl) rfl
theorem q240 : (Jvm.Cond.soleField "GlassLog$Watcher" "low") ∈ lw_all := lw_g (lw_at lw_m1 184 rfl) rfl
theorem q241 : (Jvm.Cond.lays "GlassLog$Watcher" "GlassLog$Watcher" "high" "I") ∈ lw_all := lw_g (lw_at lw_m1 185 rfl) rfl
theorem q242 : (Jvm.Cond.soleField "GlassLog$Watcher" "high") ∈ lw_all := lw_g (lw_at lw_m1 186 rfl) rfl
theorem q243 : (Jvm.Cond.lays "GlassLog$Watcher" "GlassLog$Watcher" "gone" "I") ∈ lw_all := lw_g (lw_at lw_m1 187 rfl) rfl
theorem q244 : (Jvm.Cond.soleField "GlassLog$Watcher" "gone") ∈ lw_all := lw_g (lw_at lw_m1 188 rfl) rfl
theorem q245 : (Jvm.Cond.lays "GlassLog$Watcher" "GlassLog$Watcher" "many" "I") ∈ lw_all := lw_g (lw_at lw_m1 189 rfl) rfl
theorem q246 : (Jvm.Cond.soleField "GlassLog$Watcher" "many") ∈ lw_all := lw_g (lw_at lw_m1 190 rfl) rfl
theorem q247 : (Jvm.Cond.lays "GlassLog$Watcher" "GlassLog$Watcher" "is" "Z") ∈ lw_all := lw_g (lw_at lw_m1 191 rfl) rfl
theorem q248 : (Jvm.Cond.soleField "GlassLog$Watcher" "is") ∈ lw_all := lw_g (lw_at lw_m1 192 rfl) rfl
theorem q249 : (Jvm.Cond.superclass "GlassLog$Watcher" "java/lang/Object") ∈ lw_all := lw_g (lw_at lw_m1 193 rfl) rfl
theorem q1082 : (Jvm.Cond.instanceMethod ({ cls := "GlassLog$Watcher", name := "reads", desc := "(II)V" } : Jvm.MethodName)) ∈ lw_all := lw_g (lw_at lw_m5 66 rfl) rfl
theorem q1083 : (Jvm.Cond.selects "GlassLog$Watcher" ({ cls := "GlassLog$Watcher", name := "reads", desc := "(II)V" } : Jvm.MethodName) ({ cls := "GlassLog$Watcher", name := "reads", desc := "(II)V" } : Jvm.MethodName)) ∈ lw_all := lw_g (lw_at lw_m5 67 rfl) rfl
theorem q1084 : (Jvm.Cond.code ({ cls := "GlassLog$Watcher", name := "reads", desc := "(II)V" } : Jvm.MethodName) prog_14_method_2_code (4 : Nat) (Option.none : Option Jvm.ClassFile.FieldType)) ∈ lw_all := lw_g (lw_at lw_m5 68 rfl) rfl
theorem q1085 : (Jvm.Cond.methodLink "GlassLog$Watcher" (22 : Nat) ({ cls := "java/lang/Math", name := "max", desc := "(II)I" } : Jvm.MethodName)) ∈ lw_all := lw_g (lw_at lw_m5 69 rfl) rfl
theorem q1177 : (Jvm.Cond.instanceMethod ({ cls := "GlassLog$Watcher", name := "become", desc := "(LGlassLog$Watcher;)V" } : Jvm.MethodName)) ∈ lw_all := lw_g (lw_at lw_m5 161 rfl) rfl
theorem q1178 : (Jvm.Cond.selects "GlassLog$Watcher" ({ cls := "GlassLog$Watcher", name := "become", desc := "(LGlassLog$Watcher;)V" } : Jvm.MethodName) ({ cls := "GlassLog$Watcher", name := "become", desc := "(LGlassLog$Watcher;)V" } : Jvm.MethodName)) ∈ lw_all := lw_g (lw_at lw_m5 162 rfl) rfl
theorem q1179 : (Jvm.Cond.code ({ cls := "GlassLog$Watcher", name := "become", desc := "(LGlassLog$Watcher;)V" } : Jvm.MethodName) prog_14_method_3_code (2 : Nat) (Option.none : Option Jvm.ClassFile.FieldType)) ∈ lw_all := lw_g (lw_at lw_m5 163 rfl) rfl
theorem q1180 : (Jvm.Cond.methodLink "GlassLog$Watcher" (44 : Nat) ({ cls := "java/lang/System", name := "arraycopy", desc := "(Ljava/lang/Object;ILjava/lang/Object;II)V" } : Jvm.MethodName)) ∈ lw_all := lw_g (lw_at lw_m5 164 rfl) rfl
theorem in_X5 : ∀ w ∈ wsX50, w ∈ lw_all := lw_in wsX50 [233, 235, 237, 239, 241, 243, 245, 247] (by decide +kernel) (by decide +kernel)

/-! GlassLog$Mixer -/
set_option maxRecDepth 100000
def RX6 : String := "GlassLog$Mixer"
def TX6 : u_T := fun k => match k with
  | 0 => ("GlassLog$Mixer", "a", "[I", true)
  | _ => ("GlassLog$Mixer", "n", "I", false)
def tyX6 : Nat → FieldType := fun k => match k with
  | 0 => .array .int
  | _ => .int
abbrev wsX60 : List Cond := u_ws RX6 TX6 2
theorem nmX6 : ∀ a, a < 2 → ∀ b, b < 2 → a ≠ b → (TX6 a).2.1 ≠ (TX6 b).2.1 := by decide +kernel
theorem tyX6_ok : ∀ k, k < 2 → parseFieldDescriptor (TX6 k).2.2.1 = some (tyX6 k) := by decide +kernel
abbrev cX6_init : ByteArray := prog_9_method_1_code
def yX6_init : MethodName := ⟨RX6, "<init>", "()V"⟩
def dkwX6_init_0 : List UInt8 := [42, 183, 0, 3, 42, 16, 8, 188, 10, 181, 0, 9, 177]
abbrev dktX6_init_0 : List UInt8 := dkwX6_init_0 ++ []
theorem dksX6_init_0 : cX6_init.data.toList.drop 0 = dktX6_init_0 := by decide +kernel
theorem dX6_init_0 : decode cX6_init 0 = .ok (.aload_n 0, 1) := dk_42 (dk_at dksX6_init_0 0 rfl rfl)
theorem dX6_init_1 : decode cX6_init 1 = .ok (.invokespecial 3, 3) := dk_183 0 3 (dk_at dksX6_init_0 1 rfl rfl)
theorem dX6_init_4 : decode cX6_init 4 = .ok (.aload_n 0, 1) := dk_42 (dk_at dksX6_init_0 4 rfl rfl)
theorem dX6_init_5 : decode cX6_init 5 = .ok (.bipush 8, 2) := dk_16 8 (dk_at dksX6_init_0 5 rfl rfl)
theorem dX6_init_7 : decode cX6_init 7 = .ok (.newarray .int, 2) := dk_188_10 (dk_at dksX6_init_0 7 rfl rfl)
theorem dX6_init_9 : decode cX6_init 9 = .ok (.putfield 9, 3) := dk_181 0 9 (dk_at dksX6_init_0 9 rfl rfl)
theorem dX6_init_12 : decode cX6_init 12 = .ok (.return_, 1) := dk_177 (dk_at dksX6_init_0 12 rfl rfl)
abbrev cX6_entry : ByteArray := prog_9_method_7_code
def yX6_entry : MethodName := ⟨RX6, "entry", "(IJ[II)V"⟩
def dkwX6_entry_1 : List UInt8 := [32, 136, 182, 0, 23, 42, 25, 4, 21, 5, 182, 0, 30, 177]
abbrev dktX6_entry_1 : List UInt8 := dkwX6_entry_1 ++ []
def dkwX6_entry_0 : List UInt8 := [42, 182, 0, 27, 42, 4, 182, 0, 23, 42, 27, 182, 0, 23, 42, 32, 16, 32, 123, 136, 182, 0, 23, 42]
abbrev dktX6_entry_0 : List UInt8 := dkwX6_entry_0 ++ dktX6_entry_1
theorem dksX6_entry_0 : cX6_entry.data.toList.drop 0 = dktX6_entry_0 := by decide +kernel
theorem dksX6_entry_1 : cX6_entry.data.toList.drop 24 = dktX6_entry_1 := dk_seg dksX6_entry_0 24 rfl rfl
theorem dX6_entry_0 : decode cX6_entry 0 = .ok (.aload_n 0, 1) := dk_42 (dk_at dksX6_entry_0 0 rfl rfl)
theorem dX6_entry_1 : decode cX6_entry 1 = .ok (.invokevirtual 27, 3) := dk_182 0 27 (dk_at dksX6_entry_0 1 rfl rfl)
theorem dX6_entry_4 : decode cX6_entry 4 = .ok (.aload_n 0, 1) := dk_42 (dk_at dksX6_entry_0 4 rfl rfl)
theorem dX6_entry_5 : decode cX6_entry 5 = .ok (.iconst 1, 1) := dk_4 (dk_at dksX6_entry_0 5 rfl rfl)
theorem dX6_entry_6 : decode cX6_entry 6 = .ok (.invokevirtual 23, 3) := dk_182 0 23 (dk_at dksX6_entry_0 6 rfl rfl)
theorem dX6_entry_9 : decode cX6_entry 9 = .ok (.aload_n 0, 1) := dk_42 (dk_at dksX6_entry_0 9 rfl rfl)
theorem dX6_entry_10 : decode cX6_entry 10 = .ok (.iload_n 1, 1) := dk_27 (dk_at dksX6_entry_0 10 rfl rfl)
theorem dX6_entry_11 : decode cX6_entry 11 = .ok (.invokevirtual 23, 3) := dk_182 0 23 (dk_at dksX6_entry_0 11 rfl rfl)
theorem dX6_entry_14 : decode cX6_entry 14 = .ok (.aload_n 0, 1) := dk_42 (dk_at dksX6_entry_0 14 rfl rfl)
theorem dX6_entry_15 : decode cX6_entry 15 = .ok (.lload_n 2, 1) := dk_32 (dk_at dksX6_entry_0 15 rfl rfl)
theorem dX6_entry_16 : decode cX6_entry 16 = .ok (.bipush 32, 2) := dk_16 32 (dk_at dksX6_entry_0 16 rfl rfl)
theorem dX6_entry_18 : decode cX6_entry 18 = .ok (.lshr, 1) := dk_123 (dk_at dksX6_entry_0 18 rfl rfl)
theorem dX6_entry_19 : decode cX6_entry 19 = .ok (.l2i, 1) := dk_136 (dk_at dksX6_entry_0 19 rfl rfl)
theorem dX6_entry_20 : decode cX6_entry 20 = .ok (.invokevirtual 23, 3) := dk_182 0 23 (dk_at dksX6_entry_0 20 rfl rfl)
theorem dX6_entry_23 : decode cX6_entry 23 = .ok (.aload_n 0, 1) := dk_42 (dk_at dksX6_entry_0 23 rfl rfl)
theorem dX6_entry_24 : decode cX6_entry 24 = .ok (.lload_n 2, 1) := dk_32 (dk_at dksX6_entry_1 0 rfl rfl)
theorem dX6_entry_25 : decode cX6_entry 25 = .ok (.l2i, 1) := dk_136 (dk_at dksX6_entry_1 1 rfl rfl)
theorem dX6_entry_26 : decode cX6_entry 26 = .ok (.invokevirtual 23, 3) := dk_182 0 23 (dk_at dksX6_entry_1 2 rfl rfl)
theorem dX6_entry_29 : decode cX6_entry 29 = .ok (.aload_n 0, 1) := dk_42 (dk_at dksX6_entry_1 5 rfl rfl)
theorem dX6_entry_30 : decode cX6_entry 30 = .ok (.aload 4, 2) := dk_25 4 (dk_at dksX6_entry_1 6 rfl rfl)
theorem dX6_entry_32 : decode cX6_entry 32 = .ok (.iload 5, 2) := dk_21 5 (dk_at dksX6_entry_1 8 rfl rfl)
theorem dX6_entry_34 : decode cX6_entry 34 = .ok (.invokevirtual 30, 3) := dk_182 0 30 (dk_at dksX6_entry_1 10 rfl rfl)
theorem dX6_entry_37 : decode cX6_entry 37 = .ok (.return_, 1) := dk_177 (dk_at dksX6_entry_1 13 rfl rfl)
abbrev cX6_begin : ByteArray := prog_9_method_2_code
def yX6_begin : MethodName := ⟨RX6, "begin", "()V"⟩
def dkwX6_begin_1 : List UInt8 := [167, 255, 235, 42, 3, 181, 0, 16, 177]
abbrev dktX6_begin_1 : List UInt8 := dkwX6_begin_1 ++ []
def dkwX6_begin_0 : List UInt8 := [3, 60, 27, 16, 8, 162, 0, 21, 42, 180, 0, 9, 27, 27, 4, 96, 18, 15, 104, 79, 132, 1, 1]
abbrev dktX6_begin_0 : List UInt8 := dkwX6_begin_0 ++ dktX6_begin_1
theorem dksX6_begin_0 : cX6_begin.data.toList.drop 0 = dktX6_begin_0 := by decide +kernel
theorem dksX6_begin_1 : cX6_begin.data.toList.drop 23 = dktX6_begin_1 := dk_seg dksX6_begin_0 23 rfl rfl
theorem dX6_begin_0 : decode cX6_begin 0 = .ok (.iconst 0, 1) := dk_3 (dk_at dksX6_begin_0 0 rfl rfl)
theorem dX6_begin_1 : decode cX6_begin 1 = .ok (.istore_n 1, 1) := dk_60 (dk_at dksX6_begin_0 1 rfl rfl)
theorem dX6_begin_2 : decode cX6_begin 2 = .ok (.iload_n 1, 1) := dk_27 (dk_at dksX6_begin_0 2 rfl rfl)
theorem dX6_begin_3 : decode cX6_begin 3 = .ok (.bipush 8, 2) := dk_16 8 (dk_at dksX6_begin_0 3 rfl rfl)
theorem dX6_begin_5 : decode cX6_begin 5 = .ok (.if_icmp .ge 21, 3) := dk_162 0 21 (dk_at dksX6_begin_0 5 rfl rfl)
theorem dX6_begin_8 : decode cX6_begin 8 = .ok (.aload_n 0, 1) := dk_42 (dk_at dksX6_begin_0 8 rfl rfl)
theorem dX6_begin_9 : decode cX6_begin 9 = .ok (.getfield 9, 3) := dk_180 0 9 (dk_at dksX6_begin_0 9 rfl rfl)
theorem dX6_begin_12 : decode cX6_begin 12 = .ok (.iload_n 1, 1) := dk_27 (dk_at dksX6_begin_0 12 rfl rfl)
theorem dX6_begin_13 : decode cX6_begin 13 = .ok (.iload_n 1, 1) := dk_27 (dk_at dksX6_begin_0 13 rfl rfl)
theorem dX6_begin_14 : decode cX6_begin 14 = .ok (.iconst 1, 1) := dk_4 (dk_at dksX6_begin_0 14 rfl rfl)
theorem dX6_begin_15 : decode cX6_begin 15 = .ok (.iadd, 1) := dk_96 (dk_at dksX6_begin_0 15 rfl rfl)
theorem dX6_begin_16 : decode cX6_begin 16 = .ok (.ldc 15, 2) := dk_18 15 (dk_at dksX6_begin_0 16 rfl rfl)
theorem dX6_begin_18 : decode cX6_begin 18 = .ok (.imul, 1) := dk_104 (dk_at dksX6_begin_0 18 rfl rfl)
theorem dX6_begin_19 : decode cX6_begin 19 = .ok (.iastore, 1) := dk_79 (dk_at dksX6_begin_0 19 rfl rfl)
theorem dX6_begin_20 : decode cX6_begin 20 = .ok (.iinc 1 1, 3) := dk_132 1 1 (dk_at dksX6_begin_0 20 rfl rfl)
theorem dX6_begin_23 : decode cX6_begin 23 = .ok (.goto (-21), 3) := dk_167 255 235 (dk_at dksX6_begin_1 0 rfl rfl)
theorem dX6_begin_26 : decode cX6_begin 26 = .ok (.aload_n 0, 1) := dk_42 (dk_at dksX6_begin_1 3 rfl rfl)
theorem dX6_begin_27 : decode cX6_begin 27 = .ok (.iconst 0, 1) := dk_3 (dk_at dksX6_begin_1 4 rfl rfl)
theorem dX6_begin_28 : decode cX6_begin 28 = .ok (.putfield 16, 3) := dk_181 0 16 (dk_at dksX6_begin_1 5 rfl rfl)
theorem dX6_begin_31 : decode cX6_begin 31 = .ok (.return_, 1) := dk_177 (dk_at dksX6_begin_1 8 rfl rfl)
abbrev cX6_put : ByteArray := prog_9_method_3_code
def yX6_put : MethodName := ⟨RX6, "put", "(I)V"⟩
def dkwX6_put_1 : List UInt8 := [181, 0, 16, 42, 180, 0, 16, 16, 8, 112, 154, 0, 7, 42, 182, 0, 20, 177]
abbrev dktX6_put_1 : List UInt8 := dkwX6_put_1 ++ []
def dkwX6_put_0 : List UInt8 := [42, 180, 0, 9, 42, 180, 0, 16, 16, 8, 112, 92, 46, 27, 130, 79, 42, 89, 180, 0, 16, 4, 96]
abbrev dktX6_put_0 : List UInt8 := dkwX6_put_0 ++ dktX6_put_1
theorem dksX6_put_0 : cX6_put.data.toList.drop 0 = dktX6_put_0 := by decide +kernel
theorem dksX6_put_1 : cX6_put.data.toList.drop 23 = dktX6_put_1 := dk_seg dksX6_put_0 23 rfl rfl
theorem dX6_put_0 : decode cX6_put 0 = .ok (.aload_n 0, 1) := dk_42 (dk_at dksX6_put_0 0 rfl rfl)
theorem dX6_put_1 : decode cX6_put 1 = .ok (.getfield 9, 3) := dk_180 0 9 (dk_at dksX6_put_0 1 rfl rfl)
theorem dX6_put_4 : decode cX6_put 4 = .ok (.aload_n 0, 1) := dk_42 (dk_at dksX6_put_0 4 rfl rfl)
theorem dX6_put_5 : decode cX6_put 5 = .ok (.getfield 16, 3) := dk_180 0 16 (dk_at dksX6_put_0 5 rfl rfl)
theorem dX6_put_8 : decode cX6_put 8 = .ok (.bipush 8, 2) := dk_16 8 (dk_at dksX6_put_0 8 rfl rfl)
theorem dX6_put_10 : decode cX6_put 10 = .ok (.irem, 1) := dk_112 (dk_at dksX6_put_0 10 rfl rfl)
theorem dX6_put_11 : decode cX6_put 11 = .ok (.dup2, 1) := dk_92 (dk_at dksX6_put_0 11 rfl rfl)
theorem dX6_put_12 : decode cX6_put 12 = .ok (.iaload, 1) := dk_46 (dk_at dksX6_put_0 12 rfl rfl)
theorem dX6_put_13 : decode cX6_put 13 = .ok (.iload_n 1, 1) := dk_27 (dk_at dksX6_put_0 13 rfl rfl)
theorem dX6_put_14 : decode cX6_put 14 = .ok (.ixor, 1) := dk_130 (dk_at dksX6_put_0 14 rfl rfl)
theorem dX6_put_15 : decode cX6_put 15 = .ok (.iastore, 1) := dk_79 (dk_at dksX6_put_0 15 rfl rfl)
theorem dX6_put_16 : decode cX6_put 16 = .ok (.aload_n 0, 1) := dk_42 (dk_at dksX6_put_0 16 rfl rfl)
theorem dX6_put_17 : decode cX6_put 17 = .ok (.dup, 1) := dk_89 (dk_at dksX6_put_0 17 rfl rfl)
theorem dX6_put_18 : decode cX6_put 18 = .ok (.getfield 16, 3) := dk_180 0 16 (dk_at dksX6_put_0 18 rfl rfl)
theorem dX6_put_21 : decode cX6_put 21 = .ok (.iconst 1, 1) := dk_4 (dk_at dksX6_put_0 21 rfl rfl)
theorem dX6_put_22 : decode cX6_put 22 = .ok (.iadd, 1) := dk_96 (dk_at dksX6_put_0 22 rfl rfl)
theorem dX6_put_23 : decode cX6_put 23 = .ok (.putfield 16, 3) := dk_181 0 16 (dk_at dksX6_put_1 0 rfl rfl)
theorem dX6_put_26 : decode cX6_put 26 = .ok (.aload_n 0, 1) := dk_42 (dk_at dksX6_put_1 3 rfl rfl)
theorem dX6_put_27 : decode cX6_put 27 = .ok (.getfield 16, 3) := dk_180 0 16 (dk_at dksX6_put_1 4 rfl rfl)
theorem dX6_put_30 : decode cX6_put 30 = .ok (.bipush 8, 2) := dk_16 8 (dk_at dksX6_put_1 7 rfl rfl)
theorem dX6_put_32 : decode cX6_put 32 = .ok (.irem, 1) := dk_112 (dk_at dksX6_put_1 9 rfl rfl)
theorem dX6_put_33 : decode cX6_put 33 = .ok (.ifCond .ne 7, 3) := dk_154 0 7 (dk_at dksX6_put_1 10 rfl rfl)
theorem dX6_put_36 : decode cX6_put 36 = .ok (.aload_n 0, 1) := dk_42 (dk_at dksX6_put_1 13 rfl rfl)
theorem dX6_put_37 : decode cX6_put 37 = .ok (.invokevirtual 20, 3) := dk_182 0 20 (dk_at dksX6_put_1 14 rfl rfl)
theorem dX6_put_40 : decode cX6_put 40 = .ok (.return_, 1) := dk_177 (dk_at dksX6_put_1 17 rfl rfl)
abbrev cX6_turn : ByteArray := prog_9_method_6_code
def yX6_turn : MethodName := ⟨RX6, "turn", "()V"⟩
def dkwX6_turn_3 : List UInt8 := [132, 1, 1, 167, 255, 185, 177]
abbrev dktX6_turn_3 : List UInt8 := dkwX6_turn_3 ++ []
def dkwX6_turn_2 : List UInt8 := [180, 0, 9, 28, 29, 42, 180, 0, 9, 28, 6, 96, 16, 8, 112, 46, 130, 79, 132, 2, 1, 167, 255, 199]
abbrev dktX6_turn_2 : List UInt8 := dkwX6_turn_2 ++ dktX6_turn_3
def dkwX6_turn_1 : List UInt8 := [180, 0, 9, 28, 4, 96, 16, 8, 112, 46, 96, 62, 29, 16, 7, 120, 29, 16, 25, 124, 128, 62, 42]
abbrev dktX6_turn_1 : List UInt8 := dkwX6_turn_1 ++ dktX6_turn_2
def dkwX6_turn_0 : List UInt8 := [3, 60, 27, 16, 6, 162, 0, 71, 3, 61, 28, 16, 8, 162, 0, 57, 42, 180, 0, 9, 28, 46, 42]
abbrev dktX6_turn_0 : List UInt8 := dkwX6_turn_0 ++ dktX6_turn_1
theorem dksX6_turn_0 : cX6_turn.data.toList.drop 0 = dktX6_turn_0 := by decide +kernel
theorem dksX6_turn_1 : cX6_turn.data.toList.drop 23 = dktX6_turn_1 := dk_seg dksX6_turn_0 23 rfl rfl
theorem dksX6_turn_2 : cX6_turn.data.toList.drop 46 = dktX6_turn_2 := dk_seg dksX6_turn_1 23 rfl rfl
theorem dksX6_turn_3 : cX6_turn.data.toList.drop 70 = dktX6_turn_3 := dk_seg dksX6_turn_2 24 rfl rfl
theorem dX6_turn_0 : decode cX6_turn 0 = .ok (.iconst 0, 1) := dk_3 (dk_at dksX6_turn_0 0 rfl rfl)
theorem dX6_turn_1 : decode cX6_turn 1 = .ok (.istore_n 1, 1) := dk_60 (dk_at dksX6_turn_0 1 rfl rfl)
theorem dX6_turn_2 : decode cX6_turn 2 = .ok (.iload_n 1, 1) := dk_27 (dk_at dksX6_turn_0 2 rfl rfl)
theorem dX6_turn_3 : decode cX6_turn 3 = .ok (.bipush 6, 2) := dk_16 6 (dk_at dksX6_turn_0 3 rfl rfl)
theorem dX6_turn_5 : decode cX6_turn 5 = .ok (.if_icmp .ge 71, 3) := dk_162 0 71 (dk_at dksX6_turn_0 5 rfl rfl)
theorem dX6_turn_8 : decode cX6_turn 8 = .ok (.iconst 0, 1) := dk_3 (dk_at dksX6_turn_0 8 rfl rfl)
theorem dX6_turn_9 : decode cX6_turn 9 = .ok (.istore_n 2, 1) := dk_61 (dk_at dksX6_turn_0 9 rfl rfl)
theorem dX6_turn_10 : decode cX6_turn 10 = .ok (.iload_n 2, 1) := dk_28 (dk_at dksX6_turn_0 10 rfl rfl)
theorem dX6_turn_11 : decode cX6_turn 11 = .ok (.bipush 8, 2) := dk_16 8 (dk_at dksX6_turn_0 11 rfl rfl)
theorem dX6_turn_13 : decode cX6_turn 13 = .ok (.if_icmp .ge 57, 3) := dk_162 0 57 (dk_at dksX6_turn_0 13 rfl rfl)
theorem dX6_turn_16 : decode cX6_turn 16 = .ok (.aload_n 0, 1) := dk_42 (dk_at dksX6_turn_0 16 rfl rfl)
theorem dX6_turn_17 : decode cX6_turn 17 = .ok (.getfield 9, 3) := dk_180 0 9 (dk_at dksX6_turn_0 17 rfl rfl)
theorem dX6_turn_20 : decode cX6_turn 20 = .ok (.iload_n 2, 1) := dk_28 (dk_at dksX6_turn_0 20 rfl rfl)
theorem dX6_turn_21 : decode cX6_turn 21 = .ok (.iaload, 1) := dk_46 (dk_at dksX6_turn_0 21 rfl rfl)
theorem dX6_turn_22 : decode cX6_turn 22 = .ok (.aload_n 0, 1) := dk_42 (dk_at dksX6_turn_0 22 rfl rfl)
theorem dX6_turn_23 : decode cX6_turn 23 = .ok (.getfield 9, 3) := dk_180 0 9 (dk_at dksX6_turn_1 0 rfl rfl)
theorem dX6_turn_26 : decode cX6_turn 26 = .ok (.iload_n 2, 1) := dk_28 (dk_at dksX6_turn_1 3 rfl rfl)
theorem dX6_turn_27 : decode cX6_turn 27 = .ok (.iconst 1, 1) := dk_4 (dk_at dksX6_turn_1 4 rfl rfl)
theorem dX6_turn_28 : decode cX6_turn 28 = .ok (.iadd, 1) := dk_96 (dk_at dksX6_turn_1 5 rfl rfl)
theorem dX6_turn_29 : decode cX6_turn 29 = .ok (.bipush 8, 2) := dk_16 8 (dk_at dksX6_turn_1 6 rfl rfl)
theorem dX6_turn_31 : decode cX6_turn 31 = .ok (.irem, 1) := dk_112 (dk_at dksX6_turn_1 8 rfl rfl)
theorem dX6_turn_32 : decode cX6_turn 32 = .ok (.iaload, 1) := dk_46 (dk_at dksX6_turn_1 9 rfl rfl)
theorem dX6_turn_33 : decode cX6_turn 33 = .ok (.iadd, 1) := dk_96 (dk_at dksX6_turn_1 10 rfl rfl)
theorem dX6_turn_34 : decode cX6_turn 34 = .ok (.istore_n 3, 1) := dk_62 (dk_at dksX6_turn_1 11 rfl rfl)
theorem dX6_turn_35 : decode cX6_turn 35 = .ok (.iload_n 3, 1) := dk_29 (dk_at dksX6_turn_1 12 rfl rfl)
theorem dX6_turn_36 : decode cX6_turn 36 = .ok (.bipush 7, 2) := dk_16 7 (dk_at dksX6_turn_1 13 rfl rfl)
theorem dX6_turn_38 : decode cX6_turn 38 = .ok (.ishl, 1) := dk_120 (dk_at dksX6_turn_1 15 rfl rfl)
theorem dX6_turn_39 : decode cX6_turn 39 = .ok (.iload_n 3, 1) := dk_29 (dk_at dksX6_turn_1 16 rfl rfl)
theorem dX6_turn_40 : decode cX6_turn 40 = .ok (.bipush 25, 2) := dk_16 25 (dk_at dksX6_turn_1 17 rfl rfl)
theorem dX6_turn_42 : decode cX6_turn 42 = .ok (.iushr, 1) := dk_124 (dk_at dksX6_turn_1 19 rfl rfl)
theorem dX6_turn_43 : decode cX6_turn 43 = .ok (.ior, 1) := dk_128 (dk_at dksX6_turn_1 20 rfl rfl)
theorem dX6_turn_44 : decode cX6_turn 44 = .ok (.istore_n 3, 1) := dk_62 (dk_at dksX6_turn_1 21 rfl rfl)
theorem dX6_turn_45 : decode cX6_turn 45 = .ok (.aload_n 0, 1) := dk_42 (dk_at dksX6_turn_1 22 rfl rfl)
theorem dX6_turn_46 : decode cX6_turn 46 = .ok (.getfield 9, 3) := dk_180 0 9 (dk_at dksX6_turn_2 0 rfl rfl)
theorem dX6_turn_49 : decode cX6_turn 49 = .ok (.iload_n 2, 1) := dk_28 (dk_at dksX6_turn_2 3 rfl rfl)
theorem dX6_turn_50 : decode cX6_turn 50 = .ok (.iload_n 3, 1) := dk_29 (dk_at dksX6_turn_2 4 rfl rfl)
theorem dX6_turn_51 : decode cX6_turn 51 = .ok (.aload_n 0, 1) := dk_42 (dk_at dksX6_turn_2 5 rfl rfl)
theorem dX6_turn_52 : decode cX6_turn 52 = .ok (.getfield 9, 3) := dk_180 0 9 (dk_at dksX6_turn_2 6 rfl rfl)
theorem dX6_turn_55 : decode cX6_turn 55 = .ok (.iload_n 2, 1) := dk_28 (dk_at dksX6_turn_2 9 rfl rfl)
theorem dX6_turn_56 : decode cX6_turn 56 = .ok (.iconst 3, 1) := dk_6 (dk_at dksX6_turn_2 10 rfl rfl)
theorem dX6_turn_57 : decode cX6_turn 57 = .ok (.iadd, 1) := dk_96 (dk_at dksX6_turn_2 11 rfl rfl)
theorem dX6_turn_58 : decode cX6_turn 58 = .ok (.bipush 8, 2) := dk_16 8 (dk_at dksX6_turn_2 12 rfl rfl)
theorem dX6_turn_60 : decode cX6_turn 60 = .ok (.irem, 1) := dk_112 (dk_at dksX6_turn_2 14 rfl rfl)
theorem dX6_turn_61 : decode cX6_turn 61 = .ok (.iaload, 1) := dk_46 (dk_at dksX6_turn_2 15 rfl rfl)
theorem dX6_turn_62 : decode cX6_turn 62 = .ok (.ixor, 1) := dk_130 (dk_at dksX6_turn_2 16 rfl rfl)
theorem dX6_turn_63 : decode cX6_turn 63 = .ok (.iastore, 1) := dk_79 (dk_at dksX6_turn_2 17 rfl rfl)
theorem dX6_turn_64 : decode cX6_turn 64 = .ok (.iinc 2 1, 3) := dk_132 2 1 (dk_at dksX6_turn_2 18 rfl rfl)
theorem dX6_turn_67 : decode cX6_turn 67 = .ok (.goto (-57), 3) := dk_167 255 199 (dk_at dksX6_turn_2 21 rfl rfl)
theorem dX6_turn_70 : decode cX6_turn 70 = .ok (.iinc 1 1, 3) := dk_132 1 1 (dk_at dksX6_turn_3 0 rfl rfl)
theorem dX6_turn_73 : decode cX6_turn 73 = .ok (.goto (-71), 3) := dk_167 255 185 (dk_at dksX6_turn_3 3 rfl rfl)
theorem dX6_turn_76 : decode cX6_turn 76 = .ok (.return_, 1) := dk_177 (dk_at dksX6_turn_3 6 rfl rfl)
abbrev cX6_end : ByteArray := prog_9_method_5_code
def yX6_end : MethodName := ⟨RX6, "end", "([II)V"⟩
def dkwX6_end_2 : List UInt8 := [180, 0, 9, 29, 46, 79, 132, 3, 1, 167, 255, 236, 177]
abbrev dktX6_end_2 : List UInt8 := dkwX6_end_2 ++ []
def dkwX6_end_1 : List UInt8 := [180, 0, 16, 130, 79, 42, 182, 0, 20, 3, 62, 29, 16, 8, 162, 0, 20, 43, 28, 29, 96, 42]
abbrev dktX6_end_1 : List UInt8 := dkwX6_end_1 ++ dktX6_end_2
def dkwX6_end_0 : List UInt8 := [42, 180, 0, 16, 16, 8, 112, 153, 0, 7, 42, 182, 0, 20, 42, 180, 0, 9, 3, 92, 46, 42]
abbrev dktX6_end_0 : List UInt8 := dkwX6_end_0 ++ dktX6_end_1
theorem dksX6_end_0 : cX6_end.data.toList.drop 0 = dktX6_end_0 := by decide +kernel
theorem dksX6_end_1 : cX6_end.data.toList.drop 22 = dktX6_end_1 := dk_seg dksX6_end_0 22 rfl rfl
theorem dksX6_end_2 : cX6_end.data.toList.drop 44 = dktX6_end_2 := dk_seg dksX6_end_1 22 rfl rfl
theorem dX6_end_0 : decode cX6_end 0 = .ok (.aload_n 0, 1) := dk_42 (dk_at dksX6_end_0 0 rfl rfl)
theorem dX6_end_1 : decode cX6_end 1 = .ok (.getfield 16, 3) := dk_180 0 16 (dk_at dksX6_end_0 1 rfl rfl)
theorem dX6_end_4 : decode cX6_end 4 = .ok (.bipush 8, 2) := dk_16 8 (dk_at dksX6_end_0 4 rfl rfl)
theorem dX6_end_6 : decode cX6_end 6 = .ok (.irem, 1) := dk_112 (dk_at dksX6_end_0 6 rfl rfl)
theorem dX6_end_7 : decode cX6_end 7 = .ok (.ifCond .eq 7, 3) := dk_153 0 7 (dk_at dksX6_end_0 7 rfl rfl)
theorem dX6_end_10 : decode cX6_end 10 = .ok (.aload_n 0, 1) := dk_42 (dk_at dksX6_end_0 10 rfl rfl)
theorem dX6_end_11 : decode cX6_end 11 = .ok (.invokevirtual 20, 3) := dk_182 0 20 (dk_at dksX6_end_0 11 rfl rfl)
theorem dX6_end_14 : decode cX6_end 14 = .ok (.aload_n 0, 1) := dk_42 (dk_at dksX6_end_0 14 rfl rfl)
theorem dX6_end_15 : decode cX6_end 15 = .ok (.getfield 9, 3) := dk_180 0 9 (dk_at dksX6_end_0 15 rfl rfl)
theorem dX6_end_18 : decode cX6_end 18 = .ok (.iconst 0, 1) := dk_3 (dk_at dksX6_end_0 18 rfl rfl)
theorem dX6_end_19 : decode cX6_end 19 = .ok (.dup2, 1) := dk_92 (dk_at dksX6_end_0 19 rfl rfl)
theorem dX6_end_20 : decode cX6_end 20 = .ok (.iaload, 1) := dk_46 (dk_at dksX6_end_0 20 rfl rfl)
theorem dX6_end_21 : decode cX6_end 21 = .ok (.aload_n 0, 1) := dk_42 (dk_at dksX6_end_0 21 rfl rfl)
theorem dX6_end_22 : decode cX6_end 22 = .ok (.getfield 16, 3) := dk_180 0 16 (dk_at dksX6_end_1 0 rfl rfl)
theorem dX6_end_25 : decode cX6_end 25 = .ok (.ixor, 1) := dk_130 (dk_at dksX6_end_1 3 rfl rfl)
theorem dX6_end_26 : decode cX6_end 26 = .ok (.iastore, 1) := dk_79 (dk_at dksX6_end_1 4 rfl rfl)
theorem dX6_end_27 : decode cX6_end 27 = .ok (.aload_n 0, 1) := dk_42 (dk_at dksX6_end_1 5 rfl rfl)
theorem dX6_end_28 : decode cX6_end 28 = .ok (.invokevirtual 20, 3) := dk_182 0 20 (dk_at dksX6_end_1 6 rfl rfl)
theorem dX6_end_31 : decode cX6_end 31 = .ok (.iconst 0, 1) := dk_3 (dk_at dksX6_end_1 9 rfl rfl)
theorem dX6_end_32 : decode cX6_end 32 = .ok (.istore_n 3, 1) := dk_62 (dk_at dksX6_end_1 10 rfl rfl)
theorem dX6_end_33 : decode cX6_end 33 = .ok (.iload_n 3, 1) := dk_29 (dk_at dksX6_end_1 11 rfl rfl)
theorem dX6_end_34 : decode cX6_end 34 = .ok (.bipush 8, 2) := dk_16 8 (dk_at dksX6_end_1 12 rfl rfl)
theorem dX6_end_36 : decode cX6_end 36 = .ok (.if_icmp .ge 20, 3) := dk_162 0 20 (dk_at dksX6_end_1 14 rfl rfl)
theorem dX6_end_39 : decode cX6_end 39 = .ok (.aload_n 1, 1) := dk_43 (dk_at dksX6_end_1 17 rfl rfl)
theorem dX6_end_40 : decode cX6_end 40 = .ok (.iload_n 2, 1) := dk_28 (dk_at dksX6_end_1 18 rfl rfl)
theorem dX6_end_41 : decode cX6_end 41 = .ok (.iload_n 3, 1) := dk_29 (dk_at dksX6_end_1 19 rfl rfl)
theorem dX6_end_42 : decode cX6_end 42 = .ok (.iadd, 1) := dk_96 (dk_at dksX6_end_1 20 rfl rfl)
theorem dX6_end_43 : decode cX6_end 43 = .ok (.aload_n 0, 1) := dk_42 (dk_at dksX6_end_1 21 rfl rfl)
theorem dX6_end_44 : decode cX6_end 44 = .ok (.getfield 9, 3) := dk_180 0 9 (dk_at dksX6_end_2 0 rfl rfl)
theorem dX6_end_47 : decode cX6_end 47 = .ok (.iload_n 3, 1) := dk_29 (dk_at dksX6_end_2 3 rfl rfl)
theorem dX6_end_48 : decode cX6_end 48 = .ok (.iaload, 1) := dk_46 (dk_at dksX6_end_2 4 rfl rfl)
theorem dX6_end_49 : decode cX6_end 49 = .ok (.iastore, 1) := dk_79 (dk_at dksX6_end_2 5 rfl rfl)
theorem dX6_end_50 : decode cX6_end 50 = .ok (.iinc 3 1, 3) := dk_132 3 1 (dk_at dksX6_end_2 6 rfl rfl)
theorem dX6_end_53 : decode cX6_end 53 = .ok (.goto (-20), 3) := dk_167 255 236 (dk_at dksX6_end_2 9 rfl rfl)
theorem dX6_end_56 : decode cX6_end 56 = .ok (.return_, 1) := dk_177 (dk_at dksX6_end_2 12 rfl rfl)
abbrev cX6_join : ByteArray := prog_9_method_8_code
def yX6_join : MethodName := ⟨RX6, "join", "([II[II[II)V"⟩
def dkwX6_join_1 : List UInt8 := [25, 5, 21, 6, 182, 0, 30, 177]
abbrev dktX6_join_1 : List UInt8 := dkwX6_join_1 ++ []
def dkwX6_join_0 : List UInt8 := [42, 182, 0, 27, 42, 5, 182, 0, 23, 42, 43, 28, 182, 0, 34, 42, 45, 21, 4, 182, 0, 34, 42]
abbrev dktX6_join_0 : List UInt8 := dkwX6_join_0 ++ dktX6_join_1
theorem dksX6_join_0 : cX6_join.data.toList.drop 0 = dktX6_join_0 := by decide +kernel
theorem dksX6_join_1 : cX6_join.data.toList.drop 23 = dktX6_join_1 := dk_seg dksX6_join_0 23 rfl rfl
theorem dX6_join_0 : decode cX6_join 0 = .ok (.aload_n 0, 1) := dk_42 (dk_at dksX6_join_0 0 rfl rfl)
theorem dX6_join_1 : decode cX6_join 1 = .ok (.invokevirtual 27, 3) := dk_182 0 27 (dk_at dksX6_join_0 1 rfl rfl)
theorem dX6_join_4 : decode cX6_join 4 = .ok (.aload_n 0, 1) := dk_42 (dk_at dksX6_join_0 4 rfl rfl)
theorem dX6_join_5 : decode cX6_join 5 = .ok (.iconst 2, 1) := dk_5 (dk_at dksX6_join_0 5 rfl rfl)
theorem dX6_join_6 : decode cX6_join 6 = .ok (.invokevirtual 23, 3) := dk_182 0 23 (dk_at dksX6_join_0 6 rfl rfl)
theorem dX6_join_9 : decode cX6_join 9 = .ok (.aload_n 0, 1) := dk_42 (dk_at dksX6_join_0 9 rfl rfl)
theorem dX6_join_10 : decode cX6_join 10 = .ok (.aload_n 1, 1) := dk_43 (dk_at dksX6_join_0 10 rfl rfl)
theorem dX6_join_11 : decode cX6_join 11 = .ok (.iload_n 2, 1) := dk_28 (dk_at dksX6_join_0 11 rfl rfl)
theorem dX6_join_12 : decode cX6_join 12 = .ok (.invokevirtual 34, 3) := dk_182 0 34 (dk_at dksX6_join_0 12 rfl rfl)
theorem dX6_join_15 : decode cX6_join 15 = .ok (.aload_n 0, 1) := dk_42 (dk_at dksX6_join_0 15 rfl rfl)
theorem dX6_join_16 : decode cX6_join 16 = .ok (.aload_n 3, 1) := dk_45 (dk_at dksX6_join_0 16 rfl rfl)
theorem dX6_join_17 : decode cX6_join 17 = .ok (.iload 4, 2) := dk_21 4 (dk_at dksX6_join_0 17 rfl rfl)
theorem dX6_join_19 : decode cX6_join 19 = .ok (.invokevirtual 34, 3) := dk_182 0 34 (dk_at dksX6_join_0 19 rfl rfl)
theorem dX6_join_22 : decode cX6_join 22 = .ok (.aload_n 0, 1) := dk_42 (dk_at dksX6_join_0 22 rfl rfl)
theorem dX6_join_23 : decode cX6_join 23 = .ok (.aload 5, 2) := dk_25 5 (dk_at dksX6_join_1 0 rfl rfl)
theorem dX6_join_25 : decode cX6_join 25 = .ok (.iload 6, 2) := dk_21 6 (dk_at dksX6_join_1 2 rfl rfl)
theorem dX6_join_27 : decode cX6_join 27 = .ok (.invokevirtual 30, 3) := dk_182 0 30 (dk_at dksX6_join_1 4 rfl rfl)
theorem dX6_join_30 : decode cX6_join 30 = .ok (.return_, 1) := dk_177 (dk_at dksX6_join_1 7 rfl rfl)
abbrev cX6_put_2 : ByteArray := prog_9_method_4_code
def yX6_put_2 : MethodName := ⟨RX6, "put", "([II)V"⟩
def dkwX6_put_2_0 : List UInt8 := [3, 62, 29, 16, 8, 162, 0, 18, 42, 43, 28, 29, 96, 46, 182, 0, 23, 132, 3, 1, 167, 255, 238, 177]
abbrev dktX6_put_2_0 : List UInt8 := dkwX6_put_2_0 ++ []
theorem dksX6_put_2_0 : cX6_put_2.data.toList.drop 0 = dktX6_put_2_0 := by decide +kernel
theorem dX6_put_2_0 : decode cX6_put_2 0 = .ok (.iconst 0, 1) := dk_3 (dk_at dksX6_put_2_0 0 rfl rfl)
theorem dX6_put_2_1 : decode cX6_put_2 1 = .ok (.istore_n 3, 1) := dk_62 (dk_at dksX6_put_2_0 1 rfl rfl)
theorem dX6_put_2_2 : decode cX6_put_2 2 = .ok (.iload_n 3, 1) := dk_29 (dk_at dksX6_put_2_0 2 rfl rfl)
theorem dX6_put_2_3 : decode cX6_put_2 3 = .ok (.bipush 8, 2) := dk_16 8 (dk_at dksX6_put_2_0 3 rfl rfl)
theorem dX6_put_2_5 : decode cX6_put_2 5 = .ok (.if_icmp .ge 18, 3) := dk_162 0 18 (dk_at dksX6_put_2_0 5 rfl rfl)
theorem dX6_put_2_8 : decode cX6_put_2 8 = .ok (.aload_n 0, 1) := dk_42 (dk_at dksX6_put_2_0 8 rfl rfl)
theorem dX6_put_2_9 : decode cX6_put_2 9 = .ok (.aload_n 1, 1) := dk_43 (dk_at dksX6_put_2_0 9 rfl rfl)
theorem dX6_put_2_10 : decode cX6_put_2 10 = .ok (.iload_n 2, 1) := dk_28 (dk_at dksX6_put_2_0 10 rfl rfl)
theorem dX6_put_2_11 : decode cX6_put_2 11 = .ok (.iload_n 3, 1) := dk_29 (dk_at dksX6_put_2_0 11 rfl rfl)
theorem dX6_put_2_12 : decode cX6_put_2 12 = .ok (.iadd, 1) := dk_96 (dk_at dksX6_put_2_0 12 rfl rfl)
theorem dX6_put_2_13 : decode cX6_put_2 13 = .ok (.iaload, 1) := dk_46 (dk_at dksX6_put_2_0 13 rfl rfl)
theorem dX6_put_2_14 : decode cX6_put_2 14 = .ok (.invokevirtual 23, 3) := dk_182 0 23 (dk_at dksX6_put_2_0 14 rfl rfl)
theorem dX6_put_2_17 : decode cX6_put_2 17 = .ok (.iinc 3 1, 3) := dk_132 3 1 (dk_at dksX6_put_2_0 17 rfl rfl)
theorem dX6_put_2_20 : decode cX6_put_2 20 = .ok (.goto (-18), 3) := dk_167 255 238 (dk_at dksX6_put_2_0 20 rfl rfl)
theorem dX6_put_2_23 : decode cX6_put_2 23 = .ok (.return_, 1) := dk_177 (dk_at dksX6_put_2_0 23 rfl rfl)
abbrev cX6_way : ByteArray := prog_9_method_9_code
def yX6_way : MethodName := ⟨RX6, "way", "(I[II)V"⟩
def dkwX6_way_0 : List UInt8 := [42, 182, 0, 27, 42, 7, 182, 0, 23, 42, 27, 182, 0, 23, 42, 44, 29, 182, 0, 30, 177]
abbrev dktX6_way_0 : List UInt8 := dkwX6_way_0 ++ []
theorem dksX6_way_0 : cX6_way.data.toList.drop 0 = dktX6_way_0 := by decide +kernel
theorem dX6_way_0 : decode cX6_way 0 = .ok (.aload_n 0, 1) := dk_42 (dk_at dksX6_way_0 0 rfl rfl)
theorem dX6_way_1 : decode cX6_way 1 = .ok (.invokevirtual 27, 3) := dk_182 0 27 (dk_at dksX6_way_0 1 rfl rfl)
theorem dX6_way_4 : decode cX6_way 4 = .ok (.aload_n 0, 1) := dk_42 (dk_at dksX6_way_0 4 rfl rfl)
theorem dX6_way_5 : decode cX6_way 5 = .ok (.iconst 4, 1) := dk_7 (dk_at dksX6_way_0 5 rfl rfl)
theorem dX6_way_6 : decode cX6_way 6 = .ok (.invokevirtual 23, 3) := dk_182 0 23 (dk_at dksX6_way_0 6 rfl rfl)
theorem dX6_way_9 : decode cX6_way 9 = .ok (.aload_n 0, 1) := dk_42 (dk_at dksX6_way_0 9 rfl rfl)
theorem dX6_way_10 : decode cX6_way 10 = .ok (.iload_n 1, 1) := dk_27 (dk_at dksX6_way_0 10 rfl rfl)
theorem dX6_way_11 : decode cX6_way 11 = .ok (.invokevirtual 23, 3) := dk_182 0 23 (dk_at dksX6_way_0 11 rfl rfl)
theorem dX6_way_14 : decode cX6_way 14 = .ok (.aload_n 0, 1) := dk_42 (dk_at dksX6_way_0 14 rfl rfl)
theorem dX6_way_15 : decode cX6_way 15 = .ok (.aload_n 2, 1) := dk_44 (dk_at dksX6_way_0 15 rfl rfl)
theorem dX6_way_16 : decode cX6_way 16 = .ok (.iload_n 3, 1) := dk_29 (dk_at dksX6_way_0 16 rfl rfl)
theorem dX6_way_17 : decode cX6_way 17 = .ok (.invokevirtual 30, 3) := dk_182 0 30 (dk_at dksX6_way_0 17 rfl rfl)
theorem dX6_way_20 : decode cX6_way 20 = .ok (.return_, 1) := dk_177 (dk_at dksX6_way_0 20 rfl rfl)
abbrev cX6_leaf : ByteArray := prog_9_method_10_code
def yX6_leaf : MethodName := ⟨RX6, "leaf", "(II[II)V"⟩
def dkwX6_leaf_1 : List UInt8 := [182, 0, 30, 177]
abbrev dktX6_leaf_1 : List UInt8 := dkwX6_leaf_1 ++ []
def dkwX6_leaf_0 : List UInt8 := [42, 182, 0, 27, 42, 8, 182, 0, 23, 42, 27, 182, 0, 23, 42, 28, 182, 0, 23, 42, 45, 21, 4]
abbrev dktX6_leaf_0 : List UInt8 := dkwX6_leaf_0 ++ dktX6_leaf_1
theorem dksX6_leaf_0 : cX6_leaf.data.toList.drop 0 = dktX6_leaf_0 := by decide +kernel
theorem dksX6_leaf_1 : cX6_leaf.data.toList.drop 23 = dktX6_leaf_1 := dk_seg dksX6_leaf_0 23 rfl rfl
theorem dX6_leaf_0 : decode cX6_leaf 0 = .ok (.aload_n 0, 1) := dk_42 (dk_at dksX6_leaf_0 0 rfl rfl)
theorem dX6_leaf_1 : decode cX6_leaf 1 = .ok (.invokevirtual 27, 3) := dk_182 0 27 (dk_at dksX6_leaf_0 1 rfl rfl)
theorem dX6_leaf_4 : decode cX6_leaf 4 = .ok (.aload_n 0, 1) := dk_42 (dk_at dksX6_leaf_0 4 rfl rfl)
theorem dX6_leaf_5 : decode cX6_leaf 5 = .ok (.iconst 5, 1) := dk_8 (dk_at dksX6_leaf_0 5 rfl rfl)
theorem dX6_leaf_6 : decode cX6_leaf 6 = .ok (.invokevirtual 23, 3) := dk_182 0 23 (dk_at dksX6_leaf_0 6 rfl rfl)
theorem dX6_leaf_9 : decode cX6_leaf 9 = .ok (.aload_n 0, 1) := dk_42 (dk_at dksX6_leaf_0 9 rfl rfl)
theorem dX6_leaf_10 : decode cX6_leaf 10 = .ok (.iload_n 1, 1) := dk_27 (dk_at dksX6_leaf_0 10 rfl rfl)
theorem dX6_leaf_11 : decode cX6_leaf 11 = .ok (.invokevirtual 23, 3) := dk_182 0 23 (dk_at dksX6_leaf_0 11 rfl rfl)
theorem dX6_leaf_14 : decode cX6_leaf 14 = .ok (.aload_n 0, 1) := dk_42 (dk_at dksX6_leaf_0 14 rfl rfl)
theorem dX6_leaf_15 : decode cX6_leaf 15 = .ok (.iload_n 2, 1) := dk_28 (dk_at dksX6_leaf_0 15 rfl rfl)
theorem dX6_leaf_16 : decode cX6_leaf 16 = .ok (.invokevirtual 23, 3) := dk_182 0 23 (dk_at dksX6_leaf_0 16 rfl rfl)
theorem dX6_leaf_19 : decode cX6_leaf 19 = .ok (.aload_n 0, 1) := dk_42 (dk_at dksX6_leaf_0 19 rfl rfl)
theorem dX6_leaf_20 : decode cX6_leaf 20 = .ok (.aload_n 3, 1) := dk_45 (dk_at dksX6_leaf_0 20 rfl rfl)
theorem dX6_leaf_21 : decode cX6_leaf 21 = .ok (.iload 4, 2) := dk_21 4 (dk_at dksX6_leaf_0 21 rfl rfl)
theorem dX6_leaf_23 : decode cX6_leaf 23 = .ok (.invokevirtual 30, 3) := dk_182 0 30 (dk_at dksX6_leaf_1 0 rfl rfl)
theorem dX6_leaf_26 : decode cX6_leaf 26 = .ok (.return_, 1) := dk_177 (dk_at dksX6_leaf_1 3 rfl rfl)
theorem q63 : (Jvm.Cond.initialized "GlassLog$Mixer") ∈ lw_all := lw_g (lw_at lw_m1 7 rfl) rfl
theorem q284 : (Jvm.Cond.instantiable "GlassLog$Mixer" (2 : Nat)) ∈ lw_all := lw_g (lw_at lw_m1 228 rfl) rfl
theorem q286 : (Jvm.Cond.instanceMethod ({ cls := "GlassLog$Mixer", name := "<init>", desc := "()V" } : Jvm.MethodName)) ∈ lw_all := lw_g (lw_at lw_m1 230 rfl) rfl
theorem q287 : (Jvm.Cond.code ({ cls := "GlassLog$Mixer", name := "<init>", desc := "()V" } : Jvm.MethodName) prog_9_method_1_code (1 : Nat) (Option.none : Option Jvm.ClassFile.FieldType)) ∈ lw_all := lw_g (lw_at lw_m1 231 rfl) rfl
theorem q288 : (Jvm.Cond.methodLink "GlassLog$Mixer" (3 : Nat) ({ cls := "java/lang/Object", name := "<init>", desc := "()V" } : Jvm.MethodName)) ∈ lw_all := lw_g (lw_at lw_m1 232 rfl) rfl
theorem q289 : (Jvm.Cond.fieldLink "GlassLog$Mixer" (9 : Nat) "GlassLog$Mixer" "a" "[I") ∈ lw_all := lw_g (lw_at lw_m1 233 rfl) rfl
theorem q290 : (Jvm.Cond.fieldLink "GlassLog$Mixer" (16 : Nat) "GlassLog$Mixer" "n" "I") ∈ lw_all := lw_g (lw_at lw_m1 234 rfl) rfl
theorem q291 : (Jvm.Cond.laysFinal "GlassLog$Mixer" "GlassLog$Mixer" "a" "[I") ∈ lw_all := lw_g (lw_at lw_m1 235 rfl) rfl
theorem q292 : (Jvm.Cond.soleField "GlassLog$Mixer" "a") ∈ lw_all := lw_g (lw_at lw_m1 236 rfl) rfl
theorem q293 : (Jvm.Cond.lays "GlassLog$Mixer" "GlassLog$Mixer" "n" "I") ∈ lw_all := lw_g (lw_at lw_m1 237 rfl) rfl
theorem q294 : (Jvm.Cond.soleField "GlassLog$Mixer" "n") ∈ lw_all := lw_g (lw_at lw_m1 238 rfl) rfl
theorem q295 : (Jvm.Cond.superclass "GlassLog$Mixer" "java/lang/Object") ∈ lw_all := lw_g (lw_at lw_m1 239 rfl) rfl
theorem q409 : (Jvm.Cond.instanceMethod ({ cls := "GlassLog$Mixer", name := "entry", desc := "(IJ[II)V" } : Jvm.MethodName)) ∈ lw_all := lw_g (lw_at lw_m2 113 rfl) rfl
theorem q410 : (Jvm.Cond.selects "GlassLog$Mixer" ({ cls := "GlassLog$Mixer", name := "entry", desc := "(IJ[II)V" } : Jvm.MethodName) ({ cls := "GlassLog$Mixer", name := "entry", desc := "(IJ[II)V" } : Jvm.MethodName)) ∈ lw_all := lw_g (lw_at lw_m2 114 rfl) rfl
theorem q411 : (Jvm.Cond.code ({ cls := "GlassLog$Mixer", name := "entry", desc := "(IJ[II)V" } : Jvm.MethodName) prog_9_method_7_code (6 : Nat) (Option.none : Option Jvm.ClassFile.FieldType)) ∈ lw_all := lw_g (lw_at lw_m2 115 rfl) rfl
theorem q412 : (Jvm.Cond.methodLink "GlassLog$Mixer" (27 : Nat) ({ cls := "GlassLog$Mixer", name := "begin", desc := "()V" } : Jvm.MethodName)) ∈ lw_all := lw_g (lw_at lw_m2 116 rfl) rfl
theorem q413 : (Jvm.Cond.instanceMethod ({ cls := "GlassLog$Mixer", name := "begin", desc := "()V" } : Jvm.MethodName)) ∈ lw_all := lw_g (lw_at lw_m2 117 rfl) rfl
theorem q414 : (Jvm.Cond.selects "GlassLog$Mixer" ({ cls := "GlassLog$Mixer", name := "begin", desc := "()V" } : Jvm.MethodName) ({ cls := "GlassLog$Mixer", name := "begin", desc := "()V" } : Jvm.MethodName)) ∈ lw_all := lw_g (lw_at lw_m2 118 rfl) rfl
theorem q415 : (Jvm.Cond.code ({ cls := "GlassLog$Mixer", name := "begin", desc := "()V" } : Jvm.MethodName) prog_9_method_2_code (2 : Nat) (Option.none : Option Jvm.ClassFile.FieldType)) ∈ lw_all := lw_g (lw_at lw_m2 119 rfl) rfl
theorem q416 : (Jvm.Cond.constant "GlassLog$Mixer" (15 : Nat) (1640531527 : Int32)) ∈ lw_all := lw_g (lw_at lw_m2 120 rfl) rfl
theorem q417 : (Jvm.Cond.methodLink "GlassLog$Mixer" (23 : Nat) ({ cls := "GlassLog$Mixer", name := "put", desc := "(I)V" } : Jvm.MethodName)) ∈ lw_all := lw_g (lw_at lw_m2 121 rfl) rfl
theorem q418 : (Jvm.Cond.instanceMethod ({ cls := "GlassLog$Mixer", name := "put", desc := "(I)V" } : Jvm.MethodName)) ∈ lw_all := lw_g (lw_at lw_m2 122 rfl) rfl
theorem q419 : (Jvm.Cond.selects "GlassLog$Mixer" ({ cls := "GlassLog$Mixer", name := "put", desc := "(I)V" } : Jvm.MethodName) ({ cls := "GlassLog$Mixer", name := "put", desc := "(I)V" } : Jvm.MethodName)) ∈ lw_all := lw_g (lw_at lw_m2 123 rfl) rfl
theorem q420 : (Jvm.Cond.code ({ cls := "GlassLog$Mixer", name := "put", desc := "(I)V" } : Jvm.MethodName) prog_9_method_3_code (2 : Nat) (Option.none : Option Jvm.ClassFile.FieldType)) ∈ lw_all := lw_g (lw_at lw_m2 124 rfl) rfl
theorem q421 : (Jvm.Cond.methodLink "GlassLog$Mixer" (20 : Nat) ({ cls := "GlassLog$Mixer", name := "turn", desc := "()V" } : Jvm.MethodName)) ∈ lw_all := lw_g (lw_at lw_m2 125 rfl) rfl
theorem q422 : (Jvm.Cond.privateMethod ({ cls := "GlassLog$Mixer", name := "turn", desc := "()V" } : Jvm.MethodName)) ∈ lw_tbl := lw_at lw_m2 126 rfl
theorem q423 : (Jvm.Cond.instanceMethod ({ cls := "GlassLog$Mixer", name := "turn", desc := "()V" } : Jvm.MethodName)) ∈ lw_all := lw_g (lw_at lw_m2 127 rfl) rfl
theorem q424 : (Jvm.Cond.code ({ cls := "GlassLog$Mixer", name := "turn", desc := "()V" } : Jvm.MethodName) prog_9_method_6_code (4 : Nat) (Option.none : Option Jvm.ClassFile.FieldType)) ∈ lw_all := lw_g (lw_at lw_m2 128 rfl) rfl
theorem q425 : (Jvm.Cond.methodLink "GlassLog$Mixer" (30 : Nat) ({ cls := "GlassLog$Mixer", name := "end", desc := "([II)V" } : Jvm.MethodName)) ∈ lw_all := lw_g (lw_at lw_m2 129 rfl) rfl
theorem q426 : (Jvm.Cond.instanceMethod ({ cls := "GlassLog$Mixer", name := "end", desc := "([II)V" } : Jvm.MethodName)) ∈ lw_all := lw_g (lw_at lw_m2 130 rfl) rfl
theorem q427 : (Jvm.Cond.selects "GlassLog$Mixer" ({ cls := "GlassLog$Mixer", name := "end", desc := "([II)V" } : Jvm.MethodName) ({ cls := "GlassLog$Mixer", name := "end", desc := "([II)V" } : Jvm.MethodName)) ∈ lw_all := lw_g (lw_at lw_m2 131 rfl) rfl
theorem q428 : (Jvm.Cond.code ({ cls := "GlassLog$Mixer", name := "end", desc := "([II)V" } : Jvm.MethodName) prog_9_method_5_code (4 : Nat) (Option.none : Option Jvm.ClassFile.FieldType)) ∈ lw_all := lw_g (lw_at lw_m2 132 rfl) rfl
theorem q430 : (Jvm.Cond.instanceMethod ({ cls := "GlassLog$Mixer", name := "join", desc := "([II[II[II)V" } : Jvm.MethodName)) ∈ lw_all := lw_g (lw_at lw_m2 134 rfl) rfl
theorem q431 : (Jvm.Cond.selects "GlassLog$Mixer" ({ cls := "GlassLog$Mixer", name := "join", desc := "([II[II[II)V" } : Jvm.MethodName) ({ cls := "GlassLog$Mixer", name := "join", desc := "([II[II[II)V" } : Jvm.MethodName)) ∈ lw_all := lw_g (lw_at lw_m2 135 rfl) rfl
theorem q432 : (Jvm.Cond.code ({ cls := "GlassLog$Mixer", name := "join", desc := "([II[II[II)V" } : Jvm.MethodName) prog_9_method_8_code (7 : Nat) (Option.none : Option Jvm.ClassFile.FieldType)) ∈ lw_all := lw_g (lw_at lw_m2 136 rfl) rfl
theorem q433 : (Jvm.Cond.methodLink "GlassLog$Mixer" (34 : Nat) ({ cls := "GlassLog$Mixer", name := "put", desc := "([II)V" } : Jvm.MethodName)) ∈ lw_all := lw_g (lw_at lw_m2 137 rfl) rfl
theorem q434 : (Jvm.Cond.instanceMethod ({ cls := "GlassLog$Mixer", name := "put", desc := "([II)V" } : Jvm.MethodName)) ∈ lw_all := lw_g (lw_at lw_m2 138 rfl) rfl
theorem q435 : (Jvm.Cond.selects "GlassLog$Mixer" ({ cls := "GlassLog$Mixer", name := "put", desc := "([II)V" } : Jvm.MethodName) ({ cls := "GlassLog$Mixer", name := "put", desc := "([II)V" } : Jvm.MethodName)) ∈ lw_all := lw_g (lw_at lw_m2 139 rfl) rfl
theorem q436 : (Jvm.Cond.code ({ cls := "GlassLog$Mixer", name := "put", desc := "([II)V" } : Jvm.MethodName) prog_9_method_4_code (4 : Nat) (Option.none : Option Jvm.ClassFile.FieldType)) ∈ lw_all := lw_g (lw_at lw_m2 140 rfl) rfl
theorem q493 : (Jvm.Cond.instanceMethod ({ cls := "GlassLog$Mixer", name := "way", desc := "(I[II)V" } : Jvm.MethodName)) ∈ lw_all := lw_g (lw_at lw_m2 197 rfl) rfl
theorem q494 : (Jvm.Cond.selects "GlassLog$Mixer" ({ cls := "GlassLog$Mixer", name := "way", desc := "(I[II)V" } : Jvm.MethodName) ({ cls := "GlassLog$Mixer", name := "way", desc := "(I[II)V" } : Jvm.MethodName)) ∈ lw_all := lw_g (lw_at lw_m2 198 rfl) rfl
theorem q495 : (Jvm.Cond.code ({ cls := "GlassLog$Mixer", name := "way", desc := "(I[II)V" } : Jvm.MethodName) prog_9_method_9_code (4 : Nat) (Option.none : Option Jvm.ClassFile.FieldType)) ∈ lw_all := lw_g (lw_at lw_m2 199 rfl) rfl
theorem q557 : (Jvm.Cond.instanceMethod ({ cls := "GlassLog$Mixer", name := "leaf", desc := "(II[II)V" } : Jvm.MethodName)) ∈ lw_all := lw_g (lw_at lw_m3 21 rfl) rfl
theorem q558 : (Jvm.Cond.selects "GlassLog$Mixer" ({ cls := "GlassLog$Mixer", name := "leaf", desc := "(II[II)V" } : Jvm.MethodName) ({ cls := "GlassLog$Mixer", name := "leaf", desc := "(II[II)V" } : Jvm.MethodName)) ∈ lw_all := lw_g (lw_at lw_m3 22 rfl) rfl
theorem q559 : (Jvm.Cond.code ({ cls := "GlassLog$Mixer", name := "leaf", desc := "(II[II)V" } : Jvm.MethodName) prog_9_method_10_code (5 : Nat) (Option.none : Option Jvm.ClassFile.FieldType)) ∈ lw_all := lw_g (lw_at lw_m3 23 rfl) rfl
theorem in_X6 : ∀ w ∈ wsX60, w ∈ lw_all := lw_in wsX60 [291, 293] (by decide +kernel) (by decide +kernel)

/-! GlassLog$Pile -/
set_option maxRecDepth 100000
def RX7 : String := "GlassLog$Pile"
def TX7 : u_T := fun k => match k with
  | 0 => ("GlassLog$Pile", "mixer", "LGlassLog$Mixer;", true)
  | 1 => ("GlassLog$Pile", "sums", "[I", true)
  | 2 => ("GlassLog$Pile", "levels", "[I", true)
  | 3 => ("GlassLog$Pile", "many", "I", false)
  | _ => ("GlassLog$Pile", "next", "I", false)
def tyX7 : Nat → FieldType := fun k => match k with
  | 0 => .object "GlassLog$Mixer"
  | 1 => .array .int
  | 2 => .array .int
  | 3 => .int
  | _ => .int
abbrev wsX70 : List Cond := u_ws RX7 TX7 5
theorem nmX7 : ∀ a, a < 5 → ∀ b, b < 5 → a ≠ b → (TX7 a).2.1 ≠ (TX7 b).2.1 := by decide +kernel
theorem tyX7_ok : ∀ k, k < 5 → parseFieldDescriptor (TX7 k).2.2.1 = some (tyX7 k) := by decide +kernel
abbrev cX7_init : ByteArray := prog_10_method_1_code
def yX7_init : MethodName := ⟨RX7, "<init>", "(LGlassLog$Mixer;)V"⟩
def dkwX7_init_1 : List UInt8 := [181, 0, 18, 177]
abbrev dktX7_init_1 : List UInt8 := dkwX7_init_1 ++ []
def dkwX7_init_0 : List UInt8 := [42, 183, 0, 3, 42, 17, 2, 0, 188, 10, 181, 0, 9, 42, 16, 64, 188, 10, 181, 0, 15, 42, 43]
abbrev dktX7_init_0 : List UInt8 := dkwX7_init_0 ++ dktX7_init_1
theorem dksX7_init_0 : cX7_init.data.toList.drop 0 = dktX7_init_0 := by decide +kernel
theorem dksX7_init_1 : cX7_init.data.toList.drop 23 = dktX7_init_1 := dk_seg dksX7_init_0 23 rfl rfl
theorem dX7_init_0 : decode cX7_init 0 = .ok (.aload_n 0, 1) := dk_42 (dk_at dksX7_init_0 0 rfl rfl)
theorem dX7_init_1 : decode cX7_init 1 = .ok (.invokespecial 3, 3) := dk_183 0 3 (dk_at dksX7_init_0 1 rfl rfl)
theorem dX7_init_4 : decode cX7_init 4 = .ok (.aload_n 0, 1) := dk_42 (dk_at dksX7_init_0 4 rfl rfl)
theorem dX7_init_5 : decode cX7_init 5 = .ok (.sipush 512, 3) := dk_17 2 0 (dk_at dksX7_init_0 5 rfl rfl)
theorem dX7_init_8 : decode cX7_init 8 = .ok (.newarray .int, 2) := dk_188_10 (dk_at dksX7_init_0 8 rfl rfl)
theorem dX7_init_10 : decode cX7_init 10 = .ok (.putfield 9, 3) := dk_181 0 9 (dk_at dksX7_init_0 10 rfl rfl)
theorem dX7_init_13 : decode cX7_init 13 = .ok (.aload_n 0, 1) := dk_42 (dk_at dksX7_init_0 13 rfl rfl)
theorem dX7_init_14 : decode cX7_init 14 = .ok (.bipush 64, 2) := dk_16 64 (dk_at dksX7_init_0 14 rfl rfl)
theorem dX7_init_16 : decode cX7_init 16 = .ok (.newarray .int, 2) := dk_188_10 (dk_at dksX7_init_0 16 rfl rfl)
theorem dX7_init_18 : decode cX7_init 18 = .ok (.putfield 15, 3) := dk_181 0 15 (dk_at dksX7_init_0 18 rfl rfl)
theorem dX7_init_21 : decode cX7_init 21 = .ok (.aload_n 0, 1) := dk_42 (dk_at dksX7_init_0 21 rfl rfl)
theorem dX7_init_22 : decode cX7_init 22 = .ok (.aload_n 1, 1) := dk_43 (dk_at dksX7_init_0 22 rfl rfl)
theorem dX7_init_23 : decode cX7_init 23 = .ok (.putfield 18, 3) := dk_181 0 18 (dk_at dksX7_init_1 0 rfl rfl)
theorem dX7_init_26 : decode cX7_init 26 = .ok (.return_, 1) := dk_177 (dk_at dksX7_init_1 3 rfl rfl)
abbrev cX7_begin : ByteArray := prog_10_method_2_code
def yX7_begin : MethodName := ⟨RX7, "begin", "()V"⟩
def dkwX7_begin_0 : List UInt8 := [42, 3, 181, 0, 22, 42, 3, 181, 0, 26, 177]
abbrev dktX7_begin_0 : List UInt8 := dkwX7_begin_0 ++ []
theorem dksX7_begin_0 : cX7_begin.data.toList.drop 0 = dktX7_begin_0 := by decide +kernel
theorem dX7_begin_0 : decode cX7_begin 0 = .ok (.aload_n 0, 1) := dk_42 (dk_at dksX7_begin_0 0 rfl rfl)
theorem dX7_begin_1 : decode cX7_begin 1 = .ok (.iconst 0, 1) := dk_3 (dk_at dksX7_begin_0 1 rfl rfl)
theorem dX7_begin_2 : decode cX7_begin 2 = .ok (.putfield 22, 3) := dk_181 0 22 (dk_at dksX7_begin_0 2 rfl rfl)
theorem dX7_begin_5 : decode cX7_begin 5 = .ok (.aload_n 0, 1) := dk_42 (dk_at dksX7_begin_0 5 rfl rfl)
theorem dX7_begin_6 : decode cX7_begin 6 = .ok (.iconst 0, 1) := dk_3 (dk_at dksX7_begin_0 6 rfl rfl)
theorem dX7_begin_7 : decode cX7_begin 7 = .ok (.putfield 26, 3) := dk_181 0 26 (dk_at dksX7_begin_0 7 rfl rfl)
theorem dX7_begin_10 : decode cX7_begin 10 = .ok (.return_, 1) := dk_177 (dk_at dksX7_begin_0 10 rfl rfl)
abbrev cX7_add : ByteArray := prog_10_method_3_code
def yX7_add : MethodName := ⟨RX7, "add", "(I[II)V"⟩
def dkwX7_add_8 : List UInt8 := [4, 96, 79, 167, 255, 115, 177]
abbrev dktX7_add_8 : List UInt8 := dkwX7_add_8 ++ []
def dkwX7_add_7 : List UInt8 := [42, 180, 0, 22, 4, 100, 16, 8, 104, 182, 0, 35, 42, 180, 0, 15, 42, 180, 0, 22, 4, 100, 92, 46]
abbrev dktX7_add_7 : List UInt8 := dkwX7_add_7 ++ dktX7_add_8
def dkwX7_add_6 : List UInt8 := [42, 180, 0, 22, 4, 100, 16, 8, 104, 42, 180, 0, 9, 42, 180, 0, 22, 16, 8, 104, 42, 180, 0, 9]
abbrev dktX7_add_6 : List UInt8 := dkwX7_add_6 ++ dktX7_add_7
def dkwX7_add_5 : List UInt8 := [180, 0, 26, 160, 0, 75, 42, 89, 180, 0, 22, 4, 100, 181, 0, 22, 42, 180, 0, 18, 42, 180, 0, 9]
abbrev dktX7_add_5 : List UInt8 := dkwX7_add_5 ++ dktX7_add_6
def dkwX7_add_4 : List UInt8 := [180, 0, 22, 4, 100, 46, 4, 96, 122, 42, 180, 0, 15, 42, 180, 0, 22, 4, 100, 46, 4, 96, 120, 42]
abbrev dktX7_add_4 : List UInt8 := dkwX7_add_4 ++ dktX7_add_5
def dkwX7_add_3 : List UInt8 := [180, 0, 15, 42, 180, 0, 22, 4, 100, 46, 160, 0, 114, 42, 180, 0, 26, 42, 180, 0, 15, 42]
abbrev dktX7_add_3 : List UInt8 := dkwX7_add_3 ++ dktX7_add_4
def dkwX7_add_2 : List UInt8 := [181, 0, 26, 42, 180, 0, 22, 4, 164, 0, 139, 42, 180, 0, 15, 42, 180, 0, 22, 5, 100, 46, 42]
abbrev dktX7_add_2 : List UInt8 := dkwX7_add_2 ++ dktX7_add_3
def dkwX7_add_1 : List UInt8 := [180, 0, 22, 27, 79, 42, 89, 180, 0, 22, 4, 96, 181, 0, 22, 42, 89, 180, 0, 26, 4, 27, 120, 96]
abbrev dktX7_add_1 : List UInt8 := dkwX7_add_1 ++ dktX7_add_2
def dkwX7_add_0 : List UInt8 := [44, 29, 42, 180, 0, 9, 42, 180, 0, 22, 16, 8, 104, 16, 8, 184, 0, 29, 42, 180, 0, 15, 42]
abbrev dktX7_add_0 : List UInt8 := dkwX7_add_0 ++ dktX7_add_1
theorem dksX7_add_0 : cX7_add.data.toList.drop 0 = dktX7_add_0 := by decide +kernel
theorem dksX7_add_1 : cX7_add.data.toList.drop 23 = dktX7_add_1 := dk_seg dksX7_add_0 23 rfl rfl
theorem dksX7_add_2 : cX7_add.data.toList.drop 47 = dktX7_add_2 := dk_seg dksX7_add_1 24 rfl rfl
theorem dksX7_add_3 : cX7_add.data.toList.drop 70 = dktX7_add_3 := dk_seg dksX7_add_2 23 rfl rfl
theorem dksX7_add_4 : cX7_add.data.toList.drop 92 = dktX7_add_4 := dk_seg dksX7_add_3 22 rfl rfl
theorem dksX7_add_5 : cX7_add.data.toList.drop 116 = dktX7_add_5 := dk_seg dksX7_add_4 24 rfl rfl
theorem dksX7_add_6 : cX7_add.data.toList.drop 140 = dktX7_add_6 := dk_seg dksX7_add_5 24 rfl rfl
theorem dksX7_add_7 : cX7_add.data.toList.drop 164 = dktX7_add_7 := dk_seg dksX7_add_6 24 rfl rfl
theorem dksX7_add_8 : cX7_add.data.toList.drop 188 = dktX7_add_8 := dk_seg dksX7_add_7 24 rfl rfl
theorem dX7_add_0 : decode cX7_add 0 = .ok (.aload_n 2, 1) := dk_44 (dk_at dksX7_add_0 0 rfl rfl)
theorem dX7_add_1 : decode cX7_add 1 = .ok (.iload_n 3, 1) := dk_29 (dk_at dksX7_add_0 1 rfl rfl)
theorem dX7_add_2 : decode cX7_add 2 = .ok (.aload_n 0, 1) := dk_42 (dk_at dksX7_add_0 2 rfl rfl)
theorem dX7_add_3 : decode cX7_add 3 = .ok (.getfield 9, 3) := dk_180 0 9 (dk_at dksX7_add_0 3 rfl rfl)
theorem dX7_add_6 : decode cX7_add 6 = .ok (.aload_n 0, 1) := dk_42 (dk_at dksX7_add_0 6 rfl rfl)
theorem dX7_add_7 : decode cX7_add 7 = .ok (.getfield 22, 3) := dk_180 0 22 (dk_at dksX7_add_0 7 rfl rfl)
theorem dX7_add_10 : decode cX7_add 10 = .ok (.bipush 8, 2) := dk_16 8 (dk_at dksX7_add_0 10 rfl rfl)
theorem dX7_add_12 : decode cX7_add 12 = .ok (.imul, 1) := dk_104 (dk_at dksX7_add_0 12 rfl rfl)
theorem dX7_add_13 : decode cX7_add 13 = .ok (.bipush 8, 2) := dk_16 8 (dk_at dksX7_add_0 13 rfl rfl)
theorem dX7_add_15 : decode cX7_add 15 = .ok (.invokestatic 29, 3) := dk_184 0 29 (dk_at dksX7_add_0 15 rfl rfl)
theorem dX7_add_18 : decode cX7_add 18 = .ok (.aload_n 0, 1) := dk_42 (dk_at dksX7_add_0 18 rfl rfl)
theorem dX7_add_19 : decode cX7_add 19 = .ok (.getfield 15, 3) := dk_180 0 15 (dk_at dksX7_add_0 19 rfl rfl)
theorem dX7_add_22 : decode cX7_add 22 = .ok (.aload_n 0, 1) := dk_42 (dk_at dksX7_add_0 22 rfl rfl)
theorem dX7_add_23 : decode cX7_add 23 = .ok (.getfield 22, 3) := dk_180 0 22 (dk_at dksX7_add_1 0 rfl rfl)
theorem dX7_add_26 : decode cX7_add 26 = .ok (.iload_n 1, 1) := dk_27 (dk_at dksX7_add_1 3 rfl rfl)
theorem dX7_add_27 : decode cX7_add 27 = .ok (.iastore, 1) := dk_79 (dk_at dksX7_add_1 4 rfl rfl)
theorem dX7_add_28 : decode cX7_add 28 = .ok (.aload_n 0, 1) := dk_42 (dk_at dksX7_add_1 5 rfl rfl)
theorem dX7_add_29 : decode cX7_add 29 = .ok (.dup, 1) := dk_89 (dk_at dksX7_add_1 6 rfl rfl)
theorem dX7_add_30 : decode cX7_add 30 = .ok (.getfield 22, 3) := dk_180 0 22 (dk_at dksX7_add_1 7 rfl rfl)
theorem dX7_add_33 : decode cX7_add 33 = .ok (.iconst 1, 1) := dk_4 (dk_at dksX7_add_1 10 rfl rfl)
theorem dX7_add_34 : decode cX7_add 34 = .ok (.iadd, 1) := dk_96 (dk_at dksX7_add_1 11 rfl rfl)
theorem dX7_add_35 : decode cX7_add 35 = .ok (.putfield 22, 3) := dk_181 0 22 (dk_at dksX7_add_1 12 rfl rfl)
theorem dX7_add_38 : decode cX7_add 38 = .ok (.aload_n 0, 1) := dk_42 (dk_at dksX7_add_1 15 rfl rfl)
theorem dX7_add_39 : decode cX7_add 39 = .ok (.dup, 1) := dk_89 (dk_at dksX7_add_1 16 rfl rfl)
theorem dX7_add_40 : decode cX7_add 40 = .ok (.getfield 26, 3) := dk_180 0 26 (dk_at dksX7_add_1 17 rfl rfl)
theorem dX7_add_43 : decode cX7_add 43 = .ok (.iconst 1, 1) := dk_4 (dk_at dksX7_add_1 20 rfl rfl)
theorem dX7_add_44 : decode cX7_add 44 = .ok (.iload_n 1, 1) := dk_27 (dk_at dksX7_add_1 21 rfl rfl)
theorem dX7_add_45 : decode cX7_add 45 = .ok (.ishl, 1) := dk_120 (dk_at dksX7_add_1 22 rfl rfl)
theorem dX7_add_46 : decode cX7_add 46 = .ok (.iadd, 1) := dk_96 (dk_at dksX7_add_1 23 rfl rfl)
theorem dX7_add_47 : decode cX7_add 47 = .ok (.putfield 26, 3) := dk_181 0 26 (dk_at dksX7_add_2 0 rfl rfl)
theorem dX7_add_50 : decode cX7_add 50 = .ok (.aload_n 0, 1) := dk_42 (dk_at dksX7_add_2 3 rfl rfl)
theorem dX7_add_51 : decode cX7_add 51 = .ok (.getfield 22, 3) := dk_180 0 22 (dk_at dksX7_add_2 4 rfl rfl)
theorem dX7_add_54 : decode cX7_add 54 = .ok (.iconst 1, 1) := dk_4 (dk_at dksX7_add_2 7 rfl rfl)
theorem dX7_add_55 : decode cX7_add 55 = .ok (.if_icmp .le 139, 3) := dk_164 0 139 (dk_at dksX7_add_2 8 rfl rfl)
theorem dX7_add_58 : decode cX7_add 58 = .ok (.aload_n 0, 1) := dk_42 (dk_at dksX7_add_2 11 rfl rfl)
theorem dX7_add_59 : decode cX7_add 59 = .ok (.getfield 15, 3) := dk_180 0 15 (dk_at dksX7_add_2 12 rfl rfl)
theorem dX7_add_62 : decode cX7_add 62 = .ok (.aload_n 0, 1) := dk_42 (dk_at dksX7_add_2 15 rfl rfl)
theorem dX7_add_63 : decode cX7_add 63 = .ok (.getfield 22, 3) := dk_180 0 22 (dk_at dksX7_add_2 16 rfl rfl)
theorem dX7_add_66 : decode cX7_add 66 = .ok (.iconst 2, 1) := dk_5 (dk_at dksX7_add_2 19 rfl rfl)
theorem dX7_add_67 : decode cX7_add 67 = .ok (.isub, 1) := dk_100 (dk_at dksX7_add_2 20 rfl rfl)
theorem dX7_add_68 : decode cX7_add 68 = .ok (.iaload, 1) := dk_46 (dk_at dksX7_add_2 21 rfl rfl)
theorem dX7_add_69 : decode cX7_add 69 = .ok (.aload_n 0, 1) := dk_42 (dk_at dksX7_add_2 22 rfl rfl)
theorem dX7_add_70 : decode cX7_add 70 = .ok (.getfield 15, 3) := dk_180 0 15 (dk_at dksX7_add_3 0 rfl rfl)
theorem dX7_add_73 : decode cX7_add 73 = .ok (.aload_n 0, 1) := dk_42 (dk_at dksX7_add_3 3 rfl rfl)
theorem dX7_add_74 : decode cX7_add 74 = .ok (.getfield 22, 3) := dk_180 0 22 (dk_at dksX7_add_3 4 rfl rfl)
theorem dX7_add_77 : decode cX7_add 77 = .ok (.iconst 1, 1) := dk_4 (dk_at dksX7_add_3 7 rfl rfl)
theorem dX7_add_78 : decode cX7_add 78 = .ok (.isub, 1) := dk_100 (dk_at dksX7_add_3 8 rfl rfl)
theorem dX7_add_79 : decode cX7_add 79 = .ok (.iaload, 1) := dk_46 (dk_at dksX7_add_3 9 rfl rfl)
theorem dX7_add_80 : decode cX7_add 80 = .ok (.if_icmp .ne 114, 3) := dk_160 0 114 (dk_at dksX7_add_3 10 rfl rfl)
theorem dX7_add_83 : decode cX7_add 83 = .ok (.aload_n 0, 1) := dk_42 (dk_at dksX7_add_3 13 rfl rfl)
theorem dX7_add_84 : decode cX7_add 84 = .ok (.getfield 26, 3) := dk_180 0 26 (dk_at dksX7_add_3 14 rfl rfl)
theorem dX7_add_87 : decode cX7_add 87 = .ok (.aload_n 0, 1) := dk_42 (dk_at dksX7_add_3 17 rfl rfl)
theorem dX7_add_88 : decode cX7_add 88 = .ok (.getfield 15, 3) := dk_180 0 15 (dk_at dksX7_add_3 18 rfl rfl)
theorem dX7_add_91 : decode cX7_add 91 = .ok (.aload_n 0, 1) := dk_42 (dk_at dksX7_add_3 21 rfl rfl)
theorem dX7_add_92 : decode cX7_add 92 = .ok (.getfield 22, 3) := dk_180 0 22 (dk_at dksX7_add_4 0 rfl rfl)
theorem dX7_add_95 : decode cX7_add 95 = .ok (.iconst 1, 1) := dk_4 (dk_at dksX7_add_4 3 rfl rfl)
theorem dX7_add_96 : decode cX7_add 96 = .ok (.isub, 1) := dk_100 (dk_at dksX7_add_4 4 rfl rfl)
theorem dX7_add_97 : decode cX7_add 97 = .ok (.iaload, 1) := dk_46 (dk_at dksX7_add_4 5 rfl rfl)
theorem dX7_add_98 : decode cX7_add 98 = .ok (.iconst 1, 1) := dk_4 (dk_at dksX7_add_4 6 rfl rfl)
theorem dX7_add_99 : decode cX7_add 99 = .ok (.iadd, 1) := dk_96 (dk_at dksX7_add_4 7 rfl rfl)
theorem dX7_add_100 : decode cX7_add 100 = .ok (.ishr, 1) := dk_122 (dk_at dksX7_add_4 8 rfl rfl)
theorem dX7_add_101 : decode cX7_add 101 = .ok (.aload_n 0, 1) := dk_42 (dk_at dksX7_add_4 9 rfl rfl)
theorem dX7_add_102 : decode cX7_add 102 = .ok (.getfield 15, 3) := dk_180 0 15 (dk_at dksX7_add_4 10 rfl rfl)
theorem dX7_add_105 : decode cX7_add 105 = .ok (.aload_n 0, 1) := dk_42 (dk_at dksX7_add_4 13 rfl rfl)
theorem dX7_add_106 : decode cX7_add 106 = .ok (.getfield 22, 3) := dk_180 0 22 (dk_at dksX7_add_4 14 rfl rfl)
theorem dX7_add_109 : decode cX7_add 109 = .ok (.iconst 1, 1) := dk_4 (dk_at dksX7_add_4 17 rfl rfl)
theorem dX7_add_110 : decode cX7_add 110 = .ok (.isub, 1) := dk_100 (dk_at dksX7_add_4 18 rfl rfl)
theorem dX7_add_111 : decode cX7_add 111 = .ok (.iaload, 1) := dk_46 (dk_at dksX7_add_4 19 rfl rfl)
theorem dX7_add_112 : decode cX7_add 112 = .ok (.iconst 1, 1) := dk_4 (dk_at dksX7_add_4 20 rfl rfl)
theorem dX7_add_113 : decode cX7_add 113 = .ok (.iadd, 1) := dk_96 (dk_at dksX7_add_4 21 rfl rfl)
theorem dX7_add_114 : decode cX7_add 114 = .ok (.ishl, 1) := dk_120 (dk_at dksX7_add_4 22 rfl rfl)
theorem dX7_add_115 : decode cX7_add 115 = .ok (.aload_n 0, 1) := dk_42 (dk_at dksX7_add_4 23 rfl rfl)
theorem dX7_add_116 : decode cX7_add 116 = .ok (.getfield 26, 3) := dk_180 0 26 (dk_at dksX7_add_5 0 rfl rfl)
theorem dX7_add_119 : decode cX7_add 119 = .ok (.if_icmp .ne 75, 3) := dk_160 0 75 (dk_at dksX7_add_5 3 rfl rfl)
theorem dX7_add_122 : decode cX7_add 122 = .ok (.aload_n 0, 1) := dk_42 (dk_at dksX7_add_5 6 rfl rfl)
theorem dX7_add_123 : decode cX7_add 123 = .ok (.dup, 1) := dk_89 (dk_at dksX7_add_5 7 rfl rfl)
theorem dX7_add_124 : decode cX7_add 124 = .ok (.getfield 22, 3) := dk_180 0 22 (dk_at dksX7_add_5 8 rfl rfl)
theorem dX7_add_127 : decode cX7_add 127 = .ok (.iconst 1, 1) := dk_4 (dk_at dksX7_add_5 11 rfl rfl)
theorem dX7_add_128 : decode cX7_add 128 = .ok (.isub, 1) := dk_100 (dk_at dksX7_add_5 12 rfl rfl)
theorem dX7_add_129 : decode cX7_add 129 = .ok (.putfield 22, 3) := dk_181 0 22 (dk_at dksX7_add_5 13 rfl rfl)
theorem dX7_add_132 : decode cX7_add 132 = .ok (.aload_n 0, 1) := dk_42 (dk_at dksX7_add_5 16 rfl rfl)
theorem dX7_add_133 : decode cX7_add 133 = .ok (.getfield 18, 3) := dk_180 0 18 (dk_at dksX7_add_5 17 rfl rfl)
theorem dX7_add_136 : decode cX7_add 136 = .ok (.aload_n 0, 1) := dk_42 (dk_at dksX7_add_5 20 rfl rfl)
theorem dX7_add_137 : decode cX7_add 137 = .ok (.getfield 9, 3) := dk_180 0 9 (dk_at dksX7_add_5 21 rfl rfl)
theorem dX7_add_140 : decode cX7_add 140 = .ok (.aload_n 0, 1) := dk_42 (dk_at dksX7_add_6 0 rfl rfl)
theorem dX7_add_141 : decode cX7_add 141 = .ok (.getfield 22, 3) := dk_180 0 22 (dk_at dksX7_add_6 1 rfl rfl)
theorem dX7_add_144 : decode cX7_add 144 = .ok (.iconst 1, 1) := dk_4 (dk_at dksX7_add_6 4 rfl rfl)
theorem dX7_add_145 : decode cX7_add 145 = .ok (.isub, 1) := dk_100 (dk_at dksX7_add_6 5 rfl rfl)
theorem dX7_add_146 : decode cX7_add 146 = .ok (.bipush 8, 2) := dk_16 8 (dk_at dksX7_add_6 6 rfl rfl)
theorem dX7_add_148 : decode cX7_add 148 = .ok (.imul, 1) := dk_104 (dk_at dksX7_add_6 8 rfl rfl)
theorem dX7_add_149 : decode cX7_add 149 = .ok (.aload_n 0, 1) := dk_42 (dk_at dksX7_add_6 9 rfl rfl)
theorem dX7_add_150 : decode cX7_add 150 = .ok (.getfield 9, 3) := dk_180 0 9 (dk_at dksX7_add_6 10 rfl rfl)
theorem dX7_add_153 : decode cX7_add 153 = .ok (.aload_n 0, 1) := dk_42 (dk_at dksX7_add_6 13 rfl rfl)
theorem dX7_add_154 : decode cX7_add 154 = .ok (.getfield 22, 3) := dk_180 0 22 (dk_at dksX7_add_6 14 rfl rfl)
theorem dX7_add_157 : decode cX7_add 157 = .ok (.bipush 8, 2) := dk_16 8 (dk_at dksX7_add_6 17 rfl rfl)
theorem dX7_add_159 : decode cX7_add 159 = .ok (.imul, 1) := dk_104 (dk_at dksX7_add_6 19 rfl rfl)
theorem dX7_add_160 : decode cX7_add 160 = .ok (.aload_n 0, 1) := dk_42 (dk_at dksX7_add_6 20 rfl rfl)
theorem dX7_add_161 : decode cX7_add 161 = .ok (.getfield 9, 3) := dk_180 0 9 (dk_at dksX7_add_6 21 rfl rfl)
theorem dX7_add_164 : decode cX7_add 164 = .ok (.aload_n 0, 1) := dk_42 (dk_at dksX7_add_7 0 rfl rfl)
theorem dX7_add_165 : decode cX7_add 165 = .ok (.getfield 22, 3) := dk_180 0 22 (dk_at dksX7_add_7 1 rfl rfl)
theorem dX7_add_168 : decode cX7_add 168 = .ok (.iconst 1, 1) := dk_4 (dk_at dksX7_add_7 4 rfl rfl)
theorem dX7_add_169 : decode cX7_add 169 = .ok (.isub, 1) := dk_100 (dk_at dksX7_add_7 5 rfl rfl)
theorem dX7_add_170 : decode cX7_add 170 = .ok (.bipush 8, 2) := dk_16 8 (dk_at dksX7_add_7 6 rfl rfl)
theorem dX7_add_172 : decode cX7_add 172 = .ok (.imul, 1) := dk_104 (dk_at dksX7_add_7 8 rfl rfl)
theorem dX7_add_173 : decode cX7_add 173 = .ok (.invokevirtual 35, 3) := dk_182 0 35 (dk_at dksX7_add_7 9 rfl rfl)
theorem dX7_add_176 : decode cX7_add 176 = .ok (.aload_n 0, 1) := dk_42 (dk_at dksX7_add_7 12 rfl rfl)
theorem dX7_add_177 : decode cX7_add 177 = .ok (.getfield 15, 3) := dk_180 0 15 (dk_at dksX7_add_7 13 rfl rfl)
theorem dX7_add_180 : decode cX7_add 180 = .ok (.aload_n 0, 1) := dk_42 (dk_at dksX7_add_7 16 rfl rfl)
theorem dX7_add_181 : decode cX7_add 181 = .ok (.getfield 22, 3) := dk_180 0 22 (dk_at dksX7_add_7 17 rfl rfl)
theorem dX7_add_184 : decode cX7_add 184 = .ok (.iconst 1, 1) := dk_4 (dk_at dksX7_add_7 20 rfl rfl)
theorem dX7_add_185 : decode cX7_add 185 = .ok (.isub, 1) := dk_100 (dk_at dksX7_add_7 21 rfl rfl)
theorem dX7_add_186 : decode cX7_add 186 = .ok (.dup2, 1) := dk_92 (dk_at dksX7_add_7 22 rfl rfl)
theorem dX7_add_187 : decode cX7_add 187 = .ok (.iaload, 1) := dk_46 (dk_at dksX7_add_7 23 rfl rfl)
theorem dX7_add_188 : decode cX7_add 188 = .ok (.iconst 1, 1) := dk_4 (dk_at dksX7_add_8 0 rfl rfl)
theorem dX7_add_189 : decode cX7_add 189 = .ok (.iadd, 1) := dk_96 (dk_at dksX7_add_8 1 rfl rfl)
theorem dX7_add_190 : decode cX7_add 190 = .ok (.iastore, 1) := dk_79 (dk_at dksX7_add_8 2 rfl rfl)
theorem dX7_add_191 : decode cX7_add 191 = .ok (.goto (-141), 3) := dk_167 255 115 (dk_at dksX7_add_8 3 rfl rfl)
theorem dX7_add_194 : decode cX7_add 194 = .ok (.return_, 1) := dk_177 (dk_at dksX7_add_8 6 rfl rfl)
abbrev cX7_top : ByteArray := prog_10_method_4_code
def yX7_top : MethodName := ⟨RX7, "top", "([II)V"⟩
def dkwX7_top_3 : List UInt8 := [177]
abbrev dktX7_top_3 : List UInt8 := dkwX7_top_3 ++ []
def dkwX7_top_2 : List UInt8 := [180, 0, 18, 42, 180, 0, 9, 29, 16, 8, 104, 43, 28, 43, 28, 182, 0, 35, 132, 3, 255, 167, 255, 230]
abbrev dktX7_top_2 : List UInt8 := dkwX7_top_2 ++ dktX7_top_3
def dkwX7_top_1 : List UInt8 := [16, 8, 104, 43, 28, 16, 8, 184, 0, 29, 42, 180, 0, 22, 5, 100, 62, 29, 155, 0, 28, 42]
abbrev dktX7_top_1 : List UInt8 := dkwX7_top_1 ++ dktX7_top_2
def dkwX7_top_0 : List UInt8 := [43, 28, 184, 0, 41, 42, 180, 0, 22, 154, 0, 4, 177, 42, 180, 0, 9, 42, 180, 0, 22, 4, 100]
abbrev dktX7_top_0 : List UInt8 := dkwX7_top_0 ++ dktX7_top_1
theorem dksX7_top_0 : cX7_top.data.toList.drop 0 = dktX7_top_0 := by decide +kernel
theorem dksX7_top_1 : cX7_top.data.toList.drop 23 = dktX7_top_1 := dk_seg dksX7_top_0 23 rfl rfl
theorem dksX7_top_2 : cX7_top.data.toList.drop 45 = dktX7_top_2 := dk_seg dksX7_top_1 22 rfl rfl
theorem dksX7_top_3 : cX7_top.data.toList.drop 69 = dktX7_top_3 := dk_seg dksX7_top_2 24 rfl rfl
theorem dX7_top_0 : decode cX7_top 0 = .ok (.aload_n 1, 1) := dk_43 (dk_at dksX7_top_0 0 rfl rfl)
theorem dX7_top_1 : decode cX7_top 1 = .ok (.iload_n 2, 1) := dk_28 (dk_at dksX7_top_0 1 rfl rfl)
theorem dX7_top_2 : decode cX7_top 2 = .ok (.invokestatic 41, 3) := dk_184 0 41 (dk_at dksX7_top_0 2 rfl rfl)
theorem dX7_top_5 : decode cX7_top 5 = .ok (.aload_n 0, 1) := dk_42 (dk_at dksX7_top_0 5 rfl rfl)
theorem dX7_top_6 : decode cX7_top 6 = .ok (.getfield 22, 3) := dk_180 0 22 (dk_at dksX7_top_0 6 rfl rfl)
theorem dX7_top_9 : decode cX7_top 9 = .ok (.ifCond .ne 4, 3) := dk_154 0 4 (dk_at dksX7_top_0 9 rfl rfl)
theorem dX7_top_12 : decode cX7_top 12 = .ok (.return_, 1) := dk_177 (dk_at dksX7_top_0 12 rfl rfl)
theorem dX7_top_13 : decode cX7_top 13 = .ok (.aload_n 0, 1) := dk_42 (dk_at dksX7_top_0 13 rfl rfl)
theorem dX7_top_14 : decode cX7_top 14 = .ok (.getfield 9, 3) := dk_180 0 9 (dk_at dksX7_top_0 14 rfl rfl)
theorem dX7_top_17 : decode cX7_top 17 = .ok (.aload_n 0, 1) := dk_42 (dk_at dksX7_top_0 17 rfl rfl)
theorem dX7_top_18 : decode cX7_top 18 = .ok (.getfield 22, 3) := dk_180 0 22 (dk_at dksX7_top_0 18 rfl rfl)
theorem dX7_top_21 : decode cX7_top 21 = .ok (.iconst 1, 1) := dk_4 (dk_at dksX7_top_0 21 rfl rfl)
theorem dX7_top_22 : decode cX7_top 22 = .ok (.isub, 1) := dk_100 (dk_at dksX7_top_0 22 rfl rfl)
theorem dX7_top_23 : decode cX7_top 23 = .ok (.bipush 8, 2) := dk_16 8 (dk_at dksX7_top_1 0 rfl rfl)
theorem dX7_top_25 : decode cX7_top 25 = .ok (.imul, 1) := dk_104 (dk_at dksX7_top_1 2 rfl rfl)
theorem dX7_top_26 : decode cX7_top 26 = .ok (.aload_n 1, 1) := dk_43 (dk_at dksX7_top_1 3 rfl rfl)
theorem dX7_top_27 : decode cX7_top 27 = .ok (.iload_n 2, 1) := dk_28 (dk_at dksX7_top_1 4 rfl rfl)
theorem dX7_top_28 : decode cX7_top 28 = .ok (.bipush 8, 2) := dk_16 8 (dk_at dksX7_top_1 5 rfl rfl)
theorem dX7_top_30 : decode cX7_top 30 = .ok (.invokestatic 29, 3) := dk_184 0 29 (dk_at dksX7_top_1 7 rfl rfl)
theorem dX7_top_33 : decode cX7_top 33 = .ok (.aload_n 0, 1) := dk_42 (dk_at dksX7_top_1 10 rfl rfl)
theorem dX7_top_34 : decode cX7_top 34 = .ok (.getfield 22, 3) := dk_180 0 22 (dk_at dksX7_top_1 11 rfl rfl)
theorem dX7_top_37 : decode cX7_top 37 = .ok (.iconst 2, 1) := dk_5 (dk_at dksX7_top_1 14 rfl rfl)
theorem dX7_top_38 : decode cX7_top 38 = .ok (.isub, 1) := dk_100 (dk_at dksX7_top_1 15 rfl rfl)
theorem dX7_top_39 : decode cX7_top 39 = .ok (.istore_n 3, 1) := dk_62 (dk_at dksX7_top_1 16 rfl rfl)
theorem dX7_top_40 : decode cX7_top 40 = .ok (.iload_n 3, 1) := dk_29 (dk_at dksX7_top_1 17 rfl rfl)
theorem dX7_top_41 : decode cX7_top 41 = .ok (.ifCond .lt 28, 3) := dk_155 0 28 (dk_at dksX7_top_1 18 rfl rfl)
theorem dX7_top_44 : decode cX7_top 44 = .ok (.aload_n 0, 1) := dk_42 (dk_at dksX7_top_1 21 rfl rfl)
theorem dX7_top_45 : decode cX7_top 45 = .ok (.getfield 18, 3) := dk_180 0 18 (dk_at dksX7_top_2 0 rfl rfl)
theorem dX7_top_48 : decode cX7_top 48 = .ok (.aload_n 0, 1) := dk_42 (dk_at dksX7_top_2 3 rfl rfl)
theorem dX7_top_49 : decode cX7_top 49 = .ok (.getfield 9, 3) := dk_180 0 9 (dk_at dksX7_top_2 4 rfl rfl)
theorem dX7_top_52 : decode cX7_top 52 = .ok (.iload_n 3, 1) := dk_29 (dk_at dksX7_top_2 7 rfl rfl)
theorem dX7_top_53 : decode cX7_top 53 = .ok (.bipush 8, 2) := dk_16 8 (dk_at dksX7_top_2 8 rfl rfl)
theorem dX7_top_55 : decode cX7_top 55 = .ok (.imul, 1) := dk_104 (dk_at dksX7_top_2 10 rfl rfl)
theorem dX7_top_56 : decode cX7_top 56 = .ok (.aload_n 1, 1) := dk_43 (dk_at dksX7_top_2 11 rfl rfl)
theorem dX7_top_57 : decode cX7_top 57 = .ok (.iload_n 2, 1) := dk_28 (dk_at dksX7_top_2 12 rfl rfl)
theorem dX7_top_58 : decode cX7_top 58 = .ok (.aload_n 1, 1) := dk_43 (dk_at dksX7_top_2 13 rfl rfl)
theorem dX7_top_59 : decode cX7_top 59 = .ok (.iload_n 2, 1) := dk_28 (dk_at dksX7_top_2 14 rfl rfl)
theorem dX7_top_60 : decode cX7_top 60 = .ok (.invokevirtual 35, 3) := dk_182 0 35 (dk_at dksX7_top_2 15 rfl rfl)
theorem dX7_top_63 : decode cX7_top 63 = .ok (.iinc 3 (-1), 3) := dk_132 3 255 (dk_at dksX7_top_2 18 rfl rfl)
theorem dX7_top_66 : decode cX7_top 66 = .ok (.goto (-26), 3) := dk_167 255 230 (dk_at dksX7_top_2 21 rfl rfl)
theorem dX7_top_69 : decode cX7_top 69 = .ok (.return_, 1) := dk_177 (dk_at dksX7_top_3 0 rfl rfl)
theorem q64 : (Jvm.Cond.initialized "GlassLog$Pile") ∈ lw_all := lw_g (lw_at lw_m1 8 rfl) rfl
theorem q297 : (Jvm.Cond.instantiable "GlassLog$Pile" (5 : Nat)) ∈ lw_all := lw_g (lw_at lw_m2 1 rfl) rfl
theorem q299 : (Jvm.Cond.instanceMethod ({ cls := "GlassLog$Pile", name := "<init>", desc := "(LGlassLog$Mixer;)V" } : Jvm.MethodName)) ∈ lw_all := lw_g (lw_at lw_m2 3 rfl) rfl
theorem q300 : (Jvm.Cond.code ({ cls := "GlassLog$Pile", name := "<init>", desc := "(LGlassLog$Mixer;)V" } : Jvm.MethodName) prog_10_method_1_code (2 : Nat) (Option.none : Option Jvm.ClassFile.FieldType)) ∈ lw_all := lw_g (lw_at lw_m2 4 rfl) rfl
theorem q301 : (Jvm.Cond.methodLink "GlassLog$Pile" (3 : Nat) ({ cls := "java/lang/Object", name := "<init>", desc := "()V" } : Jvm.MethodName)) ∈ lw_all := lw_g (lw_at lw_m2 5 rfl) rfl
theorem q302 : (Jvm.Cond.fieldLink "GlassLog$Pile" (18 : Nat) "GlassLog$Pile" "mixer" "LGlassLog$Mixer;") ∈ lw_all := lw_g (lw_at lw_m2 6 rfl) rfl
theorem q303 : (Jvm.Cond.fieldLink "GlassLog$Pile" (9 : Nat) "GlassLog$Pile" "sums" "[I") ∈ lw_all := lw_g (lw_at lw_m2 7 rfl) rfl
theorem q304 : (Jvm.Cond.fieldLink "GlassLog$Pile" (15 : Nat) "GlassLog$Pile" "levels" "[I") ∈ lw_all := lw_g (lw_at lw_m2 8 rfl) rfl
theorem q305 : (Jvm.Cond.fieldLink "GlassLog$Pile" (22 : Nat) "GlassLog$Pile" "many" "I") ∈ lw_all := lw_g (lw_at lw_m2 9 rfl) rfl
theorem q306 : (Jvm.Cond.fieldLink "GlassLog$Pile" (26 : Nat) "GlassLog$Pile" "next" "I") ∈ lw_all := lw_g (lw_at lw_m2 10 rfl) rfl
theorem q307 : (Jvm.Cond.laysFinal "GlassLog$Pile" "GlassLog$Pile" "mixer" "LGlassLog$Mixer;") ∈ lw_all := lw_g (lw_at lw_m2 11 rfl) rfl
theorem q308 : (Jvm.Cond.soleField "GlassLog$Pile" "mixer") ∈ lw_all := lw_g (lw_at lw_m2 12 rfl) rfl
theorem q309 : (Jvm.Cond.laysFinal "GlassLog$Pile" "GlassLog$Pile" "sums" "[I") ∈ lw_all := lw_g (lw_at lw_m2 13 rfl) rfl
theorem q310 : (Jvm.Cond.soleField "GlassLog$Pile" "sums") ∈ lw_all := lw_g (lw_at lw_m2 14 rfl) rfl
theorem q311 : (Jvm.Cond.laysFinal "GlassLog$Pile" "GlassLog$Pile" "levels" "[I") ∈ lw_all := lw_g (lw_at lw_m2 15 rfl) rfl
theorem q312 : (Jvm.Cond.soleField "GlassLog$Pile" "levels") ∈ lw_all := lw_g (lw_at lw_m2 16 rfl) rfl
theorem q313 : (Jvm.Cond.lays "GlassLog$Pile" "GlassLog$Pile" "many" "I") ∈ lw_all := lw_g (lw_at lw_m2 17 rfl) rfl
theorem q314 : (Jvm.Cond.soleField "GlassLog$Pile" "many") ∈ lw_all := lw_g (lw_at lw_m2 18 rfl) rfl
theorem q315 : (Jvm.Cond.lays "GlassLog$Pile" "GlassLog$Pile" "next" "I") ∈ lw_all := lw_g (lw_at lw_m2 19 rfl) rfl
theorem q316 : (Jvm.Cond.soleField "GlassLog$Pile" "next") ∈ lw_all := lw_g (lw_at lw_m2 20 rfl) rfl
theorem q317 : (Jvm.Cond.superclass "GlassLog$Pile" "java/lang/Object") ∈ lw_all := lw_g (lw_at lw_m2 21 rfl) rfl
theorem q524 : (Jvm.Cond.instanceMethod ({ cls := "GlassLog$Pile", name := "begin", desc := "()V" } : Jvm.MethodName)) ∈ lw_all := lw_g (lw_at lw_m2 228 rfl) rfl
theorem q525 : (Jvm.Cond.selects "GlassLog$Pile" ({ cls := "GlassLog$Pile", name := "begin", desc := "()V" } : Jvm.MethodName) ({ cls := "GlassLog$Pile", name := "begin", desc := "()V" } : Jvm.MethodName)) ∈ lw_all := lw_g (lw_at lw_m2 229 rfl) rfl
theorem q526 : (Jvm.Cond.code ({ cls := "GlassLog$Pile", name := "begin", desc := "()V" } : Jvm.MethodName) prog_10_method_2_code (1 : Nat) (Option.none : Option Jvm.ClassFile.FieldType)) ∈ lw_all := lw_g (lw_at lw_m2 230 rfl) rfl
theorem q535 : (Jvm.Cond.instanceMethod ({ cls := "GlassLog$Pile", name := "add", desc := "(I[II)V" } : Jvm.MethodName)) ∈ lw_all := lw_g (lw_at lw_m2 239 rfl) rfl
theorem q536 : (Jvm.Cond.selects "GlassLog$Pile" ({ cls := "GlassLog$Pile", name := "add", desc := "(I[II)V" } : Jvm.MethodName) ({ cls := "GlassLog$Pile", name := "add", desc := "(I[II)V" } : Jvm.MethodName)) ∈ lw_all := lw_g (lw_at lw_m3 0 rfl) rfl
theorem q537 : (Jvm.Cond.code ({ cls := "GlassLog$Pile", name := "add", desc := "(I[II)V" } : Jvm.MethodName) prog_10_method_3_code (4 : Nat) (Option.none : Option Jvm.ClassFile.FieldType)) ∈ lw_all := lw_g (lw_at lw_m3 1 rfl) rfl
theorem q538 : (Jvm.Cond.methodLink "GlassLog$Pile" (29 : Nat) ({ cls := "java/lang/System", name := "arraycopy", desc := "(Ljava/lang/Object;ILjava/lang/Object;II)V" } : Jvm.MethodName)) ∈ lw_all := lw_g (lw_at lw_m3 2 rfl) rfl
theorem q539 : (Jvm.Cond.methodLink "GlassLog$Pile" (35 : Nat) ({ cls := "GlassLog$Mixer", name := "join", desc := "([II[II[II)V" } : Jvm.MethodName)) ∈ lw_all := lw_g (lw_at lw_m3 3 rfl) rfl
theorem q541 : (Jvm.Cond.instanceMethod ({ cls := "GlassLog$Pile", name := "top", desc := "([II)V" } : Jvm.MethodName)) ∈ lw_all := lw_g (lw_at lw_m3 5 rfl) rfl
theorem q542 : (Jvm.Cond.selects "GlassLog$Pile" ({ cls := "GlassLog$Pile", name := "top", desc := "([II)V" } : Jvm.MethodName) ({ cls := "GlassLog$Pile", name := "top", desc := "([II)V" } : Jvm.MethodName)) ∈ lw_all := lw_g (lw_at lw_m3 6 rfl) rfl
theorem q543 : (Jvm.Cond.code ({ cls := "GlassLog$Pile", name := "top", desc := "([II)V" } : Jvm.MethodName) prog_10_method_4_code (4 : Nat) (Option.none : Option Jvm.ClassFile.FieldType)) ∈ lw_all := lw_g (lw_at lw_m3 7 rfl) rfl
theorem q544 : (Jvm.Cond.methodLinkNest "GlassLog$Pile" (41 : Nat) ({ cls := "GlassLog", name := "clear", desc := "([II)V" } : Jvm.MethodName) "GlassLog") ∈ lw_tbl := lw_at lw_m3 8 rfl
theorem in_X7 : ∀ w ∈ wsX70, w ∈ lw_all := lw_in wsX70 [307, 309, 311, 313, 315] (by decide +kernel) (by decide +kernel)

/-! GlassLog$Map -/
set_option maxRecDepth 100000
def RX8 : String := "GlassLog$Map"
def TX8 : u_T := fun k => match k with
  | 0 => ("GlassLog$Map", "mixer", "LGlassLog$Mixer;", true)
  | 1 => ("GlassLog$Map", "keys", "[I", true)
  | 2 => ("GlassLog$Map", "latest", "[I", true)
  | 3 => ("GlassLog$Map", "ways", "[I", true)
  | 4 => ("GlassLog$Map", "stack", "[I", true)
  | 5 => ("GlassLog$Map", "one", "[I", true)
  | 6 => ("GlassLog$Map", "many", "I", false)
  | 7 => ("GlassLog$Map", "partings", "I", false)
  | _ => ("GlassLog$Map", "alone", "I", false)
def tyX8 : Nat → FieldType := fun k => match k with
  | 0 => .object "GlassLog$Mixer"
  | 1 => .array .int
  | 2 => .array .int
  | 3 => .array .int
  | 4 => .array .int
  | 5 => .array .int
  | 6 => .int
  | 7 => .int
  | _ => .int
abbrev wsX80 : List Cond := u_ws RX8 TX8 9
theorem nmX8 : ∀ a, a < 9 → ∀ b, b < 9 → a ≠ b → (TX8 a).2.1 ≠ (TX8 b).2.1 := by decide +kernel
theorem tyX8_ok : ∀ k, k < 9 → parseFieldDescriptor (TX8 k).2.2.1 = some (tyX8 k) := by decide +kernel
abbrev cX8_init : ByteArray := prog_8_method_1_code
def yX8_init : MethodName := ⟨RX8, "<init>", "(LGlassLog$Mixer;)V"⟩
def dkwX8_init_2 : List UInt8 := [181, 0, 24, 42, 43, 181, 0, 27, 177]
abbrev dktX8_init_2 : List UInt8 := dkwX8_init_2 ++ []
def dkwX8_init_1 : List UInt8 := [17, 12, 128, 188, 10, 181, 0, 18, 42, 17, 21, 224, 188, 10, 181, 0, 21, 42, 16, 8, 188, 10]
abbrev dktX8_init_1 : List UInt8 := dkwX8_init_1 ++ dktX8_init_2
def dkwX8_init_0 : List UInt8 := [42, 183, 0, 3, 42, 17, 1, 144, 188, 10, 181, 0, 9, 42, 17, 1, 144, 188, 10, 181, 0, 15, 42]
abbrev dktX8_init_0 : List UInt8 := dkwX8_init_0 ++ dktX8_init_1
theorem dksX8_init_0 : cX8_init.data.toList.drop 0 = dktX8_init_0 := by decide +kernel
theorem dksX8_init_1 : cX8_init.data.toList.drop 23 = dktX8_init_1 := dk_seg dksX8_init_0 23 rfl rfl
theorem dksX8_init_2 : cX8_init.data.toList.drop 45 = dktX8_init_2 := dk_seg dksX8_init_1 22 rfl rfl
theorem dX8_init_0 : decode cX8_init 0 = .ok (.aload_n 0, 1) := dk_42 (dk_at dksX8_init_0 0 rfl rfl)
theorem dX8_init_1 : decode cX8_init 1 = .ok (.invokespecial 3, 3) := dk_183 0 3 (dk_at dksX8_init_0 1 rfl rfl)
theorem dX8_init_4 : decode cX8_init 4 = .ok (.aload_n 0, 1) := dk_42 (dk_at dksX8_init_0 4 rfl rfl)
theorem dX8_init_5 : decode cX8_init 5 = .ok (.sipush 400, 3) := dk_17 1 144 (dk_at dksX8_init_0 5 rfl rfl)
theorem dX8_init_8 : decode cX8_init 8 = .ok (.newarray .int, 2) := dk_188_10 (dk_at dksX8_init_0 8 rfl rfl)
theorem dX8_init_10 : decode cX8_init 10 = .ok (.putfield 9, 3) := dk_181 0 9 (dk_at dksX8_init_0 10 rfl rfl)
theorem dX8_init_13 : decode cX8_init 13 = .ok (.aload_n 0, 1) := dk_42 (dk_at dksX8_init_0 13 rfl rfl)
theorem dX8_init_14 : decode cX8_init 14 = .ok (.sipush 400, 3) := dk_17 1 144 (dk_at dksX8_init_0 14 rfl rfl)
theorem dX8_init_17 : decode cX8_init 17 = .ok (.newarray .int, 2) := dk_188_10 (dk_at dksX8_init_0 17 rfl rfl)
theorem dX8_init_19 : decode cX8_init 19 = .ok (.putfield 15, 3) := dk_181 0 15 (dk_at dksX8_init_0 19 rfl rfl)
theorem dX8_init_22 : decode cX8_init 22 = .ok (.aload_n 0, 1) := dk_42 (dk_at dksX8_init_0 22 rfl rfl)
theorem dX8_init_23 : decode cX8_init 23 = .ok (.sipush 3200, 3) := dk_17 12 128 (dk_at dksX8_init_1 0 rfl rfl)
theorem dX8_init_26 : decode cX8_init 26 = .ok (.newarray .int, 2) := dk_188_10 (dk_at dksX8_init_1 3 rfl rfl)
theorem dX8_init_28 : decode cX8_init 28 = .ok (.putfield 18, 3) := dk_181 0 18 (dk_at dksX8_init_1 5 rfl rfl)
theorem dX8_init_31 : decode cX8_init 31 = .ok (.aload_n 0, 1) := dk_42 (dk_at dksX8_init_1 8 rfl rfl)
theorem dX8_init_32 : decode cX8_init 32 = .ok (.sipush 5600, 3) := dk_17 21 224 (dk_at dksX8_init_1 9 rfl rfl)
theorem dX8_init_35 : decode cX8_init 35 = .ok (.newarray .int, 2) := dk_188_10 (dk_at dksX8_init_1 12 rfl rfl)
theorem dX8_init_37 : decode cX8_init 37 = .ok (.putfield 21, 3) := dk_181 0 21 (dk_at dksX8_init_1 14 rfl rfl)
theorem dX8_init_40 : decode cX8_init 40 = .ok (.aload_n 0, 1) := dk_42 (dk_at dksX8_init_1 17 rfl rfl)
theorem dX8_init_41 : decode cX8_init 41 = .ok (.bipush 8, 2) := dk_16 8 (dk_at dksX8_init_1 18 rfl rfl)
theorem dX8_init_43 : decode cX8_init 43 = .ok (.newarray .int, 2) := dk_188_10 (dk_at dksX8_init_1 20 rfl rfl)
theorem dX8_init_45 : decode cX8_init 45 = .ok (.putfield 24, 3) := dk_181 0 24 (dk_at dksX8_init_2 0 rfl rfl)
theorem dX8_init_48 : decode cX8_init 48 = .ok (.aload_n 0, 1) := dk_42 (dk_at dksX8_init_2 3 rfl rfl)
theorem dX8_init_49 : decode cX8_init 49 = .ok (.aload_n 1, 1) := dk_43 (dk_at dksX8_init_2 4 rfl rfl)
theorem dX8_init_50 : decode cX8_init 50 = .ok (.putfield 27, 3) := dk_181 0 27 (dk_at dksX8_init_2 5 rfl rfl)
theorem dX8_init_53 : decode cX8_init 53 = .ok (.return_, 1) := dk_177 (dk_at dksX8_init_2 8 rfl rfl)
abbrev cX8_of : ByteArray := prog_8_method_2_code
def yX8_of : MethodName := ⟨RX8, "of", "(LGlassLog$Log;I)V"⟩
def dkwX8_of_2 : List UInt8 := [167, 255, 219, 177]
abbrev dktX8_of_2 : List UInt8 := dkwX8_of_2 ++ []
def dkwX8_of_1 : List UInt8 := [54, 4, 21, 4, 155, 0, 15, 42, 43, 180, 0, 35, 29, 46, 21, 4, 182, 0, 41, 132, 3, 255]
abbrev dktX8_of_1 : List UInt8 := dkwX8_of_1 ++ dktX8_of_2
def dkwX8_of_0 : List UInt8 := [42, 3, 181, 0, 31, 28, 4, 100, 62, 29, 155, 0, 39, 43, 28, 43, 180, 0, 35, 29, 46, 182, 0, 38]
abbrev dktX8_of_0 : List UInt8 := dkwX8_of_0 ++ dktX8_of_1
theorem dksX8_of_0 : cX8_of.data.toList.drop 0 = dktX8_of_0 := by decide +kernel
theorem dksX8_of_1 : cX8_of.data.toList.drop 24 = dktX8_of_1 := dk_seg dksX8_of_0 24 rfl rfl
theorem dksX8_of_2 : cX8_of.data.toList.drop 46 = dktX8_of_2 := dk_seg dksX8_of_1 22 rfl rfl
theorem dX8_of_0 : decode cX8_of 0 = .ok (.aload_n 0, 1) := dk_42 (dk_at dksX8_of_0 0 rfl rfl)
theorem dX8_of_1 : decode cX8_of 1 = .ok (.iconst 0, 1) := dk_3 (dk_at dksX8_of_0 1 rfl rfl)
theorem dX8_of_2 : decode cX8_of 2 = .ok (.putfield 31, 3) := dk_181 0 31 (dk_at dksX8_of_0 2 rfl rfl)
theorem dX8_of_5 : decode cX8_of 5 = .ok (.iload_n 2, 1) := dk_28 (dk_at dksX8_of_0 5 rfl rfl)
theorem dX8_of_6 : decode cX8_of 6 = .ok (.iconst 1, 1) := dk_4 (dk_at dksX8_of_0 6 rfl rfl)
theorem dX8_of_7 : decode cX8_of 7 = .ok (.isub, 1) := dk_100 (dk_at dksX8_of_0 7 rfl rfl)
theorem dX8_of_8 : decode cX8_of 8 = .ok (.istore_n 3, 1) := dk_62 (dk_at dksX8_of_0 8 rfl rfl)
theorem dX8_of_9 : decode cX8_of 9 = .ok (.iload_n 3, 1) := dk_29 (dk_at dksX8_of_0 9 rfl rfl)
theorem dX8_of_10 : decode cX8_of 10 = .ok (.ifCond .lt 39, 3) := dk_155 0 39 (dk_at dksX8_of_0 10 rfl rfl)
theorem dX8_of_13 : decode cX8_of 13 = .ok (.aload_n 1, 1) := dk_43 (dk_at dksX8_of_0 13 rfl rfl)
theorem dX8_of_14 : decode cX8_of 14 = .ok (.iload_n 2, 1) := dk_28 (dk_at dksX8_of_0 14 rfl rfl)
theorem dX8_of_15 : decode cX8_of 15 = .ok (.aload_n 1, 1) := dk_43 (dk_at dksX8_of_0 15 rfl rfl)
theorem dX8_of_16 : decode cX8_of 16 = .ok (.getfield 35, 3) := dk_180 0 35 (dk_at dksX8_of_0 16 rfl rfl)
theorem dX8_of_19 : decode cX8_of 19 = .ok (.iload_n 3, 1) := dk_29 (dk_at dksX8_of_0 19 rfl rfl)
theorem dX8_of_20 : decode cX8_of 20 = .ok (.iaload, 1) := dk_46 (dk_at dksX8_of_0 20 rfl rfl)
theorem dX8_of_21 : decode cX8_of 21 = .ok (.invokevirtual 38, 3) := dk_182 0 38 (dk_at dksX8_of_0 21 rfl rfl)
theorem dX8_of_24 : decode cX8_of 24 = .ok (.istore 4, 2) := dk_54 4 (dk_at dksX8_of_1 0 rfl rfl)
theorem dX8_of_26 : decode cX8_of 26 = .ok (.iload 4, 2) := dk_21 4 (dk_at dksX8_of_1 2 rfl rfl)
theorem dX8_of_28 : decode cX8_of 28 = .ok (.ifCond .lt 15, 3) := dk_155 0 15 (dk_at dksX8_of_1 4 rfl rfl)
theorem dX8_of_31 : decode cX8_of 31 = .ok (.aload_n 0, 1) := dk_42 (dk_at dksX8_of_1 7 rfl rfl)
theorem dX8_of_32 : decode cX8_of 32 = .ok (.aload_n 1, 1) := dk_43 (dk_at dksX8_of_1 8 rfl rfl)
theorem dX8_of_33 : decode cX8_of 33 = .ok (.getfield 35, 3) := dk_180 0 35 (dk_at dksX8_of_1 9 rfl rfl)
theorem dX8_of_36 : decode cX8_of 36 = .ok (.iload_n 3, 1) := dk_29 (dk_at dksX8_of_1 12 rfl rfl)
theorem dX8_of_37 : decode cX8_of 37 = .ok (.iaload, 1) := dk_46 (dk_at dksX8_of_1 13 rfl rfl)
theorem dX8_of_38 : decode cX8_of 38 = .ok (.iload 4, 2) := dk_21 4 (dk_at dksX8_of_1 14 rfl rfl)
theorem dX8_of_40 : decode cX8_of 40 = .ok (.invokevirtual 41, 3) := dk_182 0 41 (dk_at dksX8_of_1 16 rfl rfl)
theorem dX8_of_43 : decode cX8_of 43 = .ok (.iinc 3 (-1), 3) := dk_132 3 255 (dk_at dksX8_of_1 19 rfl rfl)
theorem dX8_of_46 : decode cX8_of 46 = .ok (.goto (-37), 3) := dk_167 255 219 (dk_at dksX8_of_2 0 rfl rfl)
theorem dX8_of_49 : decode cX8_of 49 = .ok (.return_, 1) := dk_177 (dk_at dksX8_of_2 3 rfl rfl)
abbrev cX8_put : ByteArray := prog_8_method_4_code
def yX8_put : MethodName := ⟨RX8, "put", "(II)V"⟩
def dkwX8_put_7 : List UInt8 := [180, 0, 9, 29, 27, 79, 42, 180, 0, 15, 29, 28, 79, 42, 89, 180, 0, 31, 4, 96, 181, 0, 31, 177]
abbrev dktX8_put_7 : List UInt8 := dkwX8_put_7 ++ []
def dkwX8_put_6 : List UInt8 := [29, 100, 184, 0, 60, 42, 180, 0, 24, 3, 42, 180, 0, 18, 29, 16, 8, 104, 16, 8, 184, 0, 60, 42]
abbrev dktX8_put_6 : List UInt8 := dkwX8_put_6 ++ dktX8_put_7
def dkwX8_put_5 : List UInt8 := [180, 0, 31, 29, 100, 184, 0, 60, 42, 180, 0, 15, 29, 42, 180, 0, 15, 29, 4, 96, 42, 180, 0, 31]
abbrev dktX8_put_5 : List UInt8 := dkwX8_put_5 ++ dktX8_put_6
def dkwX8_put_4 : List UInt8 := [180, 0, 31, 29, 100, 16, 8, 104, 184, 0, 60, 42, 180, 0, 9, 29, 42, 180, 0, 9, 29, 4, 96, 42]
abbrev dktX8_put_4 : List UInt8 := dkwX8_put_4 ++ dktX8_put_5
def dkwX8_put_3 : List UInt8 := [154, 0, 4, 177, 42, 180, 0, 18, 29, 16, 8, 104, 42, 180, 0, 18, 29, 4, 96, 16, 8, 104, 42]
abbrev dktX8_put_3 : List UInt8 := dkwX8_put_3 ++ dktX8_put_4
def dkwX8_put_2 : List UInt8 := [62, 167, 0, 7, 21, 5, 54, 4, 167, 255, 221, 29, 42, 180, 0, 31, 162, 0, 12, 42, 29, 182, 0, 56]
abbrev dktX8_put_2 : List UInt8 := dkwX8_put_2 ++ dktX8_put_3
def dkwX8_put_1 : List UInt8 := [162, 0, 35, 29, 21, 4, 96, 5, 108, 54, 5, 42, 21, 5, 182, 0, 56, 156, 0, 11, 21, 5, 4, 96]
abbrev dktX8_put_1 : List UInt8 := dkwX8_put_1 ++ dktX8_put_2
def dkwX8_put_0 : List UInt8 := [42, 180, 0, 27, 27, 42, 180, 0, 24, 3, 182, 0, 50, 3, 62, 42, 180, 0, 31, 54, 4, 29, 21, 4]
abbrev dktX8_put_0 : List UInt8 := dkwX8_put_0 ++ dktX8_put_1
theorem dksX8_put_0 : cX8_put.data.toList.drop 0 = dktX8_put_0 := by decide +kernel
theorem dksX8_put_1 : cX8_put.data.toList.drop 24 = dktX8_put_1 := dk_seg dksX8_put_0 24 rfl rfl
theorem dksX8_put_2 : cX8_put.data.toList.drop 48 = dktX8_put_2 := dk_seg dksX8_put_1 24 rfl rfl
theorem dksX8_put_3 : cX8_put.data.toList.drop 72 = dktX8_put_3 := dk_seg dksX8_put_2 24 rfl rfl
theorem dksX8_put_4 : cX8_put.data.toList.drop 95 = dktX8_put_4 := dk_seg dksX8_put_3 23 rfl rfl
theorem dksX8_put_5 : cX8_put.data.toList.drop 119 = dktX8_put_5 := dk_seg dksX8_put_4 24 rfl rfl
theorem dksX8_put_6 : cX8_put.data.toList.drop 143 = dktX8_put_6 := dk_seg dksX8_put_5 24 rfl rfl
theorem dksX8_put_7 : cX8_put.data.toList.drop 167 = dktX8_put_7 := dk_seg dksX8_put_6 24 rfl rfl
theorem dX8_put_0 : decode cX8_put 0 = .ok (.aload_n 0, 1) := dk_42 (dk_at dksX8_put_0 0 rfl rfl)
theorem dX8_put_1 : decode cX8_put 1 = .ok (.getfield 27, 3) := dk_180 0 27 (dk_at dksX8_put_0 1 rfl rfl)
theorem dX8_put_4 : decode cX8_put 4 = .ok (.iload_n 1, 1) := dk_27 (dk_at dksX8_put_0 4 rfl rfl)
theorem dX8_put_5 : decode cX8_put 5 = .ok (.aload_n 0, 1) := dk_42 (dk_at dksX8_put_0 5 rfl rfl)
theorem dX8_put_6 : decode cX8_put 6 = .ok (.getfield 24, 3) := dk_180 0 24 (dk_at dksX8_put_0 6 rfl rfl)
theorem dX8_put_9 : decode cX8_put 9 = .ok (.iconst 0, 1) := dk_3 (dk_at dksX8_put_0 9 rfl rfl)
theorem dX8_put_10 : decode cX8_put 10 = .ok (.invokevirtual 50, 3) := dk_182 0 50 (dk_at dksX8_put_0 10 rfl rfl)
theorem dX8_put_13 : decode cX8_put 13 = .ok (.iconst 0, 1) := dk_3 (dk_at dksX8_put_0 13 rfl rfl)
theorem dX8_put_14 : decode cX8_put 14 = .ok (.istore_n 3, 1) := dk_62 (dk_at dksX8_put_0 14 rfl rfl)
theorem dX8_put_15 : decode cX8_put 15 = .ok (.aload_n 0, 1) := dk_42 (dk_at dksX8_put_0 15 rfl rfl)
theorem dX8_put_16 : decode cX8_put 16 = .ok (.getfield 31, 3) := dk_180 0 31 (dk_at dksX8_put_0 16 rfl rfl)
theorem dX8_put_19 : decode cX8_put 19 = .ok (.istore 4, 2) := dk_54 4 (dk_at dksX8_put_0 19 rfl rfl)
theorem dX8_put_21 : decode cX8_put 21 = .ok (.iload_n 3, 1) := dk_29 (dk_at dksX8_put_0 21 rfl rfl)
theorem dX8_put_22 : decode cX8_put 22 = .ok (.iload 4, 2) := dk_21 4 (dk_at dksX8_put_0 22 rfl rfl)
theorem dX8_put_24 : decode cX8_put 24 = .ok (.if_icmp .ge 35, 3) := dk_162 0 35 (dk_at dksX8_put_1 0 rfl rfl)
theorem dX8_put_27 : decode cX8_put 27 = .ok (.iload_n 3, 1) := dk_29 (dk_at dksX8_put_1 3 rfl rfl)
theorem dX8_put_28 : decode cX8_put 28 = .ok (.iload 4, 2) := dk_21 4 (dk_at dksX8_put_1 4 rfl rfl)
theorem dX8_put_30 : decode cX8_put 30 = .ok (.iadd, 1) := dk_96 (dk_at dksX8_put_1 6 rfl rfl)
theorem dX8_put_31 : decode cX8_put 31 = .ok (.iconst 2, 1) := dk_5 (dk_at dksX8_put_1 7 rfl rfl)
theorem dX8_put_32 : decode cX8_put 32 = .ok (.idiv, 1) := dk_108 (dk_at dksX8_put_1 8 rfl rfl)
theorem dX8_put_33 : decode cX8_put 33 = .ok (.istore 5, 2) := dk_54 5 (dk_at dksX8_put_1 9 rfl rfl)
theorem dX8_put_35 : decode cX8_put 35 = .ok (.aload_n 0, 1) := dk_42 (dk_at dksX8_put_1 11 rfl rfl)
theorem dX8_put_36 : decode cX8_put 36 = .ok (.iload 5, 2) := dk_21 5 (dk_at dksX8_put_1 12 rfl rfl)
theorem dX8_put_38 : decode cX8_put 38 = .ok (.invokevirtual 56, 3) := dk_182 0 56 (dk_at dksX8_put_1 14 rfl rfl)
theorem dX8_put_41 : decode cX8_put 41 = .ok (.ifCond .ge 11, 3) := dk_156 0 11 (dk_at dksX8_put_1 17 rfl rfl)
theorem dX8_put_44 : decode cX8_put 44 = .ok (.iload 5, 2) := dk_21 5 (dk_at dksX8_put_1 20 rfl rfl)
theorem dX8_put_46 : decode cX8_put 46 = .ok (.iconst 1, 1) := dk_4 (dk_at dksX8_put_1 22 rfl rfl)
theorem dX8_put_47 : decode cX8_put 47 = .ok (.iadd, 1) := dk_96 (dk_at dksX8_put_1 23 rfl rfl)
theorem dX8_put_48 : decode cX8_put 48 = .ok (.istore_n 3, 1) := dk_62 (dk_at dksX8_put_2 0 rfl rfl)
theorem dX8_put_49 : decode cX8_put 49 = .ok (.goto 7, 3) := dk_167 0 7 (dk_at dksX8_put_2 1 rfl rfl)
theorem dX8_put_52 : decode cX8_put 52 = .ok (.iload 5, 2) := dk_21 5 (dk_at dksX8_put_2 4 rfl rfl)
theorem dX8_put_54 : decode cX8_put 54 = .ok (.istore 4, 2) := dk_54 4 (dk_at dksX8_put_2 6 rfl rfl)
theorem dX8_put_56 : decode cX8_put 56 = .ok (.goto (-35), 3) := dk_167 255 221 (dk_at dksX8_put_2 8 rfl rfl)
theorem dX8_put_59 : decode cX8_put 59 = .ok (.iload_n 3, 1) := dk_29 (dk_at dksX8_put_2 11 rfl rfl)
theorem dX8_put_60 : decode cX8_put 60 = .ok (.aload_n 0, 1) := dk_42 (dk_at dksX8_put_2 12 rfl rfl)
theorem dX8_put_61 : decode cX8_put 61 = .ok (.getfield 31, 3) := dk_180 0 31 (dk_at dksX8_put_2 13 rfl rfl)
theorem dX8_put_64 : decode cX8_put 64 = .ok (.if_icmp .ge 12, 3) := dk_162 0 12 (dk_at dksX8_put_2 16 rfl rfl)
theorem dX8_put_67 : decode cX8_put 67 = .ok (.aload_n 0, 1) := dk_42 (dk_at dksX8_put_2 19 rfl rfl)
theorem dX8_put_68 : decode cX8_put 68 = .ok (.iload_n 3, 1) := dk_29 (dk_at dksX8_put_2 20 rfl rfl)
theorem dX8_put_69 : decode cX8_put 69 = .ok (.invokevirtual 56, 3) := dk_182 0 56 (dk_at dksX8_put_2 21 rfl rfl)
theorem dX8_put_72 : decode cX8_put 72 = .ok (.ifCond .ne 4, 3) := dk_154 0 4 (dk_at dksX8_put_3 0 rfl rfl)
theorem dX8_put_75 : decode cX8_put 75 = .ok (.return_, 1) := dk_177 (dk_at dksX8_put_3 3 rfl rfl)
theorem dX8_put_76 : decode cX8_put 76 = .ok (.aload_n 0, 1) := dk_42 (dk_at dksX8_put_3 4 rfl rfl)
theorem dX8_put_77 : decode cX8_put 77 = .ok (.getfield 18, 3) := dk_180 0 18 (dk_at dksX8_put_3 5 rfl rfl)
theorem dX8_put_80 : decode cX8_put 80 = .ok (.iload_n 3, 1) := dk_29 (dk_at dksX8_put_3 8 rfl rfl)
theorem dX8_put_81 : decode cX8_put 81 = .ok (.bipush 8, 2) := dk_16 8 (dk_at dksX8_put_3 9 rfl rfl)
theorem dX8_put_83 : decode cX8_put 83 = .ok (.imul, 1) := dk_104 (dk_at dksX8_put_3 11 rfl rfl)
theorem dX8_put_84 : decode cX8_put 84 = .ok (.aload_n 0, 1) := dk_42 (dk_at dksX8_put_3 12 rfl rfl)
theorem dX8_put_85 : decode cX8_put 85 = .ok (.getfield 18, 3) := dk_180 0 18 (dk_at dksX8_put_3 13 rfl rfl)
theorem dX8_put_88 : decode cX8_put 88 = .ok (.iload_n 3, 1) := dk_29 (dk_at dksX8_put_3 16 rfl rfl)
theorem dX8_put_89 : decode cX8_put 89 = .ok (.iconst 1, 1) := dk_4 (dk_at dksX8_put_3 17 rfl rfl)
theorem dX8_put_90 : decode cX8_put 90 = .ok (.iadd, 1) := dk_96 (dk_at dksX8_put_3 18 rfl rfl)
theorem dX8_put_91 : decode cX8_put 91 = .ok (.bipush 8, 2) := dk_16 8 (dk_at dksX8_put_3 19 rfl rfl)
theorem dX8_put_93 : decode cX8_put 93 = .ok (.imul, 1) := dk_104 (dk_at dksX8_put_3 21 rfl rfl)
theorem dX8_put_94 : decode cX8_put 94 = .ok (.aload_n 0, 1) := dk_42 (dk_at dksX8_put_3 22 rfl rfl)
theorem dX8_put_95 : decode cX8_put 95 = .ok (.getfield 31, 3) := dk_180 0 31 (dk_at dksX8_put_4 0 rfl rfl)
theorem dX8_put_98 : decode cX8_put 98 = .ok (.iload_n 3, 1) := dk_29 (dk_at dksX8_put_4 3 rfl rfl)
theorem dX8_put_99 : decode cX8_put 99 = .ok (.isub, 1) := dk_100 (dk_at dksX8_put_4 4 rfl rfl)
theorem dX8_put_100 : decode cX8_put 100 = .ok (.bipush 8, 2) := dk_16 8 (dk_at dksX8_put_4 5 rfl rfl)
theorem dX8_put_102 : decode cX8_put 102 = .ok (.imul, 1) := dk_104 (dk_at dksX8_put_4 7 rfl rfl)
theorem dX8_put_103 : decode cX8_put 103 = .ok (.invokestatic 60, 3) := dk_184 0 60 (dk_at dksX8_put_4 8 rfl rfl)
theorem dX8_put_106 : decode cX8_put 106 = .ok (.aload_n 0, 1) := dk_42 (dk_at dksX8_put_4 11 rfl rfl)
theorem dX8_put_107 : decode cX8_put 107 = .ok (.getfield 9, 3) := dk_180 0 9 (dk_at dksX8_put_4 12 rfl rfl)
theorem dX8_put_110 : decode cX8_put 110 = .ok (.iload_n 3, 1) := dk_29 (dk_at dksX8_put_4 15 rfl rfl)
theorem dX8_put_111 : decode cX8_put 111 = .ok (.aload_n 0, 1) := dk_42 (dk_at dksX8_put_4 16 rfl rfl)
theorem dX8_put_112 : decode cX8_put 112 = .ok (.getfield 9, 3) := dk_180 0 9 (dk_at dksX8_put_4 17 rfl rfl)
theorem dX8_put_115 : decode cX8_put 115 = .ok (.iload_n 3, 1) := dk_29 (dk_at dksX8_put_4 20 rfl rfl)
theorem dX8_put_116 : decode cX8_put 116 = .ok (.iconst 1, 1) := dk_4 (dk_at dksX8_put_4 21 rfl rfl)
theorem dX8_put_117 : decode cX8_put 117 = .ok (.iadd, 1) := dk_96 (dk_at dksX8_put_4 22 rfl rfl)
theorem dX8_put_118 : decode cX8_put 118 = .ok (.aload_n 0, 1) := dk_42 (dk_at dksX8_put_4 23 rfl rfl)
theorem dX8_put_119 : decode cX8_put 119 = .ok (.getfield 31, 3) := dk_180 0 31 (dk_at dksX8_put_5 0 rfl rfl)
theorem dX8_put_122 : decode cX8_put 122 = .ok (.iload_n 3, 1) := dk_29 (dk_at dksX8_put_5 3 rfl rfl)
theorem dX8_put_123 : decode cX8_put 123 = .ok (.isub, 1) := dk_100 (dk_at dksX8_put_5 4 rfl rfl)
theorem dX8_put_124 : decode cX8_put 124 = .ok (.invokestatic 60, 3) := dk_184 0 60 (dk_at dksX8_put_5 5 rfl rfl)
theorem dX8_put_127 : decode cX8_put 127 = .ok (.aload_n 0, 1) := dk_42 (dk_at dksX8_put_5 8 rfl rfl)
theorem dX8_put_128 : decode cX8_put 128 = .ok (.getfield 15, 3) := dk_180 0 15 (dk_at dksX8_put_5 9 rfl rfl)
theorem dX8_put_131 : decode cX8_put 131 = .ok (.iload_n 3, 1) := dk_29 (dk_at dksX8_put_5 12 rfl rfl)
theorem dX8_put_132 : decode cX8_put 132 = .ok (.aload_n 0, 1) := dk_42 (dk_at dksX8_put_5 13 rfl rfl)
theorem dX8_put_133 : decode cX8_put 133 = .ok (.getfield 15, 3) := dk_180 0 15 (dk_at dksX8_put_5 14 rfl rfl)
theorem dX8_put_136 : decode cX8_put 136 = .ok (.iload_n 3, 1) := dk_29 (dk_at dksX8_put_5 17 rfl rfl)
theorem dX8_put_137 : decode cX8_put 137 = .ok (.iconst 1, 1) := dk_4 (dk_at dksX8_put_5 18 rfl rfl)
theorem dX8_put_138 : decode cX8_put 138 = .ok (.iadd, 1) := dk_96 (dk_at dksX8_put_5 19 rfl rfl)
theorem dX8_put_139 : decode cX8_put 139 = .ok (.aload_n 0, 1) := dk_42 (dk_at dksX8_put_5 20 rfl rfl)
theorem dX8_put_140 : decode cX8_put 140 = .ok (.getfield 31, 3) := dk_180 0 31 (dk_at dksX8_put_5 21 rfl rfl)
theorem dX8_put_143 : decode cX8_put 143 = .ok (.iload_n 3, 1) := dk_29 (dk_at dksX8_put_6 0 rfl rfl)
theorem dX8_put_144 : decode cX8_put 144 = .ok (.isub, 1) := dk_100 (dk_at dksX8_put_6 1 rfl rfl)
theorem dX8_put_145 : decode cX8_put 145 = .ok (.invokestatic 60, 3) := dk_184 0 60 (dk_at dksX8_put_6 2 rfl rfl)
theorem dX8_put_148 : decode cX8_put 148 = .ok (.aload_n 0, 1) := dk_42 (dk_at dksX8_put_6 5 rfl rfl)
theorem dX8_put_149 : decode cX8_put 149 = .ok (.getfield 24, 3) := dk_180 0 24 (dk_at dksX8_put_6 6 rfl rfl)
theorem dX8_put_152 : decode cX8_put 152 = .ok (.iconst 0, 1) := dk_3 (dk_at dksX8_put_6 9 rfl rfl)
theorem dX8_put_153 : decode cX8_put 153 = .ok (.aload_n 0, 1) := dk_42 (dk_at dksX8_put_6 10 rfl rfl)
theorem dX8_put_154 : decode cX8_put 154 = .ok (.getfield 18, 3) := dk_180 0 18 (dk_at dksX8_put_6 11 rfl rfl)
theorem dX8_put_157 : decode cX8_put 157 = .ok (.iload_n 3, 1) := dk_29 (dk_at dksX8_put_6 14 rfl rfl)
theorem dX8_put_158 : decode cX8_put 158 = .ok (.bipush 8, 2) := dk_16 8 (dk_at dksX8_put_6 15 rfl rfl)
theorem dX8_put_160 : decode cX8_put 160 = .ok (.imul, 1) := dk_104 (dk_at dksX8_put_6 17 rfl rfl)
theorem dX8_put_161 : decode cX8_put 161 = .ok (.bipush 8, 2) := dk_16 8 (dk_at dksX8_put_6 18 rfl rfl)
theorem dX8_put_163 : decode cX8_put 163 = .ok (.invokestatic 60, 3) := dk_184 0 60 (dk_at dksX8_put_6 20 rfl rfl)
theorem dX8_put_166 : decode cX8_put 166 = .ok (.aload_n 0, 1) := dk_42 (dk_at dksX8_put_6 23 rfl rfl)
theorem dX8_put_167 : decode cX8_put 167 = .ok (.getfield 9, 3) := dk_180 0 9 (dk_at dksX8_put_7 0 rfl rfl)
theorem dX8_put_170 : decode cX8_put 170 = .ok (.iload_n 3, 1) := dk_29 (dk_at dksX8_put_7 3 rfl rfl)
theorem dX8_put_171 : decode cX8_put 171 = .ok (.iload_n 1, 1) := dk_27 (dk_at dksX8_put_7 4 rfl rfl)
theorem dX8_put_172 : decode cX8_put 172 = .ok (.iastore, 1) := dk_79 (dk_at dksX8_put_7 5 rfl rfl)
theorem dX8_put_173 : decode cX8_put 173 = .ok (.aload_n 0, 1) := dk_42 (dk_at dksX8_put_7 6 rfl rfl)
theorem dX8_put_174 : decode cX8_put 174 = .ok (.getfield 15, 3) := dk_180 0 15 (dk_at dksX8_put_7 7 rfl rfl)
theorem dX8_put_177 : decode cX8_put 177 = .ok (.iload_n 3, 1) := dk_29 (dk_at dksX8_put_7 10 rfl rfl)
theorem dX8_put_178 : decode cX8_put 178 = .ok (.iload_n 2, 1) := dk_28 (dk_at dksX8_put_7 11 rfl rfl)
theorem dX8_put_179 : decode cX8_put 179 = .ok (.iastore, 1) := dk_79 (dk_at dksX8_put_7 12 rfl rfl)
theorem dX8_put_180 : decode cX8_put 180 = .ok (.aload_n 0, 1) := dk_42 (dk_at dksX8_put_7 13 rfl rfl)
theorem dX8_put_181 : decode cX8_put 181 = .ok (.dup, 1) := dk_89 (dk_at dksX8_put_7 14 rfl rfl)
theorem dX8_put_182 : decode cX8_put 182 = .ok (.getfield 31, 3) := dk_180 0 31 (dk_at dksX8_put_7 15 rfl rfl)
theorem dX8_put_185 : decode cX8_put 185 = .ok (.iconst 1, 1) := dk_4 (dk_at dksX8_put_7 18 rfl rfl)
theorem dX8_put_186 : decode cX8_put 186 = .ok (.iadd, 1) := dk_96 (dk_at dksX8_put_7 19 rfl rfl)
theorem dX8_put_187 : decode cX8_put 187 = .ok (.putfield 31, 3) := dk_181 0 31 (dk_at dksX8_put_7 20 rfl rfl)
theorem dX8_put_190 : decode cX8_put 190 = .ok (.return_, 1) := dk_177 (dk_at dksX8_put_7 23 rfl rfl)
abbrev cX8_compare : ByteArray := prog_8_method_3_code
def yX8_compare : MethodName := ⟨RX8, "compare", "(I)I"⟩
def dkwX8_compare_2 : List UInt8 := [172, 132, 2, 1, 167, 255, 206, 3, 172]
abbrev dktX8_compare_2 : List UInt8 := dkwX8_compare_2 ++ []
def dkwX8_compare_1 : List UInt8 := [46, 159, 0, 24, 42, 180, 0, 18, 27, 16, 8, 104, 28, 96, 46, 42, 180, 0, 24, 28, 46, 184, 0, 45]
abbrev dktX8_compare_1 : List UInt8 := dkwX8_compare_1 ++ dktX8_compare_2
def dkwX8_compare_0 : List UInt8 := [3, 61, 28, 16, 8, 162, 0, 50, 42, 180, 0, 18, 27, 16, 8, 104, 28, 96, 46, 42, 180, 0, 24, 28]
abbrev dktX8_compare_0 : List UInt8 := dkwX8_compare_0 ++ dktX8_compare_1
theorem dksX8_compare_0 : cX8_compare.data.toList.drop 0 = dktX8_compare_0 := by decide +kernel
theorem dksX8_compare_1 : cX8_compare.data.toList.drop 24 = dktX8_compare_1 := dk_seg dksX8_compare_0 24 rfl rfl
theorem dksX8_compare_2 : cX8_compare.data.toList.drop 48 = dktX8_compare_2 := dk_seg dksX8_compare_1 24 rfl rfl
theorem dX8_compare_0 : decode cX8_compare 0 = .ok (.iconst 0, 1) := dk_3 (dk_at dksX8_compare_0 0 rfl rfl)
theorem dX8_compare_1 : decode cX8_compare 1 = .ok (.istore_n 2, 1) := dk_61 (dk_at dksX8_compare_0 1 rfl rfl)
theorem dX8_compare_2 : decode cX8_compare 2 = .ok (.iload_n 2, 1) := dk_28 (dk_at dksX8_compare_0 2 rfl rfl)
theorem dX8_compare_3 : decode cX8_compare 3 = .ok (.bipush 8, 2) := dk_16 8 (dk_at dksX8_compare_0 3 rfl rfl)
theorem dX8_compare_5 : decode cX8_compare 5 = .ok (.if_icmp .ge 50, 3) := dk_162 0 50 (dk_at dksX8_compare_0 5 rfl rfl)
theorem dX8_compare_8 : decode cX8_compare 8 = .ok (.aload_n 0, 1) := dk_42 (dk_at dksX8_compare_0 8 rfl rfl)
theorem dX8_compare_9 : decode cX8_compare 9 = .ok (.getfield 18, 3) := dk_180 0 18 (dk_at dksX8_compare_0 9 rfl rfl)
theorem dX8_compare_12 : decode cX8_compare 12 = .ok (.iload_n 1, 1) := dk_27 (dk_at dksX8_compare_0 12 rfl rfl)
theorem dX8_compare_13 : decode cX8_compare 13 = .ok (.bipush 8, 2) := dk_16 8 (dk_at dksX8_compare_0 13 rfl rfl)
theorem dX8_compare_15 : decode cX8_compare 15 = .ok (.imul, 1) := dk_104 (dk_at dksX8_compare_0 15 rfl rfl)
theorem dX8_compare_16 : decode cX8_compare 16 = .ok (.iload_n 2, 1) := dk_28 (dk_at dksX8_compare_0 16 rfl rfl)
theorem dX8_compare_17 : decode cX8_compare 17 = .ok (.iadd, 1) := dk_96 (dk_at dksX8_compare_0 17 rfl rfl)
theorem dX8_compare_18 : decode cX8_compare 18 = .ok (.iaload, 1) := dk_46 (dk_at dksX8_compare_0 18 rfl rfl)
theorem dX8_compare_19 : decode cX8_compare 19 = .ok (.aload_n 0, 1) := dk_42 (dk_at dksX8_compare_0 19 rfl rfl)
theorem dX8_compare_20 : decode cX8_compare 20 = .ok (.getfield 24, 3) := dk_180 0 24 (dk_at dksX8_compare_0 20 rfl rfl)
theorem dX8_compare_23 : decode cX8_compare 23 = .ok (.iload_n 2, 1) := dk_28 (dk_at dksX8_compare_0 23 rfl rfl)
theorem dX8_compare_24 : decode cX8_compare 24 = .ok (.iaload, 1) := dk_46 (dk_at dksX8_compare_1 0 rfl rfl)
theorem dX8_compare_25 : decode cX8_compare 25 = .ok (.if_icmp .eq 24, 3) := dk_159 0 24 (dk_at dksX8_compare_1 1 rfl rfl)
theorem dX8_compare_28 : decode cX8_compare 28 = .ok (.aload_n 0, 1) := dk_42 (dk_at dksX8_compare_1 4 rfl rfl)
theorem dX8_compare_29 : decode cX8_compare 29 = .ok (.getfield 18, 3) := dk_180 0 18 (dk_at dksX8_compare_1 5 rfl rfl)
theorem dX8_compare_32 : decode cX8_compare 32 = .ok (.iload_n 1, 1) := dk_27 (dk_at dksX8_compare_1 8 rfl rfl)
theorem dX8_compare_33 : decode cX8_compare 33 = .ok (.bipush 8, 2) := dk_16 8 (dk_at dksX8_compare_1 9 rfl rfl)
theorem dX8_compare_35 : decode cX8_compare 35 = .ok (.imul, 1) := dk_104 (dk_at dksX8_compare_1 11 rfl rfl)
theorem dX8_compare_36 : decode cX8_compare 36 = .ok (.iload_n 2, 1) := dk_28 (dk_at dksX8_compare_1 12 rfl rfl)
theorem dX8_compare_37 : decode cX8_compare 37 = .ok (.iadd, 1) := dk_96 (dk_at dksX8_compare_1 13 rfl rfl)
theorem dX8_compare_38 : decode cX8_compare 38 = .ok (.iaload, 1) := dk_46 (dk_at dksX8_compare_1 14 rfl rfl)
theorem dX8_compare_39 : decode cX8_compare 39 = .ok (.aload_n 0, 1) := dk_42 (dk_at dksX8_compare_1 15 rfl rfl)
theorem dX8_compare_40 : decode cX8_compare 40 = .ok (.getfield 24, 3) := dk_180 0 24 (dk_at dksX8_compare_1 16 rfl rfl)
theorem dX8_compare_43 : decode cX8_compare 43 = .ok (.iload_n 2, 1) := dk_28 (dk_at dksX8_compare_1 19 rfl rfl)
theorem dX8_compare_44 : decode cX8_compare 44 = .ok (.iaload, 1) := dk_46 (dk_at dksX8_compare_1 20 rfl rfl)
theorem dX8_compare_45 : decode cX8_compare 45 = .ok (.invokestatic 45, 3) := dk_184 0 45 (dk_at dksX8_compare_1 21 rfl rfl)
theorem dX8_compare_48 : decode cX8_compare 48 = .ok (.ireturn, 1) := dk_172 (dk_at dksX8_compare_2 0 rfl rfl)
theorem dX8_compare_49 : decode cX8_compare 49 = .ok (.iinc 2 1, 3) := dk_132 2 1 (dk_at dksX8_compare_2 1 rfl rfl)
theorem dX8_compare_52 : decode cX8_compare 52 = .ok (.goto (-50), 3) := dk_167 255 206 (dk_at dksX8_compare_2 4 rfl rfl)
theorem dX8_compare_55 : decode cX8_compare 55 = .ok (.iconst 0, 1) := dk_3 (dk_at dksX8_compare_2 7 rfl rfl)
theorem dX8_compare_56 : decode cX8_compare 56 = .ok (.ireturn, 1) := dk_172 (dk_at dksX8_compare_2 8 rfl rfl)
abbrev cX8_top : ByteArray := prog_8_method_7_code
def yX8_top : MethodName := ⟨RX8, "top", "([II)V"⟩
def dkwX8_top_0 : List UInt8 := [42, 3, 42, 180, 0, 31, 3, 3, 182, 0, 82, 42, 180, 0, 21, 3, 43, 28, 16, 8, 184, 0, 60, 177]
abbrev dktX8_top_0 : List UInt8 := dkwX8_top_0 ++ []
theorem dksX8_top_0 : cX8_top.data.toList.drop 0 = dktX8_top_0 := by decide +kernel
theorem dX8_top_0 : decode cX8_top 0 = .ok (.aload_n 0, 1) := dk_42 (dk_at dksX8_top_0 0 rfl rfl)
theorem dX8_top_1 : decode cX8_top 1 = .ok (.iconst 0, 1) := dk_3 (dk_at dksX8_top_0 1 rfl rfl)
theorem dX8_top_2 : decode cX8_top 2 = .ok (.aload_n 0, 1) := dk_42 (dk_at dksX8_top_0 2 rfl rfl)
theorem dX8_top_3 : decode cX8_top 3 = .ok (.getfield 31, 3) := dk_180 0 31 (dk_at dksX8_top_0 3 rfl rfl)
theorem dX8_top_6 : decode cX8_top 6 = .ok (.iconst 0, 1) := dk_3 (dk_at dksX8_top_0 6 rfl rfl)
theorem dX8_top_7 : decode cX8_top 7 = .ok (.iconst 0, 1) := dk_3 (dk_at dksX8_top_0 7 rfl rfl)
theorem dX8_top_8 : decode cX8_top 8 = .ok (.invokevirtual 82, 3) := dk_182 0 82 (dk_at dksX8_top_0 8 rfl rfl)
theorem dX8_top_11 : decode cX8_top 11 = .ok (.aload_n 0, 1) := dk_42 (dk_at dksX8_top_0 11 rfl rfl)
theorem dX8_top_12 : decode cX8_top 12 = .ok (.getfield 21, 3) := dk_180 0 21 (dk_at dksX8_top_0 12 rfl rfl)
theorem dX8_top_15 : decode cX8_top 15 = .ok (.iconst 0, 1) := dk_3 (dk_at dksX8_top_0 15 rfl rfl)
theorem dX8_top_16 : decode cX8_top 16 = .ok (.aload_n 1, 1) := dk_43 (dk_at dksX8_top_0 16 rfl rfl)
theorem dX8_top_17 : decode cX8_top 17 = .ok (.iload_n 2, 1) := dk_28 (dk_at dksX8_top_0 17 rfl rfl)
theorem dX8_top_18 : decode cX8_top 18 = .ok (.bipush 8, 2) := dk_16 8 (dk_at dksX8_top_0 18 rfl rfl)
theorem dX8_top_20 : decode cX8_top 20 = .ok (.invokestatic 60, 3) := dk_184 0 60 (dk_at dksX8_top_0 20 rfl rfl)
theorem dX8_top_23 : decode cX8_top 23 = .ok (.return_, 1) := dk_177 (dk_at dksX8_top_0 23 rfl rfl)
abbrev cX8_tree : ByteArray := prog_8_method_6_code
def yX8_tree : MethodName := ⟨RX8, "tree", "(IIII)V"⟩
def dkwX8_tree_5 : List UInt8 := [180, 0, 21, 21, 4, 16, 8, 104, 182, 0, 86, 177]
abbrev dktX8_tree_5 : List UInt8 := dkwX8_tree_5 ++ []
def dkwX8_tree_4 : List UInt8 := [180, 0, 27, 42, 180, 0, 21, 21, 4, 16, 8, 104, 42, 180, 0, 21, 21, 4, 4, 96, 16, 8, 104, 42]
abbrev dktX8_tree_4 : List UInt8 := dkwX8_tree_4 ++ dktX8_tree_5
def dkwX8_tree_3 : List UInt8 := [29, 4, 96, 21, 4, 182, 0, 82, 42, 21, 5, 28, 29, 4, 96, 21, 4, 4, 96, 182, 0, 82, 42]
abbrev dktX8_tree_3 : List UInt8 := dkwX8_tree_3 ++ dktX8_tree_4
def dkwX8_tree_2 : List UInt8 := [21, 4, 16, 8, 104, 182, 0, 74, 167, 0, 74, 42, 27, 28, 29, 182, 0, 78, 54, 5, 42, 27, 21, 5]
abbrev dktX8_tree_2 : List UInt8 := dkwX8_tree_2 ++ dktX8_tree_3
def dkwX8_tree_1 : List UInt8 := [160, 0, 34, 42, 180, 0, 27, 42, 180, 0, 9, 27, 46, 42, 180, 0, 15, 27, 46, 42, 180, 0, 21]
abbrev dktX8_tree_1 : List UInt8 := dkwX8_tree_1 ++ dktX8_tree_2
def dkwX8_tree_0 : List UInt8 := [28, 27, 160, 0, 18, 42, 180, 0, 21, 21, 4, 16, 8, 104, 184, 0, 70, 167, 0, 112, 28, 27, 4, 96]
abbrev dktX8_tree_0 : List UInt8 := dkwX8_tree_0 ++ dktX8_tree_1
theorem dksX8_tree_0 : cX8_tree.data.toList.drop 0 = dktX8_tree_0 := by decide +kernel
theorem dksX8_tree_1 : cX8_tree.data.toList.drop 24 = dktX8_tree_1 := dk_seg dksX8_tree_0 24 rfl rfl
theorem dksX8_tree_2 : cX8_tree.data.toList.drop 47 = dktX8_tree_2 := dk_seg dksX8_tree_1 23 rfl rfl
theorem dksX8_tree_3 : cX8_tree.data.toList.drop 71 = dktX8_tree_3 := dk_seg dksX8_tree_2 24 rfl rfl
theorem dksX8_tree_4 : cX8_tree.data.toList.drop 94 = dktX8_tree_4 := dk_seg dksX8_tree_3 23 rfl rfl
theorem dksX8_tree_5 : cX8_tree.data.toList.drop 118 = dktX8_tree_5 := dk_seg dksX8_tree_4 24 rfl rfl
theorem dX8_tree_0 : decode cX8_tree 0 = .ok (.iload_n 2, 1) := dk_28 (dk_at dksX8_tree_0 0 rfl rfl)
theorem dX8_tree_1 : decode cX8_tree 1 = .ok (.iload_n 1, 1) := dk_27 (dk_at dksX8_tree_0 1 rfl rfl)
theorem dX8_tree_2 : decode cX8_tree 2 = .ok (.if_icmp .ne 18, 3) := dk_160 0 18 (dk_at dksX8_tree_0 2 rfl rfl)
theorem dX8_tree_5 : decode cX8_tree 5 = .ok (.aload_n 0, 1) := dk_42 (dk_at dksX8_tree_0 5 rfl rfl)
theorem dX8_tree_6 : decode cX8_tree 6 = .ok (.getfield 21, 3) := dk_180 0 21 (dk_at dksX8_tree_0 6 rfl rfl)
theorem dX8_tree_9 : decode cX8_tree 9 = .ok (.iload 4, 2) := dk_21 4 (dk_at dksX8_tree_0 9 rfl rfl)
theorem dX8_tree_11 : decode cX8_tree 11 = .ok (.bipush 8, 2) := dk_16 8 (dk_at dksX8_tree_0 11 rfl rfl)
theorem dX8_tree_13 : decode cX8_tree 13 = .ok (.imul, 1) := dk_104 (dk_at dksX8_tree_0 13 rfl rfl)
theorem dX8_tree_14 : decode cX8_tree 14 = .ok (.invokestatic 70, 3) := dk_184 0 70 (dk_at dksX8_tree_0 14 rfl rfl)
theorem dX8_tree_17 : decode cX8_tree 17 = .ok (.goto 112, 3) := dk_167 0 112 (dk_at dksX8_tree_0 17 rfl rfl)
theorem dX8_tree_20 : decode cX8_tree 20 = .ok (.iload_n 2, 1) := dk_28 (dk_at dksX8_tree_0 20 rfl rfl)
theorem dX8_tree_21 : decode cX8_tree 21 = .ok (.iload_n 1, 1) := dk_27 (dk_at dksX8_tree_0 21 rfl rfl)
theorem dX8_tree_22 : decode cX8_tree 22 = .ok (.iconst 1, 1) := dk_4 (dk_at dksX8_tree_0 22 rfl rfl)
theorem dX8_tree_23 : decode cX8_tree 23 = .ok (.iadd, 1) := dk_96 (dk_at dksX8_tree_0 23 rfl rfl)
theorem dX8_tree_24 : decode cX8_tree 24 = .ok (.if_icmp .ne 34, 3) := dk_160 0 34 (dk_at dksX8_tree_1 0 rfl rfl)
theorem dX8_tree_27 : decode cX8_tree 27 = .ok (.aload_n 0, 1) := dk_42 (dk_at dksX8_tree_1 3 rfl rfl)
theorem dX8_tree_28 : decode cX8_tree 28 = .ok (.getfield 27, 3) := dk_180 0 27 (dk_at dksX8_tree_1 4 rfl rfl)
theorem dX8_tree_31 : decode cX8_tree 31 = .ok (.aload_n 0, 1) := dk_42 (dk_at dksX8_tree_1 7 rfl rfl)
theorem dX8_tree_32 : decode cX8_tree 32 = .ok (.getfield 9, 3) := dk_180 0 9 (dk_at dksX8_tree_1 8 rfl rfl)
theorem dX8_tree_35 : decode cX8_tree 35 = .ok (.iload_n 1, 1) := dk_27 (dk_at dksX8_tree_1 11 rfl rfl)
theorem dX8_tree_36 : decode cX8_tree 36 = .ok (.iaload, 1) := dk_46 (dk_at dksX8_tree_1 12 rfl rfl)
theorem dX8_tree_37 : decode cX8_tree 37 = .ok (.aload_n 0, 1) := dk_42 (dk_at dksX8_tree_1 13 rfl rfl)
theorem dX8_tree_38 : decode cX8_tree 38 = .ok (.getfield 15, 3) := dk_180 0 15 (dk_at dksX8_tree_1 14 rfl rfl)
theorem dX8_tree_41 : decode cX8_tree 41 = .ok (.iload_n 1, 1) := dk_27 (dk_at dksX8_tree_1 17 rfl rfl)
theorem dX8_tree_42 : decode cX8_tree 42 = .ok (.iaload, 1) := dk_46 (dk_at dksX8_tree_1 18 rfl rfl)
theorem dX8_tree_43 : decode cX8_tree 43 = .ok (.aload_n 0, 1) := dk_42 (dk_at dksX8_tree_1 19 rfl rfl)
theorem dX8_tree_44 : decode cX8_tree 44 = .ok (.getfield 21, 3) := dk_180 0 21 (dk_at dksX8_tree_1 20 rfl rfl)
theorem dX8_tree_47 : decode cX8_tree 47 = .ok (.iload 4, 2) := dk_21 4 (dk_at dksX8_tree_2 0 rfl rfl)
theorem dX8_tree_49 : decode cX8_tree 49 = .ok (.bipush 8, 2) := dk_16 8 (dk_at dksX8_tree_2 2 rfl rfl)
theorem dX8_tree_51 : decode cX8_tree 51 = .ok (.imul, 1) := dk_104 (dk_at dksX8_tree_2 4 rfl rfl)
theorem dX8_tree_52 : decode cX8_tree 52 = .ok (.invokevirtual 74, 3) := dk_182 0 74 (dk_at dksX8_tree_2 5 rfl rfl)
theorem dX8_tree_55 : decode cX8_tree 55 = .ok (.goto 74, 3) := dk_167 0 74 (dk_at dksX8_tree_2 8 rfl rfl)
theorem dX8_tree_58 : decode cX8_tree 58 = .ok (.aload_n 0, 1) := dk_42 (dk_at dksX8_tree_2 11 rfl rfl)
theorem dX8_tree_59 : decode cX8_tree 59 = .ok (.iload_n 1, 1) := dk_27 (dk_at dksX8_tree_2 12 rfl rfl)
theorem dX8_tree_60 : decode cX8_tree 60 = .ok (.iload_n 2, 1) := dk_28 (dk_at dksX8_tree_2 13 rfl rfl)
theorem dX8_tree_61 : decode cX8_tree 61 = .ok (.iload_n 3, 1) := dk_29 (dk_at dksX8_tree_2 14 rfl rfl)
theorem dX8_tree_62 : decode cX8_tree 62 = .ok (.invokevirtual 78, 3) := dk_182 0 78 (dk_at dksX8_tree_2 15 rfl rfl)
theorem dX8_tree_65 : decode cX8_tree 65 = .ok (.istore 5, 2) := dk_54 5 (dk_at dksX8_tree_2 18 rfl rfl)
theorem dX8_tree_67 : decode cX8_tree 67 = .ok (.aload_n 0, 1) := dk_42 (dk_at dksX8_tree_2 20 rfl rfl)
theorem dX8_tree_68 : decode cX8_tree 68 = .ok (.iload_n 1, 1) := dk_27 (dk_at dksX8_tree_2 21 rfl rfl)
theorem dX8_tree_69 : decode cX8_tree 69 = .ok (.iload 5, 2) := dk_21 5 (dk_at dksX8_tree_2 22 rfl rfl)
theorem dX8_tree_71 : decode cX8_tree 71 = .ok (.iload_n 3, 1) := dk_29 (dk_at dksX8_tree_3 0 rfl rfl)
theorem dX8_tree_72 : decode cX8_tree 72 = .ok (.iconst 1, 1) := dk_4 (dk_at dksX8_tree_3 1 rfl rfl)
theorem dX8_tree_73 : decode cX8_tree 73 = .ok (.iadd, 1) := dk_96 (dk_at dksX8_tree_3 2 rfl rfl)
theorem dX8_tree_74 : decode cX8_tree 74 = .ok (.iload 4, 2) := dk_21 4 (dk_at dksX8_tree_3 3 rfl rfl)
theorem dX8_tree_76 : decode cX8_tree 76 = .ok (.invokevirtual 82, 3) := dk_182 0 82 (dk_at dksX8_tree_3 5 rfl rfl)
theorem dX8_tree_79 : decode cX8_tree 79 = .ok (.aload_n 0, 1) := dk_42 (dk_at dksX8_tree_3 8 rfl rfl)
theorem dX8_tree_80 : decode cX8_tree 80 = .ok (.iload 5, 2) := dk_21 5 (dk_at dksX8_tree_3 9 rfl rfl)
theorem dX8_tree_82 : decode cX8_tree 82 = .ok (.iload_n 2, 1) := dk_28 (dk_at dksX8_tree_3 11 rfl rfl)
theorem dX8_tree_83 : decode cX8_tree 83 = .ok (.iload_n 3, 1) := dk_29 (dk_at dksX8_tree_3 12 rfl rfl)
theorem dX8_tree_84 : decode cX8_tree 84 = .ok (.iconst 1, 1) := dk_4 (dk_at dksX8_tree_3 13 rfl rfl)
theorem dX8_tree_85 : decode cX8_tree 85 = .ok (.iadd, 1) := dk_96 (dk_at dksX8_tree_3 14 rfl rfl)
theorem dX8_tree_86 : decode cX8_tree 86 = .ok (.iload 4, 2) := dk_21 4 (dk_at dksX8_tree_3 15 rfl rfl)
theorem dX8_tree_88 : decode cX8_tree 88 = .ok (.iconst 1, 1) := dk_4 (dk_at dksX8_tree_3 17 rfl rfl)
theorem dX8_tree_89 : decode cX8_tree 89 = .ok (.iadd, 1) := dk_96 (dk_at dksX8_tree_3 18 rfl rfl)
theorem dX8_tree_90 : decode cX8_tree 90 = .ok (.invokevirtual 82, 3) := dk_182 0 82 (dk_at dksX8_tree_3 19 rfl rfl)
theorem dX8_tree_93 : decode cX8_tree 93 = .ok (.aload_n 0, 1) := dk_42 (dk_at dksX8_tree_3 22 rfl rfl)
theorem dX8_tree_94 : decode cX8_tree 94 = .ok (.getfield 27, 3) := dk_180 0 27 (dk_at dksX8_tree_4 0 rfl rfl)
theorem dX8_tree_97 : decode cX8_tree 97 = .ok (.aload_n 0, 1) := dk_42 (dk_at dksX8_tree_4 3 rfl rfl)
theorem dX8_tree_98 : decode cX8_tree 98 = .ok (.getfield 21, 3) := dk_180 0 21 (dk_at dksX8_tree_4 4 rfl rfl)
theorem dX8_tree_101 : decode cX8_tree 101 = .ok (.iload 4, 2) := dk_21 4 (dk_at dksX8_tree_4 7 rfl rfl)
theorem dX8_tree_103 : decode cX8_tree 103 = .ok (.bipush 8, 2) := dk_16 8 (dk_at dksX8_tree_4 9 rfl rfl)
theorem dX8_tree_105 : decode cX8_tree 105 = .ok (.imul, 1) := dk_104 (dk_at dksX8_tree_4 11 rfl rfl)
theorem dX8_tree_106 : decode cX8_tree 106 = .ok (.aload_n 0, 1) := dk_42 (dk_at dksX8_tree_4 12 rfl rfl)
theorem dX8_tree_107 : decode cX8_tree 107 = .ok (.getfield 21, 3) := dk_180 0 21 (dk_at dksX8_tree_4 13 rfl rfl)
theorem dX8_tree_110 : decode cX8_tree 110 = .ok (.iload 4, 2) := dk_21 4 (dk_at dksX8_tree_4 16 rfl rfl)
theorem dX8_tree_112 : decode cX8_tree 112 = .ok (.iconst 1, 1) := dk_4 (dk_at dksX8_tree_4 18 rfl rfl)
theorem dX8_tree_113 : decode cX8_tree 113 = .ok (.iadd, 1) := dk_96 (dk_at dksX8_tree_4 19 rfl rfl)
theorem dX8_tree_114 : decode cX8_tree 114 = .ok (.bipush 8, 2) := dk_16 8 (dk_at dksX8_tree_4 20 rfl rfl)
theorem dX8_tree_116 : decode cX8_tree 116 = .ok (.imul, 1) := dk_104 (dk_at dksX8_tree_4 22 rfl rfl)
theorem dX8_tree_117 : decode cX8_tree 117 = .ok (.aload_n 0, 1) := dk_42 (dk_at dksX8_tree_4 23 rfl rfl)
theorem dX8_tree_118 : decode cX8_tree 118 = .ok (.getfield 21, 3) := dk_180 0 21 (dk_at dksX8_tree_5 0 rfl rfl)
theorem dX8_tree_121 : decode cX8_tree 121 = .ok (.iload 4, 2) := dk_21 4 (dk_at dksX8_tree_5 3 rfl rfl)
theorem dX8_tree_123 : decode cX8_tree 123 = .ok (.bipush 8, 2) := dk_16 8 (dk_at dksX8_tree_5 5 rfl rfl)
theorem dX8_tree_125 : decode cX8_tree 125 = .ok (.imul, 1) := dk_104 (dk_at dksX8_tree_5 7 rfl rfl)
theorem dX8_tree_126 : decode cX8_tree 126 = .ok (.invokevirtual 86, 3) := dk_182 0 86 (dk_at dksX8_tree_5 8 rfl rfl)
theorem dX8_tree_129 : decode cX8_tree 129 = .ok (.return_, 1) := dk_177 (dk_at dksX8_tree_5 11 rfl rfl)
abbrev cX8_parting : ByteArray := prog_8_method_5_code
def yX8_parting : MethodName := ⟨RX8, "parting", "(III)I"⟩
def dkwX8_parting_1 : List UInt8 := [154, 0, 9, 132, 4, 1, 167, 255, 231, 21, 4, 172]
abbrev dktX8_parting_1 : List UInt8 := dkwX8_parting_1 ++ []
def dkwX8_parting_0 : List UInt8 := [27, 54, 4, 21, 4, 28, 162, 0, 25, 42, 180, 0, 18, 21, 4, 16, 8, 104, 29, 184, 0, 66]
abbrev dktX8_parting_0 : List UInt8 := dkwX8_parting_0 ++ dktX8_parting_1
theorem dksX8_parting_0 : cX8_parting.data.toList.drop 0 = dktX8_parting_0 := by decide +kernel
theorem dksX8_parting_1 : cX8_parting.data.toList.drop 22 = dktX8_parting_1 := dk_seg dksX8_parting_0 22 rfl rfl
theorem dX8_parting_0 : decode cX8_parting 0 = .ok (.iload_n 1, 1) := dk_27 (dk_at dksX8_parting_0 0 rfl rfl)
theorem dX8_parting_1 : decode cX8_parting 1 = .ok (.istore 4, 2) := dk_54 4 (dk_at dksX8_parting_0 1 rfl rfl)
theorem dX8_parting_3 : decode cX8_parting 3 = .ok (.iload 4, 2) := dk_21 4 (dk_at dksX8_parting_0 3 rfl rfl)
theorem dX8_parting_5 : decode cX8_parting 5 = .ok (.iload_n 2, 1) := dk_28 (dk_at dksX8_parting_0 5 rfl rfl)
theorem dX8_parting_6 : decode cX8_parting 6 = .ok (.if_icmp .ge 25, 3) := dk_162 0 25 (dk_at dksX8_parting_0 6 rfl rfl)
theorem dX8_parting_9 : decode cX8_parting 9 = .ok (.aload_n 0, 1) := dk_42 (dk_at dksX8_parting_0 9 rfl rfl)
theorem dX8_parting_10 : decode cX8_parting 10 = .ok (.getfield 18, 3) := dk_180 0 18 (dk_at dksX8_parting_0 10 rfl rfl)
theorem dX8_parting_13 : decode cX8_parting 13 = .ok (.iload 4, 2) := dk_21 4 (dk_at dksX8_parting_0 13 rfl rfl)
theorem dX8_parting_15 : decode cX8_parting 15 = .ok (.bipush 8, 2) := dk_16 8 (dk_at dksX8_parting_0 15 rfl rfl)
theorem dX8_parting_17 : decode cX8_parting 17 = .ok (.imul, 1) := dk_104 (dk_at dksX8_parting_0 17 rfl rfl)
theorem dX8_parting_18 : decode cX8_parting 18 = .ok (.iload_n 3, 1) := dk_29 (dk_at dksX8_parting_0 18 rfl rfl)
theorem dX8_parting_19 : decode cX8_parting 19 = .ok (.invokestatic 66, 3) := dk_184 0 66 (dk_at dksX8_parting_0 19 rfl rfl)
theorem dX8_parting_22 : decode cX8_parting 22 = .ok (.ifCond .ne 9, 3) := dk_154 0 9 (dk_at dksX8_parting_1 0 rfl rfl)
theorem dX8_parting_25 : decode cX8_parting 25 = .ok (.iinc 4 1, 3) := dk_132 4 1 (dk_at dksX8_parting_1 3 rfl rfl)
theorem dX8_parting_28 : decode cX8_parting 28 = .ok (.goto (-25), 3) := dk_167 255 231 (dk_at dksX8_parting_1 6 rfl rfl)
theorem dX8_parting_31 : decode cX8_parting 31 = .ok (.iload 4, 2) := dk_21 4 (dk_at dksX8_parting_1 9 rfl rfl)
theorem dX8_parting_33 : decode cX8_parting 33 = .ok (.ireturn, 1) := dk_172 (dk_at dksX8_parting_1 11 rfl rfl)
abbrev cX8_down : ByteArray := prog_8_method_8_code
def yX8_down : MethodName := ⟨RX8, "down", "(I[I)V"⟩
def dkwX8_down_7 : List UInt8 := [21, 4, 167, 0, 4, 2, 181, 0, 93, 177]
abbrev dktX8_down_7 : List UInt8 := dkwX8_down_7 ++ []
def dkwX8_down_6 : List UInt8 := [54, 5, 42, 89, 180, 0, 90, 4, 96, 181, 0, 90, 167, 255, 131, 42, 21, 5, 21, 4, 164, 0, 8]
abbrev dktX8_down_6 : List UInt8 := dkwX8_down_6 ++ dktX8_down_7
def dkwX8_down_5 : List UInt8 := [153, 0, 8, 21, 6, 167, 0, 5, 21, 4, 54, 4, 21, 7, 153, 0, 8, 21, 5, 167, 0, 5, 21, 6]
abbrev dktX8_down_5 : List UInt8 := dkwX8_down_5 ++ dktX8_down_6
def dkwX8_down_4 : List UInt8 := [182, 0, 82, 42, 180, 0, 21, 3, 44, 42, 180, 0, 90, 16, 8, 104, 16, 8, 184, 0, 60, 21, 7]
abbrev dktX8_down_4 : List UInt8 := dkwX8_down_4 ++ dktX8_down_5
def dkwX8_down_3 : List UInt8 := [167, 0, 5, 21, 6, 21, 7, 153, 0, 8, 21, 6, 167, 0, 5, 21, 5, 42, 180, 0, 90, 4, 96, 3]
abbrev dktX8_down_3 : List UInt8 := dkwX8_down_3 ++ dktX8_down_4
def dkwX8_down_2 : List UInt8 := [182, 0, 78, 54, 6, 45, 3, 42, 180, 0, 90, 184, 0, 66, 54, 7, 42, 21, 7, 153, 0, 8, 21, 4]
abbrev dktX8_down_2 : List UInt8 := dkwX8_down_2 ++ dktX8_down_3
def dkwX8_down_1 : List UInt8 := [42, 3, 181, 0, 90, 21, 5, 21, 4, 4, 96, 164, 0, 122, 42, 21, 4, 21, 5, 42, 180, 0, 90]
abbrev dktX8_down_1 : List UInt8 := dkwX8_down_1 ++ dktX8_down_2
def dkwX8_down_0 : List UInt8 := [16, 8, 188, 10, 78, 42, 180, 0, 27, 27, 45, 3, 182, 0, 50, 3, 54, 4, 42, 180, 0, 31, 54, 5]
abbrev dktX8_down_0 : List UInt8 := dkwX8_down_0 ++ dktX8_down_1
theorem dksX8_down_0 : cX8_down.data.toList.drop 0 = dktX8_down_0 := by decide +kernel
theorem dksX8_down_1 : cX8_down.data.toList.drop 24 = dktX8_down_1 := dk_seg dksX8_down_0 24 rfl rfl
theorem dksX8_down_2 : cX8_down.data.toList.drop 47 = dktX8_down_2 := dk_seg dksX8_down_1 23 rfl rfl
theorem dksX8_down_3 : cX8_down.data.toList.drop 71 = dktX8_down_3 := dk_seg dksX8_down_2 24 rfl rfl
theorem dksX8_down_4 : cX8_down.data.toList.drop 95 = dktX8_down_4 := dk_seg dksX8_down_3 24 rfl rfl
theorem dksX8_down_5 : cX8_down.data.toList.drop 118 = dktX8_down_5 := dk_seg dksX8_down_4 23 rfl rfl
theorem dksX8_down_6 : cX8_down.data.toList.drop 142 = dktX8_down_6 := dk_seg dksX8_down_5 24 rfl rfl
theorem dksX8_down_7 : cX8_down.data.toList.drop 165 = dktX8_down_7 := dk_seg dksX8_down_6 23 rfl rfl
theorem dX8_down_0 : decode cX8_down 0 = .ok (.bipush 8, 2) := dk_16 8 (dk_at dksX8_down_0 0 rfl rfl)
theorem dX8_down_2 : decode cX8_down 2 = .ok (.newarray .int, 2) := dk_188_10 (dk_at dksX8_down_0 2 rfl rfl)
theorem dX8_down_4 : decode cX8_down 4 = .ok (.astore_n 3, 1) := dk_78 (dk_at dksX8_down_0 4 rfl rfl)
theorem dX8_down_5 : decode cX8_down 5 = .ok (.aload_n 0, 1) := dk_42 (dk_at dksX8_down_0 5 rfl rfl)
theorem dX8_down_6 : decode cX8_down 6 = .ok (.getfield 27, 3) := dk_180 0 27 (dk_at dksX8_down_0 6 rfl rfl)
theorem dX8_down_9 : decode cX8_down 9 = .ok (.iload_n 1, 1) := dk_27 (dk_at dksX8_down_0 9 rfl rfl)
theorem dX8_down_10 : decode cX8_down 10 = .ok (.aload_n 3, 1) := dk_45 (dk_at dksX8_down_0 10 rfl rfl)
theorem dX8_down_11 : decode cX8_down 11 = .ok (.iconst 0, 1) := dk_3 (dk_at dksX8_down_0 11 rfl rfl)
theorem dX8_down_12 : decode cX8_down 12 = .ok (.invokevirtual 50, 3) := dk_182 0 50 (dk_at dksX8_down_0 12 rfl rfl)
theorem dX8_down_15 : decode cX8_down 15 = .ok (.iconst 0, 1) := dk_3 (dk_at dksX8_down_0 15 rfl rfl)
theorem dX8_down_16 : decode cX8_down 16 = .ok (.istore 4, 2) := dk_54 4 (dk_at dksX8_down_0 16 rfl rfl)
theorem dX8_down_18 : decode cX8_down 18 = .ok (.aload_n 0, 1) := dk_42 (dk_at dksX8_down_0 18 rfl rfl)
theorem dX8_down_19 : decode cX8_down 19 = .ok (.getfield 31, 3) := dk_180 0 31 (dk_at dksX8_down_0 19 rfl rfl)
theorem dX8_down_22 : decode cX8_down 22 = .ok (.istore 5, 2) := dk_54 5 (dk_at dksX8_down_0 22 rfl rfl)
theorem dX8_down_24 : decode cX8_down 24 = .ok (.aload_n 0, 1) := dk_42 (dk_at dksX8_down_1 0 rfl rfl)
theorem dX8_down_25 : decode cX8_down 25 = .ok (.iconst 0, 1) := dk_3 (dk_at dksX8_down_1 1 rfl rfl)
theorem dX8_down_26 : decode cX8_down 26 = .ok (.putfield 90, 3) := dk_181 0 90 (dk_at dksX8_down_1 2 rfl rfl)
theorem dX8_down_29 : decode cX8_down 29 = .ok (.iload 5, 2) := dk_21 5 (dk_at dksX8_down_1 5 rfl rfl)
theorem dX8_down_31 : decode cX8_down 31 = .ok (.iload 4, 2) := dk_21 4 (dk_at dksX8_down_1 7 rfl rfl)
theorem dX8_down_33 : decode cX8_down 33 = .ok (.iconst 1, 1) := dk_4 (dk_at dksX8_down_1 9 rfl rfl)
theorem dX8_down_34 : decode cX8_down 34 = .ok (.iadd, 1) := dk_96 (dk_at dksX8_down_1 10 rfl rfl)
theorem dX8_down_35 : decode cX8_down 35 = .ok (.if_icmp .le 122, 3) := dk_164 0 122 (dk_at dksX8_down_1 11 rfl rfl)
theorem dX8_down_38 : decode cX8_down 38 = .ok (.aload_n 0, 1) := dk_42 (dk_at dksX8_down_1 14 rfl rfl)
theorem dX8_down_39 : decode cX8_down 39 = .ok (.iload 4, 2) := dk_21 4 (dk_at dksX8_down_1 15 rfl rfl)
theorem dX8_down_41 : decode cX8_down 41 = .ok (.iload 5, 2) := dk_21 5 (dk_at dksX8_down_1 17 rfl rfl)
theorem dX8_down_43 : decode cX8_down 43 = .ok (.aload_n 0, 1) := dk_42 (dk_at dksX8_down_1 19 rfl rfl)
theorem dX8_down_44 : decode cX8_down 44 = .ok (.getfield 90, 3) := dk_180 0 90 (dk_at dksX8_down_1 20 rfl rfl)
theorem dX8_down_47 : decode cX8_down 47 = .ok (.invokevirtual 78, 3) := dk_182 0 78 (dk_at dksX8_down_2 0 rfl rfl)
theorem dX8_down_50 : decode cX8_down 50 = .ok (.istore 6, 2) := dk_54 6 (dk_at dksX8_down_2 3 rfl rfl)
theorem dX8_down_52 : decode cX8_down 52 = .ok (.aload_n 3, 1) := dk_45 (dk_at dksX8_down_2 5 rfl rfl)
theorem dX8_down_53 : decode cX8_down 53 = .ok (.iconst 0, 1) := dk_3 (dk_at dksX8_down_2 6 rfl rfl)
theorem dX8_down_54 : decode cX8_down 54 = .ok (.aload_n 0, 1) := dk_42 (dk_at dksX8_down_2 7 rfl rfl)
theorem dX8_down_55 : decode cX8_down 55 = .ok (.getfield 90, 3) := dk_180 0 90 (dk_at dksX8_down_2 8 rfl rfl)
theorem dX8_down_58 : decode cX8_down 58 = .ok (.invokestatic 66, 3) := dk_184 0 66 (dk_at dksX8_down_2 11 rfl rfl)
theorem dX8_down_61 : decode cX8_down 61 = .ok (.istore 7, 2) := dk_54 7 (dk_at dksX8_down_2 14 rfl rfl)
theorem dX8_down_63 : decode cX8_down 63 = .ok (.aload_n 0, 1) := dk_42 (dk_at dksX8_down_2 16 rfl rfl)
theorem dX8_down_64 : decode cX8_down 64 = .ok (.iload 7, 2) := dk_21 7 (dk_at dksX8_down_2 17 rfl rfl)
theorem dX8_down_66 : decode cX8_down 66 = .ok (.ifCond .eq 8, 3) := dk_153 0 8 (dk_at dksX8_down_2 19 rfl rfl)
theorem dX8_down_69 : decode cX8_down 69 = .ok (.iload 4, 2) := dk_21 4 (dk_at dksX8_down_2 22 rfl rfl)
theorem dX8_down_71 : decode cX8_down 71 = .ok (.goto 5, 3) := dk_167 0 5 (dk_at dksX8_down_3 0 rfl rfl)
theorem dX8_down_74 : decode cX8_down 74 = .ok (.iload 6, 2) := dk_21 6 (dk_at dksX8_down_3 3 rfl rfl)
theorem dX8_down_76 : decode cX8_down 76 = .ok (.iload 7, 2) := dk_21 7 (dk_at dksX8_down_3 5 rfl rfl)
theorem dX8_down_78 : decode cX8_down 78 = .ok (.ifCond .eq 8, 3) := dk_153 0 8 (dk_at dksX8_down_3 7 rfl rfl)
theorem dX8_down_81 : decode cX8_down 81 = .ok (.iload 6, 2) := dk_21 6 (dk_at dksX8_down_3 10 rfl rfl)
theorem dX8_down_83 : decode cX8_down 83 = .ok (.goto 5, 3) := dk_167 0 5 (dk_at dksX8_down_3 12 rfl rfl)
theorem dX8_down_86 : decode cX8_down 86 = .ok (.iload 5, 2) := dk_21 5 (dk_at dksX8_down_3 15 rfl rfl)
theorem dX8_down_88 : decode cX8_down 88 = .ok (.aload_n 0, 1) := dk_42 (dk_at dksX8_down_3 17 rfl rfl)
theorem dX8_down_89 : decode cX8_down 89 = .ok (.getfield 90, 3) := dk_180 0 90 (dk_at dksX8_down_3 18 rfl rfl)
theorem dX8_down_92 : decode cX8_down 92 = .ok (.iconst 1, 1) := dk_4 (dk_at dksX8_down_3 21 rfl rfl)
theorem dX8_down_93 : decode cX8_down 93 = .ok (.iadd, 1) := dk_96 (dk_at dksX8_down_3 22 rfl rfl)
theorem dX8_down_94 : decode cX8_down 94 = .ok (.iconst 0, 1) := dk_3 (dk_at dksX8_down_3 23 rfl rfl)
theorem dX8_down_95 : decode cX8_down 95 = .ok (.invokevirtual 82, 3) := dk_182 0 82 (dk_at dksX8_down_4 0 rfl rfl)
theorem dX8_down_98 : decode cX8_down 98 = .ok (.aload_n 0, 1) := dk_42 (dk_at dksX8_down_4 3 rfl rfl)
theorem dX8_down_99 : decode cX8_down 99 = .ok (.getfield 21, 3) := dk_180 0 21 (dk_at dksX8_down_4 4 rfl rfl)
theorem dX8_down_102 : decode cX8_down 102 = .ok (.iconst 0, 1) := dk_3 (dk_at dksX8_down_4 7 rfl rfl)
theorem dX8_down_103 : decode cX8_down 103 = .ok (.aload_n 2, 1) := dk_44 (dk_at dksX8_down_4 8 rfl rfl)
theorem dX8_down_104 : decode cX8_down 104 = .ok (.aload_n 0, 1) := dk_42 (dk_at dksX8_down_4 9 rfl rfl)
theorem dX8_down_105 : decode cX8_down 105 = .ok (.getfield 90, 3) := dk_180 0 90 (dk_at dksX8_down_4 10 rfl rfl)
theorem dX8_down_108 : decode cX8_down 108 = .ok (.bipush 8, 2) := dk_16 8 (dk_at dksX8_down_4 13 rfl rfl)
theorem dX8_down_110 : decode cX8_down 110 = .ok (.imul, 1) := dk_104 (dk_at dksX8_down_4 15 rfl rfl)
theorem dX8_down_111 : decode cX8_down 111 = .ok (.bipush 8, 2) := dk_16 8 (dk_at dksX8_down_4 16 rfl rfl)
theorem dX8_down_113 : decode cX8_down 113 = .ok (.invokestatic 60, 3) := dk_184 0 60 (dk_at dksX8_down_4 18 rfl rfl)
theorem dX8_down_116 : decode cX8_down 116 = .ok (.iload 7, 2) := dk_21 7 (dk_at dksX8_down_4 21 rfl rfl)
theorem dX8_down_118 : decode cX8_down 118 = .ok (.ifCond .eq 8, 3) := dk_153 0 8 (dk_at dksX8_down_5 0 rfl rfl)
theorem dX8_down_121 : decode cX8_down 121 = .ok (.iload 6, 2) := dk_21 6 (dk_at dksX8_down_5 3 rfl rfl)
theorem dX8_down_123 : decode cX8_down 123 = .ok (.goto 5, 3) := dk_167 0 5 (dk_at dksX8_down_5 5 rfl rfl)
theorem dX8_down_126 : decode cX8_down 126 = .ok (.iload 4, 2) := dk_21 4 (dk_at dksX8_down_5 8 rfl rfl)
theorem dX8_down_128 : decode cX8_down 128 = .ok (.istore 4, 2) := dk_54 4 (dk_at dksX8_down_5 10 rfl rfl)
theorem dX8_down_130 : decode cX8_down 130 = .ok (.iload 7, 2) := dk_21 7 (dk_at dksX8_down_5 12 rfl rfl)
theorem dX8_down_132 : decode cX8_down 132 = .ok (.ifCond .eq 8, 3) := dk_153 0 8 (dk_at dksX8_down_5 14 rfl rfl)
theorem dX8_down_135 : decode cX8_down 135 = .ok (.iload 5, 2) := dk_21 5 (dk_at dksX8_down_5 17 rfl rfl)
theorem dX8_down_137 : decode cX8_down 137 = .ok (.goto 5, 3) := dk_167 0 5 (dk_at dksX8_down_5 19 rfl rfl)
theorem dX8_down_140 : decode cX8_down 140 = .ok (.iload 6, 2) := dk_21 6 (dk_at dksX8_down_5 22 rfl rfl)
theorem dX8_down_142 : decode cX8_down 142 = .ok (.istore 5, 2) := dk_54 5 (dk_at dksX8_down_6 0 rfl rfl)
theorem dX8_down_144 : decode cX8_down 144 = .ok (.aload_n 0, 1) := dk_42 (dk_at dksX8_down_6 2 rfl rfl)
theorem dX8_down_145 : decode cX8_down 145 = .ok (.dup, 1) := dk_89 (dk_at dksX8_down_6 3 rfl rfl)
theorem dX8_down_146 : decode cX8_down 146 = .ok (.getfield 90, 3) := dk_180 0 90 (dk_at dksX8_down_6 4 rfl rfl)
theorem dX8_down_149 : decode cX8_down 149 = .ok (.iconst 1, 1) := dk_4 (dk_at dksX8_down_6 7 rfl rfl)
theorem dX8_down_150 : decode cX8_down 150 = .ok (.iadd, 1) := dk_96 (dk_at dksX8_down_6 8 rfl rfl)
theorem dX8_down_151 : decode cX8_down 151 = .ok (.putfield 90, 3) := dk_181 0 90 (dk_at dksX8_down_6 9 rfl rfl)
theorem dX8_down_154 : decode cX8_down 154 = .ok (.goto (-125), 3) := dk_167 255 131 (dk_at dksX8_down_6 12 rfl rfl)
theorem dX8_down_157 : decode cX8_down 157 = .ok (.aload_n 0, 1) := dk_42 (dk_at dksX8_down_6 15 rfl rfl)
theorem dX8_down_158 : decode cX8_down 158 = .ok (.iload 5, 2) := dk_21 5 (dk_at dksX8_down_6 16 rfl rfl)
theorem dX8_down_160 : decode cX8_down 160 = .ok (.iload 4, 2) := dk_21 4 (dk_at dksX8_down_6 18 rfl rfl)
theorem dX8_down_162 : decode cX8_down 162 = .ok (.if_icmp .le 8, 3) := dk_164 0 8 (dk_at dksX8_down_6 20 rfl rfl)
theorem dX8_down_165 : decode cX8_down 165 = .ok (.iload 4, 2) := dk_21 4 (dk_at dksX8_down_7 0 rfl rfl)
theorem dX8_down_167 : decode cX8_down 167 = .ok (.goto 4, 3) := dk_167 0 4 (dk_at dksX8_down_7 2 rfl rfl)
theorem dX8_down_170 : decode cX8_down 170 = .ok (.iconst (-1), 1) := dk_2 (dk_at dksX8_down_7 5 rfl rfl)
theorem dX8_down_171 : decode cX8_down 171 = .ok (.putfield 93, 3) := dk_181 0 93 (dk_at dksX8_down_7 6 rfl rfl)
theorem dX8_down_174 : decode cX8_down 174 = .ok (.return_, 1) := dk_177 (dk_at dksX8_down_7 9 rfl rfl)
theorem q65 : (Jvm.Cond.initialized "GlassLog$Map") ∈ lw_all := lw_g (lw_at lw_m1 9 rfl) rfl
theorem q115 : (Jvm.Cond.fieldLinkNest "GlassLog$Map" (35 : Nat) "GlassLog$Log" "keys" "[I" "GlassLog") ∈ lw_tbl := lw_at lw_m1 59 rfl
theorem q319 : (Jvm.Cond.instantiable "GlassLog$Map" (9 : Nat)) ∈ lw_all := lw_g (lw_at lw_m2 23 rfl) rfl
theorem q321 : (Jvm.Cond.instanceMethod ({ cls := "GlassLog$Map", name := "<init>", desc := "(LGlassLog$Mixer;)V" } : Jvm.MethodName)) ∈ lw_all := lw_g (lw_at lw_m2 25 rfl) rfl
theorem q322 : (Jvm.Cond.code ({ cls := "GlassLog$Map", name := "<init>", desc := "(LGlassLog$Mixer;)V" } : Jvm.MethodName) prog_8_method_1_code (2 : Nat) (Option.none : Option Jvm.ClassFile.FieldType)) ∈ lw_all := lw_g (lw_at lw_m2 26 rfl) rfl
theorem q323 : (Jvm.Cond.methodLink "GlassLog$Map" (3 : Nat) ({ cls := "java/lang/Object", name := "<init>", desc := "()V" } : Jvm.MethodName)) ∈ lw_all := lw_g (lw_at lw_m2 27 rfl) rfl
theorem q324 : (Jvm.Cond.fieldLink "GlassLog$Map" (27 : Nat) "GlassLog$Map" "mixer" "LGlassLog$Mixer;") ∈ lw_all := lw_g (lw_at lw_m2 28 rfl) rfl
theorem q325 : (Jvm.Cond.fieldLink "GlassLog$Map" (9 : Nat) "GlassLog$Map" "keys" "[I") ∈ lw_all := lw_g (lw_at lw_m2 29 rfl) rfl
theorem q327 : (Jvm.Cond.fieldLink "GlassLog$Map" (15 : Nat) "GlassLog$Map" "latest" "[I") ∈ lw_all := lw_g (lw_at lw_m2 31 rfl) rfl
theorem q329 : (Jvm.Cond.fieldLink "GlassLog$Map" (18 : Nat) "GlassLog$Map" "ways" "[I") ∈ lw_all := lw_g (lw_at lw_m2 33 rfl) rfl
theorem q330 : (Jvm.Cond.fieldLink "GlassLog$Map" (21 : Nat) "GlassLog$Map" "stack" "[I") ∈ lw_all := lw_g (lw_at lw_m2 34 rfl) rfl
theorem q331 : (Jvm.Cond.fieldLink "GlassLog$Map" (24 : Nat) "GlassLog$Map" "one" "[I") ∈ lw_all := lw_g (lw_at lw_m2 35 rfl) rfl
theorem q332 : (Jvm.Cond.fieldLink "GlassLog$Map" (31 : Nat) "GlassLog$Map" "many" "I") ∈ lw_all := lw_g (lw_at lw_m2 36 rfl) rfl
theorem q334 : (Jvm.Cond.fieldLink "GlassLog$Map" (90 : Nat) "GlassLog$Map" "partings" "I") ∈ lw_all := lw_g (lw_at lw_m2 38 rfl) rfl
theorem q336 : (Jvm.Cond.fieldLink "GlassLog$Map" (93 : Nat) "GlassLog$Map" "alone" "I") ∈ lw_all := lw_g (lw_at lw_m2 40 rfl) rfl
theorem q338 : (Jvm.Cond.laysFinal "GlassLog$Map" "GlassLog$Map" "mixer" "LGlassLog$Mixer;") ∈ lw_all := lw_g (lw_at lw_m2 42 rfl) rfl
theorem q339 : (Jvm.Cond.soleField "GlassLog$Map" "mixer") ∈ lw_all := lw_g (lw_at lw_m2 43 rfl) rfl
theorem q340 : (Jvm.Cond.laysFinal "GlassLog$Map" "GlassLog$Map" "keys" "[I") ∈ lw_all := lw_g (lw_at lw_m2 44 rfl) rfl
theorem q341 : (Jvm.Cond.soleField "GlassLog$Map" "keys") ∈ lw_all := lw_g (lw_at lw_m2 45 rfl) rfl
theorem q342 : (Jvm.Cond.laysFinal "GlassLog$Map" "GlassLog$Map" "latest" "[I") ∈ lw_all := lw_g (lw_at lw_m2 46 rfl) rfl
theorem q343 : (Jvm.Cond.soleField "GlassLog$Map" "latest") ∈ lw_all := lw_g (lw_at lw_m2 47 rfl) rfl
theorem q344 : (Jvm.Cond.laysFinal "GlassLog$Map" "GlassLog$Map" "ways" "[I") ∈ lw_all := lw_g (lw_at lw_m2 48 rfl) rfl
theorem q345 : (Jvm.Cond.soleField "GlassLog$Map" "ways") ∈ lw_all := lw_g (lw_at lw_m2 49 rfl) rfl
theorem q346 : (Jvm.Cond.laysFinal "GlassLog$Map" "GlassLog$Map" "stack" "[I") ∈ lw_all := lw_g (lw_at lw_m2 50 rfl) rfl
theorem q347 : (Jvm.Cond.soleField "GlassLog$Map" "stack") ∈ lw_all := lw_g (lw_at lw_m2 51 rfl) rfl
theorem q348 : (Jvm.Cond.laysFinal "GlassLog$Map" "GlassLog$Map" "one" "[I") ∈ lw_all := lw_g (lw_at lw_m2 52 rfl) rfl
theorem q349 : (Jvm.Cond.soleField "GlassLog$Map" "one") ∈ lw_all := lw_g (lw_at lw_m2 53 rfl) rfl
theorem q350 : (Jvm.Cond.lays "GlassLog$Map" "GlassLog$Map" "many" "I") ∈ lw_all := lw_g (lw_at lw_m2 54 rfl) rfl
theorem q351 : (Jvm.Cond.soleField "GlassLog$Map" "many") ∈ lw_all := lw_g (lw_at lw_m2 55 rfl) rfl
theorem q352 : (Jvm.Cond.lays "GlassLog$Map" "GlassLog$Map" "partings" "I") ∈ lw_all := lw_g (lw_at lw_m2 56 rfl) rfl
theorem q353 : (Jvm.Cond.soleField "GlassLog$Map" "partings") ∈ lw_all := lw_g (lw_at lw_m2 57 rfl) rfl
theorem q354 : (Jvm.Cond.lays "GlassLog$Map" "GlassLog$Map" "alone" "I") ∈ lw_all := lw_g (lw_at lw_m2 58 rfl) rfl
theorem q355 : (Jvm.Cond.soleField "GlassLog$Map" "alone") ∈ lw_all := lw_g (lw_at lw_m2 59 rfl) rfl
theorem q356 : (Jvm.Cond.superclass "GlassLog$Map" "java/lang/Object") ∈ lw_all := lw_g (lw_at lw_m2 60 rfl) rfl
theorem q481 : (Jvm.Cond.instanceMethod ({ cls := "GlassLog$Map", name := "of", desc := "(LGlassLog$Log;I)V" } : Jvm.MethodName)) ∈ lw_all := lw_g (lw_at lw_m2 185 rfl) rfl
theorem q482 : (Jvm.Cond.selects "GlassLog$Map" ({ cls := "GlassLog$Map", name := "of", desc := "(LGlassLog$Log;I)V" } : Jvm.MethodName) ({ cls := "GlassLog$Map", name := "of", desc := "(LGlassLog$Log;I)V" } : Jvm.MethodName)) ∈ lw_all := lw_g (lw_at lw_m2 186 rfl) rfl
theorem q483 : (Jvm.Cond.code ({ cls := "GlassLog$Map", name := "of", desc := "(LGlassLog$Log;I)V" } : Jvm.MethodName) prog_8_method_2_code (5 : Nat) (Option.none : Option Jvm.ClassFile.FieldType)) ∈ lw_all := lw_g (lw_at lw_m2 187 rfl) rfl
theorem q484 : (Jvm.Cond.methodLink "GlassLog$Map" (38 : Nat) ({ cls := "GlassLog$Log", name := "latest", desc := "(II)I" } : Jvm.MethodName)) ∈ lw_all := lw_g (lw_at lw_m2 188 rfl) rfl
theorem q488 : (Jvm.Cond.methodLink "GlassLog$Map" (41 : Nat) ({ cls := "GlassLog$Map", name := "put", desc := "(II)V" } : Jvm.MethodName)) ∈ lw_all := lw_g (lw_at lw_m2 192 rfl) rfl
theorem q489 : (Jvm.Cond.privateMethod ({ cls := "GlassLog$Map", name := "put", desc := "(II)V" } : Jvm.MethodName)) ∈ lw_tbl := lw_at lw_m2 193 rfl
theorem q490 : (Jvm.Cond.instanceMethod ({ cls := "GlassLog$Map", name := "put", desc := "(II)V" } : Jvm.MethodName)) ∈ lw_all := lw_g (lw_at lw_m2 194 rfl) rfl
theorem q491 : (Jvm.Cond.code ({ cls := "GlassLog$Map", name := "put", desc := "(II)V" } : Jvm.MethodName) prog_8_method_4_code (6 : Nat) (Option.none : Option Jvm.ClassFile.FieldType)) ∈ lw_all := lw_g (lw_at lw_m2 195 rfl) rfl
theorem q492 : (Jvm.Cond.methodLink "GlassLog$Map" (50 : Nat) ({ cls := "GlassLog$Mixer", name := "way", desc := "(I[II)V" } : Jvm.MethodName)) ∈ lw_all := lw_g (lw_at lw_m2 196 rfl) rfl
theorem q496 : (Jvm.Cond.methodLink "GlassLog$Map" (56 : Nat) ({ cls := "GlassLog$Map", name := "compare", desc := "(I)I" } : Jvm.MethodName)) ∈ lw_all := lw_g (lw_at lw_m2 200 rfl) rfl
theorem q497 : (Jvm.Cond.privateMethod ({ cls := "GlassLog$Map", name := "compare", desc := "(I)I" } : Jvm.MethodName)) ∈ lw_tbl := lw_at lw_m2 201 rfl
theorem q498 : (Jvm.Cond.instanceMethod ({ cls := "GlassLog$Map", name := "compare", desc := "(I)I" } : Jvm.MethodName)) ∈ lw_all := lw_g (lw_at lw_m2 202 rfl) rfl
theorem q499 : (Jvm.Cond.code ({ cls := "GlassLog$Map", name := "compare", desc := "(I)I" } : Jvm.MethodName) prog_8_method_3_code (3 : Nat) (Option.some Jvm.ClassFile.FieldType.int)) ∈ lw_all := lw_g (lw_at lw_m2 203 rfl) rfl
theorem q500 : (Jvm.Cond.methodLink "GlassLog$Map" (45 : Nat) ({ cls := "java/lang/Integer", name := "compareUnsigned", desc := "(II)I" } : Jvm.MethodName)) ∈ lw_all := lw_g (lw_at lw_m2 204 rfl) rfl
theorem q507 : (Jvm.Cond.methodLink "GlassLog$Map" (60 : Nat) ({ cls := "java/lang/System", name := "arraycopy", desc := "(Ljava/lang/Object;ILjava/lang/Object;II)V" } : Jvm.MethodName)) ∈ lw_all := lw_g (lw_at lw_m2 211 rfl) rfl
theorem q548 : (Jvm.Cond.instanceMethod ({ cls := "GlassLog$Map", name := "top", desc := "([II)V" } : Jvm.MethodName)) ∈ lw_all := lw_g (lw_at lw_m3 12 rfl) rfl
theorem q549 : (Jvm.Cond.selects "GlassLog$Map" ({ cls := "GlassLog$Map", name := "top", desc := "([II)V" } : Jvm.MethodName) ({ cls := "GlassLog$Map", name := "top", desc := "([II)V" } : Jvm.MethodName)) ∈ lw_all := lw_g (lw_at lw_m3 13 rfl) rfl
theorem q550 : (Jvm.Cond.code ({ cls := "GlassLog$Map", name := "top", desc := "([II)V" } : Jvm.MethodName) prog_8_method_7_code (3 : Nat) (Option.none : Option Jvm.ClassFile.FieldType)) ∈ lw_all := lw_g (lw_at lw_m3 14 rfl) rfl
theorem q551 : (Jvm.Cond.methodLink "GlassLog$Map" (82 : Nat) ({ cls := "GlassLog$Map", name := "tree", desc := "(IIII)V" } : Jvm.MethodName)) ∈ lw_all := lw_g (lw_at lw_m3 15 rfl) rfl
theorem q552 : (Jvm.Cond.privateMethod ({ cls := "GlassLog$Map", name := "tree", desc := "(IIII)V" } : Jvm.MethodName)) ∈ lw_tbl := lw_at lw_m3 16 rfl
theorem q553 : (Jvm.Cond.instanceMethod ({ cls := "GlassLog$Map", name := "tree", desc := "(IIII)V" } : Jvm.MethodName)) ∈ lw_all := lw_g (lw_at lw_m3 17 rfl) rfl
theorem q554 : (Jvm.Cond.code ({ cls := "GlassLog$Map", name := "tree", desc := "(IIII)V" } : Jvm.MethodName) prog_8_method_6_code (6 : Nat) (Option.none : Option Jvm.ClassFile.FieldType)) ∈ lw_all := lw_g (lw_at lw_m3 18 rfl) rfl
theorem q555 : (Jvm.Cond.methodLinkNest "GlassLog$Map" (70 : Nat) ({ cls := "GlassLog", name := "clear", desc := "([II)V" } : Jvm.MethodName) "GlassLog") ∈ lw_tbl := lw_at lw_m3 19 rfl
theorem q556 : (Jvm.Cond.methodLink "GlassLog$Map" (74 : Nat) ({ cls := "GlassLog$Mixer", name := "leaf", desc := "(II[II)V" } : Jvm.MethodName)) ∈ lw_all := lw_g (lw_at lw_m3 20 rfl) rfl
theorem q560 : (Jvm.Cond.methodLink "GlassLog$Map" (78 : Nat) ({ cls := "GlassLog$Map", name := "parting", desc := "(III)I" } : Jvm.MethodName)) ∈ lw_all := lw_g (lw_at lw_m3 24 rfl) rfl
theorem q561 : (Jvm.Cond.privateMethod ({ cls := "GlassLog$Map", name := "parting", desc := "(III)I" } : Jvm.MethodName)) ∈ lw_tbl := lw_at lw_m3 25 rfl
theorem q562 : (Jvm.Cond.instanceMethod ({ cls := "GlassLog$Map", name := "parting", desc := "(III)I" } : Jvm.MethodName)) ∈ lw_all := lw_g (lw_at lw_m3 26 rfl) rfl
theorem q563 : (Jvm.Cond.code ({ cls := "GlassLog$Map", name := "parting", desc := "(III)I" } : Jvm.MethodName) prog_8_method_5_code (5 : Nat) (Option.some Jvm.ClassFile.FieldType.int)) ∈ lw_all := lw_g (lw_at lw_m3 27 rfl) rfl
theorem q564 : (Jvm.Cond.methodLinkNest "GlassLog$Map" (66 : Nat) ({ cls := "GlassLog", name := "bit", desc := "([III)Z" } : Jvm.MethodName) "GlassLog") ∈ lw_tbl := lw_at lw_m3 28 rfl
theorem q567 : (Jvm.Cond.methodLink "GlassLog$Map" (86 : Nat) ({ cls := "GlassLog$Mixer", name := "join", desc := "([II[II[II)V" } : Jvm.MethodName)) ∈ lw_all := lw_g (lw_at lw_m3 31 rfl) rfl
theorem q715 : (Jvm.Cond.instanceMethod ({ cls := "GlassLog$Map", name := "down", desc := "(I[I)V" } : Jvm.MethodName)) ∈ lw_all := lw_g (lw_at lw_m3 179 rfl) rfl
theorem q716 : (Jvm.Cond.selects "GlassLog$Map" ({ cls := "GlassLog$Map", name := "down", desc := "(I[I)V" } : Jvm.MethodName) ({ cls := "GlassLog$Map", name := "down", desc := "(I[I)V" } : Jvm.MethodName)) ∈ lw_all := lw_g (lw_at lw_m3 180 rfl) rfl
theorem q717 : (Jvm.Cond.code ({ cls := "GlassLog$Map", name := "down", desc := "(I[I)V" } : Jvm.MethodName) prog_8_method_8_code (8 : Nat) (Option.none : Option Jvm.ClassFile.FieldType)) ∈ lw_all := lw_g (lw_at lw_m3 181 rfl) rfl
theorem in_X8 : ∀ w ∈ wsX80, w ∈ lw_all := lw_in wsX80 [338, 340, 342, 344, 346, 348, 350, 352, 354] (by decide +kernel) (by decide +kernel)

/-! GlassLog$Proof -/
set_option maxRecDepth 100000
def RX10 : String := "GlassLog$Proof"
abbrev cX10_init : ByteArray := prog_11_method_1_code
def yX10_init : MethodName := ⟨RX10, "<init>", "()V"⟩
theorem dX10_init_0 : decode cX10_init 0 = .ok (.aload_n 0, 1) := by decide +kernel
theorem dX10_init_1 : decode cX10_init 1 = .ok (.invokespecial 3, 3) := by decide +kernel
theorem dX10_init_4 : decode cX10_init 4 = .ok (.return_, 1) := by decide +kernel
abbrev cX10_key : ByteArray := prog_11_method_4_code
def yX10_key : MethodName := ⟨RX10, "key", "()I"⟩
theorem dX10_key_0 : decode cX10_key 0 = .ok (.iconst 0, 1) := by decide +kernel
theorem dX10_key_1 : decode cX10_key 1 = .ok (.ireturn, 1) := by decide +kernel
abbrev cX10_latest : ByteArray := prog_11_method_5_code
def yX10_latest : MethodName := ⟨RX10, "latest", "()I"⟩
theorem dX10_latest_0 : decode cX10_latest 0 = .ok (.iconst 0, 1) := by decide +kernel
theorem dX10_latest_1 : decode cX10_latest 1 = .ok (.ireturn, 1) := by decide +kernel
abbrev cX10_other : ByteArray := prog_11_method_6_code
def yX10_other : MethodName := ⟨RX10, "other", "()I"⟩
theorem dX10_other_0 : decode cX10_other 0 = .ok (.iconst 0, 1) := by decide +kernel
theorem dX10_other_1 : decode cX10_other 1 = .ok (.ireturn, 1) := by decide +kernel
abbrev cX10_piles : ByteArray := prog_11_method_9_code
def yX10_piles : MethodName := ⟨RX10, "piles", "(LGlassLog$Pile;III)I"⟩
def dkwX10_piles_2 : List UInt8 := [167, 255, 215, 21, 5, 172]
abbrev dktX10_piles_2 : List UInt8 := dkwX10_piles_2 ++ []
def dkwX10_piles_1 : List UInt8 := [42, 180, 0, 24, 21, 5, 16, 8, 104, 182, 0, 38, 21, 6, 4, 21, 7, 120, 96, 54, 6, 132, 5, 1]
abbrev dktX10_piles_1 : List UInt8 := dkwX10_piles_1 ++ dktX10_piles_2
def dkwX10_piles_0 : List UInt8 := [21, 4, 54, 5, 28, 54, 6, 21, 6, 29, 162, 0, 41, 21, 6, 29, 184, 0, 34, 54, 7, 43, 21, 7]
abbrev dktX10_piles_0 : List UInt8 := dkwX10_piles_0 ++ dktX10_piles_1
theorem dksX10_piles_0 : cX10_piles.data.toList.drop 0 = dktX10_piles_0 := by decide +kernel
theorem dksX10_piles_1 : cX10_piles.data.toList.drop 24 = dktX10_piles_1 := dk_seg dksX10_piles_0 24 rfl rfl
theorem dksX10_piles_2 : cX10_piles.data.toList.drop 48 = dktX10_piles_2 := dk_seg dksX10_piles_1 24 rfl rfl
theorem dX10_piles_0 : decode cX10_piles 0 = .ok (.iload 4, 2) := dk_21 4 (dk_at dksX10_piles_0 0 rfl rfl)
theorem dX10_piles_2 : decode cX10_piles 2 = .ok (.istore 5, 2) := dk_54 5 (dk_at dksX10_piles_0 2 rfl rfl)
theorem dX10_piles_4 : decode cX10_piles 4 = .ok (.iload_n 2, 1) := dk_28 (dk_at dksX10_piles_0 4 rfl rfl)
theorem dX10_piles_5 : decode cX10_piles 5 = .ok (.istore 6, 2) := dk_54 6 (dk_at dksX10_piles_0 5 rfl rfl)
theorem dX10_piles_7 : decode cX10_piles 7 = .ok (.iload 6, 2) := dk_21 6 (dk_at dksX10_piles_0 7 rfl rfl)
theorem dX10_piles_9 : decode cX10_piles 9 = .ok (.iload_n 3, 1) := dk_29 (dk_at dksX10_piles_0 9 rfl rfl)
theorem dX10_piles_10 : decode cX10_piles 10 = .ok (.if_icmp .ge 41, 3) := dk_162 0 41 (dk_at dksX10_piles_0 10 rfl rfl)
theorem dX10_piles_13 : decode cX10_piles 13 = .ok (.iload 6, 2) := dk_21 6 (dk_at dksX10_piles_0 13 rfl rfl)
theorem dX10_piles_15 : decode cX10_piles 15 = .ok (.iload_n 3, 1) := dk_29 (dk_at dksX10_piles_0 15 rfl rfl)
theorem dX10_piles_16 : decode cX10_piles 16 = .ok (.invokestatic 34, 3) := dk_184 0 34 (dk_at dksX10_piles_0 16 rfl rfl)
theorem dX10_piles_19 : decode cX10_piles 19 = .ok (.istore 7, 2) := dk_54 7 (dk_at dksX10_piles_0 19 rfl rfl)
theorem dX10_piles_21 : decode cX10_piles 21 = .ok (.aload_n 1, 1) := dk_43 (dk_at dksX10_piles_0 21 rfl rfl)
theorem dX10_piles_22 : decode cX10_piles 22 = .ok (.iload 7, 2) := dk_21 7 (dk_at dksX10_piles_0 22 rfl rfl)
theorem dX10_piles_24 : decode cX10_piles 24 = .ok (.aload_n 0, 1) := dk_42 (dk_at dksX10_piles_1 0 rfl rfl)
theorem dX10_piles_25 : decode cX10_piles 25 = .ok (.getfield 24, 3) := dk_180 0 24 (dk_at dksX10_piles_1 1 rfl rfl)
theorem dX10_piles_28 : decode cX10_piles 28 = .ok (.iload 5, 2) := dk_21 5 (dk_at dksX10_piles_1 4 rfl rfl)
theorem dX10_piles_30 : decode cX10_piles 30 = .ok (.bipush 8, 2) := dk_16 8 (dk_at dksX10_piles_1 6 rfl rfl)
theorem dX10_piles_32 : decode cX10_piles 32 = .ok (.imul, 1) := dk_104 (dk_at dksX10_piles_1 8 rfl rfl)
theorem dX10_piles_33 : decode cX10_piles 33 = .ok (.invokevirtual 38, 3) := dk_182 0 38 (dk_at dksX10_piles_1 9 rfl rfl)
theorem dX10_piles_36 : decode cX10_piles 36 = .ok (.iload 6, 2) := dk_21 6 (dk_at dksX10_piles_1 12 rfl rfl)
theorem dX10_piles_38 : decode cX10_piles 38 = .ok (.iconst 1, 1) := dk_4 (dk_at dksX10_piles_1 14 rfl rfl)
theorem dX10_piles_39 : decode cX10_piles 39 = .ok (.iload 7, 2) := dk_21 7 (dk_at dksX10_piles_1 15 rfl rfl)
theorem dX10_piles_41 : decode cX10_piles 41 = .ok (.ishl, 1) := dk_120 (dk_at dksX10_piles_1 17 rfl rfl)
theorem dX10_piles_42 : decode cX10_piles 42 = .ok (.iadd, 1) := dk_96 (dk_at dksX10_piles_1 18 rfl rfl)
theorem dX10_piles_43 : decode cX10_piles 43 = .ok (.istore 6, 2) := dk_54 6 (dk_at dksX10_piles_1 19 rfl rfl)
theorem dX10_piles_45 : decode cX10_piles 45 = .ok (.iinc 5 1, 3) := dk_132 5 1 (dk_at dksX10_piles_1 21 rfl rfl)
theorem dX10_piles_48 : decode cX10_piles 48 = .ok (.goto (-41), 3) := dk_167 255 215 (dk_at dksX10_piles_2 0 rfl rfl)
theorem dX10_piles_51 : decode cX10_piles 51 = .ok (.iload 5, 2) := dk_21 5 (dk_at dksX10_piles_2 3 rfl rfl)
theorem dX10_piles_53 : decode cX10_piles 53 = .ok (.ireturn, 1) := dk_172 (dk_at dksX10_piles_2 5 rfl rfl)
abbrev cX10_become : ByteArray := prog_11_method_7_code
def yX10_become : MethodName := ⟨RX10, "become", "(LGlassLog$Proof;)LGlassLog$Proof;"⟩
def dkwX10_become_2 : List UInt8 := [42, 176]
abbrev dktX10_become_2 : List UInt8 := dkwX10_become_2 ++ []
def dkwX10_become_1 : List UInt8 := [42, 43, 180, 0, 21, 181, 0, 21, 42, 43, 180, 0, 24, 43, 180, 0, 24, 190, 184, 0, 28, 181, 0, 24]
abbrev dktX10_become_1 : List UInt8 := dkwX10_become_1 ++ dktX10_become_2
def dkwX10_become_0 : List UInt8 := [42, 43, 180, 0, 9, 181, 0, 9, 42, 43, 180, 0, 15, 181, 0, 15, 42, 43, 180, 0, 18, 181, 0, 18]
abbrev dktX10_become_0 : List UInt8 := dkwX10_become_0 ++ dktX10_become_1
theorem dksX10_become_0 : cX10_become.data.toList.drop 0 = dktX10_become_0 := by decide +kernel
theorem dksX10_become_1 : cX10_become.data.toList.drop 24 = dktX10_become_1 := dk_seg dksX10_become_0 24 rfl rfl
theorem dksX10_become_2 : cX10_become.data.toList.drop 48 = dktX10_become_2 := dk_seg dksX10_become_1 24 rfl rfl
theorem dX10_become_0 : decode cX10_become 0 = .ok (.aload_n 0, 1) := dk_42 (dk_at dksX10_become_0 0 rfl rfl)
theorem dX10_become_1 : decode cX10_become 1 = .ok (.aload_n 1, 1) := dk_43 (dk_at dksX10_become_0 1 rfl rfl)
theorem dX10_become_2 : decode cX10_become 2 = .ok (.getfield 9, 3) := dk_180 0 9 (dk_at dksX10_become_0 2 rfl rfl)
theorem dX10_become_5 : decode cX10_become 5 = .ok (.putfield 9, 3) := dk_181 0 9 (dk_at dksX10_become_0 5 rfl rfl)
theorem dX10_become_8 : decode cX10_become 8 = .ok (.aload_n 0, 1) := dk_42 (dk_at dksX10_become_0 8 rfl rfl)
theorem dX10_become_9 : decode cX10_become 9 = .ok (.aload_n 1, 1) := dk_43 (dk_at dksX10_become_0 9 rfl rfl)
theorem dX10_become_10 : decode cX10_become 10 = .ok (.getfield 15, 3) := dk_180 0 15 (dk_at dksX10_become_0 10 rfl rfl)
theorem dX10_become_13 : decode cX10_become 13 = .ok (.putfield 15, 3) := dk_181 0 15 (dk_at dksX10_become_0 13 rfl rfl)
theorem dX10_become_16 : decode cX10_become 16 = .ok (.aload_n 0, 1) := dk_42 (dk_at dksX10_become_0 16 rfl rfl)
theorem dX10_become_17 : decode cX10_become 17 = .ok (.aload_n 1, 1) := dk_43 (dk_at dksX10_become_0 17 rfl rfl)
theorem dX10_become_18 : decode cX10_become 18 = .ok (.getfield 18, 3) := dk_180 0 18 (dk_at dksX10_become_0 18 rfl rfl)
theorem dX10_become_21 : decode cX10_become 21 = .ok (.putfield 18, 3) := dk_181 0 18 (dk_at dksX10_become_0 21 rfl rfl)
theorem dX10_become_24 : decode cX10_become 24 = .ok (.aload_n 0, 1) := dk_42 (dk_at dksX10_become_1 0 rfl rfl)
theorem dX10_become_25 : decode cX10_become 25 = .ok (.aload_n 1, 1) := dk_43 (dk_at dksX10_become_1 1 rfl rfl)
theorem dX10_become_26 : decode cX10_become 26 = .ok (.getfield 21, 3) := dk_180 0 21 (dk_at dksX10_become_1 2 rfl rfl)
theorem dX10_become_29 : decode cX10_become 29 = .ok (.putfield 21, 3) := dk_181 0 21 (dk_at dksX10_become_1 5 rfl rfl)
theorem dX10_become_32 : decode cX10_become 32 = .ok (.aload_n 0, 1) := dk_42 (dk_at dksX10_become_1 8 rfl rfl)
theorem dX10_become_33 : decode cX10_become 33 = .ok (.aload_n 1, 1) := dk_43 (dk_at dksX10_become_1 9 rfl rfl)
theorem dX10_become_34 : decode cX10_become 34 = .ok (.getfield 24, 3) := dk_180 0 24 (dk_at dksX10_become_1 10 rfl rfl)
theorem dX10_become_37 : decode cX10_become 37 = .ok (.aload_n 1, 1) := dk_43 (dk_at dksX10_become_1 13 rfl rfl)
theorem dX10_become_38 : decode cX10_become 38 = .ok (.getfield 24, 3) := dk_180 0 24 (dk_at dksX10_become_1 14 rfl rfl)
theorem dX10_become_41 : decode cX10_become 41 = .ok (.arraylength, 1) := dk_190 (dk_at dksX10_become_1 17 rfl rfl)
theorem dX10_become_42 : decode cX10_become 42 = .ok (.invokestatic 28, 3) := dk_184 0 28 (dk_at dksX10_become_1 18 rfl rfl)
theorem dX10_become_45 : decode cX10_become 45 = .ok (.putfield 24, 3) := dk_181 0 24 (dk_at dksX10_become_1 21 rfl rfl)
theorem dX10_become_48 : decode cX10_become 48 = .ok (.aload_n 0, 1) := dk_42 (dk_at dksX10_become_2 0 rfl rfl)
theorem dX10_become_49 : decode cX10_become 49 = .ok (.areturn, 1) := dk_176 (dk_at dksX10_become_2 1 rfl rfl)
theorem q69 : (Jvm.Cond.initialized "GlassLog$Proof") ∈ lw_all := lw_g (lw_at lw_m1 13 rfl) rfl
theorem q594 : (Jvm.Cond.instanceMethod ({ cls := "GlassLog$Proof", name := "<init>", desc := "()V" } : Jvm.MethodName)) ∈ lw_all := lw_g (lw_at lw_m3 58 rfl) rfl
theorem q595 : (Jvm.Cond.code ({ cls := "GlassLog$Proof", name := "<init>", desc := "()V" } : Jvm.MethodName) prog_11_method_1_code (1 : Nat) (Option.none : Option Jvm.ClassFile.FieldType)) ∈ lw_all := lw_g (lw_at lw_m3 59 rfl) rfl
theorem q596 : (Jvm.Cond.methodLink "GlassLog$Proof" (3 : Nat) ({ cls := "java/lang/Object", name := "<init>", desc := "()V" } : Jvm.MethodName)) ∈ lw_all := lw_g (lw_at lw_m3 60 rfl) rfl
theorem q607 : (Jvm.Cond.fieldLink "GlassLog$Proof" (9 : Nat) "GlassLog$Proof" "n" "I") ∈ lw_all := lw_g (lw_at lw_m3 71 rfl) rfl
theorem q613 : (Jvm.Cond.fieldLink "GlassLog$Proof" (15 : Nat) "GlassLog$Proof" "first" "I") ∈ lw_all := lw_g (lw_at lw_m3 77 rfl) rfl
theorem q615 : (Jvm.Cond.fieldLink "GlassLog$Proof" (18 : Nat) "GlassLog$Proof" "second" "I") ∈ lw_all := lw_g (lw_at lw_m3 79 rfl) rfl
theorem q619 : (Jvm.Cond.fieldLink "GlassLog$Proof" (21 : Nat) "GlassLog$Proof" "many" "I") ∈ lw_all := lw_g (lw_at lw_m3 83 rfl) rfl
theorem q623 : (Jvm.Cond.fieldLink "GlassLog$Proof" (24 : Nat) "GlassLog$Proof" "steps" "[I") ∈ lw_all := lw_g (lw_at lw_m3 87 rfl) rfl
theorem q630 : (Jvm.Cond.soleField "GlassLog$Proof" "n") ∈ lw_all := lw_g (lw_at lw_m3 94 rfl) rfl
theorem q632 : (Jvm.Cond.soleField "GlassLog$Proof" "first") ∈ lw_all := lw_g (lw_at lw_m3 96 rfl) rfl
theorem q634 : (Jvm.Cond.soleField "GlassLog$Proof" "second") ∈ lw_all := lw_g (lw_at lw_m3 98 rfl) rfl
theorem q636 : (Jvm.Cond.soleField "GlassLog$Proof" "many") ∈ lw_all := lw_g (lw_at lw_m3 100 rfl) rfl
theorem q638 : (Jvm.Cond.soleField "GlassLog$Proof" "steps") ∈ lw_all := lw_g (lw_at lw_m3 102 rfl) rfl
theorem q773 : (Jvm.Cond.declares ({ cls := "GlassLog$Proof", name := "kind", desc := "()I" } : Jvm.MethodName)) ∈ lw_tbl := lw_at lw_m3 237 rfl
theorem q774 : (Jvm.Cond.sameMethod "GlassLog$Proof" "GlassLog$Proof" "kind" "()I") ∈ lw_all := lw_g (lw_at lw_m3 238 rfl) rfl
theorem q791 : (Jvm.Cond.instanceMethod ({ cls := "GlassLog$Proof", name := "key", desc := "()I" } : Jvm.MethodName)) ∈ lw_all := lw_g (lw_at lw_m4 15 rfl) rfl
theorem q792 : (Jvm.Cond.sameMethod "GlassLog$Proof" "GlassLog$Proof" "key" "()I") ∈ lw_all := lw_g (lw_at lw_m4 16 rfl) rfl
theorem q802 : (Jvm.Cond.code ({ cls := "GlassLog$Proof", name := "key", desc := "()I" } : Jvm.MethodName) prog_11_method_4_code (1 : Nat) (Option.some Jvm.ClassFile.FieldType.int)) ∈ lw_all := lw_g (lw_at lw_m4 26 rfl) rfl
theorem q804 : (Jvm.Cond.instanceMethod ({ cls := "GlassLog$Proof", name := "latest", desc := "()I" } : Jvm.MethodName)) ∈ lw_all := lw_g (lw_at lw_m4 28 rfl) rfl
theorem q805 : (Jvm.Cond.sameMethod "GlassLog$Proof" "GlassLog$Proof" "latest" "()I") ∈ lw_all := lw_g (lw_at lw_m4 29 rfl) rfl
theorem q813 : (Jvm.Cond.code ({ cls := "GlassLog$Proof", name := "latest", desc := "()I" } : Jvm.MethodName) prog_11_method_5_code (1 : Nat) (Option.some Jvm.ClassFile.FieldType.int)) ∈ lw_all := lw_g (lw_at lw_m4 37 rfl) rfl
theorem q815 : (Jvm.Cond.instanceMethod ({ cls := "GlassLog$Proof", name := "other", desc := "()I" } : Jvm.MethodName)) ∈ lw_all := lw_g (lw_at lw_m4 39 rfl) rfl
theorem q816 : (Jvm.Cond.sameMethod "GlassLog$Proof" "GlassLog$Proof" "other" "()I") ∈ lw_all := lw_g (lw_at lw_m4 40 rfl) rfl
theorem q824 : (Jvm.Cond.code ({ cls := "GlassLog$Proof", name := "other", desc := "()I" } : Jvm.MethodName) prog_11_method_6_code (1 : Nat) (Option.some Jvm.ClassFile.FieldType.int)) ∈ lw_all := lw_g (lw_at lw_m4 48 rfl) rfl
theorem q982 : (Jvm.Cond.declares ({ cls := "GlassLog$Proof", name := "isRight", desc := "(LGlassLog$Mixer;LGlassLog$Pile;LGlassLog$Head;LGlassLog$Head;)Z" } : Jvm.MethodName)) ∈ lw_tbl := lw_at lw_m4 206 rfl
theorem q983 : (Jvm.Cond.sameMethod "GlassLog$Proof" "GlassLog$Proof" "isRight" "(LGlassLog$Mixer;LGlassLog$Pile;LGlassLog$Head;LGlassLog$Head;)Z") ∈ lw_all := lw_g (lw_at lw_m4 207 rfl) rfl
theorem q1013 : (Jvm.Cond.declares ({ cls := "GlassLog$Proof", name := "piles", desc := "(LGlassLog$Pile;III)I" } : Jvm.MethodName)) ∈ lw_tbl := lw_at lw_m4 237 rfl
theorem q1015 : (Jvm.Cond.instanceMethod ({ cls := "GlassLog$Proof", name := "piles", desc := "(LGlassLog$Pile;III)I" } : Jvm.MethodName)) ∈ lw_all := lw_g (lw_at lw_m4 239 rfl) rfl
theorem q1016 : (Jvm.Cond.code ({ cls := "GlassLog$Proof", name := "piles", desc := "(LGlassLog$Pile;III)I" } : Jvm.MethodName) prog_11_method_9_code (8 : Nat) (Option.some Jvm.ClassFile.FieldType.int)) ∈ lw_all := lw_g (lw_at lw_m5 0 rfl) rfl
theorem q1017 : (Jvm.Cond.methodLinkNest "GlassLog$Proof" (34 : Nat) ({ cls := "GlassLog", name := "level", desc := "(II)I" } : Jvm.MethodName) "GlassLog") ∈ lw_tbl := lw_at lw_m5 1 rfl
theorem q1018 : (Jvm.Cond.methodLink "GlassLog$Proof" (38 : Nat) ({ cls := "GlassLog$Pile", name := "add", desc := "(I[II)V" } : Jvm.MethodName)) ∈ lw_all := lw_g (lw_at lw_m5 2 rfl) rfl
theorem q1107 : (Jvm.Cond.declares ({ cls := "GlassLog$Proof", name := "twin", desc := "()LGlassLog$Proof;" } : Jvm.MethodName)) ∈ lw_tbl := lw_at lw_m5 91 rfl
theorem q1108 : (Jvm.Cond.sameMethod "GlassLog$Proof" "GlassLog$Proof" "twin" "()LGlassLog$Proof;") ∈ lw_all := lw_g (lw_at lw_m5 92 rfl) rfl
theorem q1122 : (Jvm.Cond.declares ({ cls := "GlassLog$Proof", name := "become", desc := "(LGlassLog$Proof;)LGlassLog$Proof;" } : Jvm.MethodName)) ∈ lw_tbl := lw_at lw_m5 106 rfl
theorem q1125 : (Jvm.Cond.instanceMethod ({ cls := "GlassLog$Proof", name := "become", desc := "(LGlassLog$Proof;)LGlassLog$Proof;" } : Jvm.MethodName)) ∈ lw_all := lw_g (lw_at lw_m5 109 rfl) rfl
theorem q1126 : (Jvm.Cond.code ({ cls := "GlassLog$Proof", name := "become", desc := "(LGlassLog$Proof;)LGlassLog$Proof;" } : Jvm.MethodName) prog_11_method_7_code (2 : Nat) (Option.some (Jvm.ClassFile.FieldType.object "GlassLog$Proof"))) ∈ lw_all := lw_g (lw_at lw_m5 110 rfl) rfl
theorem q1127 : (Jvm.Cond.methodLink "GlassLog$Proof" (28 : Nat) ({ cls := "java/util/Arrays", name := "copyOf", desc := "([II)[I" } : Jvm.MethodName)) ∈ lw_all := lw_g (lw_at lw_m5 111 rfl) rfl

/-! GlassLog$Span -/
set_option maxRecDepth 100000
def RX11 : String := "GlassLog$Span"
def TX11 : u_T := fun k => match k with
  | 0 => ("GlassLog$Proof", "n", "I", false)
  | 1 => ("GlassLog$Proof", "first", "I", false)
  | 2 => ("GlassLog$Proof", "second", "I", false)
  | 3 => ("GlassLog$Proof", "many", "I", false)
  | 4 => ("GlassLog$Proof", "steps", "[I", false)
  | 5 => ("GlassLog$Span", "keys", "[I", false)
  | _ => ("GlassLog$Span", "values", "[J", false)
def tyX11 : Nat → FieldType := fun k => match k with
  | 0 => .int
  | 1 => .int
  | 2 => .int
  | 3 => .int
  | 4 => .array .int
  | 5 => .array .int
  | _ => .array .long
abbrev wsX110 : List Cond := u_ws RX11 TX11 7
theorem nmX11 : ∀ a, a < 7 → ∀ b, b < 7 → a ≠ b → (TX11 a).2.1 ≠ (TX11 b).2.1 := by decide +kernel
theorem tyX11_ok : ∀ k, k < 7 → parseFieldDescriptor (TX11 k).2.2.1 = some (tyX11 k) := by decide +kernel
abbrev cX11_init : ByteArray := prog_13_method_1_code
def yX11_init : MethodName := ⟨RX11, "<init>", "()V"⟩
theorem dX11_init_0 : decode cX11_init 0 = .ok (.aload_n 0, 1) := by decide +kernel
theorem dX11_init_1 : decode cX11_init 1 = .ok (.invokespecial 3, 3) := by decide +kernel
theorem dX11_init_4 : decode cX11_init 4 = .ok (.return_, 1) := by decide +kernel
abbrev cX11_kind : ByteArray := prog_13_method_2_code
def yX11_kind : MethodName := ⟨RX11, "kind", "()I"⟩
theorem dX11_kind_0 : decode cX11_kind 0 = .ok (.iconst 5, 1) := by decide +kernel
theorem dX11_kind_1 : decode cX11_kind 1 = .ok (.ireturn, 1) := by decide +kernel
abbrev cX11_key : ByteArray := prog_13_method_3_code
def yX11_key : MethodName := ⟨RX11, "key", "()I"⟩
def dkwX11_key_0 : List UInt8 := [42, 180, 0, 9, 190, 154, 0, 7, 3, 167, 0, 9, 42, 180, 0, 9, 3, 46, 172]
abbrev dktX11_key_0 : List UInt8 := dkwX11_key_0 ++ []
theorem dksX11_key_0 : cX11_key.data.toList.drop 0 = dktX11_key_0 := by decide +kernel
theorem dX11_key_0 : decode cX11_key 0 = .ok (.aload_n 0, 1) := dk_42 (dk_at dksX11_key_0 0 rfl rfl)
theorem dX11_key_1 : decode cX11_key 1 = .ok (.getfield 9, 3) := dk_180 0 9 (dk_at dksX11_key_0 1 rfl rfl)
theorem dX11_key_4 : decode cX11_key 4 = .ok (.arraylength, 1) := dk_190 (dk_at dksX11_key_0 4 rfl rfl)
theorem dX11_key_5 : decode cX11_key 5 = .ok (.ifCond .ne 7, 3) := dk_154 0 7 (dk_at dksX11_key_0 5 rfl rfl)
theorem dX11_key_8 : decode cX11_key 8 = .ok (.iconst 0, 1) := dk_3 (dk_at dksX11_key_0 8 rfl rfl)
theorem dX11_key_9 : decode cX11_key 9 = .ok (.goto 9, 3) := dk_167 0 9 (dk_at dksX11_key_0 9 rfl rfl)
theorem dX11_key_12 : decode cX11_key 12 = .ok (.aload_n 0, 1) := dk_42 (dk_at dksX11_key_0 12 rfl rfl)
theorem dX11_key_13 : decode cX11_key 13 = .ok (.getfield 9, 3) := dk_180 0 9 (dk_at dksX11_key_0 13 rfl rfl)
theorem dX11_key_16 : decode cX11_key 16 = .ok (.iconst 0, 1) := dk_3 (dk_at dksX11_key_0 16 rfl rfl)
theorem dX11_key_17 : decode cX11_key 17 = .ok (.iaload, 1) := dk_46 (dk_at dksX11_key_0 17 rfl rfl)
theorem dX11_key_18 : decode cX11_key 18 = .ok (.ireturn, 1) := dk_172 (dk_at dksX11_key_0 18 rfl rfl)
abbrev cX11_isRight : ByteArray := prog_13_method_4_code
def yX11_isRight : MethodName := ⟨RX11, "isRight", "(LGlassLog$Mixer;LGlassLog$Pile;LGlassLog$Head;LGlassLog$Head;)Z"⟩
def dkwX11_isRight_5 : List UInt8 := [180, 0, 52, 3, 184, 0, 54, 172]
abbrev dktX11_isRight_5 : List UInt8 := dkwX11_isRight_5 ++ []
def dkwX11_isRight_4 : List UInt8 := [190, 96, 42, 180, 0, 21, 21, 6, 182, 0, 30, 54, 6, 44, 25, 5, 3, 182, 0, 48, 25, 5, 3, 45]
abbrev dktX11_isRight_4 : List UInt8 := dkwX11_isRight_4 ++ dktX11_isRight_5
def dkwX11_isRight_3 : List UInt8 := [44, 3, 25, 5, 3, 182, 0, 44, 132, 7, 1, 167, 255, 214, 42, 44, 42, 180, 0, 27, 42, 180, 0, 9]
abbrev dktX11_isRight_3 : List UInt8 := dkwX11_isRight_3 ++ dktX11_isRight_4
def dkwX11_isRight_2 : List UInt8 := [162, 0, 38, 43, 42, 180, 0, 9, 21, 7, 46, 42, 180, 0, 34, 21, 7, 47, 25, 5, 3, 182, 0, 38]
abbrev dktX11_isRight_2 : List UInt8 := dkwX11_isRight_2 ++ dktX11_isRight_3
def dkwX11_isRight_1 : List UInt8 := [44, 3, 42, 180, 0, 27, 3, 182, 0, 30, 54, 6, 3, 54, 7, 21, 7, 42, 180, 0, 9, 190]
abbrev dktX11_isRight_1 : List UInt8 := dkwX11_isRight_1 ++ dktX11_isRight_2
def dkwX11_isRight_0 : List UInt8 := [45, 180, 0, 15, 42, 180, 0, 21, 159, 0, 5, 3, 172, 16, 8, 188, 10, 58, 5, 44, 182, 0, 22, 42]
abbrev dktX11_isRight_0 : List UInt8 := dkwX11_isRight_0 ++ dktX11_isRight_1
theorem dksX11_isRight_0 : cX11_isRight.data.toList.drop 0 = dktX11_isRight_0 := by decide +kernel
theorem dksX11_isRight_1 : cX11_isRight.data.toList.drop 24 = dktX11_isRight_1 := dk_seg dksX11_isRight_0 24 rfl rfl
theorem dksX11_isRight_2 : cX11_isRight.data.toList.drop 46 = dktX11_isRight_2 := dk_seg dksX11_isRight_1 22 rfl rfl
theorem dksX11_isRight_3 : cX11_isRight.data.toList.drop 70 = dktX11_isRight_3 := dk_seg dksX11_isRight_2 24 rfl rfl
theorem dksX11_isRight_4 : cX11_isRight.data.toList.drop 94 = dktX11_isRight_4 := dk_seg dksX11_isRight_3 24 rfl rfl
theorem dksX11_isRight_5 : cX11_isRight.data.toList.drop 118 = dktX11_isRight_5 := dk_seg dksX11_isRight_4 24 rfl rfl
theorem dX11_isRight_0 : decode cX11_isRight 0 = .ok (.aload_n 3, 1) := dk_45 (dk_at dksX11_isRight_0 0 rfl rfl)
theorem dX11_isRight_1 : decode cX11_isRight 1 = .ok (.getfield 15, 3) := dk_180 0 15 (dk_at dksX11_isRight_0 1 rfl rfl)
theorem dX11_isRight_4 : decode cX11_isRight 4 = .ok (.aload_n 0, 1) := dk_42 (dk_at dksX11_isRight_0 4 rfl rfl)
theorem dX11_isRight_5 : decode cX11_isRight 5 = .ok (.getfield 21, 3) := dk_180 0 21 (dk_at dksX11_isRight_0 5 rfl rfl)
theorem dX11_isRight_8 : decode cX11_isRight 8 = .ok (.if_icmp .eq 5, 3) := dk_159 0 5 (dk_at dksX11_isRight_0 8 rfl rfl)
theorem dX11_isRight_11 : decode cX11_isRight 11 = .ok (.iconst 0, 1) := dk_3 (dk_at dksX11_isRight_0 11 rfl rfl)
theorem dX11_isRight_12 : decode cX11_isRight 12 = .ok (.ireturn, 1) := dk_172 (dk_at dksX11_isRight_0 12 rfl rfl)
theorem dX11_isRight_13 : decode cX11_isRight 13 = .ok (.bipush 8, 2) := dk_16 8 (dk_at dksX11_isRight_0 13 rfl rfl)
theorem dX11_isRight_15 : decode cX11_isRight 15 = .ok (.newarray .int, 2) := dk_188_10 (dk_at dksX11_isRight_0 15 rfl rfl)
theorem dX11_isRight_17 : decode cX11_isRight 17 = .ok (.astore 5, 2) := dk_58 5 (dk_at dksX11_isRight_0 17 rfl rfl)
theorem dX11_isRight_19 : decode cX11_isRight 19 = .ok (.aload_n 2, 1) := dk_44 (dk_at dksX11_isRight_0 19 rfl rfl)
theorem dX11_isRight_20 : decode cX11_isRight 20 = .ok (.invokevirtual 22, 3) := dk_182 0 22 (dk_at dksX11_isRight_0 20 rfl rfl)
theorem dX11_isRight_23 : decode cX11_isRight 23 = .ok (.aload_n 0, 1) := dk_42 (dk_at dksX11_isRight_0 23 rfl rfl)
theorem dX11_isRight_24 : decode cX11_isRight 24 = .ok (.aload_n 2, 1) := dk_44 (dk_at dksX11_isRight_1 0 rfl rfl)
theorem dX11_isRight_25 : decode cX11_isRight 25 = .ok (.iconst 0, 1) := dk_3 (dk_at dksX11_isRight_1 1 rfl rfl)
theorem dX11_isRight_26 : decode cX11_isRight 26 = .ok (.aload_n 0, 1) := dk_42 (dk_at dksX11_isRight_1 2 rfl rfl)
theorem dX11_isRight_27 : decode cX11_isRight 27 = .ok (.getfield 27, 3) := dk_180 0 27 (dk_at dksX11_isRight_1 3 rfl rfl)
theorem dX11_isRight_30 : decode cX11_isRight 30 = .ok (.iconst 0, 1) := dk_3 (dk_at dksX11_isRight_1 6 rfl rfl)
theorem dX11_isRight_31 : decode cX11_isRight 31 = .ok (.invokevirtual 30, 3) := dk_182 0 30 (dk_at dksX11_isRight_1 7 rfl rfl)
theorem dX11_isRight_34 : decode cX11_isRight 34 = .ok (.istore 6, 2) := dk_54 6 (dk_at dksX11_isRight_1 10 rfl rfl)
theorem dX11_isRight_36 : decode cX11_isRight 36 = .ok (.iconst 0, 1) := dk_3 (dk_at dksX11_isRight_1 12 rfl rfl)
theorem dX11_isRight_37 : decode cX11_isRight 37 = .ok (.istore 7, 2) := dk_54 7 (dk_at dksX11_isRight_1 13 rfl rfl)
theorem dX11_isRight_39 : decode cX11_isRight 39 = .ok (.iload 7, 2) := dk_21 7 (dk_at dksX11_isRight_1 15 rfl rfl)
theorem dX11_isRight_41 : decode cX11_isRight 41 = .ok (.aload_n 0, 1) := dk_42 (dk_at dksX11_isRight_1 17 rfl rfl)
theorem dX11_isRight_42 : decode cX11_isRight 42 = .ok (.getfield 9, 3) := dk_180 0 9 (dk_at dksX11_isRight_1 18 rfl rfl)
theorem dX11_isRight_45 : decode cX11_isRight 45 = .ok (.arraylength, 1) := dk_190 (dk_at dksX11_isRight_1 21 rfl rfl)
theorem dX11_isRight_46 : decode cX11_isRight 46 = .ok (.if_icmp .ge 38, 3) := dk_162 0 38 (dk_at dksX11_isRight_2 0 rfl rfl)
theorem dX11_isRight_49 : decode cX11_isRight 49 = .ok (.aload_n 1, 1) := dk_43 (dk_at dksX11_isRight_2 3 rfl rfl)
theorem dX11_isRight_50 : decode cX11_isRight 50 = .ok (.aload_n 0, 1) := dk_42 (dk_at dksX11_isRight_2 4 rfl rfl)
theorem dX11_isRight_51 : decode cX11_isRight 51 = .ok (.getfield 9, 3) := dk_180 0 9 (dk_at dksX11_isRight_2 5 rfl rfl)
theorem dX11_isRight_54 : decode cX11_isRight 54 = .ok (.iload 7, 2) := dk_21 7 (dk_at dksX11_isRight_2 8 rfl rfl)
theorem dX11_isRight_56 : decode cX11_isRight 56 = .ok (.iaload, 1) := dk_46 (dk_at dksX11_isRight_2 10 rfl rfl)
theorem dX11_isRight_57 : decode cX11_isRight 57 = .ok (.aload_n 0, 1) := dk_42 (dk_at dksX11_isRight_2 11 rfl rfl)
theorem dX11_isRight_58 : decode cX11_isRight 58 = .ok (.getfield 34, 3) := dk_180 0 34 (dk_at dksX11_isRight_2 12 rfl rfl)
theorem dX11_isRight_61 : decode cX11_isRight 61 = .ok (.iload 7, 2) := dk_21 7 (dk_at dksX11_isRight_2 15 rfl rfl)
theorem dX11_isRight_63 : decode cX11_isRight 63 = .ok (.laload, 1) := dk_47 (dk_at dksX11_isRight_2 17 rfl rfl)
theorem dX11_isRight_64 : decode cX11_isRight 64 = .ok (.aload 5, 2) := dk_25 5 (dk_at dksX11_isRight_2 18 rfl rfl)
theorem dX11_isRight_66 : decode cX11_isRight 66 = .ok (.iconst 0, 1) := dk_3 (dk_at dksX11_isRight_2 20 rfl rfl)
theorem dX11_isRight_67 : decode cX11_isRight 67 = .ok (.invokevirtual 38, 3) := dk_182 0 38 (dk_at dksX11_isRight_2 21 rfl rfl)
theorem dX11_isRight_70 : decode cX11_isRight 70 = .ok (.aload_n 2, 1) := dk_44 (dk_at dksX11_isRight_3 0 rfl rfl)
theorem dX11_isRight_71 : decode cX11_isRight 71 = .ok (.iconst 0, 1) := dk_3 (dk_at dksX11_isRight_3 1 rfl rfl)
theorem dX11_isRight_72 : decode cX11_isRight 72 = .ok (.aload 5, 2) := dk_25 5 (dk_at dksX11_isRight_3 2 rfl rfl)
theorem dX11_isRight_74 : decode cX11_isRight 74 = .ok (.iconst 0, 1) := dk_3 (dk_at dksX11_isRight_3 4 rfl rfl)
theorem dX11_isRight_75 : decode cX11_isRight 75 = .ok (.invokevirtual 44, 3) := dk_182 0 44 (dk_at dksX11_isRight_3 5 rfl rfl)
theorem dX11_isRight_78 : decode cX11_isRight 78 = .ok (.iinc 7 1, 3) := dk_132 7 1 (dk_at dksX11_isRight_3 8 rfl rfl)
theorem dX11_isRight_81 : decode cX11_isRight 81 = .ok (.goto (-42), 3) := dk_167 255 214 (dk_at dksX11_isRight_3 11 rfl rfl)
theorem dX11_isRight_84 : decode cX11_isRight 84 = .ok (.aload_n 0, 1) := dk_42 (dk_at dksX11_isRight_3 14 rfl rfl)
theorem dX11_isRight_85 : decode cX11_isRight 85 = .ok (.aload_n 2, 1) := dk_44 (dk_at dksX11_isRight_3 15 rfl rfl)
theorem dX11_isRight_86 : decode cX11_isRight 86 = .ok (.aload_n 0, 1) := dk_42 (dk_at dksX11_isRight_3 16 rfl rfl)
theorem dX11_isRight_87 : decode cX11_isRight 87 = .ok (.getfield 27, 3) := dk_180 0 27 (dk_at dksX11_isRight_3 17 rfl rfl)
theorem dX11_isRight_90 : decode cX11_isRight 90 = .ok (.aload_n 0, 1) := dk_42 (dk_at dksX11_isRight_3 20 rfl rfl)
theorem dX11_isRight_91 : decode cX11_isRight 91 = .ok (.getfield 9, 3) := dk_180 0 9 (dk_at dksX11_isRight_3 21 rfl rfl)
theorem dX11_isRight_94 : decode cX11_isRight 94 = .ok (.arraylength, 1) := dk_190 (dk_at dksX11_isRight_4 0 rfl rfl)
theorem dX11_isRight_95 : decode cX11_isRight 95 = .ok (.iadd, 1) := dk_96 (dk_at dksX11_isRight_4 1 rfl rfl)
theorem dX11_isRight_96 : decode cX11_isRight 96 = .ok (.aload_n 0, 1) := dk_42 (dk_at dksX11_isRight_4 2 rfl rfl)
theorem dX11_isRight_97 : decode cX11_isRight 97 = .ok (.getfield 21, 3) := dk_180 0 21 (dk_at dksX11_isRight_4 3 rfl rfl)
theorem dX11_isRight_100 : decode cX11_isRight 100 = .ok (.iload 6, 2) := dk_21 6 (dk_at dksX11_isRight_4 6 rfl rfl)
theorem dX11_isRight_102 : decode cX11_isRight 102 = .ok (.invokevirtual 30, 3) := dk_182 0 30 (dk_at dksX11_isRight_4 8 rfl rfl)
theorem dX11_isRight_105 : decode cX11_isRight 105 = .ok (.istore 6, 2) := dk_54 6 (dk_at dksX11_isRight_4 11 rfl rfl)
theorem dX11_isRight_107 : decode cX11_isRight 107 = .ok (.aload_n 2, 1) := dk_44 (dk_at dksX11_isRight_4 13 rfl rfl)
theorem dX11_isRight_108 : decode cX11_isRight 108 = .ok (.aload 5, 2) := dk_25 5 (dk_at dksX11_isRight_4 14 rfl rfl)
theorem dX11_isRight_110 : decode cX11_isRight 110 = .ok (.iconst 0, 1) := dk_3 (dk_at dksX11_isRight_4 16 rfl rfl)
theorem dX11_isRight_111 : decode cX11_isRight 111 = .ok (.invokevirtual 48, 3) := dk_182 0 48 (dk_at dksX11_isRight_4 17 rfl rfl)
theorem dX11_isRight_114 : decode cX11_isRight 114 = .ok (.aload 5, 2) := dk_25 5 (dk_at dksX11_isRight_4 20 rfl rfl)
theorem dX11_isRight_116 : decode cX11_isRight 116 = .ok (.iconst 0, 1) := dk_3 (dk_at dksX11_isRight_4 22 rfl rfl)
theorem dX11_isRight_117 : decode cX11_isRight 117 = .ok (.aload_n 3, 1) := dk_45 (dk_at dksX11_isRight_4 23 rfl rfl)
theorem dX11_isRight_118 : decode cX11_isRight 118 = .ok (.getfield 52, 3) := dk_180 0 52 (dk_at dksX11_isRight_5 0 rfl rfl)
theorem dX11_isRight_121 : decode cX11_isRight 121 = .ok (.iconst 0, 1) := dk_3 (dk_at dksX11_isRight_5 3 rfl rfl)
theorem dX11_isRight_122 : decode cX11_isRight 122 = .ok (.invokestatic 54, 3) := dk_184 0 54 (dk_at dksX11_isRight_5 4 rfl rfl)
theorem dX11_isRight_125 : decode cX11_isRight 125 = .ok (.ireturn, 1) := dk_172 (dk_at dksX11_isRight_5 7 rfl rfl)
abbrev cX11_twin : ByteArray := prog_13_method_5_code
def yX11_twin : MethodName := ⟨RX11, "twin", "()LGlassLog$Proof;"⟩
def dkwX11_twin_0 : List UInt8 := [42, 187, 0, 10, 89, 183, 0, 58, 182, 0, 59, 176]
abbrev dktX11_twin_0 : List UInt8 := dkwX11_twin_0 ++ []
theorem dksX11_twin_0 : cX11_twin.data.toList.drop 0 = dktX11_twin_0 := by decide +kernel
theorem dX11_twin_0 : decode cX11_twin 0 = .ok (.aload_n 0, 1) := dk_42 (dk_at dksX11_twin_0 0 rfl rfl)
theorem dX11_twin_1 : decode cX11_twin 1 = .ok (.new 10, 3) := dk_187 0 10 (dk_at dksX11_twin_0 1 rfl rfl)
theorem dX11_twin_4 : decode cX11_twin 4 = .ok (.dup, 1) := dk_89 (dk_at dksX11_twin_0 4 rfl rfl)
theorem dX11_twin_5 : decode cX11_twin 5 = .ok (.invokespecial 58, 3) := dk_183 0 58 (dk_at dksX11_twin_0 5 rfl rfl)
theorem dX11_twin_8 : decode cX11_twin 8 = .ok (.invokevirtual 59, 3) := dk_182 0 59 (dk_at dksX11_twin_0 8 rfl rfl)
theorem dX11_twin_11 : decode cX11_twin 11 = .ok (.areturn, 1) := dk_176 (dk_at dksX11_twin_0 11 rfl rfl)
abbrev cX11_twin_2 : ByteArray := prog_13_method_6_code
def yX11_twin_2 : MethodName := ⟨RX11, "twin", "(LGlassLog$Span;)LGlassLog$Proof;"⟩
def dkwX11_twin_2_1 : List UInt8 := [180, 0, 34, 190, 184, 0, 69, 181, 0, 34, 43, 42, 182, 0, 72, 176]
abbrev dktX11_twin_2_1 : List UInt8 := dkwX11_twin_2_1 ++ []
def dkwX11_twin_2_0 : List UInt8 := [43, 42, 180, 0, 9, 42, 180, 0, 9, 190, 184, 0, 63, 181, 0, 9, 43, 42, 180, 0, 34, 42]
abbrev dktX11_twin_2_0 : List UInt8 := dkwX11_twin_2_0 ++ dktX11_twin_2_1
theorem dksX11_twin_2_0 : cX11_twin_2.data.toList.drop 0 = dktX11_twin_2_0 := by decide +kernel
theorem dksX11_twin_2_1 : cX11_twin_2.data.toList.drop 22 = dktX11_twin_2_1 := dk_seg dksX11_twin_2_0 22 rfl rfl
theorem dX11_twin_2_0 : decode cX11_twin_2 0 = .ok (.aload_n 1, 1) := dk_43 (dk_at dksX11_twin_2_0 0 rfl rfl)
theorem dX11_twin_2_1 : decode cX11_twin_2 1 = .ok (.aload_n 0, 1) := dk_42 (dk_at dksX11_twin_2_0 1 rfl rfl)
theorem dX11_twin_2_2 : decode cX11_twin_2 2 = .ok (.getfield 9, 3) := dk_180 0 9 (dk_at dksX11_twin_2_0 2 rfl rfl)
theorem dX11_twin_2_5 : decode cX11_twin_2 5 = .ok (.aload_n 0, 1) := dk_42 (dk_at dksX11_twin_2_0 5 rfl rfl)
theorem dX11_twin_2_6 : decode cX11_twin_2 6 = .ok (.getfield 9, 3) := dk_180 0 9 (dk_at dksX11_twin_2_0 6 rfl rfl)
theorem dX11_twin_2_9 : decode cX11_twin_2 9 = .ok (.arraylength, 1) := dk_190 (dk_at dksX11_twin_2_0 9 rfl rfl)
theorem dX11_twin_2_10 : decode cX11_twin_2 10 = .ok (.invokestatic 63, 3) := dk_184 0 63 (dk_at dksX11_twin_2_0 10 rfl rfl)
theorem dX11_twin_2_13 : decode cX11_twin_2 13 = .ok (.putfield 9, 3) := dk_181 0 9 (dk_at dksX11_twin_2_0 13 rfl rfl)
theorem dX11_twin_2_16 : decode cX11_twin_2 16 = .ok (.aload_n 1, 1) := dk_43 (dk_at dksX11_twin_2_0 16 rfl rfl)
theorem dX11_twin_2_17 : decode cX11_twin_2 17 = .ok (.aload_n 0, 1) := dk_42 (dk_at dksX11_twin_2_0 17 rfl rfl)
theorem dX11_twin_2_18 : decode cX11_twin_2 18 = .ok (.getfield 34, 3) := dk_180 0 34 (dk_at dksX11_twin_2_0 18 rfl rfl)
theorem dX11_twin_2_21 : decode cX11_twin_2 21 = .ok (.aload_n 0, 1) := dk_42 (dk_at dksX11_twin_2_0 21 rfl rfl)
theorem dX11_twin_2_22 : decode cX11_twin_2 22 = .ok (.getfield 34, 3) := dk_180 0 34 (dk_at dksX11_twin_2_1 0 rfl rfl)
theorem dX11_twin_2_25 : decode cX11_twin_2 25 = .ok (.arraylength, 1) := dk_190 (dk_at dksX11_twin_2_1 3 rfl rfl)
theorem dX11_twin_2_26 : decode cX11_twin_2 26 = .ok (.invokestatic 69, 3) := dk_184 0 69 (dk_at dksX11_twin_2_1 4 rfl rfl)
theorem dX11_twin_2_29 : decode cX11_twin_2 29 = .ok (.putfield 34, 3) := dk_181 0 34 (dk_at dksX11_twin_2_1 7 rfl rfl)
theorem dX11_twin_2_32 : decode cX11_twin_2 32 = .ok (.aload_n 1, 1) := dk_43 (dk_at dksX11_twin_2_1 10 rfl rfl)
theorem dX11_twin_2_33 : decode cX11_twin_2 33 = .ok (.aload_n 0, 1) := dk_42 (dk_at dksX11_twin_2_1 11 rfl rfl)
theorem dX11_twin_2_34 : decode cX11_twin_2 34 = .ok (.invokevirtual 72, 3) := dk_182 0 72 (dk_at dksX11_twin_2_1 12 rfl rfl)
theorem dX11_twin_2_37 : decode cX11_twin_2 37 = .ok (.areturn, 1) := dk_176 (dk_at dksX11_twin_2_1 15 rfl rfl)
theorem q70 : (Jvm.Cond.initialized "GlassLog$Span") ∈ lw_all := lw_g (lw_at lw_m1 14 rfl) rfl
theorem q179 : (Jvm.Cond.fieldLinkNest "GlassLog$Span" (52 : Nat) "GlassLog$Head" "top" "[I" "GlassLog") ∈ lw_tbl := lw_at lw_m1 123 rfl
theorem q188 : (Jvm.Cond.fieldLinkNest "GlassLog$Span" (15 : Nat) "GlassLog$Head" "n" "I" "GlassLog") ∈ lw_tbl := lw_at lw_m1 132 rfl
theorem q591 : (Jvm.Cond.instanceMethod ({ cls := "GlassLog$Span", name := "<init>", desc := "()V" } : Jvm.MethodName)) ∈ lw_all := lw_g (lw_at lw_m3 55 rfl) rfl
theorem q592 : (Jvm.Cond.code ({ cls := "GlassLog$Span", name := "<init>", desc := "()V" } : Jvm.MethodName) prog_13_method_1_code (1 : Nat) (Option.none : Option Jvm.ClassFile.FieldType)) ∈ lw_all := lw_g (lw_at lw_m3 56 rfl) rfl
theorem q593 : (Jvm.Cond.methodLinkNest "GlassLog$Span" (3 : Nat) ({ cls := "GlassLog$Proof", name := "<init>", desc := "()V" } : Jvm.MethodName) "GlassLog") ∈ lw_tbl := lw_at lw_m3 57 rfl
theorem q597 : (Jvm.Cond.fieldLink "GlassLog$Span" (9 : Nat) "GlassLog$Span" "keys" "[I") ∈ lw_all := lw_g (lw_at lw_m3 61 rfl) rfl
theorem q599 : (Jvm.Cond.fieldLink "GlassLog$Span" (34 : Nat) "GlassLog$Span" "values" "[J") ∈ lw_all := lw_g (lw_at lw_m3 63 rfl) rfl
theorem q603 : (Jvm.Cond.fieldLink "GlassLog$Span" (21 : Nat) "GlassLog$Span" "n" "I") ∈ lw_all := lw_g (lw_at lw_m3 67 rfl) rfl
theorem q604 : (Jvm.Cond.sameField "GlassLog$Span" "GlassLog$Proof" "n" "I") ∈ lw_all := lw_g (lw_at lw_m3 68 rfl) rfl
theorem q611 : (Jvm.Cond.fieldLink "GlassLog$Span" (27 : Nat) "GlassLog$Span" "first" "I") ∈ lw_all := lw_g (lw_at lw_m3 75 rfl) rfl
theorem q612 : (Jvm.Cond.sameField "GlassLog$Span" "GlassLog$Proof" "first" "I") ∈ lw_all := lw_g (lw_at lw_m3 76 rfl) rfl
theorem q626 : (Jvm.Cond.soleField "GlassLog$Span" "keys") ∈ lw_all := lw_g (lw_at lw_m3 90 rfl) rfl
theorem q628 : (Jvm.Cond.soleField "GlassLog$Span" "values") ∈ lw_all := lw_g (lw_at lw_m3 92 rfl) rfl
theorem q749 : (Jvm.Cond.instantiable "GlassLog$Span" (7 : Nat)) ∈ lw_all := lw_g (lw_at lw_m3 213 rfl) rfl
theorem q751 : (Jvm.Cond.lays "GlassLog$Span" "GlassLog$Span" "keys" "[I") ∈ lw_all := lw_g (lw_at lw_m3 215 rfl) rfl
theorem q752 : (Jvm.Cond.lays "GlassLog$Span" "GlassLog$Span" "values" "[J") ∈ lw_all := lw_g (lw_at lw_m3 216 rfl) rfl
theorem q753 : (Jvm.Cond.lays "GlassLog$Span" "GlassLog$Proof" "n" "I") ∈ lw_all := lw_g (lw_at lw_m3 217 rfl) rfl
theorem q754 : (Jvm.Cond.lays "GlassLog$Span" "GlassLog$Proof" "first" "I") ∈ lw_all := lw_g (lw_at lw_m3 218 rfl) rfl
theorem q755 : (Jvm.Cond.lays "GlassLog$Span" "GlassLog$Proof" "second" "I") ∈ lw_all := lw_g (lw_at lw_m3 219 rfl) rfl
theorem q756 : (Jvm.Cond.lays "GlassLog$Span" "GlassLog$Proof" "many" "I") ∈ lw_all := lw_g (lw_at lw_m3 220 rfl) rfl
theorem q757 : (Jvm.Cond.lays "GlassLog$Span" "GlassLog$Proof" "steps" "[I") ∈ lw_all := lw_g (lw_at lw_m3 221 rfl) rfl
theorem q758 : (Jvm.Cond.superclass "GlassLog$Span" "GlassLog$Proof") ∈ lw_all := lw_g (lw_at lw_m3 222 rfl) rfl
theorem q784 : (Jvm.Cond.selects "GlassLog$Span" ({ cls := "GlassLog$Proof", name := "kind", desc := "()I" } : Jvm.MethodName) ({ cls := "GlassLog$Span", name := "kind", desc := "()I" } : Jvm.MethodName)) ∈ lw_all := lw_g (lw_at lw_m4 8 rfl) rfl
theorem q785 : (Jvm.Cond.instanceMethod ({ cls := "GlassLog$Span", name := "kind", desc := "()I" } : Jvm.MethodName)) ∈ lw_all := lw_g (lw_at lw_m4 9 rfl) rfl
theorem q786 : (Jvm.Cond.code ({ cls := "GlassLog$Span", name := "kind", desc := "()I" } : Jvm.MethodName) prog_13_method_2_code (1 : Nat) (Option.some Jvm.ClassFile.FieldType.int)) ∈ lw_all := lw_g (lw_at lw_m4 10 rfl) rfl
theorem q798 : (Jvm.Cond.selects "GlassLog$Span" ({ cls := "GlassLog$Proof", name := "key", desc := "()I" } : Jvm.MethodName) ({ cls := "GlassLog$Span", name := "key", desc := "()I" } : Jvm.MethodName)) ∈ lw_all := lw_g (lw_at lw_m4 22 rfl) rfl
theorem q799 : (Jvm.Cond.instanceMethod ({ cls := "GlassLog$Span", name := "key", desc := "()I" } : Jvm.MethodName)) ∈ lw_all := lw_g (lw_at lw_m4 23 rfl) rfl
theorem q800 : (Jvm.Cond.code ({ cls := "GlassLog$Span", name := "key", desc := "()I" } : Jvm.MethodName) prog_13_method_3_code (1 : Nat) (Option.some Jvm.ClassFile.FieldType.int)) ∈ lw_all := lw_g (lw_at lw_m4 24 rfl) rfl
theorem q811 : (Jvm.Cond.selects "GlassLog$Span" ({ cls := "GlassLog$Proof", name := "latest", desc := "()I" } : Jvm.MethodName) ({ cls := "GlassLog$Proof", name := "latest", desc := "()I" } : Jvm.MethodName)) ∈ lw_all := lw_g (lw_at lw_m4 35 rfl) rfl
theorem q822 : (Jvm.Cond.selects "GlassLog$Span" ({ cls := "GlassLog$Proof", name := "other", desc := "()I" } : Jvm.MethodName) ({ cls := "GlassLog$Proof", name := "other", desc := "()I" } : Jvm.MethodName)) ∈ lw_all := lw_g (lw_at lw_m4 46 rfl) rfl
theorem q1022 : (Jvm.Cond.selects "GlassLog$Span" ({ cls := "GlassLog$Proof", name := "isRight", desc := "(LGlassLog$Mixer;LGlassLog$Pile;LGlassLog$Head;LGlassLog$Head;)Z" } : Jvm.MethodName) ({ cls := "GlassLog$Span", name := "isRight", desc := "(LGlassLog$Mixer;LGlassLog$Pile;LGlassLog$Head;LGlassLog$Head;)Z" } : Jvm.MethodName)) ∈ lw_all := lw_g (lw_at lw_m5 6 rfl) rfl
theorem q1023 : (Jvm.Cond.instanceMethod ({ cls := "GlassLog$Span", name := "isRight", desc := "(LGlassLog$Mixer;LGlassLog$Pile;LGlassLog$Head;LGlassLog$Head;)Z" } : Jvm.MethodName)) ∈ lw_all := lw_g (lw_at lw_m5 7 rfl) rfl
theorem q1024 : (Jvm.Cond.code ({ cls := "GlassLog$Span", name := "isRight", desc := "(LGlassLog$Mixer;LGlassLog$Pile;LGlassLog$Head;LGlassLog$Head;)Z" } : Jvm.MethodName) prog_13_method_4_code (8 : Nat) (Option.some Jvm.ClassFile.FieldType.boolean)) ∈ lw_all := lw_g (lw_at lw_m5 8 rfl) rfl
theorem q1025 : (Jvm.Cond.methodLink "GlassLog$Span" (22 : Nat) ({ cls := "GlassLog$Pile", name := "begin", desc := "()V" } : Jvm.MethodName)) ∈ lw_all := lw_g (lw_at lw_m5 9 rfl) rfl
theorem q1026 : (Jvm.Cond.methodLink "GlassLog$Span" (30 : Nat) ({ cls := "GlassLog$Span", name := "piles", desc := "(LGlassLog$Pile;III)I" } : Jvm.MethodName)) ∈ lw_all := lw_g (lw_at lw_m5 10 rfl) rfl
theorem q1027 : (Jvm.Cond.sameMethod "GlassLog$Span" "GlassLog$Proof" "piles" "(LGlassLog$Pile;III)I") ∈ lw_all := lw_g (lw_at lw_m5 11 rfl) rfl
theorem q1028 : (Jvm.Cond.selects "GlassLog$Span" ({ cls := "GlassLog$Span", name := "piles", desc := "(LGlassLog$Pile;III)I" } : Jvm.MethodName) ({ cls := "GlassLog$Proof", name := "piles", desc := "(LGlassLog$Pile;III)I" } : Jvm.MethodName)) ∈ lw_all := lw_g (lw_at lw_m5 12 rfl) rfl
theorem q1030 : (Jvm.Cond.methodLink "GlassLog$Span" (38 : Nat) ({ cls := "GlassLog$Mixer", name := "entry", desc := "(IJ[II)V" } : Jvm.MethodName)) ∈ lw_all := lw_g (lw_at lw_m5 14 rfl) rfl
theorem q1031 : (Jvm.Cond.methodLink "GlassLog$Span" (44 : Nat) ({ cls := "GlassLog$Pile", name := "add", desc := "(I[II)V" } : Jvm.MethodName)) ∈ lw_all := lw_g (lw_at lw_m5 15 rfl) rfl
theorem q1032 : (Jvm.Cond.methodLink "GlassLog$Span" (48 : Nat) ({ cls := "GlassLog$Pile", name := "top", desc := "([II)V" } : Jvm.MethodName)) ∈ lw_all := lw_g (lw_at lw_m5 16 rfl) rfl
theorem q1033 : (Jvm.Cond.methodLinkNest "GlassLog$Span" (54 : Nat) ({ cls := "GlassLog", name := "isLike", desc := "([II[II)Z" } : Jvm.MethodName) "GlassLog") ∈ lw_tbl := lw_at lw_m5 17 rfl
theorem q1142 : (Jvm.Cond.selects "GlassLog$Span" ({ cls := "GlassLog$Proof", name := "twin", desc := "()LGlassLog$Proof;" } : Jvm.MethodName) ({ cls := "GlassLog$Span", name := "twin", desc := "()LGlassLog$Proof;" } : Jvm.MethodName)) ∈ lw_all := lw_g (lw_at lw_m5 126 rfl) rfl
theorem q1143 : (Jvm.Cond.instanceMethod ({ cls := "GlassLog$Span", name := "twin", desc := "()LGlassLog$Proof;" } : Jvm.MethodName)) ∈ lw_all := lw_g (lw_at lw_m5 127 rfl) rfl
theorem q1144 : (Jvm.Cond.code ({ cls := "GlassLog$Span", name := "twin", desc := "()LGlassLog$Proof;" } : Jvm.MethodName) prog_13_method_5_code (1 : Nat) (Option.some (Jvm.ClassFile.FieldType.object "GlassLog$Proof"))) ∈ lw_all := lw_g (lw_at lw_m5 128 rfl) rfl
theorem q1145 : (Jvm.Cond.classLink "GlassLog$Span" (10 : Nat) "GlassLog$Span") ∈ lw_all := lw_g (lw_at lw_m5 129 rfl) rfl
theorem q1146 : (Jvm.Cond.methodLink "GlassLog$Span" (58 : Nat) ({ cls := "GlassLog$Span", name := "<init>", desc := "()V" } : Jvm.MethodName)) ∈ lw_all := lw_g (lw_at lw_m5 130 rfl) rfl
theorem q1147 : (Jvm.Cond.methodLink "GlassLog$Span" (59 : Nat) ({ cls := "GlassLog$Span", name := "twin", desc := "(LGlassLog$Span;)LGlassLog$Proof;" } : Jvm.MethodName)) ∈ lw_all := lw_g (lw_at lw_m5 131 rfl) rfl
theorem q1148 : (Jvm.Cond.instanceMethod ({ cls := "GlassLog$Span", name := "twin", desc := "(LGlassLog$Span;)LGlassLog$Proof;" } : Jvm.MethodName)) ∈ lw_all := lw_g (lw_at lw_m5 132 rfl) rfl
theorem q1149 : (Jvm.Cond.selects "GlassLog$Span" ({ cls := "GlassLog$Span", name := "twin", desc := "(LGlassLog$Span;)LGlassLog$Proof;" } : Jvm.MethodName) ({ cls := "GlassLog$Span", name := "twin", desc := "(LGlassLog$Span;)LGlassLog$Proof;" } : Jvm.MethodName)) ∈ lw_all := lw_g (lw_at lw_m5 133 rfl) rfl
theorem q1150 : (Jvm.Cond.sameMethod "GlassLog$Span" "GlassLog$Span" "twin" "(LGlassLog$Span;)LGlassLog$Proof;") ∈ lw_all := lw_g (lw_at lw_m5 134 rfl) rfl
theorem q1152 : (Jvm.Cond.code ({ cls := "GlassLog$Span", name := "twin", desc := "(LGlassLog$Span;)LGlassLog$Proof;" } : Jvm.MethodName) prog_13_method_6_code (2 : Nat) (Option.some (Jvm.ClassFile.FieldType.object "GlassLog$Proof"))) ∈ lw_all := lw_g (lw_at lw_m5 136 rfl) rfl
theorem q1153 : (Jvm.Cond.methodLink "GlassLog$Span" (63 : Nat) ({ cls := "java/util/Arrays", name := "copyOf", desc := "([II)[I" } : Jvm.MethodName)) ∈ lw_all := lw_g (lw_at lw_m5 137 rfl) rfl
theorem q1154 : (Jvm.Cond.methodLink "GlassLog$Span" (69 : Nat) ({ cls := "java/util/Arrays", name := "copyOf", desc := "([JI)[J" } : Jvm.MethodName)) ∈ lw_all := lw_g (lw_at lw_m5 138 rfl) rfl
theorem q1162 : (Jvm.Cond.methodLink "GlassLog$Span" (72 : Nat) ({ cls := "GlassLog$Span", name := "become", desc := "(LGlassLog$Proof;)LGlassLog$Proof;" } : Jvm.MethodName)) ∈ lw_all := lw_g (lw_at lw_m5 146 rfl) rfl
theorem q1163 : (Jvm.Cond.sameMethod "GlassLog$Span" "GlassLog$Proof" "become" "(LGlassLog$Proof;)LGlassLog$Proof;") ∈ lw_all := lw_g (lw_at lw_m5 147 rfl) rfl
theorem q1164 : (Jvm.Cond.selects "GlassLog$Span" ({ cls := "GlassLog$Span", name := "become", desc := "(LGlassLog$Proof;)LGlassLog$Proof;" } : Jvm.MethodName) ({ cls := "GlassLog$Proof", name := "become", desc := "(LGlassLog$Proof;)LGlassLog$Proof;" } : Jvm.MethodName)) ∈ lw_all := lw_g (lw_at lw_m5 148 rfl) rfl
theorem q1173 : (Jvm.Cond.declares ({ cls := "GlassLog$Span", name := "twin", desc := "(LGlassLog$Span;)LGlassLog$Proof;" } : Jvm.MethodName)) ∈ lw_tbl := lw_at lw_m5 157 rfl
theorem q1703 : (Jvm.Cond.castable "GlassLog$Span" "GlassLog$Proof") ∈ lw_tbl := lw_at lw_m7 207 rfl
theorem in_X11 : ∀ w ∈ wsX110, w ∈ lw_all := lw_in wsX110 [753, 754, 755, 756, 757, 751, 752] (by decide +kernel) (by decide +kernel)

/-! GlassLog$Within -/
set_option maxRecDepth 100000
def RX12 : String := "GlassLog$Within"
def TX12 : u_T := fun k => match k with
  | 0 => ("GlassLog$Proof", "n", "I", false)
  | 1 => ("GlassLog$Proof", "first", "I", false)
  | 2 => ("GlassLog$Proof", "second", "I", false)
  | 3 => ("GlassLog$Proof", "many", "I", false)
  | 4 => ("GlassLog$Proof", "steps", "[I", false)
  | 5 => ("GlassLog$Span", "keys", "[I", false)
  | _ => ("GlassLog$Span", "values", "[J", false)
def tyX12 : Nat → FieldType := fun k => match k with
  | 0 => .int
  | 1 => .int
  | 2 => .int
  | 3 => .int
  | 4 => .array .int
  | 5 => .array .int
  | _ => .array .long
abbrev wsX120 : List Cond := u_ws RX12 TX12 7
theorem nmX12 : ∀ a, a < 7 → ∀ b, b < 7 → a ≠ b → (TX12 a).2.1 ≠ (TX12 b).2.1 := by decide +kernel
theorem tyX12_ok : ∀ k, k < 7 → parseFieldDescriptor (TX12 k).2.2.1 = some (tyX12 k) := by decide +kernel
abbrev cX12_init : ByteArray := prog_15_method_1_code
def yX12_init : MethodName := ⟨RX12, "<init>", "()V"⟩
theorem dX12_init_0 : decode cX12_init 0 = .ok (.aload_n 0, 1) := by decide +kernel
theorem dX12_init_1 : decode cX12_init 1 = .ok (.invokespecial 3, 3) := by decide +kernel
theorem dX12_init_4 : decode cX12_init 4 = .ok (.return_, 1) := by decide +kernel
abbrev cX12_kind : ByteArray := prog_15_method_2_code
def yX12_kind : MethodName := ⟨RX12, "kind", "()I"⟩
theorem dX12_kind_0 : decode cX12_kind 0 = .ok (.iconst 1, 1) := by decide +kernel
theorem dX12_kind_1 : decode cX12_kind 1 = .ok (.ireturn, 1) := by decide +kernel
abbrev cX12_twin : ByteArray := prog_15_method_3_code
def yX12_twin : MethodName := ⟨RX12, "twin", "()LGlassLog$Proof;"⟩
def dkwX12_twin_0 : List UInt8 := [42, 187, 0, 9, 89, 183, 0, 11, 182, 0, 12, 176]
abbrev dktX12_twin_0 : List UInt8 := dkwX12_twin_0 ++ []
theorem dksX12_twin_0 : cX12_twin.data.toList.drop 0 = dktX12_twin_0 := by decide +kernel
theorem dX12_twin_0 : decode cX12_twin 0 = .ok (.aload_n 0, 1) := dk_42 (dk_at dksX12_twin_0 0 rfl rfl)
theorem dX12_twin_1 : decode cX12_twin 1 = .ok (.new 9, 3) := dk_187 0 9 (dk_at dksX12_twin_0 1 rfl rfl)
theorem dX12_twin_4 : decode cX12_twin 4 = .ok (.dup, 1) := dk_89 (dk_at dksX12_twin_0 4 rfl rfl)
theorem dX12_twin_5 : decode cX12_twin 5 = .ok (.invokespecial 11, 3) := dk_183 0 11 (dk_at dksX12_twin_0 5 rfl rfl)
theorem dX12_twin_8 : decode cX12_twin 8 = .ok (.invokevirtual 12, 3) := dk_182 0 12 (dk_at dksX12_twin_0 8 rfl rfl)
theorem dX12_twin_11 : decode cX12_twin 11 = .ok (.areturn, 1) := dk_176 (dk_at dksX12_twin_0 11 rfl rfl)
theorem q71 : (Jvm.Cond.initialized "GlassLog$Within") ∈ lw_all := lw_g (lw_at lw_m1 15 rfl) rfl
theorem q586 : (Jvm.Cond.instantiable "GlassLog$Within" (7 : Nat)) ∈ lw_all := lw_g (lw_at lw_m3 50 rfl) rfl
theorem q588 : (Jvm.Cond.instanceMethod ({ cls := "GlassLog$Within", name := "<init>", desc := "()V" } : Jvm.MethodName)) ∈ lw_all := lw_g (lw_at lw_m3 52 rfl) rfl
theorem q589 : (Jvm.Cond.code ({ cls := "GlassLog$Within", name := "<init>", desc := "()V" } : Jvm.MethodName) prog_15_method_1_code (1 : Nat) (Option.none : Option Jvm.ClassFile.FieldType)) ∈ lw_all := lw_g (lw_at lw_m3 53 rfl) rfl
theorem q590 : (Jvm.Cond.methodLinkNest "GlassLog$Within" (3 : Nat) ({ cls := "GlassLog$Span", name := "<init>", desc := "()V" } : Jvm.MethodName) "GlassLog") ∈ lw_tbl := lw_at lw_m3 54 rfl
theorem q625 : (Jvm.Cond.lays "GlassLog$Within" "GlassLog$Span" "keys" "[I") ∈ lw_all := lw_g (lw_at lw_m3 89 rfl) rfl
theorem q627 : (Jvm.Cond.lays "GlassLog$Within" "GlassLog$Span" "values" "[J") ∈ lw_all := lw_g (lw_at lw_m3 91 rfl) rfl
theorem q629 : (Jvm.Cond.lays "GlassLog$Within" "GlassLog$Proof" "n" "I") ∈ lw_all := lw_g (lw_at lw_m3 93 rfl) rfl
theorem q631 : (Jvm.Cond.lays "GlassLog$Within" "GlassLog$Proof" "first" "I") ∈ lw_all := lw_g (lw_at lw_m3 95 rfl) rfl
theorem q633 : (Jvm.Cond.lays "GlassLog$Within" "GlassLog$Proof" "second" "I") ∈ lw_all := lw_g (lw_at lw_m3 97 rfl) rfl
theorem q635 : (Jvm.Cond.lays "GlassLog$Within" "GlassLog$Proof" "many" "I") ∈ lw_all := lw_g (lw_at lw_m3 99 rfl) rfl
theorem q637 : (Jvm.Cond.lays "GlassLog$Within" "GlassLog$Proof" "steps" "[I") ∈ lw_all := lw_g (lw_at lw_m3 101 rfl) rfl
theorem q639 : (Jvm.Cond.superclass "GlassLog$Within" "GlassLog$Span") ∈ lw_all := lw_g (lw_at lw_m3 103 rfl) rfl
theorem q787 : (Jvm.Cond.selects "GlassLog$Within" ({ cls := "GlassLog$Proof", name := "kind", desc := "()I" } : Jvm.MethodName) ({ cls := "GlassLog$Within", name := "kind", desc := "()I" } : Jvm.MethodName)) ∈ lw_all := lw_g (lw_at lw_m4 11 rfl) rfl
theorem q788 : (Jvm.Cond.instanceMethod ({ cls := "GlassLog$Within", name := "kind", desc := "()I" } : Jvm.MethodName)) ∈ lw_all := lw_g (lw_at lw_m4 12 rfl) rfl
theorem q789 : (Jvm.Cond.code ({ cls := "GlassLog$Within", name := "kind", desc := "()I" } : Jvm.MethodName) prog_15_method_2_code (1 : Nat) (Option.some Jvm.ClassFile.FieldType.int)) ∈ lw_all := lw_g (lw_at lw_m4 13 rfl) rfl
theorem q801 : (Jvm.Cond.selects "GlassLog$Within" ({ cls := "GlassLog$Proof", name := "key", desc := "()I" } : Jvm.MethodName) ({ cls := "GlassLog$Span", name := "key", desc := "()I" } : Jvm.MethodName)) ∈ lw_all := lw_g (lw_at lw_m4 25 rfl) rfl
theorem q812 : (Jvm.Cond.selects "GlassLog$Within" ({ cls := "GlassLog$Proof", name := "latest", desc := "()I" } : Jvm.MethodName) ({ cls := "GlassLog$Proof", name := "latest", desc := "()I" } : Jvm.MethodName)) ∈ lw_all := lw_g (lw_at lw_m4 36 rfl) rfl
theorem q823 : (Jvm.Cond.selects "GlassLog$Within" ({ cls := "GlassLog$Proof", name := "other", desc := "()I" } : Jvm.MethodName) ({ cls := "GlassLog$Proof", name := "other", desc := "()I" } : Jvm.MethodName)) ∈ lw_all := lw_g (lw_at lw_m4 47 rfl) rfl
theorem q1029 : (Jvm.Cond.selects "GlassLog$Within" ({ cls := "GlassLog$Span", name := "piles", desc := "(LGlassLog$Pile;III)I" } : Jvm.MethodName) ({ cls := "GlassLog$Proof", name := "piles", desc := "(LGlassLog$Pile;III)I" } : Jvm.MethodName)) ∈ lw_all := lw_g (lw_at lw_m5 13 rfl) rfl
theorem q1034 : (Jvm.Cond.selects "GlassLog$Within" ({ cls := "GlassLog$Proof", name := "isRight", desc := "(LGlassLog$Mixer;LGlassLog$Pile;LGlassLog$Head;LGlassLog$Head;)Z" } : Jvm.MethodName) ({ cls := "GlassLog$Span", name := "isRight", desc := "(LGlassLog$Mixer;LGlassLog$Pile;LGlassLog$Head;LGlassLog$Head;)Z" } : Jvm.MethodName)) ∈ lw_all := lw_g (lw_at lw_m5 18 rfl) rfl
theorem q1151 : (Jvm.Cond.selects "GlassLog$Within" ({ cls := "GlassLog$Span", name := "twin", desc := "(LGlassLog$Span;)LGlassLog$Proof;" } : Jvm.MethodName) ({ cls := "GlassLog$Span", name := "twin", desc := "(LGlassLog$Span;)LGlassLog$Proof;" } : Jvm.MethodName)) ∈ lw_all := lw_g (lw_at lw_m5 135 rfl) rfl
theorem q1165 : (Jvm.Cond.selects "GlassLog$Within" ({ cls := "GlassLog$Span", name := "become", desc := "(LGlassLog$Proof;)LGlassLog$Proof;" } : Jvm.MethodName) ({ cls := "GlassLog$Proof", name := "become", desc := "(LGlassLog$Proof;)LGlassLog$Proof;" } : Jvm.MethodName)) ∈ lw_all := lw_g (lw_at lw_m5 149 rfl) rfl
theorem q1166 : (Jvm.Cond.selects "GlassLog$Within" ({ cls := "GlassLog$Proof", name := "twin", desc := "()LGlassLog$Proof;" } : Jvm.MethodName) ({ cls := "GlassLog$Within", name := "twin", desc := "()LGlassLog$Proof;" } : Jvm.MethodName)) ∈ lw_all := lw_g (lw_at lw_m5 150 rfl) rfl
theorem q1167 : (Jvm.Cond.instanceMethod ({ cls := "GlassLog$Within", name := "twin", desc := "()LGlassLog$Proof;" } : Jvm.MethodName)) ∈ lw_all := lw_g (lw_at lw_m5 151 rfl) rfl
theorem q1168 : (Jvm.Cond.code ({ cls := "GlassLog$Within", name := "twin", desc := "()LGlassLog$Proof;" } : Jvm.MethodName) prog_15_method_3_code (1 : Nat) (Option.some (Jvm.ClassFile.FieldType.object "GlassLog$Proof"))) ∈ lw_all := lw_g (lw_at lw_m5 152 rfl) rfl
theorem q1169 : (Jvm.Cond.classLink "GlassLog$Within" (9 : Nat) "GlassLog$Within") ∈ lw_all := lw_g (lw_at lw_m5 153 rfl) rfl
theorem q1170 : (Jvm.Cond.methodLink "GlassLog$Within" (11 : Nat) ({ cls := "GlassLog$Within", name := "<init>", desc := "()V" } : Jvm.MethodName)) ∈ lw_all := lw_g (lw_at lw_m5 154 rfl) rfl
theorem q1171 : (Jvm.Cond.methodLink "GlassLog$Within" (12 : Nat) ({ cls := "GlassLog$Within", name := "twin", desc := "(LGlassLog$Span;)LGlassLog$Proof;" } : Jvm.MethodName)) ∈ lw_all := lw_g (lw_at lw_m5 155 rfl) rfl
theorem q1172 : (Jvm.Cond.sameMethod "GlassLog$Within" "GlassLog$Span" "twin" "(LGlassLog$Span;)LGlassLog$Proof;") ∈ lw_all := lw_g (lw_at lw_m5 156 rfl) rfl
theorem q1174 : (Jvm.Cond.selects "GlassLog$Within" ({ cls := "GlassLog$Within", name := "twin", desc := "(LGlassLog$Span;)LGlassLog$Proof;" } : Jvm.MethodName) ({ cls := "GlassLog$Span", name := "twin", desc := "(LGlassLog$Span;)LGlassLog$Proof;" } : Jvm.MethodName)) ∈ lw_all := lw_g (lw_at lw_m5 158 rfl) rfl
theorem q1704 : (Jvm.Cond.castable "GlassLog$Within" "GlassLog$Proof") ∈ lw_tbl := lw_at lw_m7 208 rfl
theorem q1705 : (Jvm.Cond.castable "GlassLog$Within" "GlassLog$Span") ∈ lw_tbl := lw_at lw_m7 209 rfl
theorem in_X12 : ∀ w ∈ wsX120, w ∈ lw_all := lw_in wsX120 [629, 631, 633, 635, 637, 625, 627] (by decide +kernel) (by decide +kernel)

/-! GlassLog$Grown -/
set_option maxRecDepth 100000
def RX13 : String := "GlassLog$Grown"
def TX13 : u_T := fun k => match k with
  | 0 => ("GlassLog$Proof", "n", "I", false)
  | 1 => ("GlassLog$Proof", "first", "I", false)
  | 2 => ("GlassLog$Proof", "second", "I", false)
  | 3 => ("GlassLog$Proof", "many", "I", false)
  | _ => ("GlassLog$Proof", "steps", "[I", false)
def tyX13 : Nat → FieldType := fun k => match k with
  | 0 => .int
  | 1 => .int
  | 2 => .int
  | 3 => .int
  | _ => .array .int
abbrev wsX130 : List Cond := u_ws RX13 TX13 5
theorem nmX13 : ∀ a, a < 5 → ∀ b, b < 5 → a ≠ b → (TX13 a).2.1 ≠ (TX13 b).2.1 := by decide +kernel
theorem tyX13_ok : ∀ k, k < 5 → parseFieldDescriptor (TX13 k).2.2.1 = some (tyX13 k) := by decide +kernel
abbrev cX13_init : ByteArray := prog_3_method_1_code
def yX13_init : MethodName := ⟨RX13, "<init>", "()V"⟩
theorem dX13_init_0 : decode cX13_init 0 = .ok (.aload_n 0, 1) := by decide +kernel
theorem dX13_init_1 : decode cX13_init 1 = .ok (.invokespecial 3, 3) := by decide +kernel
theorem dX13_init_4 : decode cX13_init 4 = .ok (.return_, 1) := by decide +kernel
abbrev cX13_kind : ByteArray := prog_3_method_2_code
def yX13_kind : MethodName := ⟨RX13, "kind", "()I"⟩
theorem dX13_kind_0 : decode cX13_kind 0 = .ok (.iconst 2, 1) := by decide +kernel
theorem dX13_kind_1 : decode cX13_kind 1 = .ok (.ireturn, 1) := by decide +kernel
abbrev cX13_isRight : ByteArray := prog_3_method_3_code
def yX13_isRight : MethodName := ⟨RX13, "isRight", "(LGlassLog$Mixer;LGlassLog$Pile;LGlassLog$Head;LGlassLog$Head;)Z"⟩
def dkwX13_isRight_4 : List UInt8 := [153, 0, 22, 25, 5, 3, 25, 4, 180, 0, 34, 3, 184, 0, 37, 153, 0, 7, 4, 167, 0, 4, 3, 172]
abbrev dktX13_isRight_4 : List UInt8 := dkwX13_isRight_4 ++ []
def dkwX13_isRight_3 : List UInt8 := [180, 0, 15, 42, 180, 0, 20, 21, 6, 182, 0, 26, 54, 6, 44, 25, 5, 3, 182, 0, 30, 21, 7]
abbrev dktX13_isRight_3 : List UInt8 := dkwX13_isRight_3 ++ dktX13_isRight_4
def dkwX13_isRight_2 : List UInt8 := [44, 25, 5, 3, 182, 0, 30, 25, 5, 3, 45, 180, 0, 34, 3, 184, 0, 37, 54, 7, 42, 44, 42]
abbrev dktX13_isRight_2 : List UInt8 := dkwX13_isRight_2 ++ dktX13_isRight_3
def dkwX13_isRight_1 : List UInt8 := [172, 16, 8, 188, 10, 58, 5, 44, 182, 0, 21, 42, 44, 3, 42, 180, 0, 15, 3, 182, 0, 26, 54, 6]
abbrev dktX13_isRight_1 : List UInt8 := dkwX13_isRight_1 ++ dktX13_isRight_2
def dkwX13_isRight_0 : List UInt8 := [45, 180, 0, 9, 42, 180, 0, 15, 160, 0, 15, 25, 4, 180, 0, 9, 42, 180, 0, 20, 159, 0, 5, 3]
abbrev dktX13_isRight_0 : List UInt8 := dkwX13_isRight_0 ++ dktX13_isRight_1
theorem dksX13_isRight_0 : cX13_isRight.data.toList.drop 0 = dktX13_isRight_0 := by decide +kernel
theorem dksX13_isRight_1 : cX13_isRight.data.toList.drop 24 = dktX13_isRight_1 := dk_seg dksX13_isRight_0 24 rfl rfl
theorem dksX13_isRight_2 : cX13_isRight.data.toList.drop 48 = dktX13_isRight_2 := dk_seg dksX13_isRight_1 24 rfl rfl
theorem dksX13_isRight_3 : cX13_isRight.data.toList.drop 71 = dktX13_isRight_3 := dk_seg dksX13_isRight_2 23 rfl rfl
theorem dksX13_isRight_4 : cX13_isRight.data.toList.drop 94 = dktX13_isRight_4 := dk_seg dksX13_isRight_3 23 rfl rfl
theorem dX13_isRight_0 : decode cX13_isRight 0 = .ok (.aload_n 3, 1) := dk_45 (dk_at dksX13_isRight_0 0 rfl rfl)
theorem dX13_isRight_1 : decode cX13_isRight 1 = .ok (.getfield 9, 3) := dk_180 0 9 (dk_at dksX13_isRight_0 1 rfl rfl)
theorem dX13_isRight_4 : decode cX13_isRight 4 = .ok (.aload_n 0, 1) := dk_42 (dk_at dksX13_isRight_0 4 rfl rfl)
theorem dX13_isRight_5 : decode cX13_isRight 5 = .ok (.getfield 15, 3) := dk_180 0 15 (dk_at dksX13_isRight_0 5 rfl rfl)
theorem dX13_isRight_8 : decode cX13_isRight 8 = .ok (.if_icmp .ne 15, 3) := dk_160 0 15 (dk_at dksX13_isRight_0 8 rfl rfl)
theorem dX13_isRight_11 : decode cX13_isRight 11 = .ok (.aload 4, 2) := dk_25 4 (dk_at dksX13_isRight_0 11 rfl rfl)
theorem dX13_isRight_13 : decode cX13_isRight 13 = .ok (.getfield 9, 3) := dk_180 0 9 (dk_at dksX13_isRight_0 13 rfl rfl)
theorem dX13_isRight_16 : decode cX13_isRight 16 = .ok (.aload_n 0, 1) := dk_42 (dk_at dksX13_isRight_0 16 rfl rfl)
theorem dX13_isRight_17 : decode cX13_isRight 17 = .ok (.getfield 20, 3) := dk_180 0 20 (dk_at dksX13_isRight_0 17 rfl rfl)
theorem dX13_isRight_20 : decode cX13_isRight 20 = .ok (.if_icmp .eq 5, 3) := dk_159 0 5 (dk_at dksX13_isRight_0 20 rfl rfl)
theorem dX13_isRight_23 : decode cX13_isRight 23 = .ok (.iconst 0, 1) := dk_3 (dk_at dksX13_isRight_0 23 rfl rfl)
theorem dX13_isRight_24 : decode cX13_isRight 24 = .ok (.ireturn, 1) := dk_172 (dk_at dksX13_isRight_1 0 rfl rfl)
theorem dX13_isRight_25 : decode cX13_isRight 25 = .ok (.bipush 8, 2) := dk_16 8 (dk_at dksX13_isRight_1 1 rfl rfl)
theorem dX13_isRight_27 : decode cX13_isRight 27 = .ok (.newarray .int, 2) := dk_188_10 (dk_at dksX13_isRight_1 3 rfl rfl)
theorem dX13_isRight_29 : decode cX13_isRight 29 = .ok (.astore 5, 2) := dk_58 5 (dk_at dksX13_isRight_1 5 rfl rfl)
theorem dX13_isRight_31 : decode cX13_isRight 31 = .ok (.aload_n 2, 1) := dk_44 (dk_at dksX13_isRight_1 7 rfl rfl)
theorem dX13_isRight_32 : decode cX13_isRight 32 = .ok (.invokevirtual 21, 3) := dk_182 0 21 (dk_at dksX13_isRight_1 8 rfl rfl)
theorem dX13_isRight_35 : decode cX13_isRight 35 = .ok (.aload_n 0, 1) := dk_42 (dk_at dksX13_isRight_1 11 rfl rfl)
theorem dX13_isRight_36 : decode cX13_isRight 36 = .ok (.aload_n 2, 1) := dk_44 (dk_at dksX13_isRight_1 12 rfl rfl)
theorem dX13_isRight_37 : decode cX13_isRight 37 = .ok (.iconst 0, 1) := dk_3 (dk_at dksX13_isRight_1 13 rfl rfl)
theorem dX13_isRight_38 : decode cX13_isRight 38 = .ok (.aload_n 0, 1) := dk_42 (dk_at dksX13_isRight_1 14 rfl rfl)
theorem dX13_isRight_39 : decode cX13_isRight 39 = .ok (.getfield 15, 3) := dk_180 0 15 (dk_at dksX13_isRight_1 15 rfl rfl)
theorem dX13_isRight_42 : decode cX13_isRight 42 = .ok (.iconst 0, 1) := dk_3 (dk_at dksX13_isRight_1 18 rfl rfl)
theorem dX13_isRight_43 : decode cX13_isRight 43 = .ok (.invokevirtual 26, 3) := dk_182 0 26 (dk_at dksX13_isRight_1 19 rfl rfl)
theorem dX13_isRight_46 : decode cX13_isRight 46 = .ok (.istore 6, 2) := dk_54 6 (dk_at dksX13_isRight_1 22 rfl rfl)
theorem dX13_isRight_48 : decode cX13_isRight 48 = .ok (.aload_n 2, 1) := dk_44 (dk_at dksX13_isRight_2 0 rfl rfl)
theorem dX13_isRight_49 : decode cX13_isRight 49 = .ok (.aload 5, 2) := dk_25 5 (dk_at dksX13_isRight_2 1 rfl rfl)
theorem dX13_isRight_51 : decode cX13_isRight 51 = .ok (.iconst 0, 1) := dk_3 (dk_at dksX13_isRight_2 3 rfl rfl)
theorem dX13_isRight_52 : decode cX13_isRight 52 = .ok (.invokevirtual 30, 3) := dk_182 0 30 (dk_at dksX13_isRight_2 4 rfl rfl)
theorem dX13_isRight_55 : decode cX13_isRight 55 = .ok (.aload 5, 2) := dk_25 5 (dk_at dksX13_isRight_2 7 rfl rfl)
theorem dX13_isRight_57 : decode cX13_isRight 57 = .ok (.iconst 0, 1) := dk_3 (dk_at dksX13_isRight_2 9 rfl rfl)
theorem dX13_isRight_58 : decode cX13_isRight 58 = .ok (.aload_n 3, 1) := dk_45 (dk_at dksX13_isRight_2 10 rfl rfl)
theorem dX13_isRight_59 : decode cX13_isRight 59 = .ok (.getfield 34, 3) := dk_180 0 34 (dk_at dksX13_isRight_2 11 rfl rfl)
theorem dX13_isRight_62 : decode cX13_isRight 62 = .ok (.iconst 0, 1) := dk_3 (dk_at dksX13_isRight_2 14 rfl rfl)
theorem dX13_isRight_63 : decode cX13_isRight 63 = .ok (.invokestatic 37, 3) := dk_184 0 37 (dk_at dksX13_isRight_2 15 rfl rfl)
theorem dX13_isRight_66 : decode cX13_isRight 66 = .ok (.istore 7, 2) := dk_54 7 (dk_at dksX13_isRight_2 18 rfl rfl)
theorem dX13_isRight_68 : decode cX13_isRight 68 = .ok (.aload_n 0, 1) := dk_42 (dk_at dksX13_isRight_2 20 rfl rfl)
theorem dX13_isRight_69 : decode cX13_isRight 69 = .ok (.aload_n 2, 1) := dk_44 (dk_at dksX13_isRight_2 21 rfl rfl)
theorem dX13_isRight_70 : decode cX13_isRight 70 = .ok (.aload_n 0, 1) := dk_42 (dk_at dksX13_isRight_2 22 rfl rfl)
theorem dX13_isRight_71 : decode cX13_isRight 71 = .ok (.getfield 15, 3) := dk_180 0 15 (dk_at dksX13_isRight_3 0 rfl rfl)
theorem dX13_isRight_74 : decode cX13_isRight 74 = .ok (.aload_n 0, 1) := dk_42 (dk_at dksX13_isRight_3 3 rfl rfl)
theorem dX13_isRight_75 : decode cX13_isRight 75 = .ok (.getfield 20, 3) := dk_180 0 20 (dk_at dksX13_isRight_3 4 rfl rfl)
theorem dX13_isRight_78 : decode cX13_isRight 78 = .ok (.iload 6, 2) := dk_21 6 (dk_at dksX13_isRight_3 7 rfl rfl)
theorem dX13_isRight_80 : decode cX13_isRight 80 = .ok (.invokevirtual 26, 3) := dk_182 0 26 (dk_at dksX13_isRight_3 9 rfl rfl)
theorem dX13_isRight_83 : decode cX13_isRight 83 = .ok (.istore 6, 2) := dk_54 6 (dk_at dksX13_isRight_3 12 rfl rfl)
theorem dX13_isRight_85 : decode cX13_isRight 85 = .ok (.aload_n 2, 1) := dk_44 (dk_at dksX13_isRight_3 14 rfl rfl)
theorem dX13_isRight_86 : decode cX13_isRight 86 = .ok (.aload 5, 2) := dk_25 5 (dk_at dksX13_isRight_3 15 rfl rfl)
theorem dX13_isRight_88 : decode cX13_isRight 88 = .ok (.iconst 0, 1) := dk_3 (dk_at dksX13_isRight_3 17 rfl rfl)
theorem dX13_isRight_89 : decode cX13_isRight 89 = .ok (.invokevirtual 30, 3) := dk_182 0 30 (dk_at dksX13_isRight_3 18 rfl rfl)
theorem dX13_isRight_92 : decode cX13_isRight 92 = .ok (.iload 7, 2) := dk_21 7 (dk_at dksX13_isRight_3 21 rfl rfl)
theorem dX13_isRight_94 : decode cX13_isRight 94 = .ok (.ifCond .eq 22, 3) := dk_153 0 22 (dk_at dksX13_isRight_4 0 rfl rfl)
theorem dX13_isRight_97 : decode cX13_isRight 97 = .ok (.aload 5, 2) := dk_25 5 (dk_at dksX13_isRight_4 3 rfl rfl)
theorem dX13_isRight_99 : decode cX13_isRight 99 = .ok (.iconst 0, 1) := dk_3 (dk_at dksX13_isRight_4 5 rfl rfl)
theorem dX13_isRight_100 : decode cX13_isRight 100 = .ok (.aload 4, 2) := dk_25 4 (dk_at dksX13_isRight_4 6 rfl rfl)
theorem dX13_isRight_102 : decode cX13_isRight 102 = .ok (.getfield 34, 3) := dk_180 0 34 (dk_at dksX13_isRight_4 8 rfl rfl)
theorem dX13_isRight_105 : decode cX13_isRight 105 = .ok (.iconst 0, 1) := dk_3 (dk_at dksX13_isRight_4 11 rfl rfl)
theorem dX13_isRight_106 : decode cX13_isRight 106 = .ok (.invokestatic 37, 3) := dk_184 0 37 (dk_at dksX13_isRight_4 12 rfl rfl)
theorem dX13_isRight_109 : decode cX13_isRight 109 = .ok (.ifCond .eq 7, 3) := dk_153 0 7 (dk_at dksX13_isRight_4 15 rfl rfl)
theorem dX13_isRight_112 : decode cX13_isRight 112 = .ok (.iconst 1, 1) := dk_4 (dk_at dksX13_isRight_4 18 rfl rfl)
theorem dX13_isRight_113 : decode cX13_isRight 113 = .ok (.goto 4, 3) := dk_167 0 4 (dk_at dksX13_isRight_4 19 rfl rfl)
theorem dX13_isRight_116 : decode cX13_isRight 116 = .ok (.iconst 0, 1) := dk_3 (dk_at dksX13_isRight_4 22 rfl rfl)
theorem dX13_isRight_117 : decode cX13_isRight 117 = .ok (.ireturn, 1) := dk_172 (dk_at dksX13_isRight_4 23 rfl rfl)
abbrev cX13_twin : ByteArray := prog_3_method_4_code
def yX13_twin : MethodName := ⟨RX13, "twin", "()LGlassLog$Proof;"⟩
def dkwX13_twin_0 : List UInt8 := [187, 0, 16, 89, 183, 0, 41, 42, 182, 0, 42, 176]
abbrev dktX13_twin_0 : List UInt8 := dkwX13_twin_0 ++ []
theorem dksX13_twin_0 : cX13_twin.data.toList.drop 0 = dktX13_twin_0 := by decide +kernel
theorem dX13_twin_0 : decode cX13_twin 0 = .ok (.new 16, 3) := dk_187 0 16 (dk_at dksX13_twin_0 0 rfl rfl)
theorem dX13_twin_3 : decode cX13_twin 3 = .ok (.dup, 1) := dk_89 (dk_at dksX13_twin_0 3 rfl rfl)
theorem dX13_twin_4 : decode cX13_twin 4 = .ok (.invokespecial 41, 3) := dk_183 0 41 (dk_at dksX13_twin_0 4 rfl rfl)
theorem dX13_twin_7 : decode cX13_twin 7 = .ok (.aload_n 0, 1) := dk_42 (dk_at dksX13_twin_0 7 rfl rfl)
theorem dX13_twin_8 : decode cX13_twin 8 = .ok (.invokevirtual 42, 3) := dk_182 0 42 (dk_at dksX13_twin_0 8 rfl rfl)
theorem dX13_twin_11 : decode cX13_twin 11 = .ok (.areturn, 1) := dk_176 (dk_at dksX13_twin_0 11 rfl rfl)
theorem q74 : (Jvm.Cond.initialized "GlassLog$Grown") ∈ lw_all := lw_g (lw_at lw_m1 18 rfl) rfl
theorem q178 : (Jvm.Cond.fieldLinkNest "GlassLog$Grown" (34 : Nat) "GlassLog$Head" "top" "[I" "GlassLog") ∈ lw_tbl := lw_at lw_m1 122 rfl
theorem q187 : (Jvm.Cond.fieldLinkNest "GlassLog$Grown" (9 : Nat) "GlassLog$Head" "n" "I" "GlassLog") ∈ lw_tbl := lw_at lw_m1 131 rfl
theorem q601 : (Jvm.Cond.fieldLink "GlassLog$Grown" (20 : Nat) "GlassLog$Grown" "n" "I") ∈ lw_all := lw_g (lw_at lw_m3 65 rfl) rfl
theorem q602 : (Jvm.Cond.sameField "GlassLog$Grown" "GlassLog$Proof" "n" "I") ∈ lw_all := lw_g (lw_at lw_m3 66 rfl) rfl
theorem q609 : (Jvm.Cond.fieldLink "GlassLog$Grown" (15 : Nat) "GlassLog$Grown" "first" "I") ∈ lw_all := lw_g (lw_at lw_m3 73 rfl) rfl
theorem q610 : (Jvm.Cond.sameField "GlassLog$Grown" "GlassLog$Proof" "first" "I") ∈ lw_all := lw_g (lw_at lw_m3 74 rfl) rfl
theorem q673 : (Jvm.Cond.instantiable "GlassLog$Grown" (5 : Nat)) ∈ lw_all := lw_g (lw_at lw_m3 137 rfl) rfl
theorem q675 : (Jvm.Cond.instanceMethod ({ cls := "GlassLog$Grown", name := "<init>", desc := "()V" } : Jvm.MethodName)) ∈ lw_all := lw_g (lw_at lw_m3 139 rfl) rfl
theorem q676 : (Jvm.Cond.code ({ cls := "GlassLog$Grown", name := "<init>", desc := "()V" } : Jvm.MethodName) prog_3_method_1_code (1 : Nat) (Option.none : Option Jvm.ClassFile.FieldType)) ∈ lw_all := lw_g (lw_at lw_m3 140 rfl) rfl
theorem q677 : (Jvm.Cond.methodLinkNest "GlassLog$Grown" (3 : Nat) ({ cls := "GlassLog$Proof", name := "<init>", desc := "()V" } : Jvm.MethodName) "GlassLog") ∈ lw_tbl := lw_at lw_m3 141 rfl
theorem q678 : (Jvm.Cond.lays "GlassLog$Grown" "GlassLog$Proof" "n" "I") ∈ lw_all := lw_g (lw_at lw_m3 142 rfl) rfl
theorem q679 : (Jvm.Cond.lays "GlassLog$Grown" "GlassLog$Proof" "first" "I") ∈ lw_all := lw_g (lw_at lw_m3 143 rfl) rfl
theorem q680 : (Jvm.Cond.lays "GlassLog$Grown" "GlassLog$Proof" "second" "I") ∈ lw_all := lw_g (lw_at lw_m3 144 rfl) rfl
theorem q681 : (Jvm.Cond.lays "GlassLog$Grown" "GlassLog$Proof" "many" "I") ∈ lw_all := lw_g (lw_at lw_m3 145 rfl) rfl
theorem q682 : (Jvm.Cond.lays "GlassLog$Grown" "GlassLog$Proof" "steps" "[I") ∈ lw_all := lw_g (lw_at lw_m3 146 rfl) rfl
theorem q683 : (Jvm.Cond.superclass "GlassLog$Grown" "GlassLog$Proof") ∈ lw_all := lw_g (lw_at lw_m3 147 rfl) rfl
theorem q778 : (Jvm.Cond.selects "GlassLog$Grown" ({ cls := "GlassLog$Proof", name := "kind", desc := "()I" } : Jvm.MethodName) ({ cls := "GlassLog$Grown", name := "kind", desc := "()I" } : Jvm.MethodName)) ∈ lw_all := lw_g (lw_at lw_m4 2 rfl) rfl
theorem q779 : (Jvm.Cond.instanceMethod ({ cls := "GlassLog$Grown", name := "kind", desc := "()I" } : Jvm.MethodName)) ∈ lw_all := lw_g (lw_at lw_m4 3 rfl) rfl
theorem q780 : (Jvm.Cond.code ({ cls := "GlassLog$Grown", name := "kind", desc := "()I" } : Jvm.MethodName) prog_3_method_2_code (1 : Nat) (Option.some Jvm.ClassFile.FieldType.int)) ∈ lw_all := lw_g (lw_at lw_m4 4 rfl) rfl
theorem q796 : (Jvm.Cond.selects "GlassLog$Grown" ({ cls := "GlassLog$Proof", name := "key", desc := "()I" } : Jvm.MethodName) ({ cls := "GlassLog$Proof", name := "key", desc := "()I" } : Jvm.MethodName)) ∈ lw_all := lw_g (lw_at lw_m4 20 rfl) rfl
theorem q809 : (Jvm.Cond.selects "GlassLog$Grown" ({ cls := "GlassLog$Proof", name := "latest", desc := "()I" } : Jvm.MethodName) ({ cls := "GlassLog$Proof", name := "latest", desc := "()I" } : Jvm.MethodName)) ∈ lw_all := lw_g (lw_at lw_m4 33 rfl) rfl
theorem q820 : (Jvm.Cond.selects "GlassLog$Grown" ({ cls := "GlassLog$Proof", name := "other", desc := "()I" } : Jvm.MethodName) ({ cls := "GlassLog$Proof", name := "other", desc := "()I" } : Jvm.MethodName)) ∈ lw_all := lw_g (lw_at lw_m4 44 rfl) rfl
theorem q1007 : (Jvm.Cond.selects "GlassLog$Grown" ({ cls := "GlassLog$Proof", name := "isRight", desc := "(LGlassLog$Mixer;LGlassLog$Pile;LGlassLog$Head;LGlassLog$Head;)Z" } : Jvm.MethodName) ({ cls := "GlassLog$Grown", name := "isRight", desc := "(LGlassLog$Mixer;LGlassLog$Pile;LGlassLog$Head;LGlassLog$Head;)Z" } : Jvm.MethodName)) ∈ lw_all := lw_g (lw_at lw_m4 231 rfl) rfl
theorem q1008 : (Jvm.Cond.instanceMethod ({ cls := "GlassLog$Grown", name := "isRight", desc := "(LGlassLog$Mixer;LGlassLog$Pile;LGlassLog$Head;LGlassLog$Head;)Z" } : Jvm.MethodName)) ∈ lw_all := lw_g (lw_at lw_m4 232 rfl) rfl
theorem q1009 : (Jvm.Cond.code ({ cls := "GlassLog$Grown", name := "isRight", desc := "(LGlassLog$Mixer;LGlassLog$Pile;LGlassLog$Head;LGlassLog$Head;)Z" } : Jvm.MethodName) prog_3_method_3_code (8 : Nat) (Option.some Jvm.ClassFile.FieldType.boolean)) ∈ lw_all := lw_g (lw_at lw_m4 233 rfl) rfl
theorem q1010 : (Jvm.Cond.methodLink "GlassLog$Grown" (21 : Nat) ({ cls := "GlassLog$Pile", name := "begin", desc := "()V" } : Jvm.MethodName)) ∈ lw_all := lw_g (lw_at lw_m4 234 rfl) rfl
theorem q1011 : (Jvm.Cond.methodLink "GlassLog$Grown" (26 : Nat) ({ cls := "GlassLog$Grown", name := "piles", desc := "(LGlassLog$Pile;III)I" } : Jvm.MethodName)) ∈ lw_all := lw_g (lw_at lw_m4 235 rfl) rfl
theorem q1012 : (Jvm.Cond.sameMethod "GlassLog$Grown" "GlassLog$Proof" "piles" "(LGlassLog$Pile;III)I") ∈ lw_all := lw_g (lw_at lw_m4 236 rfl) rfl
theorem q1014 : (Jvm.Cond.selects "GlassLog$Grown" ({ cls := "GlassLog$Grown", name := "piles", desc := "(LGlassLog$Pile;III)I" } : Jvm.MethodName) ({ cls := "GlassLog$Proof", name := "piles", desc := "(LGlassLog$Pile;III)I" } : Jvm.MethodName)) ∈ lw_all := lw_g (lw_at lw_m4 238 rfl) rfl
theorem q1019 : (Jvm.Cond.methodLink "GlassLog$Grown" (30 : Nat) ({ cls := "GlassLog$Pile", name := "top", desc := "([II)V" } : Jvm.MethodName)) ∈ lw_all := lw_g (lw_at lw_m5 3 rfl) rfl
theorem q1020 : (Jvm.Cond.methodLinkNest "GlassLog$Grown" (37 : Nat) ({ cls := "GlassLog", name := "isLike", desc := "([II[II)Z" } : Jvm.MethodName) "GlassLog") ∈ lw_tbl := lw_at lw_m5 4 rfl
theorem q1128 : (Jvm.Cond.selects "GlassLog$Grown" ({ cls := "GlassLog$Proof", name := "twin", desc := "()LGlassLog$Proof;" } : Jvm.MethodName) ({ cls := "GlassLog$Grown", name := "twin", desc := "()LGlassLog$Proof;" } : Jvm.MethodName)) ∈ lw_all := lw_g (lw_at lw_m5 112 rfl) rfl
theorem q1129 : (Jvm.Cond.instanceMethod ({ cls := "GlassLog$Grown", name := "twin", desc := "()LGlassLog$Proof;" } : Jvm.MethodName)) ∈ lw_all := lw_g (lw_at lw_m5 113 rfl) rfl
theorem q1130 : (Jvm.Cond.code ({ cls := "GlassLog$Grown", name := "twin", desc := "()LGlassLog$Proof;" } : Jvm.MethodName) prog_3_method_4_code (1 : Nat) (Option.some (Jvm.ClassFile.FieldType.object "GlassLog$Proof"))) ∈ lw_all := lw_g (lw_at lw_m5 114 rfl) rfl
theorem q1131 : (Jvm.Cond.classLink "GlassLog$Grown" (16 : Nat) "GlassLog$Grown") ∈ lw_all := lw_g (lw_at lw_m5 115 rfl) rfl
theorem q1132 : (Jvm.Cond.methodLink "GlassLog$Grown" (41 : Nat) ({ cls := "GlassLog$Grown", name := "<init>", desc := "()V" } : Jvm.MethodName)) ∈ lw_all := lw_g (lw_at lw_m5 116 rfl) rfl
theorem q1133 : (Jvm.Cond.methodLink "GlassLog$Grown" (42 : Nat) ({ cls := "GlassLog$Grown", name := "become", desc := "(LGlassLog$Proof;)LGlassLog$Proof;" } : Jvm.MethodName)) ∈ lw_all := lw_g (lw_at lw_m5 117 rfl) rfl
theorem q1134 : (Jvm.Cond.sameMethod "GlassLog$Grown" "GlassLog$Proof" "become" "(LGlassLog$Proof;)LGlassLog$Proof;") ∈ lw_all := lw_g (lw_at lw_m5 118 rfl) rfl
theorem q1135 : (Jvm.Cond.selects "GlassLog$Grown" ({ cls := "GlassLog$Grown", name := "become", desc := "(LGlassLog$Proof;)LGlassLog$Proof;" } : Jvm.MethodName) ({ cls := "GlassLog$Proof", name := "become", desc := "(LGlassLog$Proof;)LGlassLog$Proof;" } : Jvm.MethodName)) ∈ lw_all := lw_g (lw_at lw_m5 119 rfl) rfl
theorem q1701 : (Jvm.Cond.castable "GlassLog$Grown" "GlassLog$Proof") ∈ lw_tbl := lw_at lw_m7 205 rfl
theorem in_X13 : ∀ w ∈ wsX130, w ∈ lw_all := lw_in wsX130 [678, 679, 680, 681, 682] (by decide +kernel) (by decide +kernel)

/-! GlassLog$Held -/
set_option maxRecDepth 100000
def RX14 : String := "GlassLog$Held"
def TX14 : u_T := fun k => match k with
  | 0 => ("GlassLog$Proof", "n", "I", false)
  | 1 => ("GlassLog$Proof", "first", "I", false)
  | 2 => ("GlassLog$Proof", "second", "I", false)
  | 3 => ("GlassLog$Proof", "many", "I", false)
  | 4 => ("GlassLog$Proof", "steps", "[I", false)
  | 5 => ("GlassLog$Held", "key", "I", false)
  | _ => ("GlassLog$Held", "latest", "I", false)
def tyX14 : Nat → FieldType := fun k => match k with
  | 0 => .int
  | 1 => .int
  | 2 => .int
  | 3 => .int
  | 4 => .array .int
  | 5 => .int
  | _ => .int
abbrev wsX140 : List Cond := u_ws RX14 TX14 7
theorem nmX14 : ∀ a, a < 7 → ∀ b, b < 7 → a ≠ b → (TX14 a).2.1 ≠ (TX14 b).2.1 := by decide +kernel
theorem tyX14_ok : ∀ k, k < 7 → parseFieldDescriptor (TX14 k).2.2.1 = some (tyX14 k) := by decide +kernel
abbrev cX14_init : ByteArray := prog_5_method_1_code
def yX14_init : MethodName := ⟨RX14, "<init>", "()V"⟩
theorem dX14_init_0 : decode cX14_init 0 = .ok (.aload_n 0, 1) := by decide +kernel
theorem dX14_init_1 : decode cX14_init 1 = .ok (.invokespecial 3, 3) := by decide +kernel
theorem dX14_init_4 : decode cX14_init 4 = .ok (.return_, 1) := by decide +kernel
abbrev cX14_kind : ByteArray := prog_5_method_2_code
def yX14_kind : MethodName := ⟨RX14, "kind", "()I"⟩
theorem dX14_kind_0 : decode cX14_kind 0 = .ok (.iconst 3, 1) := by decide +kernel
theorem dX14_kind_1 : decode cX14_kind 1 = .ok (.ireturn, 1) := by decide +kernel
abbrev cX14_key : ByteArray := prog_5_method_3_code
def yX14_key : MethodName := ⟨RX14, "key", "()I"⟩
theorem dX14_key_0 : decode cX14_key 0 = .ok (.aload_n 0, 1) := by decide +kernel
theorem dX14_key_1 : decode cX14_key 1 = .ok (.getfield 9, 3) := by decide +kernel
theorem dX14_key_4 : decode cX14_key 4 = .ok (.ireturn, 1) := by decide +kernel
abbrev cX14_latest : ByteArray := prog_5_method_4_code
def yX14_latest : MethodName := ⟨RX14, "latest", "()I"⟩
theorem dX14_latest_0 : decode cX14_latest 0 = .ok (.aload_n 0, 1) := by decide +kernel
theorem dX14_latest_1 : decode cX14_latest 1 = .ok (.getfield 15, 3) := by decide +kernel
theorem dX14_latest_4 : decode cX14_latest 4 = .ok (.ireturn, 1) := by decide +kernel
abbrev cX14_isRight : ByteArray := prog_5_method_6_code
def yX14_isRight : MethodName := ⟨RX14, "isRight", "(LGlassLog$Mixer;LGlassLog$Pile;LGlassLog$Head;LGlassLog$Head;)Z"⟩
def dkwX14_isRight_5 : List UInt8 := [45, 180, 0, 53, 3, 184, 0, 56, 172]
abbrev dktX14_isRight_5 : List UInt8 := dkwX14_isRight_5 ++ []
def dkwX14_isRight_4 : List UInt8 := [42, 180, 0, 45, 21, 7, 16, 8, 104, 25, 6, 3, 182, 0, 49, 132, 7, 255, 167, 255, 196, 25, 6, 3]
abbrev dktX14_isRight_4 : List UInt8 := dkwX14_isRight_4 ++ dktX14_isRight_5
def dkwX14_isRight_3 : List UInt8 := [180, 0, 45, 21, 7, 16, 8, 104, 25, 6, 3, 25, 6, 3, 182, 0, 49, 167, 0, 22, 43, 25, 6, 3]
abbrev dktX14_isRight_3 : List UInt8 := dkwX14_isRight_3 ++ dktX14_isRight_4
def dkwX14_isRight_2 : List UInt8 := [4, 100, 54, 7, 21, 7, 155, 0, 61, 25, 5, 3, 21, 7, 184, 0, 41, 153, 0, 25, 43, 42]
abbrev dktX14_isRight_2 : List UInt8 := dkwX14_isRight_2 ++ dktX14_isRight_3
def dkwX14_isRight_1 : List UInt8 := [58, 6, 43, 42, 180, 0, 9, 25, 5, 3, 182, 0, 30, 42, 43, 25, 6, 182, 0, 34, 42, 180, 0, 38]
abbrev dktX14_isRight_1 : List UInt8 := dkwX14_isRight_1 ++ dktX14_isRight_2
def dkwX14_isRight_0 : List UInt8 := [45, 180, 0, 24, 42, 180, 0, 29, 159, 0, 5, 3, 172, 16, 8, 188, 10, 58, 5, 16, 8, 188, 10]
abbrev dktX14_isRight_0 : List UInt8 := dkwX14_isRight_0 ++ dktX14_isRight_1
theorem dksX14_isRight_0 : cX14_isRight.data.toList.drop 0 = dktX14_isRight_0 := by decide +kernel
theorem dksX14_isRight_1 : cX14_isRight.data.toList.drop 23 = dktX14_isRight_1 := dk_seg dksX14_isRight_0 23 rfl rfl
theorem dksX14_isRight_2 : cX14_isRight.data.toList.drop 47 = dktX14_isRight_2 := dk_seg dksX14_isRight_1 24 rfl rfl
theorem dksX14_isRight_3 : cX14_isRight.data.toList.drop 69 = dktX14_isRight_3 := dk_seg dksX14_isRight_2 22 rfl rfl
theorem dksX14_isRight_4 : cX14_isRight.data.toList.drop 93 = dktX14_isRight_4 := dk_seg dksX14_isRight_3 24 rfl rfl
theorem dksX14_isRight_5 : cX14_isRight.data.toList.drop 117 = dktX14_isRight_5 := dk_seg dksX14_isRight_4 24 rfl rfl
theorem dX14_isRight_0 : decode cX14_isRight 0 = .ok (.aload_n 3, 1) := dk_45 (dk_at dksX14_isRight_0 0 rfl rfl)
theorem dX14_isRight_1 : decode cX14_isRight 1 = .ok (.getfield 24, 3) := dk_180 0 24 (dk_at dksX14_isRight_0 1 rfl rfl)
theorem dX14_isRight_4 : decode cX14_isRight 4 = .ok (.aload_n 0, 1) := dk_42 (dk_at dksX14_isRight_0 4 rfl rfl)
theorem dX14_isRight_5 : decode cX14_isRight 5 = .ok (.getfield 29, 3) := dk_180 0 29 (dk_at dksX14_isRight_0 5 rfl rfl)
theorem dX14_isRight_8 : decode cX14_isRight 8 = .ok (.if_icmp .eq 5, 3) := dk_159 0 5 (dk_at dksX14_isRight_0 8 rfl rfl)
theorem dX14_isRight_11 : decode cX14_isRight 11 = .ok (.iconst 0, 1) := dk_3 (dk_at dksX14_isRight_0 11 rfl rfl)
theorem dX14_isRight_12 : decode cX14_isRight 12 = .ok (.ireturn, 1) := dk_172 (dk_at dksX14_isRight_0 12 rfl rfl)
theorem dX14_isRight_13 : decode cX14_isRight 13 = .ok (.bipush 8, 2) := dk_16 8 (dk_at dksX14_isRight_0 13 rfl rfl)
theorem dX14_isRight_15 : decode cX14_isRight 15 = .ok (.newarray .int, 2) := dk_188_10 (dk_at dksX14_isRight_0 15 rfl rfl)
theorem dX14_isRight_17 : decode cX14_isRight 17 = .ok (.astore 5, 2) := dk_58 5 (dk_at dksX14_isRight_0 17 rfl rfl)
theorem dX14_isRight_19 : decode cX14_isRight 19 = .ok (.bipush 8, 2) := dk_16 8 (dk_at dksX14_isRight_0 19 rfl rfl)
theorem dX14_isRight_21 : decode cX14_isRight 21 = .ok (.newarray .int, 2) := dk_188_10 (dk_at dksX14_isRight_0 21 rfl rfl)
theorem dX14_isRight_23 : decode cX14_isRight 23 = .ok (.astore 6, 2) := dk_58 6 (dk_at dksX14_isRight_1 0 rfl rfl)
theorem dX14_isRight_25 : decode cX14_isRight 25 = .ok (.aload_n 1, 1) := dk_43 (dk_at dksX14_isRight_1 2 rfl rfl)
theorem dX14_isRight_26 : decode cX14_isRight 26 = .ok (.aload_n 0, 1) := dk_42 (dk_at dksX14_isRight_1 3 rfl rfl)
theorem dX14_isRight_27 : decode cX14_isRight 27 = .ok (.getfield 9, 3) := dk_180 0 9 (dk_at dksX14_isRight_1 4 rfl rfl)
theorem dX14_isRight_30 : decode cX14_isRight 30 = .ok (.aload 5, 2) := dk_25 5 (dk_at dksX14_isRight_1 7 rfl rfl)
theorem dX14_isRight_32 : decode cX14_isRight 32 = .ok (.iconst 0, 1) := dk_3 (dk_at dksX14_isRight_1 9 rfl rfl)
theorem dX14_isRight_33 : decode cX14_isRight 33 = .ok (.invokevirtual 30, 3) := dk_182 0 30 (dk_at dksX14_isRight_1 10 rfl rfl)
theorem dX14_isRight_36 : decode cX14_isRight 36 = .ok (.aload_n 0, 1) := dk_42 (dk_at dksX14_isRight_1 13 rfl rfl)
theorem dX14_isRight_37 : decode cX14_isRight 37 = .ok (.aload_n 1, 1) := dk_43 (dk_at dksX14_isRight_1 14 rfl rfl)
theorem dX14_isRight_38 : decode cX14_isRight 38 = .ok (.aload 6, 2) := dk_25 6 (dk_at dksX14_isRight_1 15 rfl rfl)
theorem dX14_isRight_40 : decode cX14_isRight 40 = .ok (.invokevirtual 34, 3) := dk_182 0 34 (dk_at dksX14_isRight_1 17 rfl rfl)
theorem dX14_isRight_43 : decode cX14_isRight 43 = .ok (.aload_n 0, 1) := dk_42 (dk_at dksX14_isRight_1 20 rfl rfl)
theorem dX14_isRight_44 : decode cX14_isRight 44 = .ok (.getfield 38, 3) := dk_180 0 38 (dk_at dksX14_isRight_1 21 rfl rfl)
theorem dX14_isRight_47 : decode cX14_isRight 47 = .ok (.iconst 1, 1) := dk_4 (dk_at dksX14_isRight_2 0 rfl rfl)
theorem dX14_isRight_48 : decode cX14_isRight 48 = .ok (.isub, 1) := dk_100 (dk_at dksX14_isRight_2 1 rfl rfl)
theorem dX14_isRight_49 : decode cX14_isRight 49 = .ok (.istore 7, 2) := dk_54 7 (dk_at dksX14_isRight_2 2 rfl rfl)
theorem dX14_isRight_51 : decode cX14_isRight 51 = .ok (.iload 7, 2) := dk_21 7 (dk_at dksX14_isRight_2 4 rfl rfl)
theorem dX14_isRight_53 : decode cX14_isRight 53 = .ok (.ifCond .lt 61, 3) := dk_155 0 61 (dk_at dksX14_isRight_2 6 rfl rfl)
theorem dX14_isRight_56 : decode cX14_isRight 56 = .ok (.aload 5, 2) := dk_25 5 (dk_at dksX14_isRight_2 9 rfl rfl)
theorem dX14_isRight_58 : decode cX14_isRight 58 = .ok (.iconst 0, 1) := dk_3 (dk_at dksX14_isRight_2 11 rfl rfl)
theorem dX14_isRight_59 : decode cX14_isRight 59 = .ok (.iload 7, 2) := dk_21 7 (dk_at dksX14_isRight_2 12 rfl rfl)
theorem dX14_isRight_61 : decode cX14_isRight 61 = .ok (.invokestatic 41, 3) := dk_184 0 41 (dk_at dksX14_isRight_2 14 rfl rfl)
theorem dX14_isRight_64 : decode cX14_isRight 64 = .ok (.ifCond .eq 25, 3) := dk_153 0 25 (dk_at dksX14_isRight_2 17 rfl rfl)
theorem dX14_isRight_67 : decode cX14_isRight 67 = .ok (.aload_n 1, 1) := dk_43 (dk_at dksX14_isRight_2 20 rfl rfl)
theorem dX14_isRight_68 : decode cX14_isRight 68 = .ok (.aload_n 0, 1) := dk_42 (dk_at dksX14_isRight_2 21 rfl rfl)
theorem dX14_isRight_69 : decode cX14_isRight 69 = .ok (.getfield 45, 3) := dk_180 0 45 (dk_at dksX14_isRight_3 0 rfl rfl)
theorem dX14_isRight_72 : decode cX14_isRight 72 = .ok (.iload 7, 2) := dk_21 7 (dk_at dksX14_isRight_3 3 rfl rfl)
theorem dX14_isRight_74 : decode cX14_isRight 74 = .ok (.bipush 8, 2) := dk_16 8 (dk_at dksX14_isRight_3 5 rfl rfl)
theorem dX14_isRight_76 : decode cX14_isRight 76 = .ok (.imul, 1) := dk_104 (dk_at dksX14_isRight_3 7 rfl rfl)
theorem dX14_isRight_77 : decode cX14_isRight 77 = .ok (.aload 6, 2) := dk_25 6 (dk_at dksX14_isRight_3 8 rfl rfl)
theorem dX14_isRight_79 : decode cX14_isRight 79 = .ok (.iconst 0, 1) := dk_3 (dk_at dksX14_isRight_3 10 rfl rfl)
theorem dX14_isRight_80 : decode cX14_isRight 80 = .ok (.aload 6, 2) := dk_25 6 (dk_at dksX14_isRight_3 11 rfl rfl)
theorem dX14_isRight_82 : decode cX14_isRight 82 = .ok (.iconst 0, 1) := dk_3 (dk_at dksX14_isRight_3 13 rfl rfl)
theorem dX14_isRight_83 : decode cX14_isRight 83 = .ok (.invokevirtual 49, 3) := dk_182 0 49 (dk_at dksX14_isRight_3 14 rfl rfl)
theorem dX14_isRight_86 : decode cX14_isRight 86 = .ok (.goto 22, 3) := dk_167 0 22 (dk_at dksX14_isRight_3 17 rfl rfl)
theorem dX14_isRight_89 : decode cX14_isRight 89 = .ok (.aload_n 1, 1) := dk_43 (dk_at dksX14_isRight_3 20 rfl rfl)
theorem dX14_isRight_90 : decode cX14_isRight 90 = .ok (.aload 6, 2) := dk_25 6 (dk_at dksX14_isRight_3 21 rfl rfl)
theorem dX14_isRight_92 : decode cX14_isRight 92 = .ok (.iconst 0, 1) := dk_3 (dk_at dksX14_isRight_3 23 rfl rfl)
theorem dX14_isRight_93 : decode cX14_isRight 93 = .ok (.aload_n 0, 1) := dk_42 (dk_at dksX14_isRight_4 0 rfl rfl)
theorem dX14_isRight_94 : decode cX14_isRight 94 = .ok (.getfield 45, 3) := dk_180 0 45 (dk_at dksX14_isRight_4 1 rfl rfl)
theorem dX14_isRight_97 : decode cX14_isRight 97 = .ok (.iload 7, 2) := dk_21 7 (dk_at dksX14_isRight_4 4 rfl rfl)
theorem dX14_isRight_99 : decode cX14_isRight 99 = .ok (.bipush 8, 2) := dk_16 8 (dk_at dksX14_isRight_4 6 rfl rfl)
theorem dX14_isRight_101 : decode cX14_isRight 101 = .ok (.imul, 1) := dk_104 (dk_at dksX14_isRight_4 8 rfl rfl)
theorem dX14_isRight_102 : decode cX14_isRight 102 = .ok (.aload 6, 2) := dk_25 6 (dk_at dksX14_isRight_4 9 rfl rfl)
theorem dX14_isRight_104 : decode cX14_isRight 104 = .ok (.iconst 0, 1) := dk_3 (dk_at dksX14_isRight_4 11 rfl rfl)
theorem dX14_isRight_105 : decode cX14_isRight 105 = .ok (.invokevirtual 49, 3) := dk_182 0 49 (dk_at dksX14_isRight_4 12 rfl rfl)
theorem dX14_isRight_108 : decode cX14_isRight 108 = .ok (.iinc 7 (-1), 3) := dk_132 7 255 (dk_at dksX14_isRight_4 15 rfl rfl)
theorem dX14_isRight_111 : decode cX14_isRight 111 = .ok (.goto (-60), 3) := dk_167 255 196 (dk_at dksX14_isRight_4 18 rfl rfl)
theorem dX14_isRight_114 : decode cX14_isRight 114 = .ok (.aload 6, 2) := dk_25 6 (dk_at dksX14_isRight_4 21 rfl rfl)
theorem dX14_isRight_116 : decode cX14_isRight 116 = .ok (.iconst 0, 1) := dk_3 (dk_at dksX14_isRight_4 23 rfl rfl)
theorem dX14_isRight_117 : decode cX14_isRight 117 = .ok (.aload_n 3, 1) := dk_45 (dk_at dksX14_isRight_5 0 rfl rfl)
theorem dX14_isRight_118 : decode cX14_isRight 118 = .ok (.getfield 53, 3) := dk_180 0 53 (dk_at dksX14_isRight_5 1 rfl rfl)
theorem dX14_isRight_121 : decode cX14_isRight 121 = .ok (.iconst 0, 1) := dk_3 (dk_at dksX14_isRight_5 4 rfl rfl)
theorem dX14_isRight_122 : decode cX14_isRight 122 = .ok (.invokestatic 56, 3) := dk_184 0 56 (dk_at dksX14_isRight_5 5 rfl rfl)
theorem dX14_isRight_125 : decode cX14_isRight 125 = .ok (.ireturn, 1) := dk_172 (dk_at dksX14_isRight_5 8 rfl rfl)
abbrev cX14_end : ByteArray := prog_5_method_5_code
def yX14_end : MethodName := ⟨RX14, "end", "(LGlassLog$Mixer;[I)V"⟩
def dkwX14_end_0 : List UInt8 := [43, 42, 180, 0, 9, 42, 180, 0, 15, 44, 3, 182, 0, 18, 177]
abbrev dktX14_end_0 : List UInt8 := dkwX14_end_0 ++ []
theorem dksX14_end_0 : cX14_end.data.toList.drop 0 = dktX14_end_0 := by decide +kernel
theorem dX14_end_0 : decode cX14_end 0 = .ok (.aload_n 1, 1) := dk_43 (dk_at dksX14_end_0 0 rfl rfl)
theorem dX14_end_1 : decode cX14_end 1 = .ok (.aload_n 0, 1) := dk_42 (dk_at dksX14_end_0 1 rfl rfl)
theorem dX14_end_2 : decode cX14_end 2 = .ok (.getfield 9, 3) := dk_180 0 9 (dk_at dksX14_end_0 2 rfl rfl)
theorem dX14_end_5 : decode cX14_end 5 = .ok (.aload_n 0, 1) := dk_42 (dk_at dksX14_end_0 5 rfl rfl)
theorem dX14_end_6 : decode cX14_end 6 = .ok (.getfield 15, 3) := dk_180 0 15 (dk_at dksX14_end_0 6 rfl rfl)
theorem dX14_end_9 : decode cX14_end 9 = .ok (.aload_n 2, 1) := dk_44 (dk_at dksX14_end_0 9 rfl rfl)
theorem dX14_end_10 : decode cX14_end 10 = .ok (.iconst 0, 1) := dk_3 (dk_at dksX14_end_0 10 rfl rfl)
theorem dX14_end_11 : decode cX14_end 11 = .ok (.invokevirtual 18, 3) := dk_182 0 18 (dk_at dksX14_end_0 11 rfl rfl)
theorem dX14_end_14 : decode cX14_end 14 = .ok (.return_, 1) := dk_177 (dk_at dksX14_end_0 14 rfl rfl)
abbrev cX14_twin : ByteArray := prog_5_method_8_code
def yX14_twin : MethodName := ⟨RX14, "twin", "(LGlassLog$Held;)LGlassLog$Proof;"⟩
def dkwX14_twin_0 : List UInt8 := [43, 42, 180, 0, 9, 181, 0, 9, 43, 42, 180, 0, 15, 181, 0, 15, 43, 42, 182, 0, 65, 176]
abbrev dktX14_twin_0 : List UInt8 := dkwX14_twin_0 ++ []
theorem dksX14_twin_0 : cX14_twin.data.toList.drop 0 = dktX14_twin_0 := by decide +kernel
theorem dX14_twin_0 : decode cX14_twin 0 = .ok (.aload_n 1, 1) := dk_43 (dk_at dksX14_twin_0 0 rfl rfl)
theorem dX14_twin_1 : decode cX14_twin 1 = .ok (.aload_n 0, 1) := dk_42 (dk_at dksX14_twin_0 1 rfl rfl)
theorem dX14_twin_2 : decode cX14_twin 2 = .ok (.getfield 9, 3) := dk_180 0 9 (dk_at dksX14_twin_0 2 rfl rfl)
theorem dX14_twin_5 : decode cX14_twin 5 = .ok (.putfield 9, 3) := dk_181 0 9 (dk_at dksX14_twin_0 5 rfl rfl)
theorem dX14_twin_8 : decode cX14_twin 8 = .ok (.aload_n 1, 1) := dk_43 (dk_at dksX14_twin_0 8 rfl rfl)
theorem dX14_twin_9 : decode cX14_twin 9 = .ok (.aload_n 0, 1) := dk_42 (dk_at dksX14_twin_0 9 rfl rfl)
theorem dX14_twin_10 : decode cX14_twin 10 = .ok (.getfield 15, 3) := dk_180 0 15 (dk_at dksX14_twin_0 10 rfl rfl)
theorem dX14_twin_13 : decode cX14_twin 13 = .ok (.putfield 15, 3) := dk_181 0 15 (dk_at dksX14_twin_0 13 rfl rfl)
theorem dX14_twin_16 : decode cX14_twin 16 = .ok (.aload_n 1, 1) := dk_43 (dk_at dksX14_twin_0 16 rfl rfl)
theorem dX14_twin_17 : decode cX14_twin 17 = .ok (.aload_n 0, 1) := dk_42 (dk_at dksX14_twin_0 17 rfl rfl)
theorem dX14_twin_18 : decode cX14_twin 18 = .ok (.invokevirtual 65, 3) := dk_182 0 65 (dk_at dksX14_twin_0 18 rfl rfl)
theorem dX14_twin_21 : decode cX14_twin 21 = .ok (.areturn, 1) := dk_176 (dk_at dksX14_twin_0 21 rfl rfl)
abbrev cX14_twin_2 : ByteArray := prog_5_method_7_code
def yX14_twin_2 : MethodName := ⟨RX14, "twin", "()LGlassLog$Proof;"⟩
def dkwX14_twin_2_0 : List UInt8 := [42, 187, 0, 10, 89, 183, 0, 60, 182, 0, 61, 176]
abbrev dktX14_twin_2_0 : List UInt8 := dkwX14_twin_2_0 ++ []
theorem dksX14_twin_2_0 : cX14_twin_2.data.toList.drop 0 = dktX14_twin_2_0 := by decide +kernel
theorem dX14_twin_2_0 : decode cX14_twin_2 0 = .ok (.aload_n 0, 1) := dk_42 (dk_at dksX14_twin_2_0 0 rfl rfl)
theorem dX14_twin_2_1 : decode cX14_twin_2 1 = .ok (.new 10, 3) := dk_187 0 10 (dk_at dksX14_twin_2_0 1 rfl rfl)
theorem dX14_twin_2_4 : decode cX14_twin_2 4 = .ok (.dup, 1) := dk_89 (dk_at dksX14_twin_2_0 4 rfl rfl)
theorem dX14_twin_2_5 : decode cX14_twin_2 5 = .ok (.invokespecial 60, 3) := dk_183 0 60 (dk_at dksX14_twin_2_0 5 rfl rfl)
theorem dX14_twin_2_8 : decode cX14_twin_2 8 = .ok (.invokevirtual 61, 3) := dk_182 0 61 (dk_at dksX14_twin_2_0 8 rfl rfl)
theorem dX14_twin_2_11 : decode cX14_twin_2 11 = .ok (.areturn, 1) := dk_176 (dk_at dksX14_twin_2_0 11 rfl rfl)
theorem q75 : (Jvm.Cond.initialized "GlassLog$Held") ∈ lw_all := lw_g (lw_at lw_m1 19 rfl) rfl
theorem q182 : (Jvm.Cond.fieldLinkNest "GlassLog$Held" (53 : Nat) "GlassLog$Head" "tree" "[I" "GlassLog") ∈ lw_tbl := lw_at lw_m1 126 rfl
theorem q189 : (Jvm.Cond.fieldLinkNest "GlassLog$Held" (24 : Nat) "GlassLog$Head" "n" "I" "GlassLog") ∈ lw_tbl := lw_at lw_m1 133 rfl
theorem q605 : (Jvm.Cond.fieldLink "GlassLog$Held" (29 : Nat) "GlassLog$Held" "n" "I") ∈ lw_all := lw_g (lw_at lw_m3 69 rfl) rfl
theorem q606 : (Jvm.Cond.sameField "GlassLog$Held" "GlassLog$Proof" "n" "I") ∈ lw_all := lw_g (lw_at lw_m3 70 rfl) rfl
theorem q617 : (Jvm.Cond.fieldLink "GlassLog$Held" (38 : Nat) "GlassLog$Held" "many" "I") ∈ lw_all := lw_g (lw_at lw_m3 81 rfl) rfl
theorem q618 : (Jvm.Cond.sameField "GlassLog$Held" "GlassLog$Proof" "many" "I") ∈ lw_all := lw_g (lw_at lw_m3 82 rfl) rfl
theorem q621 : (Jvm.Cond.fieldLink "GlassLog$Held" (45 : Nat) "GlassLog$Held" "steps" "[I") ∈ lw_all := lw_g (lw_at lw_m3 85 rfl) rfl
theorem q622 : (Jvm.Cond.sameField "GlassLog$Held" "GlassLog$Proof" "steps" "[I") ∈ lw_all := lw_g (lw_at lw_m3 86 rfl) rfl
theorem q689 : (Jvm.Cond.instantiable "GlassLog$Held" (7 : Nat)) ∈ lw_all := lw_g (lw_at lw_m3 153 rfl) rfl
theorem q691 : (Jvm.Cond.instanceMethod ({ cls := "GlassLog$Held", name := "<init>", desc := "()V" } : Jvm.MethodName)) ∈ lw_all := lw_g (lw_at lw_m3 155 rfl) rfl
theorem q692 : (Jvm.Cond.code ({ cls := "GlassLog$Held", name := "<init>", desc := "()V" } : Jvm.MethodName) prog_5_method_1_code (1 : Nat) (Option.none : Option Jvm.ClassFile.FieldType)) ∈ lw_all := lw_g (lw_at lw_m3 156 rfl) rfl
theorem q693 : (Jvm.Cond.methodLinkNest "GlassLog$Held" (3 : Nat) ({ cls := "GlassLog$Proof", name := "<init>", desc := "()V" } : Jvm.MethodName) "GlassLog") ∈ lw_tbl := lw_at lw_m3 157 rfl
theorem q694 : (Jvm.Cond.fieldLink "GlassLog$Held" (9 : Nat) "GlassLog$Held" "key" "I") ∈ lw_all := lw_g (lw_at lw_m3 158 rfl) rfl
theorem q699 : (Jvm.Cond.fieldLink "GlassLog$Held" (15 : Nat) "GlassLog$Held" "latest" "I") ∈ lw_all := lw_g (lw_at lw_m3 163 rfl) rfl
theorem q704 : (Jvm.Cond.lays "GlassLog$Held" "GlassLog$Held" "key" "I") ∈ lw_all := lw_g (lw_at lw_m3 168 rfl) rfl
theorem q705 : (Jvm.Cond.soleField "GlassLog$Held" "key") ∈ lw_all := lw_g (lw_at lw_m3 169 rfl) rfl
theorem q706 : (Jvm.Cond.lays "GlassLog$Held" "GlassLog$Held" "latest" "I") ∈ lw_all := lw_g (lw_at lw_m3 170 rfl) rfl
theorem q707 : (Jvm.Cond.soleField "GlassLog$Held" "latest") ∈ lw_all := lw_g (lw_at lw_m3 171 rfl) rfl
theorem q708 : (Jvm.Cond.lays "GlassLog$Held" "GlassLog$Proof" "n" "I") ∈ lw_all := lw_g (lw_at lw_m3 172 rfl) rfl
theorem q709 : (Jvm.Cond.lays "GlassLog$Held" "GlassLog$Proof" "first" "I") ∈ lw_all := lw_g (lw_at lw_m3 173 rfl) rfl
theorem q710 : (Jvm.Cond.lays "GlassLog$Held" "GlassLog$Proof" "second" "I") ∈ lw_all := lw_g (lw_at lw_m3 174 rfl) rfl
theorem q711 : (Jvm.Cond.lays "GlassLog$Held" "GlassLog$Proof" "many" "I") ∈ lw_all := lw_g (lw_at lw_m3 175 rfl) rfl
theorem q712 : (Jvm.Cond.lays "GlassLog$Held" "GlassLog$Proof" "steps" "[I") ∈ lw_all := lw_g (lw_at lw_m3 176 rfl) rfl
theorem q713 : (Jvm.Cond.superclass "GlassLog$Held" "GlassLog$Proof") ∈ lw_all := lw_g (lw_at lw_m3 177 rfl) rfl
theorem q781 : (Jvm.Cond.selects "GlassLog$Held" ({ cls := "GlassLog$Proof", name := "kind", desc := "()I" } : Jvm.MethodName) ({ cls := "GlassLog$Held", name := "kind", desc := "()I" } : Jvm.MethodName)) ∈ lw_all := lw_g (lw_at lw_m4 5 rfl) rfl
theorem q782 : (Jvm.Cond.instanceMethod ({ cls := "GlassLog$Held", name := "kind", desc := "()I" } : Jvm.MethodName)) ∈ lw_all := lw_g (lw_at lw_m4 6 rfl) rfl
theorem q783 : (Jvm.Cond.code ({ cls := "GlassLog$Held", name := "kind", desc := "()I" } : Jvm.MethodName) prog_5_method_2_code (1 : Nat) (Option.some Jvm.ClassFile.FieldType.int)) ∈ lw_all := lw_g (lw_at lw_m4 7 rfl) rfl
theorem q794 : (Jvm.Cond.instanceMethod ({ cls := "GlassLog$Held", name := "key", desc := "()I" } : Jvm.MethodName)) ∈ lw_all := lw_g (lw_at lw_m4 18 rfl) rfl
theorem q795 : (Jvm.Cond.code ({ cls := "GlassLog$Held", name := "key", desc := "()I" } : Jvm.MethodName) prog_5_method_3_code (1 : Nat) (Option.some Jvm.ClassFile.FieldType.int)) ∈ lw_all := lw_g (lw_at lw_m4 19 rfl) rfl
theorem q797 : (Jvm.Cond.selects "GlassLog$Held" ({ cls := "GlassLog$Proof", name := "key", desc := "()I" } : Jvm.MethodName) ({ cls := "GlassLog$Held", name := "key", desc := "()I" } : Jvm.MethodName)) ∈ lw_all := lw_g (lw_at lw_m4 21 rfl) rfl
theorem q807 : (Jvm.Cond.instanceMethod ({ cls := "GlassLog$Held", name := "latest", desc := "()I" } : Jvm.MethodName)) ∈ lw_all := lw_g (lw_at lw_m4 31 rfl) rfl
theorem q808 : (Jvm.Cond.code ({ cls := "GlassLog$Held", name := "latest", desc := "()I" } : Jvm.MethodName) prog_5_method_4_code (1 : Nat) (Option.some Jvm.ClassFile.FieldType.int)) ∈ lw_all := lw_g (lw_at lw_m4 32 rfl) rfl
theorem q810 : (Jvm.Cond.selects "GlassLog$Held" ({ cls := "GlassLog$Proof", name := "latest", desc := "()I" } : Jvm.MethodName) ({ cls := "GlassLog$Held", name := "latest", desc := "()I" } : Jvm.MethodName)) ∈ lw_all := lw_g (lw_at lw_m4 34 rfl) rfl
theorem q821 : (Jvm.Cond.selects "GlassLog$Held" ({ cls := "GlassLog$Proof", name := "other", desc := "()I" } : Jvm.MethodName) ({ cls := "GlassLog$Proof", name := "other", desc := "()I" } : Jvm.MethodName)) ∈ lw_all := lw_g (lw_at lw_m4 45 rfl) rfl
theorem q988 : (Jvm.Cond.instanceMethod ({ cls := "GlassLog$Held", name := "isRight", desc := "(LGlassLog$Mixer;LGlassLog$Pile;LGlassLog$Head;LGlassLog$Head;)Z" } : Jvm.MethodName)) ∈ lw_all := lw_g (lw_at lw_m4 212 rfl) rfl
theorem q989 : (Jvm.Cond.code ({ cls := "GlassLog$Held", name := "isRight", desc := "(LGlassLog$Mixer;LGlassLog$Pile;LGlassLog$Head;LGlassLog$Head;)Z" } : Jvm.MethodName) prog_5_method_6_code (8 : Nat) (Option.some Jvm.ClassFile.FieldType.boolean)) ∈ lw_all := lw_g (lw_at lw_m4 213 rfl) rfl
theorem q990 : (Jvm.Cond.methodLink "GlassLog$Held" (30 : Nat) ({ cls := "GlassLog$Mixer", name := "way", desc := "(I[II)V" } : Jvm.MethodName)) ∈ lw_all := lw_g (lw_at lw_m4 214 rfl) rfl
theorem q991 : (Jvm.Cond.methodLink "GlassLog$Held" (34 : Nat) ({ cls := "GlassLog$Held", name := "end", desc := "(LGlassLog$Mixer;[I)V" } : Jvm.MethodName)) ∈ lw_all := lw_g (lw_at lw_m4 215 rfl) rfl
theorem q992 : (Jvm.Cond.instanceMethod ({ cls := "GlassLog$Held", name := "end", desc := "(LGlassLog$Mixer;[I)V" } : Jvm.MethodName)) ∈ lw_all := lw_g (lw_at lw_m4 216 rfl) rfl
theorem q993 : (Jvm.Cond.selects "GlassLog$Held" ({ cls := "GlassLog$Held", name := "end", desc := "(LGlassLog$Mixer;[I)V" } : Jvm.MethodName) ({ cls := "GlassLog$Held", name := "end", desc := "(LGlassLog$Mixer;[I)V" } : Jvm.MethodName)) ∈ lw_all := lw_g (lw_at lw_m4 217 rfl) rfl
theorem q994 : (Jvm.Cond.sameMethod "GlassLog$Held" "GlassLog$Held" "end" "(LGlassLog$Mixer;[I)V") ∈ lw_all := lw_g (lw_at lw_m4 218 rfl) rfl
theorem q1000 : (Jvm.Cond.code ({ cls := "GlassLog$Held", name := "end", desc := "(LGlassLog$Mixer;[I)V" } : Jvm.MethodName) prog_5_method_5_code (3 : Nat) (Option.none : Option Jvm.ClassFile.FieldType)) ∈ lw_all := lw_g (lw_at lw_m4 224 rfl) rfl
theorem q1001 : (Jvm.Cond.methodLink "GlassLog$Held" (18 : Nat) ({ cls := "GlassLog$Mixer", name := "leaf", desc := "(II[II)V" } : Jvm.MethodName)) ∈ lw_all := lw_g (lw_at lw_m4 225 rfl) rfl
theorem q1002 : (Jvm.Cond.methodLinkNest "GlassLog$Held" (41 : Nat) ({ cls := "GlassLog", name := "bit", desc := "([III)Z" } : Jvm.MethodName) "GlassLog") ∈ lw_tbl := lw_at lw_m4 226 rfl
theorem q1003 : (Jvm.Cond.methodLink "GlassLog$Held" (49 : Nat) ({ cls := "GlassLog$Mixer", name := "join", desc := "([II[II[II)V" } : Jvm.MethodName)) ∈ lw_all := lw_g (lw_at lw_m4 227 rfl) rfl
theorem q1004 : (Jvm.Cond.methodLinkNest "GlassLog$Held" (56 : Nat) ({ cls := "GlassLog", name := "isLike", desc := "([II[II)Z" } : Jvm.MethodName) "GlassLog") ∈ lw_tbl := lw_at lw_m4 228 rfl
theorem q1021 : (Jvm.Cond.selects "GlassLog$Held" ({ cls := "GlassLog$Proof", name := "isRight", desc := "(LGlassLog$Mixer;LGlassLog$Pile;LGlassLog$Head;LGlassLog$Head;)Z" } : Jvm.MethodName) ({ cls := "GlassLog$Held", name := "isRight", desc := "(LGlassLog$Mixer;LGlassLog$Pile;LGlassLog$Head;LGlassLog$Head;)Z" } : Jvm.MethodName)) ∈ lw_all := lw_g (lw_at lw_m5 5 rfl) rfl
theorem q1116 : (Jvm.Cond.declares ({ cls := "GlassLog$Held", name := "twin", desc := "(LGlassLog$Held;)LGlassLog$Proof;" } : Jvm.MethodName)) ∈ lw_tbl := lw_at lw_m5 100 rfl
theorem q1118 : (Jvm.Cond.instanceMethod ({ cls := "GlassLog$Held", name := "twin", desc := "(LGlassLog$Held;)LGlassLog$Proof;" } : Jvm.MethodName)) ∈ lw_all := lw_g (lw_at lw_m5 102 rfl) rfl
theorem q1119 : (Jvm.Cond.code ({ cls := "GlassLog$Held", name := "twin", desc := "(LGlassLog$Held;)LGlassLog$Proof;" } : Jvm.MethodName) prog_5_method_8_code (2 : Nat) (Option.some (Jvm.ClassFile.FieldType.object "GlassLog$Proof"))) ∈ lw_all := lw_g (lw_at lw_m5 103 rfl) rfl
theorem q1120 : (Jvm.Cond.methodLink "GlassLog$Held" (65 : Nat) ({ cls := "GlassLog$Held", name := "become", desc := "(LGlassLog$Proof;)LGlassLog$Proof;" } : Jvm.MethodName)) ∈ lw_all := lw_g (lw_at lw_m5 104 rfl) rfl
theorem q1121 : (Jvm.Cond.sameMethod "GlassLog$Held" "GlassLog$Proof" "become" "(LGlassLog$Proof;)LGlassLog$Proof;") ∈ lw_all := lw_g (lw_at lw_m5 105 rfl) rfl
theorem q1124 : (Jvm.Cond.selects "GlassLog$Held" ({ cls := "GlassLog$Held", name := "become", desc := "(LGlassLog$Proof;)LGlassLog$Proof;" } : Jvm.MethodName) ({ cls := "GlassLog$Proof", name := "become", desc := "(LGlassLog$Proof;)LGlassLog$Proof;" } : Jvm.MethodName)) ∈ lw_all := lw_g (lw_at lw_m5 108 rfl) rfl
theorem q1136 : (Jvm.Cond.selects "GlassLog$Held" ({ cls := "GlassLog$Proof", name := "twin", desc := "()LGlassLog$Proof;" } : Jvm.MethodName) ({ cls := "GlassLog$Held", name := "twin", desc := "()LGlassLog$Proof;" } : Jvm.MethodName)) ∈ lw_all := lw_g (lw_at lw_m5 120 rfl) rfl
theorem q1137 : (Jvm.Cond.instanceMethod ({ cls := "GlassLog$Held", name := "twin", desc := "()LGlassLog$Proof;" } : Jvm.MethodName)) ∈ lw_all := lw_g (lw_at lw_m5 121 rfl) rfl
theorem q1138 : (Jvm.Cond.code ({ cls := "GlassLog$Held", name := "twin", desc := "()LGlassLog$Proof;" } : Jvm.MethodName) prog_5_method_7_code (1 : Nat) (Option.some (Jvm.ClassFile.FieldType.object "GlassLog$Proof"))) ∈ lw_all := lw_g (lw_at lw_m5 122 rfl) rfl
theorem q1139 : (Jvm.Cond.classLink "GlassLog$Held" (10 : Nat) "GlassLog$Held") ∈ lw_all := lw_g (lw_at lw_m5 123 rfl) rfl
theorem q1140 : (Jvm.Cond.methodLink "GlassLog$Held" (60 : Nat) ({ cls := "GlassLog$Held", name := "<init>", desc := "()V" } : Jvm.MethodName)) ∈ lw_all := lw_g (lw_at lw_m5 124 rfl) rfl
theorem q1141 : (Jvm.Cond.methodLink "GlassLog$Held" (61 : Nat) ({ cls := "GlassLog$Held", name := "twin", desc := "(LGlassLog$Held;)LGlassLog$Proof;" } : Jvm.MethodName)) ∈ lw_all := lw_g (lw_at lw_m5 125 rfl) rfl
theorem q1696 : (Jvm.Cond.sameMethod "GlassLog$Held" "GlassLog$Held" "isRight" "(LGlassLog$Mixer;LGlassLog$Pile;LGlassLog$Head;LGlassLog$Head;)Z") ∈ lw_all := lw_g (lw_at lw_m7 200 rfl) rfl
theorem q1697 : (Jvm.Cond.sameMethod "GlassLog$Held" "GlassLog$Held" "twin" "(LGlassLog$Held;)LGlassLog$Proof;") ∈ lw_all := lw_g (lw_at lw_m7 201 rfl) rfl
theorem q1699 : (Jvm.Cond.selects "GlassLog$Held" ({ cls := "GlassLog$Held", name := "twin", desc := "(LGlassLog$Held;)LGlassLog$Proof;" } : Jvm.MethodName) ({ cls := "GlassLog$Held", name := "twin", desc := "(LGlassLog$Held;)LGlassLog$Proof;" } : Jvm.MethodName)) ∈ lw_all := lw_g (lw_at lw_m7 203 rfl) rfl
theorem q1702 : (Jvm.Cond.castable "GlassLog$Held" "GlassLog$Proof") ∈ lw_tbl := lw_at lw_m7 206 rfl
theorem in_X14 : ∀ w ∈ wsX140, w ∈ lw_all := lw_in wsX140 [708, 709, 710, 711, 712, 704, 706] (by decide +kernel) (by decide +kernel)

/-! GlassLog$Absent -/
set_option maxRecDepth 100000
def RX15 : String := "GlassLog$Absent"
def TX15 : u_T := fun k => match k with
  | 0 => ("GlassLog$Proof", "n", "I", false)
  | 1 => ("GlassLog$Proof", "first", "I", false)
  | 2 => ("GlassLog$Proof", "second", "I", false)
  | 3 => ("GlassLog$Proof", "many", "I", false)
  | 4 => ("GlassLog$Proof", "steps", "[I", false)
  | 5 => ("GlassLog$Held", "key", "I", false)
  | 6 => ("GlassLog$Held", "latest", "I", false)
  | _ => ("GlassLog$Absent", "other", "I", false)
def tyX15 : Nat → FieldType := fun k => match k with
  | 0 => .int
  | 1 => .int
  | 2 => .int
  | 3 => .int
  | 4 => .array .int
  | 5 => .int
  | 6 => .int
  | _ => .int
abbrev wsX150 : List Cond := u_ws RX15 TX15 8
theorem nmX15 : ∀ a, a < 8 → ∀ b, b < 8 → a ≠ b → (TX15 a).2.1 ≠ (TX15 b).2.1 := by decide +kernel
theorem tyX15_ok : ∀ k, k < 8 → parseFieldDescriptor (TX15 k).2.2.1 = some (tyX15 k) := by decide +kernel
abbrev cX15_init : ByteArray := prog_2_method_1_code
def yX15_init : MethodName := ⟨RX15, "<init>", "()V"⟩
theorem dX15_init_0 : decode cX15_init 0 = .ok (.aload_n 0, 1) := by decide +kernel
theorem dX15_init_1 : decode cX15_init 1 = .ok (.invokespecial 3, 3) := by decide +kernel
theorem dX15_init_4 : decode cX15_init 4 = .ok (.return_, 1) := by decide +kernel
abbrev cX15_kind : ByteArray := prog_2_method_2_code
def yX15_kind : MethodName := ⟨RX15, "kind", "()I"⟩
theorem dX15_kind_0 : decode cX15_kind 0 = .ok (.iconst 4, 1) := by decide +kernel
theorem dX15_kind_1 : decode cX15_kind 1 = .ok (.ireturn, 1) := by decide +kernel
abbrev cX15_other : ByteArray := prog_2_method_3_code
def yX15_other : MethodName := ⟨RX15, "other", "()I"⟩
theorem dX15_other_0 : decode cX15_other 0 = .ok (.aload_n 0, 1) := by decide +kernel
theorem dX15_other_1 : decode cX15_other 1 = .ok (.getfield 9, 3) := by decide +kernel
theorem dX15_other_4 : decode cX15_other 4 = .ok (.ireturn, 1) := by decide +kernel
abbrev cX15_isRight : ByteArray := prog_2_method_5_code
def yX15_isRight : MethodName := ⟨RX15, "isRight", "(LGlassLog$Mixer;LGlassLog$Pile;LGlassLog$Head;LGlassLog$Head;)Z"⟩
def dkwX15_isRight_1 : List UInt8 := [183, 0, 31, 153, 0, 7, 4, 167, 0, 4, 3, 172]
abbrev dktX15_isRight_1 : List UInt8 := dkwX15_isRight_1 ++ []
def dkwX15_isRight_0 : List UInt8 := [42, 180, 0, 15, 155, 0, 14, 42, 180, 0, 9, 42, 180, 0, 28, 159, 0, 19, 42, 43, 44, 45, 25, 4]
abbrev dktX15_isRight_0 : List UInt8 := dkwX15_isRight_0 ++ dktX15_isRight_1
theorem dksX15_isRight_0 : cX15_isRight.data.toList.drop 0 = dktX15_isRight_0 := by decide +kernel
theorem dksX15_isRight_1 : cX15_isRight.data.toList.drop 24 = dktX15_isRight_1 := dk_seg dksX15_isRight_0 24 rfl rfl
theorem dX15_isRight_0 : decode cX15_isRight 0 = .ok (.aload_n 0, 1) := dk_42 (dk_at dksX15_isRight_0 0 rfl rfl)
theorem dX15_isRight_1 : decode cX15_isRight 1 = .ok (.getfield 15, 3) := dk_180 0 15 (dk_at dksX15_isRight_0 1 rfl rfl)
theorem dX15_isRight_4 : decode cX15_isRight 4 = .ok (.ifCond .lt 14, 3) := dk_155 0 14 (dk_at dksX15_isRight_0 4 rfl rfl)
theorem dX15_isRight_7 : decode cX15_isRight 7 = .ok (.aload_n 0, 1) := dk_42 (dk_at dksX15_isRight_0 7 rfl rfl)
theorem dX15_isRight_8 : decode cX15_isRight 8 = .ok (.getfield 9, 3) := dk_180 0 9 (dk_at dksX15_isRight_0 8 rfl rfl)
theorem dX15_isRight_11 : decode cX15_isRight 11 = .ok (.aload_n 0, 1) := dk_42 (dk_at dksX15_isRight_0 11 rfl rfl)
theorem dX15_isRight_12 : decode cX15_isRight 12 = .ok (.getfield 28, 3) := dk_180 0 28 (dk_at dksX15_isRight_0 12 rfl rfl)
theorem dX15_isRight_15 : decode cX15_isRight 15 = .ok (.if_icmp .eq 19, 3) := dk_159 0 19 (dk_at dksX15_isRight_0 15 rfl rfl)
theorem dX15_isRight_18 : decode cX15_isRight 18 = .ok (.aload_n 0, 1) := dk_42 (dk_at dksX15_isRight_0 18 rfl rfl)
theorem dX15_isRight_19 : decode cX15_isRight 19 = .ok (.aload_n 1, 1) := dk_43 (dk_at dksX15_isRight_0 19 rfl rfl)
theorem dX15_isRight_20 : decode cX15_isRight 20 = .ok (.aload_n 2, 1) := dk_44 (dk_at dksX15_isRight_0 20 rfl rfl)
theorem dX15_isRight_21 : decode cX15_isRight 21 = .ok (.aload_n 3, 1) := dk_45 (dk_at dksX15_isRight_0 21 rfl rfl)
theorem dX15_isRight_22 : decode cX15_isRight 22 = .ok (.aload 4, 2) := dk_25 4 (dk_at dksX15_isRight_0 22 rfl rfl)
theorem dX15_isRight_24 : decode cX15_isRight 24 = .ok (.invokespecial 31, 3) := dk_183 0 31 (dk_at dksX15_isRight_1 0 rfl rfl)
theorem dX15_isRight_27 : decode cX15_isRight 27 = .ok (.ifCond .eq 7, 3) := dk_153 0 7 (dk_at dksX15_isRight_1 3 rfl rfl)
theorem dX15_isRight_30 : decode cX15_isRight 30 = .ok (.iconst 1, 1) := dk_4 (dk_at dksX15_isRight_1 6 rfl rfl)
theorem dX15_isRight_31 : decode cX15_isRight 31 = .ok (.goto 4, 3) := dk_167 0 4 (dk_at dksX15_isRight_1 7 rfl rfl)
theorem dX15_isRight_34 : decode cX15_isRight 34 = .ok (.iconst 0, 1) := dk_3 (dk_at dksX15_isRight_1 10 rfl rfl)
theorem dX15_isRight_35 : decode cX15_isRight 35 = .ok (.ireturn, 1) := dk_172 (dk_at dksX15_isRight_1 11 rfl rfl)
abbrev cX15_end : ByteArray := prog_2_method_4_code
def yX15_end : MethodName := ⟨RX15, "end", "(LGlassLog$Mixer;[I)V"⟩
def dkwX15_end_1 : List UInt8 := [44, 3, 182, 0, 22, 177]
abbrev dktX15_end_1 : List UInt8 := dkwX15_end_1 ++ []
def dkwX15_end_0 : List UInt8 := [42, 180, 0, 15, 156, 0, 11, 44, 3, 184, 0, 18, 167, 0, 17, 43, 42, 180, 0, 9, 42, 180, 0, 15]
abbrev dktX15_end_0 : List UInt8 := dkwX15_end_0 ++ dktX15_end_1
theorem dksX15_end_0 : cX15_end.data.toList.drop 0 = dktX15_end_0 := by decide +kernel
theorem dksX15_end_1 : cX15_end.data.toList.drop 24 = dktX15_end_1 := dk_seg dksX15_end_0 24 rfl rfl
theorem dX15_end_0 : decode cX15_end 0 = .ok (.aload_n 0, 1) := dk_42 (dk_at dksX15_end_0 0 rfl rfl)
theorem dX15_end_1 : decode cX15_end 1 = .ok (.getfield 15, 3) := dk_180 0 15 (dk_at dksX15_end_0 1 rfl rfl)
theorem dX15_end_4 : decode cX15_end 4 = .ok (.ifCond .ge 11, 3) := dk_156 0 11 (dk_at dksX15_end_0 4 rfl rfl)
theorem dX15_end_7 : decode cX15_end 7 = .ok (.aload_n 2, 1) := dk_44 (dk_at dksX15_end_0 7 rfl rfl)
theorem dX15_end_8 : decode cX15_end 8 = .ok (.iconst 0, 1) := dk_3 (dk_at dksX15_end_0 8 rfl rfl)
theorem dX15_end_9 : decode cX15_end 9 = .ok (.invokestatic 18, 3) := dk_184 0 18 (dk_at dksX15_end_0 9 rfl rfl)
theorem dX15_end_12 : decode cX15_end 12 = .ok (.goto 17, 3) := dk_167 0 17 (dk_at dksX15_end_0 12 rfl rfl)
theorem dX15_end_15 : decode cX15_end 15 = .ok (.aload_n 1, 1) := dk_43 (dk_at dksX15_end_0 15 rfl rfl)
theorem dX15_end_16 : decode cX15_end 16 = .ok (.aload_n 0, 1) := dk_42 (dk_at dksX15_end_0 16 rfl rfl)
theorem dX15_end_17 : decode cX15_end 17 = .ok (.getfield 9, 3) := dk_180 0 9 (dk_at dksX15_end_0 17 rfl rfl)
theorem dX15_end_20 : decode cX15_end 20 = .ok (.aload_n 0, 1) := dk_42 (dk_at dksX15_end_0 20 rfl rfl)
theorem dX15_end_21 : decode cX15_end 21 = .ok (.getfield 15, 3) := dk_180 0 15 (dk_at dksX15_end_0 21 rfl rfl)
theorem dX15_end_24 : decode cX15_end 24 = .ok (.aload_n 2, 1) := dk_44 (dk_at dksX15_end_1 0 rfl rfl)
theorem dX15_end_25 : decode cX15_end 25 = .ok (.iconst 0, 1) := dk_3 (dk_at dksX15_end_1 1 rfl rfl)
theorem dX15_end_26 : decode cX15_end 26 = .ok (.invokevirtual 22, 3) := dk_182 0 22 (dk_at dksX15_end_1 2 rfl rfl)
theorem dX15_end_29 : decode cX15_end 29 = .ok (.return_, 1) := dk_177 (dk_at dksX15_end_1 5 rfl rfl)
abbrev cX15_twin : ByteArray := prog_2_method_6_code
def yX15_twin : MethodName := ⟨RX15, "twin", "()LGlassLog$Proof;"⟩
def dkwX15_twin_0 : List UInt8 := [187, 0, 10, 89, 183, 0, 35, 76, 43, 42, 180, 0, 9, 181, 0, 9, 42, 43, 182, 0, 36, 176]
abbrev dktX15_twin_0 : List UInt8 := dkwX15_twin_0 ++ []
theorem dksX15_twin_0 : cX15_twin.data.toList.drop 0 = dktX15_twin_0 := by decide +kernel
theorem dX15_twin_0 : decode cX15_twin 0 = .ok (.new 10, 3) := dk_187 0 10 (dk_at dksX15_twin_0 0 rfl rfl)
theorem dX15_twin_3 : decode cX15_twin 3 = .ok (.dup, 1) := dk_89 (dk_at dksX15_twin_0 3 rfl rfl)
theorem dX15_twin_4 : decode cX15_twin 4 = .ok (.invokespecial 35, 3) := dk_183 0 35 (dk_at dksX15_twin_0 4 rfl rfl)
theorem dX15_twin_7 : decode cX15_twin 7 = .ok (.astore_n 1, 1) := dk_76 (dk_at dksX15_twin_0 7 rfl rfl)
theorem dX15_twin_8 : decode cX15_twin 8 = .ok (.aload_n 1, 1) := dk_43 (dk_at dksX15_twin_0 8 rfl rfl)
theorem dX15_twin_9 : decode cX15_twin 9 = .ok (.aload_n 0, 1) := dk_42 (dk_at dksX15_twin_0 9 rfl rfl)
theorem dX15_twin_10 : decode cX15_twin 10 = .ok (.getfield 9, 3) := dk_180 0 9 (dk_at dksX15_twin_0 10 rfl rfl)
theorem dX15_twin_13 : decode cX15_twin 13 = .ok (.putfield 9, 3) := dk_181 0 9 (dk_at dksX15_twin_0 13 rfl rfl)
theorem dX15_twin_16 : decode cX15_twin 16 = .ok (.aload_n 0, 1) := dk_42 (dk_at dksX15_twin_0 16 rfl rfl)
theorem dX15_twin_17 : decode cX15_twin 17 = .ok (.aload_n 1, 1) := dk_43 (dk_at dksX15_twin_0 17 rfl rfl)
theorem dX15_twin_18 : decode cX15_twin 18 = .ok (.invokevirtual 36, 3) := dk_182 0 36 (dk_at dksX15_twin_0 18 rfl rfl)
theorem dX15_twin_21 : decode cX15_twin 21 = .ok (.areturn, 1) := dk_176 (dk_at dksX15_twin_0 21 rfl rfl)
theorem q76 : (Jvm.Cond.initialized "GlassLog$Absent") ∈ lw_all := lw_g (lw_at lw_m1 20 rfl) rfl
theorem q695 : (Jvm.Cond.fieldLink "GlassLog$Absent" (28 : Nat) "GlassLog$Absent" "key" "I") ∈ lw_all := lw_g (lw_at lw_m3 159 rfl) rfl
theorem q696 : (Jvm.Cond.sameField "GlassLog$Absent" "GlassLog$Held" "key" "I") ∈ lw_all := lw_g (lw_at lw_m3 160 rfl) rfl
theorem q700 : (Jvm.Cond.fieldLink "GlassLog$Absent" (15 : Nat) "GlassLog$Absent" "latest" "I") ∈ lw_all := lw_g (lw_at lw_m3 164 rfl) rfl
theorem q701 : (Jvm.Cond.sameField "GlassLog$Absent" "GlassLog$Held" "latest" "I") ∈ lw_all := lw_g (lw_at lw_m3 165 rfl) rfl
theorem q723 : (Jvm.Cond.instantiable "GlassLog$Absent" (8 : Nat)) ∈ lw_all := lw_g (lw_at lw_m3 187 rfl) rfl
theorem q725 : (Jvm.Cond.instanceMethod ({ cls := "GlassLog$Absent", name := "<init>", desc := "()V" } : Jvm.MethodName)) ∈ lw_all := lw_g (lw_at lw_m3 189 rfl) rfl
theorem q726 : (Jvm.Cond.code ({ cls := "GlassLog$Absent", name := "<init>", desc := "()V" } : Jvm.MethodName) prog_2_method_1_code (1 : Nat) (Option.none : Option Jvm.ClassFile.FieldType)) ∈ lw_all := lw_g (lw_at lw_m3 190 rfl) rfl
theorem q727 : (Jvm.Cond.methodLinkNest "GlassLog$Absent" (3 : Nat) ({ cls := "GlassLog$Held", name := "<init>", desc := "()V" } : Jvm.MethodName) "GlassLog") ∈ lw_tbl := lw_at lw_m3 191 rfl
theorem q728 : (Jvm.Cond.fieldLink "GlassLog$Absent" (9 : Nat) "GlassLog$Absent" "other" "I") ∈ lw_all := lw_g (lw_at lw_m3 192 rfl) rfl
theorem q730 : (Jvm.Cond.lays "GlassLog$Absent" "GlassLog$Absent" "other" "I") ∈ lw_all := lw_g (lw_at lw_m3 194 rfl) rfl
theorem q731 : (Jvm.Cond.soleField "GlassLog$Absent" "other") ∈ lw_all := lw_g (lw_at lw_m3 195 rfl) rfl
theorem q732 : (Jvm.Cond.lays "GlassLog$Absent" "GlassLog$Held" "key" "I") ∈ lw_all := lw_g (lw_at lw_m3 196 rfl) rfl
theorem q733 : (Jvm.Cond.lays "GlassLog$Absent" "GlassLog$Held" "latest" "I") ∈ lw_all := lw_g (lw_at lw_m3 197 rfl) rfl
theorem q734 : (Jvm.Cond.lays "GlassLog$Absent" "GlassLog$Proof" "n" "I") ∈ lw_all := lw_g (lw_at lw_m3 198 rfl) rfl
theorem q735 : (Jvm.Cond.lays "GlassLog$Absent" "GlassLog$Proof" "first" "I") ∈ lw_all := lw_g (lw_at lw_m3 199 rfl) rfl
theorem q736 : (Jvm.Cond.lays "GlassLog$Absent" "GlassLog$Proof" "second" "I") ∈ lw_all := lw_g (lw_at lw_m3 200 rfl) rfl
theorem q737 : (Jvm.Cond.lays "GlassLog$Absent" "GlassLog$Proof" "many" "I") ∈ lw_all := lw_g (lw_at lw_m3 201 rfl) rfl
theorem q738 : (Jvm.Cond.lays "GlassLog$Absent" "GlassLog$Proof" "steps" "[I") ∈ lw_all := lw_g (lw_at lw_m3 202 rfl) rfl
theorem q739 : (Jvm.Cond.superclass "GlassLog$Absent" "GlassLog$Held") ∈ lw_all := lw_g (lw_at lw_m3 203 rfl) rfl
theorem q775 : (Jvm.Cond.selects "GlassLog$Absent" ({ cls := "GlassLog$Proof", name := "kind", desc := "()I" } : Jvm.MethodName) ({ cls := "GlassLog$Absent", name := "kind", desc := "()I" } : Jvm.MethodName)) ∈ lw_all := lw_g (lw_at lw_m3 239 rfl) rfl
theorem q776 : (Jvm.Cond.instanceMethod ({ cls := "GlassLog$Absent", name := "kind", desc := "()I" } : Jvm.MethodName)) ∈ lw_all := lw_g (lw_at lw_m4 0 rfl) rfl
theorem q777 : (Jvm.Cond.code ({ cls := "GlassLog$Absent", name := "kind", desc := "()I" } : Jvm.MethodName) prog_2_method_2_code (1 : Nat) (Option.some Jvm.ClassFile.FieldType.int)) ∈ lw_all := lw_g (lw_at lw_m4 1 rfl) rfl
theorem q793 : (Jvm.Cond.selects "GlassLog$Absent" ({ cls := "GlassLog$Proof", name := "key", desc := "()I" } : Jvm.MethodName) ({ cls := "GlassLog$Held", name := "key", desc := "()I" } : Jvm.MethodName)) ∈ lw_all := lw_g (lw_at lw_m4 17 rfl) rfl
theorem q806 : (Jvm.Cond.selects "GlassLog$Absent" ({ cls := "GlassLog$Proof", name := "latest", desc := "()I" } : Jvm.MethodName) ({ cls := "GlassLog$Held", name := "latest", desc := "()I" } : Jvm.MethodName)) ∈ lw_all := lw_g (lw_at lw_m4 30 rfl) rfl
theorem q817 : (Jvm.Cond.selects "GlassLog$Absent" ({ cls := "GlassLog$Proof", name := "other", desc := "()I" } : Jvm.MethodName) ({ cls := "GlassLog$Absent", name := "other", desc := "()I" } : Jvm.MethodName)) ∈ lw_all := lw_g (lw_at lw_m4 41 rfl) rfl
theorem q818 : (Jvm.Cond.instanceMethod ({ cls := "GlassLog$Absent", name := "other", desc := "()I" } : Jvm.MethodName)) ∈ lw_all := lw_g (lw_at lw_m4 42 rfl) rfl
theorem q819 : (Jvm.Cond.code ({ cls := "GlassLog$Absent", name := "other", desc := "()I" } : Jvm.MethodName) prog_2_method_3_code (1 : Nat) (Option.some Jvm.ClassFile.FieldType.int)) ∈ lw_all := lw_g (lw_at lw_m4 43 rfl) rfl
theorem q984 : (Jvm.Cond.selects "GlassLog$Absent" ({ cls := "GlassLog$Proof", name := "isRight", desc := "(LGlassLog$Mixer;LGlassLog$Pile;LGlassLog$Head;LGlassLog$Head;)Z" } : Jvm.MethodName) ({ cls := "GlassLog$Absent", name := "isRight", desc := "(LGlassLog$Mixer;LGlassLog$Pile;LGlassLog$Head;LGlassLog$Head;)Z" } : Jvm.MethodName)) ∈ lw_all := lw_g (lw_at lw_m4 208 rfl) rfl
theorem q985 : (Jvm.Cond.instanceMethod ({ cls := "GlassLog$Absent", name := "isRight", desc := "(LGlassLog$Mixer;LGlassLog$Pile;LGlassLog$Head;LGlassLog$Head;)Z" } : Jvm.MethodName)) ∈ lw_all := lw_g (lw_at lw_m4 209 rfl) rfl
theorem q986 : (Jvm.Cond.code ({ cls := "GlassLog$Absent", name := "isRight", desc := "(LGlassLog$Mixer;LGlassLog$Pile;LGlassLog$Head;LGlassLog$Head;)Z" } : Jvm.MethodName) prog_2_method_5_code (5 : Nat) (Option.some Jvm.ClassFile.FieldType.boolean)) ∈ lw_all := lw_g (lw_at lw_m4 210 rfl) rfl
theorem q987 : (Jvm.Cond.methodLink "GlassLog$Absent" (31 : Nat) ({ cls := "GlassLog$Held", name := "isRight", desc := "(LGlassLog$Mixer;LGlassLog$Pile;LGlassLog$Head;LGlassLog$Head;)Z" } : Jvm.MethodName)) ∈ lw_all := lw_g (lw_at lw_m4 211 rfl) rfl
theorem q995 : (Jvm.Cond.selects "GlassLog$Absent" ({ cls := "GlassLog$Held", name := "end", desc := "(LGlassLog$Mixer;[I)V" } : Jvm.MethodName) ({ cls := "GlassLog$Absent", name := "end", desc := "(LGlassLog$Mixer;[I)V" } : Jvm.MethodName)) ∈ lw_all := lw_g (lw_at lw_m4 219 rfl) rfl
theorem q996 : (Jvm.Cond.instanceMethod ({ cls := "GlassLog$Absent", name := "end", desc := "(LGlassLog$Mixer;[I)V" } : Jvm.MethodName)) ∈ lw_all := lw_g (lw_at lw_m4 220 rfl) rfl
theorem q997 : (Jvm.Cond.code ({ cls := "GlassLog$Absent", name := "end", desc := "(LGlassLog$Mixer;[I)V" } : Jvm.MethodName) prog_2_method_4_code (3 : Nat) (Option.none : Option Jvm.ClassFile.FieldType)) ∈ lw_all := lw_g (lw_at lw_m4 221 rfl) rfl
theorem q998 : (Jvm.Cond.methodLinkNest "GlassLog$Absent" (18 : Nat) ({ cls := "GlassLog", name := "clear", desc := "([II)V" } : Jvm.MethodName) "GlassLog") ∈ lw_tbl := lw_at lw_m4 222 rfl
theorem q999 : (Jvm.Cond.methodLink "GlassLog$Absent" (22 : Nat) ({ cls := "GlassLog$Mixer", name := "leaf", desc := "(II[II)V" } : Jvm.MethodName)) ∈ lw_all := lw_g (lw_at lw_m4 223 rfl) rfl
theorem q1109 : (Jvm.Cond.selects "GlassLog$Absent" ({ cls := "GlassLog$Proof", name := "twin", desc := "()LGlassLog$Proof;" } : Jvm.MethodName) ({ cls := "GlassLog$Absent", name := "twin", desc := "()LGlassLog$Proof;" } : Jvm.MethodName)) ∈ lw_all := lw_g (lw_at lw_m5 93 rfl) rfl
theorem q1110 : (Jvm.Cond.instanceMethod ({ cls := "GlassLog$Absent", name := "twin", desc := "()LGlassLog$Proof;" } : Jvm.MethodName)) ∈ lw_all := lw_g (lw_at lw_m5 94 rfl) rfl
theorem q1111 : (Jvm.Cond.code ({ cls := "GlassLog$Absent", name := "twin", desc := "()LGlassLog$Proof;" } : Jvm.MethodName) prog_2_method_6_code (2 : Nat) (Option.some (Jvm.ClassFile.FieldType.object "GlassLog$Proof"))) ∈ lw_all := lw_g (lw_at lw_m5 95 rfl) rfl
theorem q1112 : (Jvm.Cond.classLink "GlassLog$Absent" (10 : Nat) "GlassLog$Absent") ∈ lw_all := lw_g (lw_at lw_m5 96 rfl) rfl
theorem q1113 : (Jvm.Cond.methodLink "GlassLog$Absent" (35 : Nat) ({ cls := "GlassLog$Absent", name := "<init>", desc := "()V" } : Jvm.MethodName)) ∈ lw_all := lw_g (lw_at lw_m5 97 rfl) rfl
theorem q1114 : (Jvm.Cond.methodLink "GlassLog$Absent" (36 : Nat) ({ cls := "GlassLog$Absent", name := "twin", desc := "(LGlassLog$Held;)LGlassLog$Proof;" } : Jvm.MethodName)) ∈ lw_all := lw_g (lw_at lw_m5 98 rfl) rfl
theorem q1115 : (Jvm.Cond.sameMethod "GlassLog$Absent" "GlassLog$Held" "twin" "(LGlassLog$Held;)LGlassLog$Proof;") ∈ lw_all := lw_g (lw_at lw_m5 99 rfl) rfl
theorem q1117 : (Jvm.Cond.selects "GlassLog$Absent" ({ cls := "GlassLog$Absent", name := "twin", desc := "(LGlassLog$Held;)LGlassLog$Proof;" } : Jvm.MethodName) ({ cls := "GlassLog$Held", name := "twin", desc := "(LGlassLog$Held;)LGlassLog$Proof;" } : Jvm.MethodName)) ∈ lw_all := lw_g (lw_at lw_m5 101 rfl) rfl
theorem q1123 : (Jvm.Cond.selects "GlassLog$Absent" ({ cls := "GlassLog$Held", name := "become", desc := "(LGlassLog$Proof;)LGlassLog$Proof;" } : Jvm.MethodName) ({ cls := "GlassLog$Proof", name := "become", desc := "(LGlassLog$Proof;)LGlassLog$Proof;" } : Jvm.MethodName)) ∈ lw_all := lw_g (lw_at lw_m5 107 rfl) rfl
theorem q1698 : (Jvm.Cond.selects "GlassLog$Absent" ({ cls := "GlassLog$Held", name := "twin", desc := "(LGlassLog$Held;)LGlassLog$Proof;" } : Jvm.MethodName) ({ cls := "GlassLog$Held", name := "twin", desc := "(LGlassLog$Held;)LGlassLog$Proof;" } : Jvm.MethodName)) ∈ lw_all := lw_g (lw_at lw_m7 202 rfl) rfl
theorem q1700 : (Jvm.Cond.castable "GlassLog$Absent" "GlassLog$Proof") ∈ lw_tbl := lw_at lw_m7 204 rfl
theorem in_X15 : ∀ w ∈ wsX150, w ∈ lw_all := lw_in wsX150 [734, 735, 736, 737, 738, 732, 733, 730] (by decide +kernel) (by decide +kernel)
