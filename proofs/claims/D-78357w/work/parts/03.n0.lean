/-! DECODE ROWS BY BYTES: one lemma an opcode; a method's code is cut into short pieces once, and a row reads its own piece alone. -/
set_option maxRecDepth 100000
/-- the code has just these bytes from pc on -/
def DkAt (code : ByteArray) (pc : Nat) (bs : List UInt8) : Prop := ∀ (j : Nat) (b : UInt8), bs[j]? = some b → code.data.toList[pc + j]? = some b
/-- the piece W has the bytes bs from its place j on -/
def dkIn (W : List UInt8) (j : Nat) (bs : List UInt8) : Bool := decide ((W.drop j).take bs.length = bs)
theorem dk_seg {l W T : List UInt8} {o o2 : Nat} (h : l.drop o = W ++ T) (n : Nat) (hn : W.length = n) (ho : o + n = o2) : l.drop o2 = T := by
  subst ho
  rw [← List.drop_drop, h, List.drop_left' hn]
theorem dk_at {code : ByteArray} {W T bs : List UInt8} {o pc : Nat} (h : code.data.toList.drop o = W ++ T) (j : Nat) (hp : o + j = pc) (hw : dkIn W j bs = true) : DkAt code pc bs := by
  subst hp
  intro i b e
  have h1 := of_decide_eq_true hw
  have h2 : i < bs.length := (List.getElem?_eq_some_iff.mp e).1
  have h3 : W[j + i]? = some b := by
    rw [← h1, List.getElem?_take, if_pos h2, List.getElem?_drop] at e
    exact e
  have h4 : j + i < W.length := (List.getElem?_eq_some_iff.mp h3).1
  have h5 : (code.data.toList.drop o)[j + i]? = some b := by
    rw [h, List.getElem?_append_left h4]
    exact h3
  rw [List.getElem?_drop, ← Nat.add_assoc] at h5
  exact h5
theorem dk_u1 {A : ByteArray} {p : Nat} {b : UInt8} (h : A.data.toList[p]? = some b) : (Reader.u1 : Reader DecodeError Nat) A p = .ok (b.toNat, p + 1) := by
  obtain ⟨h1, h2⟩ := List.getElem?_eq_some_iff.mp h
  have h3 : p < A.size := by simpa using h1
  have h4 : A[p]'h3 = b := h2
  have e : (Reader.u1 : Reader DecodeError Nat) A p = (if h : p < A.size then .ok (A[p].toNat, p + 1) else .error (HasTruncated.truncated p)) := by
    show (do if h : p < A.size then do set (p + 1); Pure.pure A[p].toNat else MonadExcept.throw (HasTruncated.truncated p) : Reader DecodeError Nat) A p = _
    by_cases hi : p < A.size
    · rw [dif_pos hi, dif_pos hi]; rfl
    · rw [dif_neg hi, dif_neg hi]; rfl
  rw [e, dif_pos h3, h4]
theorem dk_bind {α β : Type} {r : Reader DecodeError α} {f : α → Reader DecodeError β} {A : ByteArray} {p s : Nat} {a : α} (h : r A p = .ok (a, s)) : (r >>= f) A p = f a A s := by
  show (do let (a, s) ← r A p; f a A s : Except DecodeError (β × Nat)) = _
  rw [h]
  rfl
theorem dk_map {α β : Type} {r : Reader DecodeError α} {g : α → β} {A : ByteArray} {p s : Nat} {a : α} (h : r A p = .ok (a, s)) : (g <$> r) A p = .ok (g a, s) := by
  show (do let (a, s) ← r A p; .ok (g a, s) : Except DecodeError (β × Nat)) = _
  rw [h]
  rfl
theorem dk_u2 {A : ByteArray} {p : Nat} {a b : UInt8} (h : A.data.toList[p]? = some a) (h2 : A.data.toList[p + 1]? = some b) : (Reader.u2 : Reader DecodeError Nat) A p = .ok (a.toNat * 256 + b.toNat, p + 2) := by
  show (Reader.u1 >>= fun hi => Reader.u1 >>= fun lo => Pure.pure (hi * 256 + lo) : Reader DecodeError Nat) A p = _
  rw [dk_bind (dk_u1 h), dk_bind (dk_u1 h2)]
  rfl
theorem dk_of {code : ByteArray} {pc n : Nat} {i : Instr} (h : Decoder.instr pc code pc = .ok (i, pc + n)) : decode code pc = .ok (i, n) := by
  have e : decode code pc = (match Decoder.instr pc code pc with | .error x => .error x | .ok (j, s) => .ok (j, s - pc)) := by
    show (do let (j, s) ← Decoder.instr pc code pc; Pure.pure (j, s - pc) : Except DecodeError (Instr × Nat)) = _
    cases Decoder.instr pc code pc <;> rfl
  rw [e, h]
  show Except.ok (i, pc + n - pc) = _
  rw [Nat.add_sub_cancel_left]
theorem dk_1 {code : ByteArray} {pc : Nat} (h : DkAt code pc [1]) : decode code pc = .ok (.aconst_null, 1) := dk_of ((dk_bind (dk_u1 (h 0 _ rfl))).trans rfl)
theorem dk_2 {code : ByteArray} {pc : Nat} (h : DkAt code pc [2]) : decode code pc = .ok (.iconst (-1), 1) := dk_of ((dk_bind (dk_u1 (h 0 _ rfl))).trans rfl)
theorem dk_3 {code : ByteArray} {pc : Nat} (h : DkAt code pc [3]) : decode code pc = .ok (.iconst 0, 1) := dk_of ((dk_bind (dk_u1 (h 0 _ rfl))).trans rfl)
theorem dk_4 {code : ByteArray} {pc : Nat} (h : DkAt code pc [4]) : decode code pc = .ok (.iconst 1, 1) := dk_of ((dk_bind (dk_u1 (h 0 _ rfl))).trans rfl)
theorem dk_5 {code : ByteArray} {pc : Nat} (h : DkAt code pc [5]) : decode code pc = .ok (.iconst 2, 1) := dk_of ((dk_bind (dk_u1 (h 0 _ rfl))).trans rfl)
theorem dk_6 {code : ByteArray} {pc : Nat} (h : DkAt code pc [6]) : decode code pc = .ok (.iconst 3, 1) := dk_of ((dk_bind (dk_u1 (h 0 _ rfl))).trans rfl)
theorem dk_7 {code : ByteArray} {pc : Nat} (h : DkAt code pc [7]) : decode code pc = .ok (.iconst 4, 1) := dk_of ((dk_bind (dk_u1 (h 0 _ rfl))).trans rfl)
theorem dk_8 {code : ByteArray} {pc : Nat} (h : DkAt code pc [8]) : decode code pc = .ok (.iconst 5, 1) := dk_of ((dk_bind (dk_u1 (h 0 _ rfl))).trans rfl)
theorem dk_9 {code : ByteArray} {pc : Nat} (h : DkAt code pc [9]) : decode code pc = .ok (.lconst 0, 1) := dk_of ((dk_bind (dk_u1 (h 0 _ rfl))).trans rfl)
theorem dk_10 {code : ByteArray} {pc : Nat} (h : DkAt code pc [10]) : decode code pc = .ok (.lconst 1, 1) := dk_of ((dk_bind (dk_u1 (h 0 _ rfl))).trans rfl)
theorem dk_16 {code : ByteArray} {pc : Nat} (a : UInt8) (h : DkAt code pc [16, a]) : decode code pc = .ok (.bipush (Reader.signed 8 a.toNat), 2) := dk_of ((dk_bind (dk_u1 (h 0 _ rfl))).trans ((dk_bind (dk_map (dk_u1 (h 1 _ rfl)))).trans rfl))
theorem dk_17 {code : ByteArray} {pc : Nat} (a b : UInt8) (h : DkAt code pc [17, a, b]) : decode code pc = .ok (.sipush (Reader.signed 16 (a.toNat * 256 + b.toNat)), 3) := dk_of ((dk_bind (dk_u1 (h 0 _ rfl))).trans ((dk_bind (dk_map (dk_u2 (h 1 _ rfl) (h 2 _ rfl)))).trans rfl))
theorem dk_18 {code : ByteArray} {pc : Nat} (a : UInt8) (h : DkAt code pc [18, a]) : decode code pc = .ok (.ldc a.toNat, 2) := dk_of ((dk_bind (dk_u1 (h 0 _ rfl))).trans ((dk_bind (dk_u1 (h 1 _ rfl))).trans rfl))
theorem dk_19 {code : ByteArray} {pc : Nat} (a b : UInt8) (h : DkAt code pc [19, a, b]) : decode code pc = .ok (.ldc_w (a.toNat * 256 + b.toNat), 3) := dk_of ((dk_bind (dk_u1 (h 0 _ rfl))).trans ((dk_bind (dk_u2 (h 1 _ rfl) (h 2 _ rfl))).trans rfl))
theorem dk_20 {code : ByteArray} {pc : Nat} (a b : UInt8) (h : DkAt code pc [20, a, b]) : decode code pc = .ok (.ldc2_w (a.toNat * 256 + b.toNat), 3) := dk_of ((dk_bind (dk_u1 (h 0 _ rfl))).trans ((dk_bind (dk_u2 (h 1 _ rfl) (h 2 _ rfl))).trans rfl))
theorem dk_21 {code : ByteArray} {pc : Nat} (a : UInt8) (h : DkAt code pc [21, a]) : decode code pc = .ok (.iload a.toNat, 2) := dk_of ((dk_bind (dk_u1 (h 0 _ rfl))).trans ((dk_bind (dk_u1 (h 1 _ rfl))).trans rfl))
theorem dk_25 {code : ByteArray} {pc : Nat} (a : UInt8) (h : DkAt code pc [25, a]) : decode code pc = .ok (.aload a.toNat, 2) := dk_of ((dk_bind (dk_u1 (h 0 _ rfl))).trans ((dk_bind (dk_u1 (h 1 _ rfl))).trans rfl))
theorem dk_26 {code : ByteArray} {pc : Nat} (h : DkAt code pc [26]) : decode code pc = .ok (.iload_n 0, 1) := dk_of ((dk_bind (dk_u1 (h 0 _ rfl))).trans rfl)
theorem dk_27 {code : ByteArray} {pc : Nat} (h : DkAt code pc [27]) : decode code pc = .ok (.iload_n 1, 1) := dk_of ((dk_bind (dk_u1 (h 0 _ rfl))).trans rfl)
theorem dk_28 {code : ByteArray} {pc : Nat} (h : DkAt code pc [28]) : decode code pc = .ok (.iload_n 2, 1) := dk_of ((dk_bind (dk_u1 (h 0 _ rfl))).trans rfl)
theorem dk_29 {code : ByteArray} {pc : Nat} (h : DkAt code pc [29]) : decode code pc = .ok (.iload_n 3, 1) := dk_of ((dk_bind (dk_u1 (h 0 _ rfl))).trans rfl)
theorem dk_30 {code : ByteArray} {pc : Nat} (h : DkAt code pc [30]) : decode code pc = .ok (.lload_n 0, 1) := dk_of ((dk_bind (dk_u1 (h 0 _ rfl))).trans rfl)
theorem dk_33 {code : ByteArray} {pc : Nat} (h : DkAt code pc [33]) : decode code pc = .ok (.lload_n 3, 1) := dk_of ((dk_bind (dk_u1 (h 0 _ rfl))).trans rfl)
theorem dk_42 {code : ByteArray} {pc : Nat} (h : DkAt code pc [42]) : decode code pc = .ok (.aload_n 0, 1) := dk_of ((dk_bind (dk_u1 (h 0 _ rfl))).trans rfl)
theorem dk_43 {code : ByteArray} {pc : Nat} (h : DkAt code pc [43]) : decode code pc = .ok (.aload_n 1, 1) := dk_of ((dk_bind (dk_u1 (h 0 _ rfl))).trans rfl)
theorem dk_44 {code : ByteArray} {pc : Nat} (h : DkAt code pc [44]) : decode code pc = .ok (.aload_n 2, 1) := dk_of ((dk_bind (dk_u1 (h 0 _ rfl))).trans rfl)
theorem dk_45 {code : ByteArray} {pc : Nat} (h : DkAt code pc [45]) : decode code pc = .ok (.aload_n 3, 1) := dk_of ((dk_bind (dk_u1 (h 0 _ rfl))).trans rfl)
theorem dk_46 {code : ByteArray} {pc : Nat} (h : DkAt code pc [46]) : decode code pc = .ok (.iaload, 1) := dk_of ((dk_bind (dk_u1 (h 0 _ rfl))).trans rfl)
theorem dk_47 {code : ByteArray} {pc : Nat} (h : DkAt code pc [47]) : decode code pc = .ok (.laload, 1) := dk_of ((dk_bind (dk_u1 (h 0 _ rfl))).trans rfl)
theorem dk_50 {code : ByteArray} {pc : Nat} (h : DkAt code pc [50]) : decode code pc = .ok (.aaload, 1) := dk_of ((dk_bind (dk_u1 (h 0 _ rfl))).trans rfl)
theorem dk_51 {code : ByteArray} {pc : Nat} (h : DkAt code pc [51]) : decode code pc = .ok (.baload, 1) := dk_of ((dk_bind (dk_u1 (h 0 _ rfl))).trans rfl)
theorem dk_54 {code : ByteArray} {pc : Nat} (a : UInt8) (h : DkAt code pc [54, a]) : decode code pc = .ok (.istore a.toNat, 2) := dk_of ((dk_bind (dk_u1 (h 0 _ rfl))).trans ((dk_bind (dk_u1 (h 1 _ rfl))).trans rfl))
theorem dk_58 {code : ByteArray} {pc : Nat} (a : UInt8) (h : DkAt code pc [58, a]) : decode code pc = .ok (.astore a.toNat, 2) := dk_of ((dk_bind (dk_u1 (h 0 _ rfl))).trans ((dk_bind (dk_u1 (h 1 _ rfl))).trans rfl))
theorem dk_59 {code : ByteArray} {pc : Nat} (h : DkAt code pc [59]) : decode code pc = .ok (.istore_n 0, 1) := dk_of ((dk_bind (dk_u1 (h 0 _ rfl))).trans rfl)
theorem dk_60 {code : ByteArray} {pc : Nat} (h : DkAt code pc [60]) : decode code pc = .ok (.istore_n 1, 1) := dk_of ((dk_bind (dk_u1 (h 0 _ rfl))).trans rfl)
theorem dk_61 {code : ByteArray} {pc : Nat} (h : DkAt code pc [61]) : decode code pc = .ok (.istore_n 2, 1) := dk_of ((dk_bind (dk_u1 (h 0 _ rfl))).trans rfl)
theorem dk_62 {code : ByteArray} {pc : Nat} (h : DkAt code pc [62]) : decode code pc = .ok (.istore_n 3, 1) := dk_of ((dk_bind (dk_u1 (h 0 _ rfl))).trans rfl)
theorem dk_66 {code : ByteArray} {pc : Nat} (h : DkAt code pc [66]) : decode code pc = .ok (.lstore_n 3, 1) := dk_of ((dk_bind (dk_u1 (h 0 _ rfl))).trans rfl)
theorem dk_76 {code : ByteArray} {pc : Nat} (h : DkAt code pc [76]) : decode code pc = .ok (.astore_n 1, 1) := dk_of ((dk_bind (dk_u1 (h 0 _ rfl))).trans rfl)
theorem dk_77 {code : ByteArray} {pc : Nat} (h : DkAt code pc [77]) : decode code pc = .ok (.astore_n 2, 1) := dk_of ((dk_bind (dk_u1 (h 0 _ rfl))).trans rfl)
theorem dk_78 {code : ByteArray} {pc : Nat} (h : DkAt code pc [78]) : decode code pc = .ok (.astore_n 3, 1) := dk_of ((dk_bind (dk_u1 (h 0 _ rfl))).trans rfl)
theorem dk_79 {code : ByteArray} {pc : Nat} (h : DkAt code pc [79]) : decode code pc = .ok (.iastore, 1) := dk_of ((dk_bind (dk_u1 (h 0 _ rfl))).trans rfl)
theorem dk_80 {code : ByteArray} {pc : Nat} (h : DkAt code pc [80]) : decode code pc = .ok (.lastore, 1) := dk_of ((dk_bind (dk_u1 (h 0 _ rfl))).trans rfl)
theorem dk_83 {code : ByteArray} {pc : Nat} (h : DkAt code pc [83]) : decode code pc = .ok (.aastore, 1) := dk_of ((dk_bind (dk_u1 (h 0 _ rfl))).trans rfl)
theorem dk_84 {code : ByteArray} {pc : Nat} (h : DkAt code pc [84]) : decode code pc = .ok (.bastore, 1) := dk_of ((dk_bind (dk_u1 (h 0 _ rfl))).trans rfl)
theorem dk_87 {code : ByteArray} {pc : Nat} (h : DkAt code pc [87]) : decode code pc = .ok (.pop, 1) := dk_of ((dk_bind (dk_u1 (h 0 _ rfl))).trans rfl)
theorem dk_89 {code : ByteArray} {pc : Nat} (h : DkAt code pc [89]) : decode code pc = .ok (.dup, 1) := dk_of ((dk_bind (dk_u1 (h 0 _ rfl))).trans rfl)
theorem dk_90 {code : ByteArray} {pc : Nat} (h : DkAt code pc [90]) : decode code pc = .ok (.dup_x1, 1) := dk_of ((dk_bind (dk_u1 (h 0 _ rfl))).trans rfl)
theorem dk_92 {code : ByteArray} {pc : Nat} (h : DkAt code pc [92]) : decode code pc = .ok (.dup2, 1) := dk_of ((dk_bind (dk_u1 (h 0 _ rfl))).trans rfl)
theorem dk_96 {code : ByteArray} {pc : Nat} (h : DkAt code pc [96]) : decode code pc = .ok (.iadd, 1) := dk_of ((dk_bind (dk_u1 (h 0 _ rfl))).trans rfl)
theorem dk_100 {code : ByteArray} {pc : Nat} (h : DkAt code pc [100]) : decode code pc = .ok (.isub, 1) := dk_of ((dk_bind (dk_u1 (h 0 _ rfl))).trans rfl)
theorem dk_104 {code : ByteArray} {pc : Nat} (h : DkAt code pc [104]) : decode code pc = .ok (.imul, 1) := dk_of ((dk_bind (dk_u1 (h 0 _ rfl))).trans rfl)
theorem dk_112 {code : ByteArray} {pc : Nat} (h : DkAt code pc [112]) : decode code pc = .ok (.irem, 1) := dk_of ((dk_bind (dk_u1 (h 0 _ rfl))).trans rfl)
theorem dk_120 {code : ByteArray} {pc : Nat} (h : DkAt code pc [120]) : decode code pc = .ok (.ishl, 1) := dk_of ((dk_bind (dk_u1 (h 0 _ rfl))).trans rfl)
theorem dk_121 {code : ByteArray} {pc : Nat} (h : DkAt code pc [121]) : decode code pc = .ok (.lshl, 1) := dk_of ((dk_bind (dk_u1 (h 0 _ rfl))).trans rfl)
theorem dk_122 {code : ByteArray} {pc : Nat} (h : DkAt code pc [122]) : decode code pc = .ok (.ishr, 1) := dk_of ((dk_bind (dk_u1 (h 0 _ rfl))).trans rfl)
theorem dk_124 {code : ByteArray} {pc : Nat} (h : DkAt code pc [124]) : decode code pc = .ok (.iushr, 1) := dk_of ((dk_bind (dk_u1 (h 0 _ rfl))).trans rfl)
theorem dk_125 {code : ByteArray} {pc : Nat} (h : DkAt code pc [125]) : decode code pc = .ok (.lushr, 1) := dk_of ((dk_bind (dk_u1 (h 0 _ rfl))).trans rfl)
theorem dk_126 {code : ByteArray} {pc : Nat} (h : DkAt code pc [126]) : decode code pc = .ok (.iand, 1) := dk_of ((dk_bind (dk_u1 (h 0 _ rfl))).trans rfl)
theorem dk_127 {code : ByteArray} {pc : Nat} (h : DkAt code pc [127]) : decode code pc = .ok (.land, 1) := dk_of ((dk_bind (dk_u1 (h 0 _ rfl))).trans rfl)
theorem dk_128 {code : ByteArray} {pc : Nat} (h : DkAt code pc [128]) : decode code pc = .ok (.ior, 1) := dk_of ((dk_bind (dk_u1 (h 0 _ rfl))).trans rfl)
theorem dk_129 {code : ByteArray} {pc : Nat} (h : DkAt code pc [129]) : decode code pc = .ok (.lor, 1) := dk_of ((dk_bind (dk_u1 (h 0 _ rfl))).trans rfl)
theorem dk_130 {code : ByteArray} {pc : Nat} (h : DkAt code pc [130]) : decode code pc = .ok (.ixor, 1) := dk_of ((dk_bind (dk_u1 (h 0 _ rfl))).trans rfl)
theorem dk_132 {code : ByteArray} {pc : Nat} (a b : UInt8) (h : DkAt code pc [132, a, b]) : decode code pc = .ok (.iinc a.toNat (Reader.signed 8 b.toNat), 3) := dk_of ((dk_bind (dk_u1 (h 0 _ rfl))).trans ((dk_bind (dk_u1 (h 1 _ rfl))).trans ((dk_bind (dk_map (dk_u1 (h 2 _ rfl)))).trans rfl)))
theorem dk_136 {code : ByteArray} {pc : Nat} (h : DkAt code pc [136]) : decode code pc = .ok (.l2i, 1) := dk_of ((dk_bind (dk_u1 (h 0 _ rfl))).trans rfl)
theorem dk_145 {code : ByteArray} {pc : Nat} (h : DkAt code pc [145]) : decode code pc = .ok (.i2b, 1) := dk_of ((dk_bind (dk_u1 (h 0 _ rfl))).trans rfl)
theorem dk_146 {code : ByteArray} {pc : Nat} (h : DkAt code pc [146]) : decode code pc = .ok (.i2c, 1) := dk_of ((dk_bind (dk_u1 (h 0 _ rfl))).trans rfl)
theorem dk_148 {code : ByteArray} {pc : Nat} (h : DkAt code pc [148]) : decode code pc = .ok (.lcmp, 1) := dk_of ((dk_bind (dk_u1 (h 0 _ rfl))).trans rfl)
theorem dk_153 {code : ByteArray} {pc : Nat} (a b : UInt8) (h : DkAt code pc [153, a, b]) : decode code pc = .ok (.ifCond .eq (Reader.signed 16 (a.toNat * 256 + b.toNat)), 3) := dk_of ((dk_bind (dk_u1 (h 0 _ rfl))).trans ((dk_bind (dk_map (dk_u2 (h 1 _ rfl) (h 2 _ rfl)))).trans rfl))
theorem dk_154 {code : ByteArray} {pc : Nat} (a b : UInt8) (h : DkAt code pc [154, a, b]) : decode code pc = .ok (.ifCond .ne (Reader.signed 16 (a.toNat * 256 + b.toNat)), 3) := dk_of ((dk_bind (dk_u1 (h 0 _ rfl))).trans ((dk_bind (dk_map (dk_u2 (h 1 _ rfl) (h 2 _ rfl)))).trans rfl))
theorem dk_155 {code : ByteArray} {pc : Nat} (a b : UInt8) (h : DkAt code pc [155, a, b]) : decode code pc = .ok (.ifCond .lt (Reader.signed 16 (a.toNat * 256 + b.toNat)), 3) := dk_of ((dk_bind (dk_u1 (h 0 _ rfl))).trans ((dk_bind (dk_map (dk_u2 (h 1 _ rfl) (h 2 _ rfl)))).trans rfl))
theorem dk_156 {code : ByteArray} {pc : Nat} (a b : UInt8) (h : DkAt code pc [156, a, b]) : decode code pc = .ok (.ifCond .ge (Reader.signed 16 (a.toNat * 256 + b.toNat)), 3) := dk_of ((dk_bind (dk_u1 (h 0 _ rfl))).trans ((dk_bind (dk_map (dk_u2 (h 1 _ rfl) (h 2 _ rfl)))).trans rfl))
theorem dk_157 {code : ByteArray} {pc : Nat} (a b : UInt8) (h : DkAt code pc [157, a, b]) : decode code pc = .ok (.ifCond .gt (Reader.signed 16 (a.toNat * 256 + b.toNat)), 3) := dk_of ((dk_bind (dk_u1 (h 0 _ rfl))).trans ((dk_bind (dk_map (dk_u2 (h 1 _ rfl) (h 2 _ rfl)))).trans rfl))
theorem dk_158 {code : ByteArray} {pc : Nat} (a b : UInt8) (h : DkAt code pc [158, a, b]) : decode code pc = .ok (.ifCond .le (Reader.signed 16 (a.toNat * 256 + b.toNat)), 3) := dk_of ((dk_bind (dk_u1 (h 0 _ rfl))).trans ((dk_bind (dk_map (dk_u2 (h 1 _ rfl) (h 2 _ rfl)))).trans rfl))
theorem dk_159 {code : ByteArray} {pc : Nat} (a b : UInt8) (h : DkAt code pc [159, a, b]) : decode code pc = .ok (.if_icmp .eq (Reader.signed 16 (a.toNat * 256 + b.toNat)), 3) := dk_of ((dk_bind (dk_u1 (h 0 _ rfl))).trans ((dk_bind (dk_map (dk_u2 (h 1 _ rfl) (h 2 _ rfl)))).trans rfl))
theorem dk_160 {code : ByteArray} {pc : Nat} (a b : UInt8) (h : DkAt code pc [160, a, b]) : decode code pc = .ok (.if_icmp .ne (Reader.signed 16 (a.toNat * 256 + b.toNat)), 3) := dk_of ((dk_bind (dk_u1 (h 0 _ rfl))).trans ((dk_bind (dk_map (dk_u2 (h 1 _ rfl) (h 2 _ rfl)))).trans rfl))
theorem dk_161 {code : ByteArray} {pc : Nat} (a b : UInt8) (h : DkAt code pc [161, a, b]) : decode code pc = .ok (.if_icmp .lt (Reader.signed 16 (a.toNat * 256 + b.toNat)), 3) := dk_of ((dk_bind (dk_u1 (h 0 _ rfl))).trans ((dk_bind (dk_map (dk_u2 (h 1 _ rfl) (h 2 _ rfl)))).trans rfl))
theorem dk_162 {code : ByteArray} {pc : Nat} (a b : UInt8) (h : DkAt code pc [162, a, b]) : decode code pc = .ok (.if_icmp .ge (Reader.signed 16 (a.toNat * 256 + b.toNat)), 3) := dk_of ((dk_bind (dk_u1 (h 0 _ rfl))).trans ((dk_bind (dk_map (dk_u2 (h 1 _ rfl) (h 2 _ rfl)))).trans rfl))
theorem dk_163 {code : ByteArray} {pc : Nat} (a b : UInt8) (h : DkAt code pc [163, a, b]) : decode code pc = .ok (.if_icmp .gt (Reader.signed 16 (a.toNat * 256 + b.toNat)), 3) := dk_of ((dk_bind (dk_u1 (h 0 _ rfl))).trans ((dk_bind (dk_map (dk_u2 (h 1 _ rfl) (h 2 _ rfl)))).trans rfl))
theorem dk_164 {code : ByteArray} {pc : Nat} (a b : UInt8) (h : DkAt code pc [164, a, b]) : decode code pc = .ok (.if_icmp .le (Reader.signed 16 (a.toNat * 256 + b.toNat)), 3) := dk_of ((dk_bind (dk_u1 (h 0 _ rfl))).trans ((dk_bind (dk_map (dk_u2 (h 1 _ rfl) (h 2 _ rfl)))).trans rfl))
theorem dk_165 {code : ByteArray} {pc : Nat} (a b : UInt8) (h : DkAt code pc [165, a, b]) : decode code pc = .ok (.if_acmp .eq (Reader.signed 16 (a.toNat * 256 + b.toNat)), 3) := dk_of ((dk_bind (dk_u1 (h 0 _ rfl))).trans ((dk_bind (dk_map (dk_u2 (h 1 _ rfl) (h 2 _ rfl)))).trans rfl))
theorem dk_166 {code : ByteArray} {pc : Nat} (a b : UInt8) (h : DkAt code pc [166, a, b]) : decode code pc = .ok (.if_acmp .ne (Reader.signed 16 (a.toNat * 256 + b.toNat)), 3) := dk_of ((dk_bind (dk_u1 (h 0 _ rfl))).trans ((dk_bind (dk_map (dk_u2 (h 1 _ rfl) (h 2 _ rfl)))).trans rfl))
theorem dk_167 {code : ByteArray} {pc : Nat} (a b : UInt8) (h : DkAt code pc [167, a, b]) : decode code pc = .ok (.goto (Reader.signed 16 (a.toNat * 256 + b.toNat)), 3) := dk_of ((dk_bind (dk_u1 (h 0 _ rfl))).trans ((dk_bind (dk_map (dk_u2 (h 1 _ rfl) (h 2 _ rfl)))).trans rfl))
theorem dk_172 {code : ByteArray} {pc : Nat} (h : DkAt code pc [172]) : decode code pc = .ok (.ireturn, 1) := dk_of ((dk_bind (dk_u1 (h 0 _ rfl))).trans rfl)
theorem dk_176 {code : ByteArray} {pc : Nat} (h : DkAt code pc [176]) : decode code pc = .ok (.areturn, 1) := dk_of ((dk_bind (dk_u1 (h 0 _ rfl))).trans rfl)
theorem dk_177 {code : ByteArray} {pc : Nat} (h : DkAt code pc [177]) : decode code pc = .ok (.return_, 1) := dk_of ((dk_bind (dk_u1 (h 0 _ rfl))).trans rfl)
theorem dk_178 {code : ByteArray} {pc : Nat} (a b : UInt8) (h : DkAt code pc [178, a, b]) : decode code pc = .ok (.getstatic (a.toNat * 256 + b.toNat), 3) := dk_of ((dk_bind (dk_u1 (h 0 _ rfl))).trans ((dk_bind (dk_u2 (h 1 _ rfl) (h 2 _ rfl))).trans rfl))
theorem dk_180 {code : ByteArray} {pc : Nat} (a b : UInt8) (h : DkAt code pc [180, a, b]) : decode code pc = .ok (.getfield (a.toNat * 256 + b.toNat), 3) := dk_of ((dk_bind (dk_u1 (h 0 _ rfl))).trans ((dk_bind (dk_u2 (h 1 _ rfl) (h 2 _ rfl))).trans rfl))
theorem dk_181 {code : ByteArray} {pc : Nat} (a b : UInt8) (h : DkAt code pc [181, a, b]) : decode code pc = .ok (.putfield (a.toNat * 256 + b.toNat), 3) := dk_of ((dk_bind (dk_u1 (h 0 _ rfl))).trans ((dk_bind (dk_u2 (h 1 _ rfl) (h 2 _ rfl))).trans rfl))
theorem dk_182 {code : ByteArray} {pc : Nat} (a b : UInt8) (h : DkAt code pc [182, a, b]) : decode code pc = .ok (.invokevirtual (a.toNat * 256 + b.toNat), 3) := dk_of ((dk_bind (dk_u1 (h 0 _ rfl))).trans ((dk_bind (dk_u2 (h 1 _ rfl) (h 2 _ rfl))).trans rfl))
theorem dk_183 {code : ByteArray} {pc : Nat} (a b : UInt8) (h : DkAt code pc [183, a, b]) : decode code pc = .ok (.invokespecial (a.toNat * 256 + b.toNat), 3) := dk_of ((dk_bind (dk_u1 (h 0 _ rfl))).trans ((dk_bind (dk_u2 (h 1 _ rfl) (h 2 _ rfl))).trans rfl))
theorem dk_184 {code : ByteArray} {pc : Nat} (a b : UInt8) (h : DkAt code pc [184, a, b]) : decode code pc = .ok (.invokestatic (a.toNat * 256 + b.toNat), 3) := dk_of ((dk_bind (dk_u1 (h 0 _ rfl))).trans ((dk_bind (dk_u2 (h 1 _ rfl) (h 2 _ rfl))).trans rfl))
theorem dk_187 {code : ByteArray} {pc : Nat} (a b : UInt8) (h : DkAt code pc [187, a, b]) : decode code pc = .ok (.new (a.toNat * 256 + b.toNat), 3) := dk_of ((dk_bind (dk_u1 (h 0 _ rfl))).trans ((dk_bind (dk_u2 (h 1 _ rfl) (h 2 _ rfl))).trans rfl))
theorem dk_188_4 {code : ByteArray} {pc : Nat} (h : DkAt code pc [188, 4]) : decode code pc = .ok (.newarray .boolean, 2) := dk_of ((dk_bind (dk_u1 (h 0 _ rfl))).trans ((dk_bind (dk_u1 (h 1 _ rfl))).trans rfl))
theorem dk_188_8 {code : ByteArray} {pc : Nat} (h : DkAt code pc [188, 8]) : decode code pc = .ok (.newarray .byte, 2) := dk_of ((dk_bind (dk_u1 (h 0 _ rfl))).trans ((dk_bind (dk_u1 (h 1 _ rfl))).trans rfl))
theorem dk_188_10 {code : ByteArray} {pc : Nat} (h : DkAt code pc [188, 10]) : decode code pc = .ok (.newarray .int, 2) := dk_of ((dk_bind (dk_u1 (h 0 _ rfl))).trans ((dk_bind (dk_u1 (h 1 _ rfl))).trans rfl))
theorem dk_188_11 {code : ByteArray} {pc : Nat} (h : DkAt code pc [188, 11]) : decode code pc = .ok (.newarray .long, 2) := dk_of ((dk_bind (dk_u1 (h 0 _ rfl))).trans ((dk_bind (dk_u1 (h 1 _ rfl))).trans rfl))
theorem dk_189 {code : ByteArray} {pc : Nat} (a b : UInt8) (h : DkAt code pc [189, a, b]) : decode code pc = .ok (.anewarray (a.toNat * 256 + b.toNat), 3) := dk_of ((dk_bind (dk_u1 (h 0 _ rfl))).trans ((dk_bind (dk_u2 (h 1 _ rfl) (h 2 _ rfl))).trans rfl))
theorem dk_190 {code : ByteArray} {pc : Nat} (h : DkAt code pc [190]) : decode code pc = .ok (.arraylength, 1) := dk_of ((dk_bind (dk_u1 (h 0 _ rfl))).trans rfl)
theorem dk_191 {code : ByteArray} {pc : Nat} (h : DkAt code pc [191]) : decode code pc = .ok (.athrow, 1) := dk_of ((dk_bind (dk_u1 (h 0 _ rfl))).trans rfl)
theorem dk_192 {code : ByteArray} {pc : Nat} (a b : UInt8) (h : DkAt code pc [192, a, b]) : decode code pc = .ok (.checkcast (a.toNat * 256 + b.toNat), 3) := dk_of ((dk_bind (dk_u1 (h 0 _ rfl))).trans ((dk_bind (dk_u2 (h 1 _ rfl) (h 2 _ rfl))).trans rfl))
theorem dk_198 {code : ByteArray} {pc : Nat} (a b : UInt8) (h : DkAt code pc [198, a, b]) : decode code pc = .ok (.ifnull (Reader.signed 16 (a.toNat * 256 + b.toNat)), 3) := dk_of ((dk_bind (dk_u1 (h 0 _ rfl))).trans ((dk_bind (dk_map (dk_u2 (h 1 _ rfl) (h 2 _ rfl)))).trans rfl))
theorem dk_199 {code : ByteArray} {pc : Nat} (a b : UInt8) (h : DkAt code pc [199, a, b]) : decode code pc = .ok (.ifnonnull (Reader.signed 16 (a.toNat * 256 + b.toNat)), 3) := dk_of ((dk_bind (dk_u1 (h 0 _ rfl))).trans ((dk_bind (dk_map (dk_u2 (h 1 _ rfl) (h 2 _ rfl)))).trans rfl))

/-! DepthSorter -/
set_option maxRecDepth 100000
def RX0 : String := "DepthSorter"
def TX0 : u_T := fun k => match k with
  | 0 => ("DepthSorter", "boxes", "[LDepthSorter$Box;", false)
  | 1 => ("DepthSorter", "past", "[LDepthSorter$Space;", true)
  | 2 => ("DepthSorter", "pastMany", "I", false)
  | 3 => ("DepthSorter", "saved", "[LDepthSorter$Space;", true)
  | 4 => ("DepthSorter", "isDrawn", "Z", false)
  | 5 => ("DepthSorter", "isSeen", "Z", false)
  | 6 => ("DepthSorter", "behinds", "[I", true)
  | 7 => ("DepthSorter", "stepsTo", "[I", true)
  | 8 => ("DepthSorter", "undrawn", "Ljava/util/LinkedList;", true)
  | 9 => ("DepthSorter", "drawn", "Ljava/util/List;", true)
  | 10 => ("DepthSorter", "cutMany", "I", false)
  | 11 => ("DepthSorter", "isOverfull", "Z", false)
  | 12 => ("DepthSorter", "met", "[I", true)
  | 13 => ("DepthSorter", "seen", "[I", true)
  | 14 => ("DepthSorter", "covering", "[I", true)
  | 15 => ("DepthSorter", "faces", "[I", true)
  | 16 => ("DepthSorter", "text", "[B", true)
  | _ => ("DepthSorter", "length", "I", false)
def tyX0 : Nat → FieldType := fun k => match k with
  | 0 => .array (.object "DepthSorter$Box")
  | 1 => .array (.object "DepthSorter$Space")
  | 2 => .int
  | 3 => .array (.object "DepthSorter$Space")
  | 4 => .boolean
  | 5 => .boolean
  | 6 => .array .int
  | 7 => .array .int
  | 8 => .object "java/util/LinkedList"
  | 9 => .object "java/util/List"
  | 10 => .int
  | 11 => .boolean
  | 12 => .array .int
  | 13 => .array .int
  | 14 => .array .int
  | 15 => .array .int
  | 16 => .array .byte
  | _ => .int
abbrev wsX00 : List Cond := u_ws RX0 TX0 18
set_option maxRecDepth 100000 in
theorem nmX0 : ∀ a, a < 18 → ∀ b, b < 18 → a ≠ b → (TX0 a).2.1 ≠ (TX0 b).2.1 := by decide +kernel
set_option maxRecDepth 100000 in
theorem tyX0_ok : ∀ k, k < 18 → parseFieldDescriptor (TX0 k).2.2.1 = some (tyX0 k) := by decide +kernel
abbrev cX0_init : ByteArray := prog_1_method_3_code
def yX0_init : MethodName := ⟨RX0, "<init>", "()V"⟩
def dkwX0_init_4 : List UInt8 := [188, 10, 181, 0, 61, 42, 17, 0, 240, 188, 8, 181, 0, 64, 177]
abbrev dktX0_init_4 : List UInt8 := dkwX0_init_4 ++ []
def dkwX0_init_3 : List UInt8 := [188, 10, 181, 0, 52, 42, 16, 12, 188, 10, 181, 0, 55, 42, 16, 12, 188, 10, 181, 0, 58, 42, 6]
abbrev dktX0_init_3 : List UInt8 := dkwX0_init_3 ++ dktX0_init_4
def dkwX0_init_2 : List UInt8 := [187, 0, 38, 89, 183, 0, 40, 181, 0, 41, 42, 187, 0, 45, 89, 183, 0, 47, 181, 0, 48, 42, 16, 12]
abbrev dktX0_init_2 : List UInt8 := dkwX0_init_2 ++ dktX0_init_3
def dkwX0_init_1 : List UInt8 := [189, 0, 22, 181, 0, 28, 42, 16, 12, 188, 10, 181, 0, 31, 42, 16, 12, 188, 10, 181, 0, 35, 42]
abbrev dktX0_init_1 : List UInt8 := dkwX0_init_1 ++ dktX0_init_2
def dkwX0_init_0 : List UInt8 := [42, 183, 0, 11, 42, 16, 12, 189, 0, 1, 181, 0, 18, 42, 16, 8, 189, 0, 22, 181, 0, 24, 42, 5]
abbrev dktX0_init_0 : List UInt8 := dkwX0_init_0 ++ dktX0_init_1
theorem dksX0_init_0 : cX0_init.data.toList.drop 0 = dktX0_init_0 := by decide +kernel
theorem dksX0_init_1 : cX0_init.data.toList.drop 24 = dktX0_init_1 := dk_seg dksX0_init_0 24 rfl rfl
theorem dksX0_init_2 : cX0_init.data.toList.drop 47 = dktX0_init_2 := dk_seg dksX0_init_1 23 rfl rfl
theorem dksX0_init_3 : cX0_init.data.toList.drop 71 = dktX0_init_3 := dk_seg dksX0_init_2 24 rfl rfl
theorem dksX0_init_4 : cX0_init.data.toList.drop 94 = dktX0_init_4 := dk_seg dksX0_init_3 23 rfl rfl
theorem dX0_init_0 : decode cX0_init 0 = .ok (.aload_n 0, 1) := dk_42 (dk_at dksX0_init_0 0 rfl rfl)
theorem dX0_init_1 : decode cX0_init 1 = .ok (.invokespecial 11, 3) := dk_183 0 11 (dk_at dksX0_init_0 1 rfl rfl)
theorem dX0_init_4 : decode cX0_init 4 = .ok (.aload_n 0, 1) := dk_42 (dk_at dksX0_init_0 4 rfl rfl)
theorem dX0_init_5 : decode cX0_init 5 = .ok (.bipush 12, 2) := dk_16 12 (dk_at dksX0_init_0 5 rfl rfl)
theorem dX0_init_7 : decode cX0_init 7 = .ok (.anewarray 1, 3) := dk_189 0 1 (dk_at dksX0_init_0 7 rfl rfl)
theorem dX0_init_10 : decode cX0_init 10 = .ok (.putfield 18, 3) := dk_181 0 18 (dk_at dksX0_init_0 10 rfl rfl)
theorem dX0_init_13 : decode cX0_init 13 = .ok (.aload_n 0, 1) := dk_42 (dk_at dksX0_init_0 13 rfl rfl)
theorem dX0_init_14 : decode cX0_init 14 = .ok (.bipush 8, 2) := dk_16 8 (dk_at dksX0_init_0 14 rfl rfl)
theorem dX0_init_16 : decode cX0_init 16 = .ok (.anewarray 22, 3) := dk_189 0 22 (dk_at dksX0_init_0 16 rfl rfl)
theorem dX0_init_19 : decode cX0_init 19 = .ok (.putfield 24, 3) := dk_181 0 24 (dk_at dksX0_init_0 19 rfl rfl)
theorem dX0_init_22 : decode cX0_init 22 = .ok (.aload_n 0, 1) := dk_42 (dk_at dksX0_init_0 22 rfl rfl)
theorem dX0_init_23 : decode cX0_init 23 = .ok (.iconst 2, 1) := dk_5 (dk_at dksX0_init_0 23 rfl rfl)
theorem dX0_init_24 : decode cX0_init 24 = .ok (.anewarray 22, 3) := dk_189 0 22 (dk_at dksX0_init_1 0 rfl rfl)
theorem dX0_init_27 : decode cX0_init 27 = .ok (.putfield 28, 3) := dk_181 0 28 (dk_at dksX0_init_1 3 rfl rfl)
theorem dX0_init_30 : decode cX0_init 30 = .ok (.aload_n 0, 1) := dk_42 (dk_at dksX0_init_1 6 rfl rfl)
theorem dX0_init_31 : decode cX0_init 31 = .ok (.bipush 12, 2) := dk_16 12 (dk_at dksX0_init_1 7 rfl rfl)
theorem dX0_init_33 : decode cX0_init 33 = .ok (.newarray .int, 2) := dk_188_10 (dk_at dksX0_init_1 9 rfl rfl)
theorem dX0_init_35 : decode cX0_init 35 = .ok (.putfield 31, 3) := dk_181 0 31 (dk_at dksX0_init_1 11 rfl rfl)
theorem dX0_init_38 : decode cX0_init 38 = .ok (.aload_n 0, 1) := dk_42 (dk_at dksX0_init_1 14 rfl rfl)
theorem dX0_init_39 : decode cX0_init 39 = .ok (.bipush 12, 2) := dk_16 12 (dk_at dksX0_init_1 15 rfl rfl)
theorem dX0_init_41 : decode cX0_init 41 = .ok (.newarray .int, 2) := dk_188_10 (dk_at dksX0_init_1 17 rfl rfl)
theorem dX0_init_43 : decode cX0_init 43 = .ok (.putfield 35, 3) := dk_181 0 35 (dk_at dksX0_init_1 19 rfl rfl)
theorem dX0_init_46 : decode cX0_init 46 = .ok (.aload_n 0, 1) := dk_42 (dk_at dksX0_init_1 22 rfl rfl)
theorem dX0_init_47 : decode cX0_init 47 = .ok (.new 38, 3) := dk_187 0 38 (dk_at dksX0_init_2 0 rfl rfl)
theorem dX0_init_50 : decode cX0_init 50 = .ok (.dup, 1) := dk_89 (dk_at dksX0_init_2 3 rfl rfl)
theorem dX0_init_51 : decode cX0_init 51 = .ok (.invokespecial 40, 3) := dk_183 0 40 (dk_at dksX0_init_2 4 rfl rfl)
theorem dX0_init_54 : decode cX0_init 54 = .ok (.putfield 41, 3) := dk_181 0 41 (dk_at dksX0_init_2 7 rfl rfl)
theorem dX0_init_57 : decode cX0_init 57 = .ok (.aload_n 0, 1) := dk_42 (dk_at dksX0_init_2 10 rfl rfl)
theorem dX0_init_58 : decode cX0_init 58 = .ok (.new 45, 3) := dk_187 0 45 (dk_at dksX0_init_2 11 rfl rfl)
theorem dX0_init_61 : decode cX0_init 61 = .ok (.dup, 1) := dk_89 (dk_at dksX0_init_2 14 rfl rfl)
theorem dX0_init_62 : decode cX0_init 62 = .ok (.invokespecial 47, 3) := dk_183 0 47 (dk_at dksX0_init_2 15 rfl rfl)
theorem dX0_init_65 : decode cX0_init 65 = .ok (.putfield 48, 3) := dk_181 0 48 (dk_at dksX0_init_2 18 rfl rfl)
theorem dX0_init_68 : decode cX0_init 68 = .ok (.aload_n 0, 1) := dk_42 (dk_at dksX0_init_2 21 rfl rfl)
theorem dX0_init_69 : decode cX0_init 69 = .ok (.bipush 12, 2) := dk_16 12 (dk_at dksX0_init_2 22 rfl rfl)
theorem dX0_init_71 : decode cX0_init 71 = .ok (.newarray .int, 2) := dk_188_10 (dk_at dksX0_init_3 0 rfl rfl)
theorem dX0_init_73 : decode cX0_init 73 = .ok (.putfield 52, 3) := dk_181 0 52 (dk_at dksX0_init_3 2 rfl rfl)
theorem dX0_init_76 : decode cX0_init 76 = .ok (.aload_n 0, 1) := dk_42 (dk_at dksX0_init_3 5 rfl rfl)
theorem dX0_init_77 : decode cX0_init 77 = .ok (.bipush 12, 2) := dk_16 12 (dk_at dksX0_init_3 6 rfl rfl)
theorem dX0_init_79 : decode cX0_init 79 = .ok (.newarray .int, 2) := dk_188_10 (dk_at dksX0_init_3 8 rfl rfl)
theorem dX0_init_81 : decode cX0_init 81 = .ok (.putfield 55, 3) := dk_181 0 55 (dk_at dksX0_init_3 10 rfl rfl)
theorem dX0_init_84 : decode cX0_init 84 = .ok (.aload_n 0, 1) := dk_42 (dk_at dksX0_init_3 13 rfl rfl)
theorem dX0_init_85 : decode cX0_init 85 = .ok (.bipush 12, 2) := dk_16 12 (dk_at dksX0_init_3 14 rfl rfl)
theorem dX0_init_87 : decode cX0_init 87 = .ok (.newarray .int, 2) := dk_188_10 (dk_at dksX0_init_3 16 rfl rfl)
theorem dX0_init_89 : decode cX0_init 89 = .ok (.putfield 58, 3) := dk_181 0 58 (dk_at dksX0_init_3 18 rfl rfl)
theorem dX0_init_92 : decode cX0_init 92 = .ok (.aload_n 0, 1) := dk_42 (dk_at dksX0_init_3 21 rfl rfl)
theorem dX0_init_93 : decode cX0_init 93 = .ok (.iconst 3, 1) := dk_6 (dk_at dksX0_init_3 22 rfl rfl)
theorem dX0_init_94 : decode cX0_init 94 = .ok (.newarray .int, 2) := dk_188_10 (dk_at dksX0_init_4 0 rfl rfl)
theorem dX0_init_96 : decode cX0_init 96 = .ok (.putfield 61, 3) := dk_181 0 61 (dk_at dksX0_init_4 2 rfl rfl)
theorem dX0_init_99 : decode cX0_init 99 = .ok (.aload_n 0, 1) := dk_42 (dk_at dksX0_init_4 5 rfl rfl)
theorem dX0_init_100 : decode cX0_init 100 = .ok (.sipush 240, 3) := dk_17 0 240 (dk_at dksX0_init_4 6 rfl rfl)
theorem dX0_init_103 : decode cX0_init 103 = .ok (.newarray .byte, 2) := dk_188_8 (dk_at dksX0_init_4 9 rfl rfl)
theorem dX0_init_105 : decode cX0_init 105 = .ok (.putfield 64, 3) := dk_181 0 64 (dk_at dksX0_init_4 11 rfl rfl)
theorem dX0_init_108 : decode cX0_init 108 = .ok (.return_, 1) := dk_177 (dk_at dksX0_init_4 14 rfl rfl)
abbrev cX0_add : ByteArray := prog_1_method_10_code
def yX0_add : MethodName := ⟨RX0, "add", "(IIIIII)I"⟩
def dkwX0_add_5 : List UInt8 := [180, 0, 18, 25, 7, 180, 0, 100, 25, 7, 83, 25, 7, 180, 0, 100, 172]
abbrev dktX0_add_5 : List UInt8 := dkwX0_add_5 ++ []
def dkwX0_add_4 : List UInt8 := [159, 0, 6, 16, 153, 172, 25, 7, 180, 0, 100, 16, 12, 160, 0, 6, 16, 152, 172, 42, 182, 0, 119, 42]
abbrev dktX0_add_4 : List UInt8 := dkwX0_add_4 ++ dktX0_add_5
def dkwX0_add_3 : List UInt8 := [89, 7, 21, 5, 79, 89, 8, 21, 6, 79, 183, 0, 3, 58, 7, 42, 25, 7, 182, 0, 115, 16, 150]
abbrev dktX0_add_3 : List UInt8 := dkwX0_add_3 ++ dktX0_add_4
def dkwX0_add_2 : List UInt8 := [182, 0, 111, 16, 6, 188, 10, 89, 3, 27, 79, 89, 4, 28, 79, 89, 5, 29, 79, 89, 6, 21, 4, 79]
abbrev dktX0_add_2 : List UInt8 := dkwX0_add_2 ++ dktX0_add_3
def dkwX0_add_1 : List UInt8 := [21, 5, 79, 89, 8, 21, 6, 79, 184, 0, 107, 154, 0, 6, 16, 154, 172, 187, 0, 1, 89, 42]
abbrev dktX0_add_1 : List UInt8 := dkwX0_add_1 ++ dktX0_add_2
def dkwX0_add_0 : List UInt8 := [16, 6, 188, 10, 89, 3, 27, 79, 89, 4, 28, 79, 89, 5, 29, 79, 89, 6, 21, 4, 79, 89, 7]
abbrev dktX0_add_0 : List UInt8 := dkwX0_add_0 ++ dktX0_add_1
theorem dksX0_add_0 : cX0_add.data.toList.drop 0 = dktX0_add_0 := by decide +kernel
theorem dksX0_add_1 : cX0_add.data.toList.drop 23 = dktX0_add_1 := dk_seg dksX0_add_0 23 rfl rfl
theorem dksX0_add_2 : cX0_add.data.toList.drop 45 = dktX0_add_2 := dk_seg dksX0_add_1 22 rfl rfl
theorem dksX0_add_3 : cX0_add.data.toList.drop 69 = dktX0_add_3 := dk_seg dksX0_add_2 24 rfl rfl
theorem dksX0_add_4 : cX0_add.data.toList.drop 92 = dktX0_add_4 := dk_seg dksX0_add_3 23 rfl rfl
theorem dksX0_add_5 : cX0_add.data.toList.drop 116 = dktX0_add_5 := dk_seg dksX0_add_4 24 rfl rfl
theorem dX0_add_0 : decode cX0_add 0 = .ok (.bipush 6, 2) := dk_16 6 (dk_at dksX0_add_0 0 rfl rfl)
theorem dX0_add_2 : decode cX0_add 2 = .ok (.newarray .int, 2) := dk_188_10 (dk_at dksX0_add_0 2 rfl rfl)
theorem dX0_add_4 : decode cX0_add 4 = .ok (.dup, 1) := dk_89 (dk_at dksX0_add_0 4 rfl rfl)
theorem dX0_add_5 : decode cX0_add 5 = .ok (.iconst 0, 1) := dk_3 (dk_at dksX0_add_0 5 rfl rfl)
theorem dX0_add_6 : decode cX0_add 6 = .ok (.iload_n 1, 1) := dk_27 (dk_at dksX0_add_0 6 rfl rfl)
theorem dX0_add_7 : decode cX0_add 7 = .ok (.iastore, 1) := dk_79 (dk_at dksX0_add_0 7 rfl rfl)
theorem dX0_add_8 : decode cX0_add 8 = .ok (.dup, 1) := dk_89 (dk_at dksX0_add_0 8 rfl rfl)
theorem dX0_add_9 : decode cX0_add 9 = .ok (.iconst 1, 1) := dk_4 (dk_at dksX0_add_0 9 rfl rfl)
theorem dX0_add_10 : decode cX0_add 10 = .ok (.iload_n 2, 1) := dk_28 (dk_at dksX0_add_0 10 rfl rfl)
theorem dX0_add_11 : decode cX0_add 11 = .ok (.iastore, 1) := dk_79 (dk_at dksX0_add_0 11 rfl rfl)
theorem dX0_add_12 : decode cX0_add 12 = .ok (.dup, 1) := dk_89 (dk_at dksX0_add_0 12 rfl rfl)
theorem dX0_add_13 : decode cX0_add 13 = .ok (.iconst 2, 1) := dk_5 (dk_at dksX0_add_0 13 rfl rfl)
theorem dX0_add_14 : decode cX0_add 14 = .ok (.iload_n 3, 1) := dk_29 (dk_at dksX0_add_0 14 rfl rfl)
theorem dX0_add_15 : decode cX0_add 15 = .ok (.iastore, 1) := dk_79 (dk_at dksX0_add_0 15 rfl rfl)
theorem dX0_add_16 : decode cX0_add 16 = .ok (.dup, 1) := dk_89 (dk_at dksX0_add_0 16 rfl rfl)
theorem dX0_add_17 : decode cX0_add 17 = .ok (.iconst 3, 1) := dk_6 (dk_at dksX0_add_0 17 rfl rfl)
theorem dX0_add_18 : decode cX0_add 18 = .ok (.iload 4, 2) := dk_21 4 (dk_at dksX0_add_0 18 rfl rfl)
theorem dX0_add_20 : decode cX0_add 20 = .ok (.iastore, 1) := dk_79 (dk_at dksX0_add_0 20 rfl rfl)
theorem dX0_add_21 : decode cX0_add 21 = .ok (.dup, 1) := dk_89 (dk_at dksX0_add_0 21 rfl rfl)
theorem dX0_add_22 : decode cX0_add 22 = .ok (.iconst 4, 1) := dk_7 (dk_at dksX0_add_0 22 rfl rfl)
theorem dX0_add_23 : decode cX0_add 23 = .ok (.iload 5, 2) := dk_21 5 (dk_at dksX0_add_1 0 rfl rfl)
theorem dX0_add_25 : decode cX0_add 25 = .ok (.iastore, 1) := dk_79 (dk_at dksX0_add_1 2 rfl rfl)
theorem dX0_add_26 : decode cX0_add 26 = .ok (.dup, 1) := dk_89 (dk_at dksX0_add_1 3 rfl rfl)
theorem dX0_add_27 : decode cX0_add 27 = .ok (.iconst 5, 1) := dk_8 (dk_at dksX0_add_1 4 rfl rfl)
theorem dX0_add_28 : decode cX0_add 28 = .ok (.iload 6, 2) := dk_21 6 (dk_at dksX0_add_1 5 rfl rfl)
theorem dX0_add_30 : decode cX0_add 30 = .ok (.iastore, 1) := dk_79 (dk_at dksX0_add_1 7 rfl rfl)
theorem dX0_add_31 : decode cX0_add 31 = .ok (.invokestatic 107, 3) := dk_184 0 107 (dk_at dksX0_add_1 8 rfl rfl)
theorem dX0_add_34 : decode cX0_add 34 = .ok (.ifCond .ne 6, 3) := dk_154 0 6 (dk_at dksX0_add_1 11 rfl rfl)
theorem dX0_add_37 : decode cX0_add 37 = .ok (.bipush (-102), 2) := dk_16 154 (dk_at dksX0_add_1 14 rfl rfl)
theorem dX0_add_39 : decode cX0_add 39 = .ok (.ireturn, 1) := dk_172 (dk_at dksX0_add_1 16 rfl rfl)
theorem dX0_add_40 : decode cX0_add 40 = .ok (.new 1, 3) := dk_187 0 1 (dk_at dksX0_add_1 17 rfl rfl)
theorem dX0_add_43 : decode cX0_add 43 = .ok (.dup, 1) := dk_89 (dk_at dksX0_add_1 20 rfl rfl)
theorem dX0_add_44 : decode cX0_add 44 = .ok (.aload_n 0, 1) := dk_42 (dk_at dksX0_add_1 21 rfl rfl)
theorem dX0_add_45 : decode cX0_add 45 = .ok (.invokevirtual 111, 3) := dk_182 0 111 (dk_at dksX0_add_2 0 rfl rfl)
theorem dX0_add_48 : decode cX0_add 48 = .ok (.bipush 6, 2) := dk_16 6 (dk_at dksX0_add_2 3 rfl rfl)
theorem dX0_add_50 : decode cX0_add 50 = .ok (.newarray .int, 2) := dk_188_10 (dk_at dksX0_add_2 5 rfl rfl)
theorem dX0_add_52 : decode cX0_add 52 = .ok (.dup, 1) := dk_89 (dk_at dksX0_add_2 7 rfl rfl)
theorem dX0_add_53 : decode cX0_add 53 = .ok (.iconst 0, 1) := dk_3 (dk_at dksX0_add_2 8 rfl rfl)
theorem dX0_add_54 : decode cX0_add 54 = .ok (.iload_n 1, 1) := dk_27 (dk_at dksX0_add_2 9 rfl rfl)
theorem dX0_add_55 : decode cX0_add 55 = .ok (.iastore, 1) := dk_79 (dk_at dksX0_add_2 10 rfl rfl)
theorem dX0_add_56 : decode cX0_add 56 = .ok (.dup, 1) := dk_89 (dk_at dksX0_add_2 11 rfl rfl)
theorem dX0_add_57 : decode cX0_add 57 = .ok (.iconst 1, 1) := dk_4 (dk_at dksX0_add_2 12 rfl rfl)
theorem dX0_add_58 : decode cX0_add 58 = .ok (.iload_n 2, 1) := dk_28 (dk_at dksX0_add_2 13 rfl rfl)
theorem dX0_add_59 : decode cX0_add 59 = .ok (.iastore, 1) := dk_79 (dk_at dksX0_add_2 14 rfl rfl)
theorem dX0_add_60 : decode cX0_add 60 = .ok (.dup, 1) := dk_89 (dk_at dksX0_add_2 15 rfl rfl)
theorem dX0_add_61 : decode cX0_add 61 = .ok (.iconst 2, 1) := dk_5 (dk_at dksX0_add_2 16 rfl rfl)
theorem dX0_add_62 : decode cX0_add 62 = .ok (.iload_n 3, 1) := dk_29 (dk_at dksX0_add_2 17 rfl rfl)
theorem dX0_add_63 : decode cX0_add 63 = .ok (.iastore, 1) := dk_79 (dk_at dksX0_add_2 18 rfl rfl)
theorem dX0_add_64 : decode cX0_add 64 = .ok (.dup, 1) := dk_89 (dk_at dksX0_add_2 19 rfl rfl)
theorem dX0_add_65 : decode cX0_add 65 = .ok (.iconst 3, 1) := dk_6 (dk_at dksX0_add_2 20 rfl rfl)
theorem dX0_add_66 : decode cX0_add 66 = .ok (.iload 4, 2) := dk_21 4 (dk_at dksX0_add_2 21 rfl rfl)
theorem dX0_add_68 : decode cX0_add 68 = .ok (.iastore, 1) := dk_79 (dk_at dksX0_add_2 23 rfl rfl)
theorem dX0_add_69 : decode cX0_add 69 = .ok (.dup, 1) := dk_89 (dk_at dksX0_add_3 0 rfl rfl)
theorem dX0_add_70 : decode cX0_add 70 = .ok (.iconst 4, 1) := dk_7 (dk_at dksX0_add_3 1 rfl rfl)
theorem dX0_add_71 : decode cX0_add 71 = .ok (.iload 5, 2) := dk_21 5 (dk_at dksX0_add_3 2 rfl rfl)
theorem dX0_add_73 : decode cX0_add 73 = .ok (.iastore, 1) := dk_79 (dk_at dksX0_add_3 4 rfl rfl)
theorem dX0_add_74 : decode cX0_add 74 = .ok (.dup, 1) := dk_89 (dk_at dksX0_add_3 5 rfl rfl)
theorem dX0_add_75 : decode cX0_add 75 = .ok (.iconst 5, 1) := dk_8 (dk_at dksX0_add_3 6 rfl rfl)
theorem dX0_add_76 : decode cX0_add 76 = .ok (.iload 6, 2) := dk_21 6 (dk_at dksX0_add_3 7 rfl rfl)
theorem dX0_add_78 : decode cX0_add 78 = .ok (.iastore, 1) := dk_79 (dk_at dksX0_add_3 9 rfl rfl)
theorem dX0_add_79 : decode cX0_add 79 = .ok (.invokespecial 3, 3) := dk_183 0 3 (dk_at dksX0_add_3 10 rfl rfl)
theorem dX0_add_82 : decode cX0_add 82 = .ok (.astore 7, 2) := dk_58 7 (dk_at dksX0_add_3 13 rfl rfl)
theorem dX0_add_84 : decode cX0_add 84 = .ok (.aload_n 0, 1) := dk_42 (dk_at dksX0_add_3 15 rfl rfl)
theorem dX0_add_85 : decode cX0_add 85 = .ok (.aload 7, 2) := dk_25 7 (dk_at dksX0_add_3 16 rfl rfl)
theorem dX0_add_87 : decode cX0_add 87 = .ok (.invokevirtual 115, 3) := dk_182 0 115 (dk_at dksX0_add_3 18 rfl rfl)
theorem dX0_add_90 : decode cX0_add 90 = .ok (.bipush (-106), 2) := dk_16 150 (dk_at dksX0_add_3 21 rfl rfl)
theorem dX0_add_92 : decode cX0_add 92 = .ok (.if_icmp .eq 6, 3) := dk_159 0 6 (dk_at dksX0_add_4 0 rfl rfl)
theorem dX0_add_95 : decode cX0_add 95 = .ok (.bipush (-103), 2) := dk_16 153 (dk_at dksX0_add_4 3 rfl rfl)
theorem dX0_add_97 : decode cX0_add 97 = .ok (.ireturn, 1) := dk_172 (dk_at dksX0_add_4 5 rfl rfl)
theorem dX0_add_98 : decode cX0_add 98 = .ok (.aload 7, 2) := dk_25 7 (dk_at dksX0_add_4 6 rfl rfl)
theorem dX0_add_100 : decode cX0_add 100 = .ok (.getfield 100, 3) := dk_180 0 100 (dk_at dksX0_add_4 8 rfl rfl)
theorem dX0_add_103 : decode cX0_add 103 = .ok (.bipush 12, 2) := dk_16 12 (dk_at dksX0_add_4 11 rfl rfl)
theorem dX0_add_105 : decode cX0_add 105 = .ok (.if_icmp .ne 6, 3) := dk_160 0 6 (dk_at dksX0_add_4 13 rfl rfl)
theorem dX0_add_108 : decode cX0_add 108 = .ok (.bipush (-104), 2) := dk_16 152 (dk_at dksX0_add_4 16 rfl rfl)
theorem dX0_add_110 : decode cX0_add 110 = .ok (.ireturn, 1) := dk_172 (dk_at dksX0_add_4 18 rfl rfl)
theorem dX0_add_111 : decode cX0_add 111 = .ok (.aload_n 0, 1) := dk_42 (dk_at dksX0_add_4 19 rfl rfl)
theorem dX0_add_112 : decode cX0_add 112 = .ok (.invokevirtual 119, 3) := dk_182 0 119 (dk_at dksX0_add_4 20 rfl rfl)
theorem dX0_add_115 : decode cX0_add 115 = .ok (.aload_n 0, 1) := dk_42 (dk_at dksX0_add_4 23 rfl rfl)
theorem dX0_add_116 : decode cX0_add 116 = .ok (.getfield 18, 3) := dk_180 0 18 (dk_at dksX0_add_5 0 rfl rfl)
theorem dX0_add_119 : decode cX0_add 119 = .ok (.aload 7, 2) := dk_25 7 (dk_at dksX0_add_5 3 rfl rfl)
theorem dX0_add_121 : decode cX0_add 121 = .ok (.getfield 100, 3) := dk_180 0 100 (dk_at dksX0_add_5 5 rfl rfl)
theorem dX0_add_124 : decode cX0_add 124 = .ok (.aload 7, 2) := dk_25 7 (dk_at dksX0_add_5 8 rfl rfl)
theorem dX0_add_126 : decode cX0_add 126 = .ok (.aastore, 1) := dk_83 (dk_at dksX0_add_5 10 rfl rfl)
theorem dX0_add_127 : decode cX0_add 127 = .ok (.aload 7, 2) := dk_25 7 (dk_at dksX0_add_5 11 rfl rfl)
theorem dX0_add_129 : decode cX0_add 129 = .ok (.getfield 100, 3) := dk_180 0 100 (dk_at dksX0_add_5 13 rfl rfl)
theorem dX0_add_132 : decode cX0_add 132 = .ok (.ireturn, 1) := dk_172 (dk_at dksX0_add_5 16 rfl rfl)
abbrev cX0_isBox : ByteArray := prog_1_method_2_code
def yX0_isBox : MethodName := ⟨RX0, "isBox", "([I)Z"⟩
def dkwX0_isBox_0 : List UInt8 := [187, 0, 1, 89, 3, 42, 183, 0, 3, 182, 0, 7, 172]
abbrev dktX0_isBox_0 : List UInt8 := dkwX0_isBox_0 ++ []
theorem dksX0_isBox_0 : cX0_isBox.data.toList.drop 0 = dktX0_isBox_0 := by decide +kernel
theorem dX0_isBox_0 : decode cX0_isBox 0 = .ok (.new 1, 3) := dk_187 0 1 (dk_at dksX0_isBox_0 0 rfl rfl)
theorem dX0_isBox_3 : decode cX0_isBox 3 = .ok (.dup, 1) := dk_89 (dk_at dksX0_isBox_0 3 rfl rfl)
theorem dX0_isBox_4 : decode cX0_isBox 4 = .ok (.iconst 0, 1) := dk_3 (dk_at dksX0_isBox_0 4 rfl rfl)
theorem dX0_isBox_5 : decode cX0_isBox 5 = .ok (.aload_n 0, 1) := dk_42 (dk_at dksX0_isBox_0 5 rfl rfl)
theorem dX0_isBox_6 : decode cX0_isBox 6 = .ok (.invokespecial 3, 3) := dk_183 0 3 (dk_at dksX0_isBox_0 6 rfl rfl)
theorem dX0_isBox_9 : decode cX0_isBox 9 = .ok (.invokevirtual 7, 3) := dk_182 0 7 (dk_at dksX0_isBox_0 9 rfl rfl)
theorem dX0_isBox_12 : decode cX0_isBox 12 = .ok (.ireturn, 1) := dk_172 (dk_at dksX0_isBox_0 12 rfl rfl)
abbrev cX0_freeNumber : ByteArray := prog_1_method_8_code
def yX0_freeNumber : MethodName := ⟨RX0, "freeNumber", "()I"⟩
def dkwX0_freeNumber_1 : List UInt8 := [172]
abbrev dktX0_freeNumber_1 : List UInt8 := dkwX0_freeNumber_1 ++ []
def dkwX0_freeNumber_0 : List UInt8 := [3, 60, 27, 16, 12, 162, 0, 18, 42, 180, 0, 18, 27, 50, 198, 0, 9, 132, 1, 1, 167, 255, 238, 27]
abbrev dktX0_freeNumber_0 : List UInt8 := dkwX0_freeNumber_0 ++ dktX0_freeNumber_1
theorem dksX0_freeNumber_0 : cX0_freeNumber.data.toList.drop 0 = dktX0_freeNumber_0 := by decide +kernel
theorem dksX0_freeNumber_1 : cX0_freeNumber.data.toList.drop 24 = dktX0_freeNumber_1 := dk_seg dksX0_freeNumber_0 24 rfl rfl
theorem dX0_freeNumber_0 : decode cX0_freeNumber 0 = .ok (.iconst 0, 1) := dk_3 (dk_at dksX0_freeNumber_0 0 rfl rfl)
theorem dX0_freeNumber_1 : decode cX0_freeNumber 1 = .ok (.istore_n 1, 1) := dk_60 (dk_at dksX0_freeNumber_0 1 rfl rfl)
theorem dX0_freeNumber_2 : decode cX0_freeNumber 2 = .ok (.iload_n 1, 1) := dk_27 (dk_at dksX0_freeNumber_0 2 rfl rfl)
theorem dX0_freeNumber_3 : decode cX0_freeNumber 3 = .ok (.bipush 12, 2) := dk_16 12 (dk_at dksX0_freeNumber_0 3 rfl rfl)
theorem dX0_freeNumber_5 : decode cX0_freeNumber 5 = .ok (.if_icmp .ge 18, 3) := dk_162 0 18 (dk_at dksX0_freeNumber_0 5 rfl rfl)
theorem dX0_freeNumber_8 : decode cX0_freeNumber 8 = .ok (.aload_n 0, 1) := dk_42 (dk_at dksX0_freeNumber_0 8 rfl rfl)
theorem dX0_freeNumber_9 : decode cX0_freeNumber 9 = .ok (.getfield 18, 3) := dk_180 0 18 (dk_at dksX0_freeNumber_0 9 rfl rfl)
theorem dX0_freeNumber_12 : decode cX0_freeNumber 12 = .ok (.iload_n 1, 1) := dk_27 (dk_at dksX0_freeNumber_0 12 rfl rfl)
theorem dX0_freeNumber_13 : decode cX0_freeNumber 13 = .ok (.aaload, 1) := dk_50 (dk_at dksX0_freeNumber_0 13 rfl rfl)
theorem dX0_freeNumber_14 : decode cX0_freeNumber 14 = .ok (.ifnull 9, 3) := dk_198 0 9 (dk_at dksX0_freeNumber_0 14 rfl rfl)
theorem dX0_freeNumber_17 : decode cX0_freeNumber 17 = .ok (.iinc 1 1, 3) := dk_132 1 1 (dk_at dksX0_freeNumber_0 17 rfl rfl)
theorem dX0_freeNumber_20 : decode cX0_freeNumber 20 = .ok (.goto (-18), 3) := dk_167 255 238 (dk_at dksX0_freeNumber_0 20 rfl rfl)
theorem dX0_freeNumber_23 : decode cX0_freeNumber 23 = .ok (.iload_n 1, 1) := dk_27 (dk_at dksX0_freeNumber_0 23 rfl rfl)
theorem dX0_freeNumber_24 : decode cX0_freeNumber 24 = .ok (.ireturn, 1) := dk_172 (dk_at dksX0_freeNumber_1 0 rfl rfl)
abbrev cX0_metBy : ByteArray := prog_1_method_9_code
def yX0_metBy : MethodName := ⟨RX0, "metBy", "(LDepthSorter$Box;)I"⟩
def dkwX0_metBy_2 : List UInt8 := [153, 0, 9, 25, 5, 180, 0, 100, 172, 132, 4, 1, 167, 255, 209, 16, 150, 172]
abbrev dktX0_metBy_2 : List UInt8 := dkwX0_metBy_2 ++ []
def dkwX0_metBy_1 : List UInt8 := [25, 5, 198, 0, 30, 25, 5, 180, 0, 100, 43, 180, 0, 100, 159, 0, 18, 25, 5, 43, 182, 0, 103]
abbrev dktX0_metBy_1 : List UInt8 := dkwX0_metBy_1 ++ dktX0_metBy_2
def dkwX0_metBy_0 : List UInt8 := [42, 180, 0, 18, 77, 44, 190, 62, 3, 54, 4, 21, 4, 29, 162, 0, 47, 44, 21, 4, 50, 58, 5]
abbrev dktX0_metBy_0 : List UInt8 := dkwX0_metBy_0 ++ dktX0_metBy_1
theorem dksX0_metBy_0 : cX0_metBy.data.toList.drop 0 = dktX0_metBy_0 := by decide +kernel
theorem dksX0_metBy_1 : cX0_metBy.data.toList.drop 23 = dktX0_metBy_1 := dk_seg dksX0_metBy_0 23 rfl rfl
theorem dksX0_metBy_2 : cX0_metBy.data.toList.drop 46 = dktX0_metBy_2 := dk_seg dksX0_metBy_1 23 rfl rfl
theorem dX0_metBy_0 : decode cX0_metBy 0 = .ok (.aload_n 0, 1) := dk_42 (dk_at dksX0_metBy_0 0 rfl rfl)
theorem dX0_metBy_1 : decode cX0_metBy 1 = .ok (.getfield 18, 3) := dk_180 0 18 (dk_at dksX0_metBy_0 1 rfl rfl)
theorem dX0_metBy_4 : decode cX0_metBy 4 = .ok (.astore_n 2, 1) := dk_77 (dk_at dksX0_metBy_0 4 rfl rfl)
theorem dX0_metBy_5 : decode cX0_metBy 5 = .ok (.aload_n 2, 1) := dk_44 (dk_at dksX0_metBy_0 5 rfl rfl)
theorem dX0_metBy_6 : decode cX0_metBy 6 = .ok (.arraylength, 1) := dk_190 (dk_at dksX0_metBy_0 6 rfl rfl)
theorem dX0_metBy_7 : decode cX0_metBy 7 = .ok (.istore_n 3, 1) := dk_62 (dk_at dksX0_metBy_0 7 rfl rfl)
theorem dX0_metBy_8 : decode cX0_metBy 8 = .ok (.iconst 0, 1) := dk_3 (dk_at dksX0_metBy_0 8 rfl rfl)
theorem dX0_metBy_9 : decode cX0_metBy 9 = .ok (.istore 4, 2) := dk_54 4 (dk_at dksX0_metBy_0 9 rfl rfl)
theorem dX0_metBy_11 : decode cX0_metBy 11 = .ok (.iload 4, 2) := dk_21 4 (dk_at dksX0_metBy_0 11 rfl rfl)
theorem dX0_metBy_13 : decode cX0_metBy 13 = .ok (.iload_n 3, 1) := dk_29 (dk_at dksX0_metBy_0 13 rfl rfl)
theorem dX0_metBy_14 : decode cX0_metBy 14 = .ok (.if_icmp .ge 47, 3) := dk_162 0 47 (dk_at dksX0_metBy_0 14 rfl rfl)
theorem dX0_metBy_17 : decode cX0_metBy 17 = .ok (.aload_n 2, 1) := dk_44 (dk_at dksX0_metBy_0 17 rfl rfl)
theorem dX0_metBy_18 : decode cX0_metBy 18 = .ok (.iload 4, 2) := dk_21 4 (dk_at dksX0_metBy_0 18 rfl rfl)
theorem dX0_metBy_20 : decode cX0_metBy 20 = .ok (.aaload, 1) := dk_50 (dk_at dksX0_metBy_0 20 rfl rfl)
theorem dX0_metBy_21 : decode cX0_metBy 21 = .ok (.astore 5, 2) := dk_58 5 (dk_at dksX0_metBy_0 21 rfl rfl)
theorem dX0_metBy_23 : decode cX0_metBy 23 = .ok (.aload 5, 2) := dk_25 5 (dk_at dksX0_metBy_1 0 rfl rfl)
theorem dX0_metBy_25 : decode cX0_metBy 25 = .ok (.ifnull 30, 3) := dk_198 0 30 (dk_at dksX0_metBy_1 2 rfl rfl)
theorem dX0_metBy_28 : decode cX0_metBy 28 = .ok (.aload 5, 2) := dk_25 5 (dk_at dksX0_metBy_1 5 rfl rfl)
theorem dX0_metBy_30 : decode cX0_metBy 30 = .ok (.getfield 100, 3) := dk_180 0 100 (dk_at dksX0_metBy_1 7 rfl rfl)
theorem dX0_metBy_33 : decode cX0_metBy 33 = .ok (.aload_n 1, 1) := dk_43 (dk_at dksX0_metBy_1 10 rfl rfl)
theorem dX0_metBy_34 : decode cX0_metBy 34 = .ok (.getfield 100, 3) := dk_180 0 100 (dk_at dksX0_metBy_1 11 rfl rfl)
theorem dX0_metBy_37 : decode cX0_metBy 37 = .ok (.if_icmp .eq 18, 3) := dk_159 0 18 (dk_at dksX0_metBy_1 14 rfl rfl)
theorem dX0_metBy_40 : decode cX0_metBy 40 = .ok (.aload 5, 2) := dk_25 5 (dk_at dksX0_metBy_1 17 rfl rfl)
theorem dX0_metBy_42 : decode cX0_metBy 42 = .ok (.aload_n 1, 1) := dk_43 (dk_at dksX0_metBy_1 19 rfl rfl)
theorem dX0_metBy_43 : decode cX0_metBy 43 = .ok (.invokevirtual 103, 3) := dk_182 0 103 (dk_at dksX0_metBy_1 20 rfl rfl)
theorem dX0_metBy_46 : decode cX0_metBy 46 = .ok (.ifCond .eq 9, 3) := dk_153 0 9 (dk_at dksX0_metBy_2 0 rfl rfl)
theorem dX0_metBy_49 : decode cX0_metBy 49 = .ok (.aload 5, 2) := dk_25 5 (dk_at dksX0_metBy_2 3 rfl rfl)
theorem dX0_metBy_51 : decode cX0_metBy 51 = .ok (.getfield 100, 3) := dk_180 0 100 (dk_at dksX0_metBy_2 5 rfl rfl)
theorem dX0_metBy_54 : decode cX0_metBy 54 = .ok (.ireturn, 1) := dk_172 (dk_at dksX0_metBy_2 8 rfl rfl)
theorem dX0_metBy_55 : decode cX0_metBy 55 = .ok (.iinc 4 1, 3) := dk_132 4 1 (dk_at dksX0_metBy_2 9 rfl rfl)
theorem dX0_metBy_58 : decode cX0_metBy 58 = .ok (.goto (-47), 3) := dk_167 255 209 (dk_at dksX0_metBy_2 12 rfl rfl)
theorem dX0_metBy_61 : decode cX0_metBy 61 = .ok (.bipush (-106), 2) := dk_16 150 (dk_at dksX0_metBy_2 15 rfl rfl)
theorem dX0_metBy_63 : decode cX0_metBy 63 = .ok (.ireturn, 1) := dk_172 (dk_at dksX0_metBy_2 17 rfl rfl)
abbrev cX0_remember : ByteArray := prog_1_method_6_code
def yX0_remember : MethodName := ⟨RX0, "remember", "()V"⟩
def dkwX0_remember_3 : List UInt8 := [182, 0, 92, 192, 0, 93, 182, 0, 97, 177]
abbrev dktX0_remember_3 : List UInt8 := dkwX0_remember_3 ++ []
def dkwX0_remember_2 : List UInt8 := [180, 0, 18, 183, 0, 89, 83, 42, 89, 180, 0, 79, 4, 96, 181, 0, 79, 42, 42, 180, 0, 18]
abbrev dktX0_remember_2 : List UInt8 := dkwX0_remember_2 ++ dktX0_remember_3
def dkwX0_remember_1 : List UInt8 := [42, 89, 180, 0, 79, 4, 100, 181, 0, 79, 42, 180, 0, 24, 42, 180, 0, 79, 187, 0, 22, 89, 42]
abbrev dktX0_remember_1 : List UInt8 := dkwX0_remember_1 ++ dktX0_remember_2
def dkwX0_remember_0 : List UInt8 := [42, 180, 0, 79, 16, 8, 160, 0, 28, 42, 180, 0, 24, 4, 42, 180, 0, 24, 3, 16, 7, 184, 0, 83]
abbrev dktX0_remember_0 : List UInt8 := dkwX0_remember_0 ++ dktX0_remember_1
theorem dksX0_remember_0 : cX0_remember.data.toList.drop 0 = dktX0_remember_0 := by decide +kernel
theorem dksX0_remember_1 : cX0_remember.data.toList.drop 24 = dktX0_remember_1 := dk_seg dksX0_remember_0 24 rfl rfl
theorem dksX0_remember_2 : cX0_remember.data.toList.drop 47 = dktX0_remember_2 := dk_seg dksX0_remember_1 23 rfl rfl
theorem dksX0_remember_3 : cX0_remember.data.toList.drop 69 = dktX0_remember_3 := dk_seg dksX0_remember_2 22 rfl rfl
theorem dX0_remember_0 : decode cX0_remember 0 = .ok (.aload_n 0, 1) := dk_42 (dk_at dksX0_remember_0 0 rfl rfl)
theorem dX0_remember_1 : decode cX0_remember 1 = .ok (.getfield 79, 3) := dk_180 0 79 (dk_at dksX0_remember_0 1 rfl rfl)
theorem dX0_remember_4 : decode cX0_remember 4 = .ok (.bipush 8, 2) := dk_16 8 (dk_at dksX0_remember_0 4 rfl rfl)
theorem dX0_remember_6 : decode cX0_remember 6 = .ok (.if_icmp .ne 28, 3) := dk_160 0 28 (dk_at dksX0_remember_0 6 rfl rfl)
theorem dX0_remember_9 : decode cX0_remember 9 = .ok (.aload_n 0, 1) := dk_42 (dk_at dksX0_remember_0 9 rfl rfl)
theorem dX0_remember_10 : decode cX0_remember 10 = .ok (.getfield 24, 3) := dk_180 0 24 (dk_at dksX0_remember_0 10 rfl rfl)
theorem dX0_remember_13 : decode cX0_remember 13 = .ok (.iconst 1, 1) := dk_4 (dk_at dksX0_remember_0 13 rfl rfl)
theorem dX0_remember_14 : decode cX0_remember 14 = .ok (.aload_n 0, 1) := dk_42 (dk_at dksX0_remember_0 14 rfl rfl)
theorem dX0_remember_15 : decode cX0_remember 15 = .ok (.getfield 24, 3) := dk_180 0 24 (dk_at dksX0_remember_0 15 rfl rfl)
theorem dX0_remember_18 : decode cX0_remember 18 = .ok (.iconst 0, 1) := dk_3 (dk_at dksX0_remember_0 18 rfl rfl)
theorem dX0_remember_19 : decode cX0_remember 19 = .ok (.bipush 7, 2) := dk_16 7 (dk_at dksX0_remember_0 19 rfl rfl)
theorem dX0_remember_21 : decode cX0_remember 21 = .ok (.invokestatic 83, 3) := dk_184 0 83 (dk_at dksX0_remember_0 21 rfl rfl)
theorem dX0_remember_24 : decode cX0_remember 24 = .ok (.aload_n 0, 1) := dk_42 (dk_at dksX0_remember_1 0 rfl rfl)
theorem dX0_remember_25 : decode cX0_remember 25 = .ok (.dup, 1) := dk_89 (dk_at dksX0_remember_1 1 rfl rfl)
theorem dX0_remember_26 : decode cX0_remember 26 = .ok (.getfield 79, 3) := dk_180 0 79 (dk_at dksX0_remember_1 2 rfl rfl)
theorem dX0_remember_29 : decode cX0_remember 29 = .ok (.iconst 1, 1) := dk_4 (dk_at dksX0_remember_1 5 rfl rfl)
theorem dX0_remember_30 : decode cX0_remember 30 = .ok (.isub, 1) := dk_100 (dk_at dksX0_remember_1 6 rfl rfl)
theorem dX0_remember_31 : decode cX0_remember 31 = .ok (.putfield 79, 3) := dk_181 0 79 (dk_at dksX0_remember_1 7 rfl rfl)
theorem dX0_remember_34 : decode cX0_remember 34 = .ok (.aload_n 0, 1) := dk_42 (dk_at dksX0_remember_1 10 rfl rfl)
theorem dX0_remember_35 : decode cX0_remember 35 = .ok (.getfield 24, 3) := dk_180 0 24 (dk_at dksX0_remember_1 11 rfl rfl)
theorem dX0_remember_38 : decode cX0_remember 38 = .ok (.aload_n 0, 1) := dk_42 (dk_at dksX0_remember_1 14 rfl rfl)
theorem dX0_remember_39 : decode cX0_remember 39 = .ok (.getfield 79, 3) := dk_180 0 79 (dk_at dksX0_remember_1 15 rfl rfl)
theorem dX0_remember_42 : decode cX0_remember 42 = .ok (.new 22, 3) := dk_187 0 22 (dk_at dksX0_remember_1 18 rfl rfl)
theorem dX0_remember_45 : decode cX0_remember 45 = .ok (.dup, 1) := dk_89 (dk_at dksX0_remember_1 21 rfl rfl)
theorem dX0_remember_46 : decode cX0_remember 46 = .ok (.aload_n 0, 1) := dk_42 (dk_at dksX0_remember_1 22 rfl rfl)
theorem dX0_remember_47 : decode cX0_remember 47 = .ok (.getfield 18, 3) := dk_180 0 18 (dk_at dksX0_remember_2 0 rfl rfl)
theorem dX0_remember_50 : decode cX0_remember 50 = .ok (.invokespecial 89, 3) := dk_183 0 89 (dk_at dksX0_remember_2 3 rfl rfl)
theorem dX0_remember_53 : decode cX0_remember 53 = .ok (.aastore, 1) := dk_83 (dk_at dksX0_remember_2 6 rfl rfl)
theorem dX0_remember_54 : decode cX0_remember 54 = .ok (.aload_n 0, 1) := dk_42 (dk_at dksX0_remember_2 7 rfl rfl)
theorem dX0_remember_55 : decode cX0_remember 55 = .ok (.dup, 1) := dk_89 (dk_at dksX0_remember_2 8 rfl rfl)
theorem dX0_remember_56 : decode cX0_remember 56 = .ok (.getfield 79, 3) := dk_180 0 79 (dk_at dksX0_remember_2 9 rfl rfl)
theorem dX0_remember_59 : decode cX0_remember 59 = .ok (.iconst 1, 1) := dk_4 (dk_at dksX0_remember_2 12 rfl rfl)
theorem dX0_remember_60 : decode cX0_remember 60 = .ok (.iadd, 1) := dk_96 (dk_at dksX0_remember_2 13 rfl rfl)
theorem dX0_remember_61 : decode cX0_remember 61 = .ok (.putfield 79, 3) := dk_181 0 79 (dk_at dksX0_remember_2 14 rfl rfl)
theorem dX0_remember_64 : decode cX0_remember 64 = .ok (.aload_n 0, 1) := dk_42 (dk_at dksX0_remember_2 17 rfl rfl)
theorem dX0_remember_65 : decode cX0_remember 65 = .ok (.aload_n 0, 1) := dk_42 (dk_at dksX0_remember_2 18 rfl rfl)
theorem dX0_remember_66 : decode cX0_remember 66 = .ok (.getfield 18, 3) := dk_180 0 18 (dk_at dksX0_remember_2 19 rfl rfl)
theorem dX0_remember_69 : decode cX0_remember 69 = .ok (.invokevirtual 92, 3) := dk_182 0 92 (dk_at dksX0_remember_3 0 rfl rfl)
theorem dX0_remember_72 : decode cX0_remember 72 = .ok (.checkcast 93, 3) := dk_192 0 93 (dk_at dksX0_remember_3 3 rfl rfl)
theorem dX0_remember_75 : decode cX0_remember 75 = .ok (.invokevirtual 97, 3) := dk_182 0 97 (dk_at dksX0_remember_3 6 rfl rfl)
theorem dX0_remember_78 : decode cX0_remember 78 = .ok (.return_, 1) := dk_177 (dk_at dksX0_remember_3 9 rfl rfl)
abbrev cX0_become : ByteArray := prog_1_method_5_code
def yX0_become : MethodName := ⟨RX0, "become", "([LDepthSorter$Box;)V"⟩
def dkwX0_become_0 : List UInt8 := [42, 43, 181, 0, 18, 42, 3, 181, 0, 72, 42, 3, 181, 0, 76, 177]
abbrev dktX0_become_0 : List UInt8 := dkwX0_become_0 ++ []
theorem dksX0_become_0 : cX0_become.data.toList.drop 0 = dktX0_become_0 := by decide +kernel
theorem dX0_become_0 : decode cX0_become 0 = .ok (.aload_n 0, 1) := dk_42 (dk_at dksX0_become_0 0 rfl rfl)
theorem dX0_become_1 : decode cX0_become 1 = .ok (.aload_n 1, 1) := dk_43 (dk_at dksX0_become_0 1 rfl rfl)
theorem dX0_become_2 : decode cX0_become 2 = .ok (.putfield 18, 3) := dk_181 0 18 (dk_at dksX0_become_0 2 rfl rfl)
theorem dX0_become_5 : decode cX0_become 5 = .ok (.aload_n 0, 1) := dk_42 (dk_at dksX0_become_0 5 rfl rfl)
theorem dX0_become_6 : decode cX0_become 6 = .ok (.iconst 0, 1) := dk_3 (dk_at dksX0_become_0 6 rfl rfl)
theorem dX0_become_7 : decode cX0_become 7 = .ok (.putfield 72, 3) := dk_181 0 72 (dk_at dksX0_become_0 7 rfl rfl)
theorem dX0_become_10 : decode cX0_become 10 = .ok (.aload_n 0, 1) := dk_42 (dk_at dksX0_become_0 10 rfl rfl)
theorem dX0_become_11 : decode cX0_become 11 = .ok (.iconst 0, 1) := dk_3 (dk_at dksX0_become_0 11 rfl rfl)
theorem dX0_become_12 : decode cX0_become 12 = .ok (.putfield 76, 3) := dk_181 0 76 (dk_at dksX0_become_0 12 rfl rfl)
theorem dX0_become_15 : decode cX0_become 15 = .ok (.return_, 1) := dk_177 (dk_at dksX0_become_0 15 rfl rfl)
abbrev cX0_remove : ByteArray := prog_1_method_11_code
def yX0_remove : MethodName := ⟨RX0, "remove", "(I)I"⟩
def dkwX0_remove_1 : List UInt8 := [182, 0, 126, 172]
abbrev dktX0_remove_1 : List UInt8 := dkwX0_remove_1 ++ []
def dkwX0_remove_0 : List UInt8 := [42, 27, 182, 0, 122, 154, 0, 6, 16, 155, 172, 42, 182, 0, 119, 42, 180, 0, 18, 27, 1, 83, 42]
abbrev dktX0_remove_0 : List UInt8 := dkwX0_remove_0 ++ dktX0_remove_1
theorem dksX0_remove_0 : cX0_remove.data.toList.drop 0 = dktX0_remove_0 := by decide +kernel
theorem dksX0_remove_1 : cX0_remove.data.toList.drop 23 = dktX0_remove_1 := dk_seg dksX0_remove_0 23 rfl rfl
theorem dX0_remove_0 : decode cX0_remove 0 = .ok (.aload_n 0, 1) := dk_42 (dk_at dksX0_remove_0 0 rfl rfl)
theorem dX0_remove_1 : decode cX0_remove 1 = .ok (.iload_n 1, 1) := dk_27 (dk_at dksX0_remove_0 1 rfl rfl)
theorem dX0_remove_2 : decode cX0_remove 2 = .ok (.invokevirtual 122, 3) := dk_182 0 122 (dk_at dksX0_remove_0 2 rfl rfl)
theorem dX0_remove_5 : decode cX0_remove 5 = .ok (.ifCond .ne 6, 3) := dk_154 0 6 (dk_at dksX0_remove_0 5 rfl rfl)
theorem dX0_remove_8 : decode cX0_remove 8 = .ok (.bipush (-101), 2) := dk_16 155 (dk_at dksX0_remove_0 8 rfl rfl)
theorem dX0_remove_10 : decode cX0_remove 10 = .ok (.ireturn, 1) := dk_172 (dk_at dksX0_remove_0 10 rfl rfl)
theorem dX0_remove_11 : decode cX0_remove 11 = .ok (.aload_n 0, 1) := dk_42 (dk_at dksX0_remove_0 11 rfl rfl)
theorem dX0_remove_12 : decode cX0_remove 12 = .ok (.invokevirtual 119, 3) := dk_182 0 119 (dk_at dksX0_remove_0 12 rfl rfl)
theorem dX0_remove_15 : decode cX0_remove 15 = .ok (.aload_n 0, 1) := dk_42 (dk_at dksX0_remove_0 15 rfl rfl)
theorem dX0_remove_16 : decode cX0_remove 16 = .ok (.getfield 18, 3) := dk_180 0 18 (dk_at dksX0_remove_0 16 rfl rfl)
theorem dX0_remove_19 : decode cX0_remove 19 = .ok (.iload_n 1, 1) := dk_27 (dk_at dksX0_remove_0 19 rfl rfl)
theorem dX0_remove_20 : decode cX0_remove 20 = .ok (.aconst_null, 1) := dk_1 (dk_at dksX0_remove_0 20 rfl rfl)
theorem dX0_remove_21 : decode cX0_remove 21 = .ok (.aastore, 1) := dk_83 (dk_at dksX0_remove_0 21 rfl rfl)
theorem dX0_remove_22 : decode cX0_remove 22 = .ok (.aload_n 0, 1) := dk_42 (dk_at dksX0_remove_0 22 rfl rfl)
theorem dX0_remove_23 : decode cX0_remove 23 = .ok (.invokevirtual 126, 3) := dk_182 0 126 (dk_at dksX0_remove_1 0 rfl rfl)
theorem dX0_remove_26 : decode cX0_remove 26 = .ok (.ireturn, 1) := dk_172 (dk_at dksX0_remove_1 3 rfl rfl)
abbrev cX0_isThere : ByteArray := prog_1_method_4_code
def yX0_isThere : MethodName := ⟨RX0, "isThere", "(I)Z"⟩
def dkwX0_isThere_1 : List UInt8 := [172]
abbrev dktX0_isThere_1 : List UInt8 := dkwX0_isThere_1 ++ []
def dkwX0_isThere_0 : List UInt8 := [27, 3, 16, 11, 184, 0, 68, 153, 0, 16, 42, 180, 0, 18, 27, 50, 198, 0, 7, 4, 167, 0, 4, 3]
abbrev dktX0_isThere_0 : List UInt8 := dkwX0_isThere_0 ++ dktX0_isThere_1
theorem dksX0_isThere_0 : cX0_isThere.data.toList.drop 0 = dktX0_isThere_0 := by decide +kernel
theorem dksX0_isThere_1 : cX0_isThere.data.toList.drop 24 = dktX0_isThere_1 := dk_seg dksX0_isThere_0 24 rfl rfl
theorem dX0_isThere_0 : decode cX0_isThere 0 = .ok (.iload_n 1, 1) := dk_27 (dk_at dksX0_isThere_0 0 rfl rfl)
theorem dX0_isThere_1 : decode cX0_isThere 1 = .ok (.iconst 0, 1) := dk_3 (dk_at dksX0_isThere_0 1 rfl rfl)
theorem dX0_isThere_2 : decode cX0_isThere 2 = .ok (.bipush 11, 2) := dk_16 11 (dk_at dksX0_isThere_0 2 rfl rfl)
theorem dX0_isThere_4 : decode cX0_isThere 4 = .ok (.invokestatic 68, 3) := dk_184 0 68 (dk_at dksX0_isThere_0 4 rfl rfl)
theorem dX0_isThere_7 : decode cX0_isThere 7 = .ok (.ifCond .eq 16, 3) := dk_153 0 16 (dk_at dksX0_isThere_0 7 rfl rfl)
theorem dX0_isThere_10 : decode cX0_isThere 10 = .ok (.aload_n 0, 1) := dk_42 (dk_at dksX0_isThere_0 10 rfl rfl)
theorem dX0_isThere_11 : decode cX0_isThere 11 = .ok (.getfield 18, 3) := dk_180 0 18 (dk_at dksX0_isThere_0 11 rfl rfl)
theorem dX0_isThere_14 : decode cX0_isThere 14 = .ok (.iload_n 1, 1) := dk_27 (dk_at dksX0_isThere_0 14 rfl rfl)
theorem dX0_isThere_15 : decode cX0_isThere 15 = .ok (.aaload, 1) := dk_50 (dk_at dksX0_isThere_0 15 rfl rfl)
theorem dX0_isThere_16 : decode cX0_isThere 16 = .ok (.ifnull 7, 3) := dk_198 0 7 (dk_at dksX0_isThere_0 16 rfl rfl)
theorem dX0_isThere_19 : decode cX0_isThere 19 = .ok (.iconst 1, 1) := dk_4 (dk_at dksX0_isThere_0 19 rfl rfl)
theorem dX0_isThere_20 : decode cX0_isThere 20 = .ok (.goto 4, 3) := dk_167 0 4 (dk_at dksX0_isThere_0 20 rfl rfl)
theorem dX0_isThere_23 : decode cX0_isThere 23 = .ok (.iconst 0, 1) := dk_3 (dk_at dksX0_isThere_0 23 rfl rfl)
theorem dX0_isThere_24 : decode cX0_isThere 24 = .ok (.ireturn, 1) := dk_172 (dk_at dksX0_isThere_1 0 rfl rfl)
abbrev cX0_isIn : ByteArray := prog_1_method_1_code
def yX0_isIn : MethodName := ⟨RX0, "isIn", "(III)Z"⟩
def dkwX0_isIn_0 : List UInt8 := [26, 27, 161, 0, 12, 26, 28, 163, 0, 7, 4, 167, 0, 4, 3, 172]
abbrev dktX0_isIn_0 : List UInt8 := dkwX0_isIn_0 ++ []
theorem dksX0_isIn_0 : cX0_isIn.data.toList.drop 0 = dktX0_isIn_0 := by decide +kernel
theorem dX0_isIn_0 : decode cX0_isIn 0 = .ok (.iload_n 0, 1) := dk_26 (dk_at dksX0_isIn_0 0 rfl rfl)
theorem dX0_isIn_1 : decode cX0_isIn 1 = .ok (.iload_n 1, 1) := dk_27 (dk_at dksX0_isIn_0 1 rfl rfl)
theorem dX0_isIn_2 : decode cX0_isIn 2 = .ok (.if_icmp .lt 12, 3) := dk_161 0 12 (dk_at dksX0_isIn_0 2 rfl rfl)
theorem dX0_isIn_5 : decode cX0_isIn 5 = .ok (.iload_n 0, 1) := dk_26 (dk_at dksX0_isIn_0 5 rfl rfl)
theorem dX0_isIn_6 : decode cX0_isIn 6 = .ok (.iload_n 2, 1) := dk_28 (dk_at dksX0_isIn_0 6 rfl rfl)
theorem dX0_isIn_7 : decode cX0_isIn 7 = .ok (.if_icmp .gt 7, 3) := dk_163 0 7 (dk_at dksX0_isIn_0 7 rfl rfl)
theorem dX0_isIn_10 : decode cX0_isIn 10 = .ok (.iconst 1, 1) := dk_4 (dk_at dksX0_isIn_0 10 rfl rfl)
theorem dX0_isIn_11 : decode cX0_isIn 11 = .ok (.goto 4, 3) := dk_167 0 4 (dk_at dksX0_isIn_0 11 rfl rfl)
theorem dX0_isIn_14 : decode cX0_isIn 14 = .ok (.iconst 0, 1) := dk_3 (dk_at dksX0_isIn_0 14 rfl rfl)
theorem dX0_isIn_15 : decode cX0_isIn 15 = .ok (.ireturn, 1) := dk_172 (dk_at dksX0_isIn_0 15 rfl rfl)
abbrev cX0_many : ByteArray := prog_1_method_7_code
def yX0_many : MethodName := ⟨RX0, "many", "()I"⟩
def dkwX0_many_1 : List UInt8 := [58, 5, 27, 25, 5, 198, 0, 7, 4, 167, 0, 4, 3, 96, 60, 132, 4, 1, 167, 255, 228, 27, 172]
abbrev dktX0_many_1 : List UInt8 := dkwX0_many_1 ++ []
def dkwX0_many_0 : List UInt8 := [3, 60, 42, 180, 0, 18, 77, 44, 190, 62, 3, 54, 4, 21, 4, 29, 162, 0, 28, 44, 21, 4, 50]
abbrev dktX0_many_0 : List UInt8 := dkwX0_many_0 ++ dktX0_many_1
theorem dksX0_many_0 : cX0_many.data.toList.drop 0 = dktX0_many_0 := by decide +kernel
theorem dksX0_many_1 : cX0_many.data.toList.drop 23 = dktX0_many_1 := dk_seg dksX0_many_0 23 rfl rfl
theorem dX0_many_0 : decode cX0_many 0 = .ok (.iconst 0, 1) := dk_3 (dk_at dksX0_many_0 0 rfl rfl)
theorem dX0_many_1 : decode cX0_many 1 = .ok (.istore_n 1, 1) := dk_60 (dk_at dksX0_many_0 1 rfl rfl)
theorem dX0_many_2 : decode cX0_many 2 = .ok (.aload_n 0, 1) := dk_42 (dk_at dksX0_many_0 2 rfl rfl)
theorem dX0_many_3 : decode cX0_many 3 = .ok (.getfield 18, 3) := dk_180 0 18 (dk_at dksX0_many_0 3 rfl rfl)
theorem dX0_many_6 : decode cX0_many 6 = .ok (.astore_n 2, 1) := dk_77 (dk_at dksX0_many_0 6 rfl rfl)
theorem dX0_many_7 : decode cX0_many 7 = .ok (.aload_n 2, 1) := dk_44 (dk_at dksX0_many_0 7 rfl rfl)
theorem dX0_many_8 : decode cX0_many 8 = .ok (.arraylength, 1) := dk_190 (dk_at dksX0_many_0 8 rfl rfl)
theorem dX0_many_9 : decode cX0_many 9 = .ok (.istore_n 3, 1) := dk_62 (dk_at dksX0_many_0 9 rfl rfl)
theorem dX0_many_10 : decode cX0_many 10 = .ok (.iconst 0, 1) := dk_3 (dk_at dksX0_many_0 10 rfl rfl)
theorem dX0_many_11 : decode cX0_many 11 = .ok (.istore 4, 2) := dk_54 4 (dk_at dksX0_many_0 11 rfl rfl)
theorem dX0_many_13 : decode cX0_many 13 = .ok (.iload 4, 2) := dk_21 4 (dk_at dksX0_many_0 13 rfl rfl)
theorem dX0_many_15 : decode cX0_many 15 = .ok (.iload_n 3, 1) := dk_29 (dk_at dksX0_many_0 15 rfl rfl)
theorem dX0_many_16 : decode cX0_many 16 = .ok (.if_icmp .ge 28, 3) := dk_162 0 28 (dk_at dksX0_many_0 16 rfl rfl)
theorem dX0_many_19 : decode cX0_many 19 = .ok (.aload_n 2, 1) := dk_44 (dk_at dksX0_many_0 19 rfl rfl)
theorem dX0_many_20 : decode cX0_many 20 = .ok (.iload 4, 2) := dk_21 4 (dk_at dksX0_many_0 20 rfl rfl)
theorem dX0_many_22 : decode cX0_many 22 = .ok (.aaload, 1) := dk_50 (dk_at dksX0_many_0 22 rfl rfl)
theorem dX0_many_23 : decode cX0_many 23 = .ok (.astore 5, 2) := dk_58 5 (dk_at dksX0_many_1 0 rfl rfl)
theorem dX0_many_25 : decode cX0_many 25 = .ok (.iload_n 1, 1) := dk_27 (dk_at dksX0_many_1 2 rfl rfl)
theorem dX0_many_26 : decode cX0_many 26 = .ok (.aload 5, 2) := dk_25 5 (dk_at dksX0_many_1 3 rfl rfl)
theorem dX0_many_28 : decode cX0_many 28 = .ok (.ifnull 7, 3) := dk_198 0 7 (dk_at dksX0_many_1 5 rfl rfl)
theorem dX0_many_31 : decode cX0_many 31 = .ok (.iconst 1, 1) := dk_4 (dk_at dksX0_many_1 8 rfl rfl)
theorem dX0_many_32 : decode cX0_many 32 = .ok (.goto 4, 3) := dk_167 0 4 (dk_at dksX0_many_1 9 rfl rfl)
theorem dX0_many_35 : decode cX0_many 35 = .ok (.iconst 0, 1) := dk_3 (dk_at dksX0_many_1 12 rfl rfl)
theorem dX0_many_36 : decode cX0_many 36 = .ok (.iadd, 1) := dk_96 (dk_at dksX0_many_1 13 rfl rfl)
theorem dX0_many_37 : decode cX0_many 37 = .ok (.istore_n 1, 1) := dk_60 (dk_at dksX0_many_1 14 rfl rfl)
theorem dX0_many_38 : decode cX0_many 38 = .ok (.iinc 4 1, 3) := dk_132 4 1 (dk_at dksX0_many_1 15 rfl rfl)
theorem dX0_many_41 : decode cX0_many 41 = .ok (.goto (-28), 3) := dk_167 255 228 (dk_at dksX0_many_1 18 rfl rfl)
theorem dX0_many_44 : decode cX0_many 44 = .ok (.iload_n 1, 1) := dk_27 (dk_at dksX0_many_1 21 rfl rfl)
theorem dX0_many_45 : decode cX0_many 45 = .ok (.ireturn, 1) := dk_172 (dk_at dksX0_many_1 22 rfl rfl)
abbrev cX0_move : ByteArray := prog_1_method_13_code
def yX0_move : MethodName := ⟨RX0, "move", "(IIII)I"⟩
def dkwX0_move_4 : List UInt8 := [42, 182, 0, 136, 21, 6, 100, 172]
abbrev dktX0_move_4 : List UInt8 := dkwX0_move_4 ++ []
def dkwX0_move_3 : List UInt8 := [159, 0, 6, 16, 153, 172, 42, 182, 0, 136, 54, 6, 42, 182, 0, 119, 42, 180, 0, 18, 27, 25, 5, 83]
abbrev dktX0_move_3 : List UInt8 := dkwX0_move_3 ++ dktX0_move_4
def dkwX0_move_2 : List UInt8 := [182, 0, 132, 58, 5, 25, 5, 182, 0, 7, 154, 0, 6, 16, 151, 172, 42, 25, 5, 182, 0, 115, 16, 150]
abbrev dktX0_move_2 : List UInt8 := dkwX0_move_2 ++ dktX0_move_3
def dkwX0_move_1 : List UInt8 := [153, 0, 11, 21, 4, 184, 0, 129, 154, 0, 6, 16, 154, 172, 42, 180, 0, 18, 27, 50, 28, 29, 21, 4]
abbrev dktX0_move_1 : List UInt8 := dkwX0_move_1 ++ dktX0_move_2
def dkwX0_move_0 : List UInt8 := [42, 27, 182, 0, 122, 154, 0, 6, 16, 155, 172, 28, 184, 0, 129, 153, 0, 18, 29, 184, 0, 129]
abbrev dktX0_move_0 : List UInt8 := dkwX0_move_0 ++ dktX0_move_1
theorem dksX0_move_0 : cX0_move.data.toList.drop 0 = dktX0_move_0 := by decide +kernel
theorem dksX0_move_1 : cX0_move.data.toList.drop 22 = dktX0_move_1 := dk_seg dksX0_move_0 22 rfl rfl
theorem dksX0_move_2 : cX0_move.data.toList.drop 46 = dktX0_move_2 := dk_seg dksX0_move_1 24 rfl rfl
theorem dksX0_move_3 : cX0_move.data.toList.drop 70 = dktX0_move_3 := dk_seg dksX0_move_2 24 rfl rfl
theorem dksX0_move_4 : cX0_move.data.toList.drop 94 = dktX0_move_4 := dk_seg dksX0_move_3 24 rfl rfl
theorem dX0_move_0 : decode cX0_move 0 = .ok (.aload_n 0, 1) := dk_42 (dk_at dksX0_move_0 0 rfl rfl)
theorem dX0_move_1 : decode cX0_move 1 = .ok (.iload_n 1, 1) := dk_27 (dk_at dksX0_move_0 1 rfl rfl)
theorem dX0_move_2 : decode cX0_move 2 = .ok (.invokevirtual 122, 3) := dk_182 0 122 (dk_at dksX0_move_0 2 rfl rfl)
theorem dX0_move_5 : decode cX0_move 5 = .ok (.ifCond .ne 6, 3) := dk_154 0 6 (dk_at dksX0_move_0 5 rfl rfl)
theorem dX0_move_8 : decode cX0_move 8 = .ok (.bipush (-101), 2) := dk_16 155 (dk_at dksX0_move_0 8 rfl rfl)
theorem dX0_move_10 : decode cX0_move 10 = .ok (.ireturn, 1) := dk_172 (dk_at dksX0_move_0 10 rfl rfl)
theorem dX0_move_11 : decode cX0_move 11 = .ok (.iload_n 2, 1) := dk_28 (dk_at dksX0_move_0 11 rfl rfl)
theorem dX0_move_12 : decode cX0_move 12 = .ok (.invokestatic 129, 3) := dk_184 0 129 (dk_at dksX0_move_0 12 rfl rfl)
theorem dX0_move_15 : decode cX0_move 15 = .ok (.ifCond .eq 18, 3) := dk_153 0 18 (dk_at dksX0_move_0 15 rfl rfl)
theorem dX0_move_18 : decode cX0_move 18 = .ok (.iload_n 3, 1) := dk_29 (dk_at dksX0_move_0 18 rfl rfl)
theorem dX0_move_19 : decode cX0_move 19 = .ok (.invokestatic 129, 3) := dk_184 0 129 (dk_at dksX0_move_0 19 rfl rfl)
theorem dX0_move_22 : decode cX0_move 22 = .ok (.ifCond .eq 11, 3) := dk_153 0 11 (dk_at dksX0_move_1 0 rfl rfl)
theorem dX0_move_25 : decode cX0_move 25 = .ok (.iload 4, 2) := dk_21 4 (dk_at dksX0_move_1 3 rfl rfl)
theorem dX0_move_27 : decode cX0_move 27 = .ok (.invokestatic 129, 3) := dk_184 0 129 (dk_at dksX0_move_1 5 rfl rfl)
theorem dX0_move_30 : decode cX0_move 30 = .ok (.ifCond .ne 6, 3) := dk_154 0 6 (dk_at dksX0_move_1 8 rfl rfl)
theorem dX0_move_33 : decode cX0_move 33 = .ok (.bipush (-102), 2) := dk_16 154 (dk_at dksX0_move_1 11 rfl rfl)
theorem dX0_move_35 : decode cX0_move 35 = .ok (.ireturn, 1) := dk_172 (dk_at dksX0_move_1 13 rfl rfl)
theorem dX0_move_36 : decode cX0_move 36 = .ok (.aload_n 0, 1) := dk_42 (dk_at dksX0_move_1 14 rfl rfl)
theorem dX0_move_37 : decode cX0_move 37 = .ok (.getfield 18, 3) := dk_180 0 18 (dk_at dksX0_move_1 15 rfl rfl)
theorem dX0_move_40 : decode cX0_move 40 = .ok (.iload_n 1, 1) := dk_27 (dk_at dksX0_move_1 18 rfl rfl)
theorem dX0_move_41 : decode cX0_move 41 = .ok (.aaload, 1) := dk_50 (dk_at dksX0_move_1 19 rfl rfl)
theorem dX0_move_42 : decode cX0_move 42 = .ok (.iload_n 2, 1) := dk_28 (dk_at dksX0_move_1 20 rfl rfl)
theorem dX0_move_43 : decode cX0_move 43 = .ok (.iload_n 3, 1) := dk_29 (dk_at dksX0_move_1 21 rfl rfl)
theorem dX0_move_44 : decode cX0_move 44 = .ok (.iload 4, 2) := dk_21 4 (dk_at dksX0_move_1 22 rfl rfl)
theorem dX0_move_46 : decode cX0_move 46 = .ok (.invokevirtual 132, 3) := dk_182 0 132 (dk_at dksX0_move_2 0 rfl rfl)
theorem dX0_move_49 : decode cX0_move 49 = .ok (.astore 5, 2) := dk_58 5 (dk_at dksX0_move_2 3 rfl rfl)
theorem dX0_move_51 : decode cX0_move 51 = .ok (.aload 5, 2) := dk_25 5 (dk_at dksX0_move_2 5 rfl rfl)
theorem dX0_move_53 : decode cX0_move 53 = .ok (.invokevirtual 7, 3) := dk_182 0 7 (dk_at dksX0_move_2 7 rfl rfl)
theorem dX0_move_56 : decode cX0_move 56 = .ok (.ifCond .ne 6, 3) := dk_154 0 6 (dk_at dksX0_move_2 10 rfl rfl)
theorem dX0_move_59 : decode cX0_move 59 = .ok (.bipush (-105), 2) := dk_16 151 (dk_at dksX0_move_2 13 rfl rfl)
theorem dX0_move_61 : decode cX0_move 61 = .ok (.ireturn, 1) := dk_172 (dk_at dksX0_move_2 15 rfl rfl)
theorem dX0_move_62 : decode cX0_move 62 = .ok (.aload_n 0, 1) := dk_42 (dk_at dksX0_move_2 16 rfl rfl)
theorem dX0_move_63 : decode cX0_move 63 = .ok (.aload 5, 2) := dk_25 5 (dk_at dksX0_move_2 17 rfl rfl)
theorem dX0_move_65 : decode cX0_move 65 = .ok (.invokevirtual 115, 3) := dk_182 0 115 (dk_at dksX0_move_2 19 rfl rfl)
theorem dX0_move_68 : decode cX0_move 68 = .ok (.bipush (-106), 2) := dk_16 150 (dk_at dksX0_move_2 22 rfl rfl)
theorem dX0_move_70 : decode cX0_move 70 = .ok (.if_icmp .eq 6, 3) := dk_159 0 6 (dk_at dksX0_move_3 0 rfl rfl)
theorem dX0_move_73 : decode cX0_move 73 = .ok (.bipush (-103), 2) := dk_16 153 (dk_at dksX0_move_3 3 rfl rfl)
theorem dX0_move_75 : decode cX0_move 75 = .ok (.ireturn, 1) := dk_172 (dk_at dksX0_move_3 5 rfl rfl)
theorem dX0_move_76 : decode cX0_move 76 = .ok (.aload_n 0, 1) := dk_42 (dk_at dksX0_move_3 6 rfl rfl)
theorem dX0_move_77 : decode cX0_move 77 = .ok (.invokevirtual 136, 3) := dk_182 0 136 (dk_at dksX0_move_3 7 rfl rfl)
theorem dX0_move_80 : decode cX0_move 80 = .ok (.istore 6, 2) := dk_54 6 (dk_at dksX0_move_3 10 rfl rfl)
theorem dX0_move_82 : decode cX0_move 82 = .ok (.aload_n 0, 1) := dk_42 (dk_at dksX0_move_3 12 rfl rfl)
theorem dX0_move_83 : decode cX0_move 83 = .ok (.invokevirtual 119, 3) := dk_182 0 119 (dk_at dksX0_move_3 13 rfl rfl)
theorem dX0_move_86 : decode cX0_move 86 = .ok (.aload_n 0, 1) := dk_42 (dk_at dksX0_move_3 16 rfl rfl)
theorem dX0_move_87 : decode cX0_move 87 = .ok (.getfield 18, 3) := dk_180 0 18 (dk_at dksX0_move_3 17 rfl rfl)
theorem dX0_move_90 : decode cX0_move 90 = .ok (.iload_n 1, 1) := dk_27 (dk_at dksX0_move_3 20 rfl rfl)
theorem dX0_move_91 : decode cX0_move 91 = .ok (.aload 5, 2) := dk_25 5 (dk_at dksX0_move_3 21 rfl rfl)
theorem dX0_move_93 : decode cX0_move 93 = .ok (.aastore, 1) := dk_83 (dk_at dksX0_move_3 23 rfl rfl)
theorem dX0_move_94 : decode cX0_move 94 = .ok (.aload_n 0, 1) := dk_42 (dk_at dksX0_move_4 0 rfl rfl)
theorem dX0_move_95 : decode cX0_move 95 = .ok (.invokevirtual 136, 3) := dk_182 0 136 (dk_at dksX0_move_4 1 rfl rfl)
theorem dX0_move_98 : decode cX0_move 98 = .ok (.iload 6, 2) := dk_21 6 (dk_at dksX0_move_4 4 rfl rfl)
theorem dX0_move_100 : decode cX0_move 100 = .ok (.isub, 1) := dk_100 (dk_at dksX0_move_4 6 rfl rfl)
theorem dX0_move_101 : decode cX0_move 101 = .ok (.ireturn, 1) := dk_172 (dk_at dksX0_move_4 7 rfl rfl)
abbrev cX0_isStep : ByteArray := prog_1_method_12_code
def yX0_isStep : MethodName := ⟨RX0, "isStep", "(I)Z"⟩
def dkwX0_isStep_0 : List UInt8 := [26, 16, 224, 16, 32, 184, 0, 68, 172]
abbrev dktX0_isStep_0 : List UInt8 := dkwX0_isStep_0 ++ []
theorem dksX0_isStep_0 : cX0_isStep.data.toList.drop 0 = dktX0_isStep_0 := by decide +kernel
theorem dX0_isStep_0 : decode cX0_isStep 0 = .ok (.iload_n 0, 1) := dk_26 (dk_at dksX0_isStep_0 0 rfl rfl)
theorem dX0_isStep_1 : decode cX0_isStep 1 = .ok (.bipush (-32), 2) := dk_16 224 (dk_at dksX0_isStep_0 1 rfl rfl)
theorem dX0_isStep_3 : decode cX0_isStep 3 = .ok (.bipush 32, 2) := dk_16 32 (dk_at dksX0_isStep_0 3 rfl rfl)
theorem dX0_isStep_5 : decode cX0_isStep 5 = .ok (.invokestatic 68, 3) := dk_184 0 68 (dk_at dksX0_isStep_0 5 rfl rfl)
theorem dX0_isStep_8 : decode cX0_isStep 8 = .ok (.ireturn, 1) := dk_172 (dk_at dksX0_isStep_0 8 rfl rfl)
abbrev cX0_pairs : ByteArray := prog_1_method_25_code
def yX0_pairs : MethodName := ⟨RX0, "pairs", "()I"⟩
def dkwX0_pairs_1 : List UInt8 := [42, 28, 182, 0, 167, 184, 0, 170, 96, 60, 132, 2, 1, 167, 255, 223, 27, 172]
abbrev dktX0_pairs_1 : List UInt8 := dkwX0_pairs_1 ++ []
def dkwX0_pairs_0 : List UInt8 := [3, 60, 3, 61, 28, 16, 12, 162, 0, 33, 27, 42, 180, 0, 18, 28, 50, 199, 0, 7, 3, 167, 0, 11]
abbrev dktX0_pairs_0 : List UInt8 := dkwX0_pairs_0 ++ dktX0_pairs_1
theorem dksX0_pairs_0 : cX0_pairs.data.toList.drop 0 = dktX0_pairs_0 := by decide +kernel
theorem dksX0_pairs_1 : cX0_pairs.data.toList.drop 24 = dktX0_pairs_1 := dk_seg dksX0_pairs_0 24 rfl rfl
theorem dX0_pairs_0 : decode cX0_pairs 0 = .ok (.iconst 0, 1) := dk_3 (dk_at dksX0_pairs_0 0 rfl rfl)
theorem dX0_pairs_1 : decode cX0_pairs 1 = .ok (.istore_n 1, 1) := dk_60 (dk_at dksX0_pairs_0 1 rfl rfl)
theorem dX0_pairs_2 : decode cX0_pairs 2 = .ok (.iconst 0, 1) := dk_3 (dk_at dksX0_pairs_0 2 rfl rfl)
theorem dX0_pairs_3 : decode cX0_pairs 3 = .ok (.istore_n 2, 1) := dk_61 (dk_at dksX0_pairs_0 3 rfl rfl)
theorem dX0_pairs_4 : decode cX0_pairs 4 = .ok (.iload_n 2, 1) := dk_28 (dk_at dksX0_pairs_0 4 rfl rfl)
theorem dX0_pairs_5 : decode cX0_pairs 5 = .ok (.bipush 12, 2) := dk_16 12 (dk_at dksX0_pairs_0 5 rfl rfl)
theorem dX0_pairs_7 : decode cX0_pairs 7 = .ok (.if_icmp .ge 33, 3) := dk_162 0 33 (dk_at dksX0_pairs_0 7 rfl rfl)
theorem dX0_pairs_10 : decode cX0_pairs 10 = .ok (.iload_n 1, 1) := dk_27 (dk_at dksX0_pairs_0 10 rfl rfl)
theorem dX0_pairs_11 : decode cX0_pairs 11 = .ok (.aload_n 0, 1) := dk_42 (dk_at dksX0_pairs_0 11 rfl rfl)
theorem dX0_pairs_12 : decode cX0_pairs 12 = .ok (.getfield 18, 3) := dk_180 0 18 (dk_at dksX0_pairs_0 12 rfl rfl)
theorem dX0_pairs_15 : decode cX0_pairs 15 = .ok (.iload_n 2, 1) := dk_28 (dk_at dksX0_pairs_0 15 rfl rfl)
theorem dX0_pairs_16 : decode cX0_pairs 16 = .ok (.aaload, 1) := dk_50 (dk_at dksX0_pairs_0 16 rfl rfl)
theorem dX0_pairs_17 : decode cX0_pairs 17 = .ok (.ifnonnull 7, 3) := dk_199 0 7 (dk_at dksX0_pairs_0 17 rfl rfl)
theorem dX0_pairs_20 : decode cX0_pairs 20 = .ok (.iconst 0, 1) := dk_3 (dk_at dksX0_pairs_0 20 rfl rfl)
theorem dX0_pairs_21 : decode cX0_pairs 21 = .ok (.goto 11, 3) := dk_167 0 11 (dk_at dksX0_pairs_0 21 rfl rfl)
theorem dX0_pairs_24 : decode cX0_pairs 24 = .ok (.aload_n 0, 1) := dk_42 (dk_at dksX0_pairs_1 0 rfl rfl)
theorem dX0_pairs_25 : decode cX0_pairs 25 = .ok (.iload_n 2, 1) := dk_28 (dk_at dksX0_pairs_1 1 rfl rfl)
theorem dX0_pairs_26 : decode cX0_pairs 26 = .ok (.invokevirtual 167, 3) := dk_182 0 167 (dk_at dksX0_pairs_1 2 rfl rfl)
theorem dX0_pairs_29 : decode cX0_pairs 29 = .ok (.invokestatic 170, 3) := dk_184 0 170 (dk_at dksX0_pairs_1 5 rfl rfl)
theorem dX0_pairs_32 : decode cX0_pairs 32 = .ok (.iadd, 1) := dk_96 (dk_at dksX0_pairs_1 8 rfl rfl)
theorem dX0_pairs_33 : decode cX0_pairs 33 = .ok (.istore_n 1, 1) := dk_60 (dk_at dksX0_pairs_1 9 rfl rfl)
theorem dX0_pairs_34 : decode cX0_pairs 34 = .ok (.iinc 2 1, 3) := dk_132 2 1 (dk_at dksX0_pairs_1 10 rfl rfl)
theorem dX0_pairs_37 : decode cX0_pairs 37 = .ok (.goto (-33), 3) := dk_167 255 223 (dk_at dksX0_pairs_1 13 rfl rfl)
theorem dX0_pairs_40 : decode cX0_pairs 40 = .ok (.iload_n 1, 1) := dk_27 (dk_at dksX0_pairs_1 16 rfl rfl)
theorem dX0_pairs_41 : decode cX0_pairs 41 = .ok (.ireturn, 1) := dk_172 (dk_at dksX0_pairs_1 17 rfl rfl)
abbrev cX0_behindSet : ByteArray := prog_1_method_23_code
def yX0_behindSet : MethodName := ⟨RX0, "behindSet", "(I)I"⟩
def dkwX0_behindSet_1 : List UInt8 := [167, 0, 4, 3, 128, 61, 132, 3, 1, 167, 255, 228, 28, 172]
abbrev dktX0_behindSet_1 : List UInt8 := dkwX0_behindSet_1 ++ []
def dkwX0_behindSet_0 : List UInt8 := [3, 61, 3, 62, 29, 16, 12, 162, 0, 28, 28, 42, 29, 27, 182, 0, 165, 153, 0, 9, 4, 29, 120]
abbrev dktX0_behindSet_0 : List UInt8 := dkwX0_behindSet_0 ++ dktX0_behindSet_1
theorem dksX0_behindSet_0 : cX0_behindSet.data.toList.drop 0 = dktX0_behindSet_0 := by decide +kernel
theorem dksX0_behindSet_1 : cX0_behindSet.data.toList.drop 23 = dktX0_behindSet_1 := dk_seg dksX0_behindSet_0 23 rfl rfl
theorem dX0_behindSet_0 : decode cX0_behindSet 0 = .ok (.iconst 0, 1) := dk_3 (dk_at dksX0_behindSet_0 0 rfl rfl)
theorem dX0_behindSet_1 : decode cX0_behindSet 1 = .ok (.istore_n 2, 1) := dk_61 (dk_at dksX0_behindSet_0 1 rfl rfl)
theorem dX0_behindSet_2 : decode cX0_behindSet 2 = .ok (.iconst 0, 1) := dk_3 (dk_at dksX0_behindSet_0 2 rfl rfl)
theorem dX0_behindSet_3 : decode cX0_behindSet 3 = .ok (.istore_n 3, 1) := dk_62 (dk_at dksX0_behindSet_0 3 rfl rfl)
theorem dX0_behindSet_4 : decode cX0_behindSet 4 = .ok (.iload_n 3, 1) := dk_29 (dk_at dksX0_behindSet_0 4 rfl rfl)
theorem dX0_behindSet_5 : decode cX0_behindSet 5 = .ok (.bipush 12, 2) := dk_16 12 (dk_at dksX0_behindSet_0 5 rfl rfl)
theorem dX0_behindSet_7 : decode cX0_behindSet 7 = .ok (.if_icmp .ge 28, 3) := dk_162 0 28 (dk_at dksX0_behindSet_0 7 rfl rfl)
theorem dX0_behindSet_10 : decode cX0_behindSet 10 = .ok (.iload_n 2, 1) := dk_28 (dk_at dksX0_behindSet_0 10 rfl rfl)
theorem dX0_behindSet_11 : decode cX0_behindSet 11 = .ok (.aload_n 0, 1) := dk_42 (dk_at dksX0_behindSet_0 11 rfl rfl)
theorem dX0_behindSet_12 : decode cX0_behindSet 12 = .ok (.iload_n 3, 1) := dk_29 (dk_at dksX0_behindSet_0 12 rfl rfl)
theorem dX0_behindSet_13 : decode cX0_behindSet 13 = .ok (.iload_n 1, 1) := dk_27 (dk_at dksX0_behindSet_0 13 rfl rfl)
theorem dX0_behindSet_14 : decode cX0_behindSet 14 = .ok (.invokevirtual 165, 3) := dk_182 0 165 (dk_at dksX0_behindSet_0 14 rfl rfl)
theorem dX0_behindSet_17 : decode cX0_behindSet 17 = .ok (.ifCond .eq 9, 3) := dk_153 0 9 (dk_at dksX0_behindSet_0 17 rfl rfl)
theorem dX0_behindSet_20 : decode cX0_behindSet 20 = .ok (.iconst 1, 1) := dk_4 (dk_at dksX0_behindSet_0 20 rfl rfl)
theorem dX0_behindSet_21 : decode cX0_behindSet 21 = .ok (.iload_n 3, 1) := dk_29 (dk_at dksX0_behindSet_0 21 rfl rfl)
theorem dX0_behindSet_22 : decode cX0_behindSet 22 = .ok (.ishl, 1) := dk_120 (dk_at dksX0_behindSet_0 22 rfl rfl)
theorem dX0_behindSet_23 : decode cX0_behindSet 23 = .ok (.goto 4, 3) := dk_167 0 4 (dk_at dksX0_behindSet_1 0 rfl rfl)
theorem dX0_behindSet_26 : decode cX0_behindSet 26 = .ok (.iconst 0, 1) := dk_3 (dk_at dksX0_behindSet_1 3 rfl rfl)
theorem dX0_behindSet_27 : decode cX0_behindSet 27 = .ok (.ior, 1) := dk_128 (dk_at dksX0_behindSet_1 4 rfl rfl)
theorem dX0_behindSet_28 : decode cX0_behindSet 28 = .ok (.istore_n 2, 1) := dk_61 (dk_at dksX0_behindSet_1 5 rfl rfl)
theorem dX0_behindSet_29 : decode cX0_behindSet 29 = .ok (.iinc 3 1, 3) := dk_132 3 1 (dk_at dksX0_behindSet_1 6 rfl rfl)
theorem dX0_behindSet_32 : decode cX0_behindSet 32 = .ok (.goto (-28), 3) := dk_167 255 228 (dk_at dksX0_behindSet_1 9 rfl rfl)
theorem dX0_behindSet_35 : decode cX0_behindSet 35 = .ok (.iload_n 2, 1) := dk_28 (dk_at dksX0_behindSet_1 12 rfl rfl)
theorem dX0_behindSet_36 : decode cX0_behindSet 36 = .ok (.ireturn, 1) := dk_172 (dk_at dksX0_behindSet_1 13 rfl rfl)
abbrev cX0_isBehind : ByteArray := prog_1_method_21_code
def yX0_isBehind : MethodName := ⟨RX0, "isBehind", "(II)Z"⟩
def dkwX0_isBehind_1 : List UInt8 := [180, 0, 18, 27, 50, 42, 180, 0, 18, 28, 50, 182, 0, 162, 153, 0, 7, 4, 167, 0, 4, 3, 172]
abbrev dktX0_isBehind_1 : List UInt8 := dkwX0_isBehind_1 ++ []
def dkwX0_isBehind_0 : List UInt8 := [27, 28, 159, 0, 43, 42, 180, 0, 18, 27, 50, 198, 0, 34, 42, 180, 0, 18, 28, 50, 198, 0, 25, 42]
abbrev dktX0_isBehind_0 : List UInt8 := dkwX0_isBehind_0 ++ dktX0_isBehind_1
theorem dksX0_isBehind_0 : cX0_isBehind.data.toList.drop 0 = dktX0_isBehind_0 := by decide +kernel
theorem dksX0_isBehind_1 : cX0_isBehind.data.toList.drop 24 = dktX0_isBehind_1 := dk_seg dksX0_isBehind_0 24 rfl rfl
theorem dX0_isBehind_0 : decode cX0_isBehind 0 = .ok (.iload_n 1, 1) := dk_27 (dk_at dksX0_isBehind_0 0 rfl rfl)
theorem dX0_isBehind_1 : decode cX0_isBehind 1 = .ok (.iload_n 2, 1) := dk_28 (dk_at dksX0_isBehind_0 1 rfl rfl)
theorem dX0_isBehind_2 : decode cX0_isBehind 2 = .ok (.if_icmp .eq 43, 3) := dk_159 0 43 (dk_at dksX0_isBehind_0 2 rfl rfl)
theorem dX0_isBehind_5 : decode cX0_isBehind 5 = .ok (.aload_n 0, 1) := dk_42 (dk_at dksX0_isBehind_0 5 rfl rfl)
theorem dX0_isBehind_6 : decode cX0_isBehind 6 = .ok (.getfield 18, 3) := dk_180 0 18 (dk_at dksX0_isBehind_0 6 rfl rfl)
theorem dX0_isBehind_9 : decode cX0_isBehind 9 = .ok (.iload_n 1, 1) := dk_27 (dk_at dksX0_isBehind_0 9 rfl rfl)
theorem dX0_isBehind_10 : decode cX0_isBehind 10 = .ok (.aaload, 1) := dk_50 (dk_at dksX0_isBehind_0 10 rfl rfl)
theorem dX0_isBehind_11 : decode cX0_isBehind 11 = .ok (.ifnull 34, 3) := dk_198 0 34 (dk_at dksX0_isBehind_0 11 rfl rfl)
theorem dX0_isBehind_14 : decode cX0_isBehind 14 = .ok (.aload_n 0, 1) := dk_42 (dk_at dksX0_isBehind_0 14 rfl rfl)
theorem dX0_isBehind_15 : decode cX0_isBehind 15 = .ok (.getfield 18, 3) := dk_180 0 18 (dk_at dksX0_isBehind_0 15 rfl rfl)
theorem dX0_isBehind_18 : decode cX0_isBehind 18 = .ok (.iload_n 2, 1) := dk_28 (dk_at dksX0_isBehind_0 18 rfl rfl)
theorem dX0_isBehind_19 : decode cX0_isBehind 19 = .ok (.aaload, 1) := dk_50 (dk_at dksX0_isBehind_0 19 rfl rfl)
theorem dX0_isBehind_20 : decode cX0_isBehind 20 = .ok (.ifnull 25, 3) := dk_198 0 25 (dk_at dksX0_isBehind_0 20 rfl rfl)
theorem dX0_isBehind_23 : decode cX0_isBehind 23 = .ok (.aload_n 0, 1) := dk_42 (dk_at dksX0_isBehind_0 23 rfl rfl)
theorem dX0_isBehind_24 : decode cX0_isBehind 24 = .ok (.getfield 18, 3) := dk_180 0 18 (dk_at dksX0_isBehind_1 0 rfl rfl)
theorem dX0_isBehind_27 : decode cX0_isBehind 27 = .ok (.iload_n 1, 1) := dk_27 (dk_at dksX0_isBehind_1 3 rfl rfl)
theorem dX0_isBehind_28 : decode cX0_isBehind 28 = .ok (.aaload, 1) := dk_50 (dk_at dksX0_isBehind_1 4 rfl rfl)
theorem dX0_isBehind_29 : decode cX0_isBehind 29 = .ok (.aload_n 0, 1) := dk_42 (dk_at dksX0_isBehind_1 5 rfl rfl)
theorem dX0_isBehind_30 : decode cX0_isBehind 30 = .ok (.getfield 18, 3) := dk_180 0 18 (dk_at dksX0_isBehind_1 6 rfl rfl)
theorem dX0_isBehind_33 : decode cX0_isBehind 33 = .ok (.iload_n 2, 1) := dk_28 (dk_at dksX0_isBehind_1 9 rfl rfl)
theorem dX0_isBehind_34 : decode cX0_isBehind 34 = .ok (.aaload, 1) := dk_50 (dk_at dksX0_isBehind_1 10 rfl rfl)
theorem dX0_isBehind_35 : decode cX0_isBehind 35 = .ok (.invokevirtual 162, 3) := dk_182 0 162 (dk_at dksX0_isBehind_1 11 rfl rfl)
theorem dX0_isBehind_38 : decode cX0_isBehind 38 = .ok (.ifCond .eq 7, 3) := dk_153 0 7 (dk_at dksX0_isBehind_1 14 rfl rfl)
theorem dX0_isBehind_41 : decode cX0_isBehind 41 = .ok (.iconst 1, 1) := dk_4 (dk_at dksX0_isBehind_1 17 rfl rfl)
theorem dX0_isBehind_42 : decode cX0_isBehind 42 = .ok (.goto 4, 3) := dk_167 0 4 (dk_at dksX0_isBehind_1 18 rfl rfl)
theorem dX0_isBehind_45 : decode cX0_isBehind 45 = .ok (.iconst 0, 1) := dk_3 (dk_at dksX0_isBehind_1 21 rfl rfl)
theorem dX0_isBehind_46 : decode cX0_isBehind 46 = .ok (.ireturn, 1) := dk_172 (dk_at dksX0_isBehind_1 22 rfl rfl)
abbrev cX0_push : ByteArray := prog_1_method_14_code
def yX0_push : MethodName := ⟨RX0, "push", "(III)I"⟩
def dkwX0_push_5 : List UInt8 := [21, 4, 172]
abbrev dktX0_push_5 : List UInt8 := dkwX0_push_5 ++ []
def dkwX0_push_4 : List UInt8 := [42, 182, 0, 119, 42, 180, 0, 18, 27, 42, 180, 0, 18, 27, 50, 28, 29, 21, 4, 104, 182, 0, 139, 83]
abbrev dktX0_push_4 : List UInt8 := dkwX0_push_4 ++ dktX0_push_5
def dkwX0_push_3 : List UInt8 := [132, 4, 1, 42, 180, 0, 18, 27, 50, 28, 29, 21, 4, 4, 96, 104, 182, 0, 139, 58, 5, 167, 255, 216]
abbrev dktX0_push_3 : List UInt8 := dkwX0_push_3 ++ dktX0_push_4
def dkwX0_push_2 : List UInt8 := [182, 0, 139, 58, 5, 25, 5, 182, 0, 7, 153, 0, 38, 42, 25, 5, 182, 0, 115, 16, 150, 160, 0, 27]
abbrev dktX0_push_2 : List UInt8 := dkwX0_push_2 ++ dktX0_push_3
def dkwX0_push_1 : List UInt8 := [159, 0, 11, 29, 2, 159, 0, 6, 16, 154, 172, 3, 54, 4, 42, 180, 0, 18, 27, 50, 28, 29]
abbrev dktX0_push_1 : List UInt8 := dkwX0_push_1 ++ dktX0_push_2
def dkwX0_push_0 : List UInt8 := [42, 27, 182, 0, 122, 154, 0, 6, 16, 155, 172, 28, 3, 5, 184, 0, 68, 153, 0, 13, 29, 4]
abbrev dktX0_push_0 : List UInt8 := dkwX0_push_0 ++ dktX0_push_1
theorem dksX0_push_0 : cX0_push.data.toList.drop 0 = dktX0_push_0 := by decide +kernel
theorem dksX0_push_1 : cX0_push.data.toList.drop 22 = dktX0_push_1 := dk_seg dksX0_push_0 22 rfl rfl
theorem dksX0_push_2 : cX0_push.data.toList.drop 44 = dktX0_push_2 := dk_seg dksX0_push_1 22 rfl rfl
theorem dksX0_push_3 : cX0_push.data.toList.drop 68 = dktX0_push_3 := dk_seg dksX0_push_2 24 rfl rfl
theorem dksX0_push_4 : cX0_push.data.toList.drop 92 = dktX0_push_4 := dk_seg dksX0_push_3 24 rfl rfl
theorem dksX0_push_5 : cX0_push.data.toList.drop 116 = dktX0_push_5 := dk_seg dksX0_push_4 24 rfl rfl
theorem dX0_push_0 : decode cX0_push 0 = .ok (.aload_n 0, 1) := dk_42 (dk_at dksX0_push_0 0 rfl rfl)
theorem dX0_push_1 : decode cX0_push 1 = .ok (.iload_n 1, 1) := dk_27 (dk_at dksX0_push_0 1 rfl rfl)
theorem dX0_push_2 : decode cX0_push 2 = .ok (.invokevirtual 122, 3) := dk_182 0 122 (dk_at dksX0_push_0 2 rfl rfl)
theorem dX0_push_5 : decode cX0_push 5 = .ok (.ifCond .ne 6, 3) := dk_154 0 6 (dk_at dksX0_push_0 5 rfl rfl)
theorem dX0_push_8 : decode cX0_push 8 = .ok (.bipush (-101), 2) := dk_16 155 (dk_at dksX0_push_0 8 rfl rfl)
theorem dX0_push_10 : decode cX0_push 10 = .ok (.ireturn, 1) := dk_172 (dk_at dksX0_push_0 10 rfl rfl)
theorem dX0_push_11 : decode cX0_push 11 = .ok (.iload_n 2, 1) := dk_28 (dk_at dksX0_push_0 11 rfl rfl)
theorem dX0_push_12 : decode cX0_push 12 = .ok (.iconst 0, 1) := dk_3 (dk_at dksX0_push_0 12 rfl rfl)
theorem dX0_push_13 : decode cX0_push 13 = .ok (.iconst 2, 1) := dk_5 (dk_at dksX0_push_0 13 rfl rfl)
theorem dX0_push_14 : decode cX0_push 14 = .ok (.invokestatic 68, 3) := dk_184 0 68 (dk_at dksX0_push_0 14 rfl rfl)
theorem dX0_push_17 : decode cX0_push 17 = .ok (.ifCond .eq 13, 3) := dk_153 0 13 (dk_at dksX0_push_0 17 rfl rfl)
theorem dX0_push_20 : decode cX0_push 20 = .ok (.iload_n 3, 1) := dk_29 (dk_at dksX0_push_0 20 rfl rfl)
theorem dX0_push_21 : decode cX0_push 21 = .ok (.iconst 1, 1) := dk_4 (dk_at dksX0_push_0 21 rfl rfl)
theorem dX0_push_22 : decode cX0_push 22 = .ok (.if_icmp .eq 11, 3) := dk_159 0 11 (dk_at dksX0_push_1 0 rfl rfl)
theorem dX0_push_25 : decode cX0_push 25 = .ok (.iload_n 3, 1) := dk_29 (dk_at dksX0_push_1 3 rfl rfl)
theorem dX0_push_26 : decode cX0_push 26 = .ok (.iconst (-1), 1) := dk_2 (dk_at dksX0_push_1 4 rfl rfl)
theorem dX0_push_27 : decode cX0_push 27 = .ok (.if_icmp .eq 6, 3) := dk_159 0 6 (dk_at dksX0_push_1 5 rfl rfl)
theorem dX0_push_30 : decode cX0_push 30 = .ok (.bipush (-102), 2) := dk_16 154 (dk_at dksX0_push_1 8 rfl rfl)
theorem dX0_push_32 : decode cX0_push 32 = .ok (.ireturn, 1) := dk_172 (dk_at dksX0_push_1 10 rfl rfl)
theorem dX0_push_33 : decode cX0_push 33 = .ok (.iconst 0, 1) := dk_3 (dk_at dksX0_push_1 11 rfl rfl)
theorem dX0_push_34 : decode cX0_push 34 = .ok (.istore 4, 2) := dk_54 4 (dk_at dksX0_push_1 12 rfl rfl)
theorem dX0_push_36 : decode cX0_push 36 = .ok (.aload_n 0, 1) := dk_42 (dk_at dksX0_push_1 14 rfl rfl)
theorem dX0_push_37 : decode cX0_push 37 = .ok (.getfield 18, 3) := dk_180 0 18 (dk_at dksX0_push_1 15 rfl rfl)
theorem dX0_push_40 : decode cX0_push 40 = .ok (.iload_n 1, 1) := dk_27 (dk_at dksX0_push_1 18 rfl rfl)
theorem dX0_push_41 : decode cX0_push 41 = .ok (.aaload, 1) := dk_50 (dk_at dksX0_push_1 19 rfl rfl)
theorem dX0_push_42 : decode cX0_push 42 = .ok (.iload_n 2, 1) := dk_28 (dk_at dksX0_push_1 20 rfl rfl)
theorem dX0_push_43 : decode cX0_push 43 = .ok (.iload_n 3, 1) := dk_29 (dk_at dksX0_push_1 21 rfl rfl)
theorem dX0_push_44 : decode cX0_push 44 = .ok (.invokevirtual 139, 3) := dk_182 0 139 (dk_at dksX0_push_2 0 rfl rfl)
theorem dX0_push_47 : decode cX0_push 47 = .ok (.astore 5, 2) := dk_58 5 (dk_at dksX0_push_2 3 rfl rfl)
theorem dX0_push_49 : decode cX0_push 49 = .ok (.aload 5, 2) := dk_25 5 (dk_at dksX0_push_2 5 rfl rfl)
theorem dX0_push_51 : decode cX0_push 51 = .ok (.invokevirtual 7, 3) := dk_182 0 7 (dk_at dksX0_push_2 7 rfl rfl)
theorem dX0_push_54 : decode cX0_push 54 = .ok (.ifCond .eq 38, 3) := dk_153 0 38 (dk_at dksX0_push_2 10 rfl rfl)
theorem dX0_push_57 : decode cX0_push 57 = .ok (.aload_n 0, 1) := dk_42 (dk_at dksX0_push_2 13 rfl rfl)
theorem dX0_push_58 : decode cX0_push 58 = .ok (.aload 5, 2) := dk_25 5 (dk_at dksX0_push_2 14 rfl rfl)
theorem dX0_push_60 : decode cX0_push 60 = .ok (.invokevirtual 115, 3) := dk_182 0 115 (dk_at dksX0_push_2 16 rfl rfl)
theorem dX0_push_63 : decode cX0_push 63 = .ok (.bipush (-106), 2) := dk_16 150 (dk_at dksX0_push_2 19 rfl rfl)
theorem dX0_push_65 : decode cX0_push 65 = .ok (.if_icmp .ne 27, 3) := dk_160 0 27 (dk_at dksX0_push_2 21 rfl rfl)
theorem dX0_push_68 : decode cX0_push 68 = .ok (.iinc 4 1, 3) := dk_132 4 1 (dk_at dksX0_push_3 0 rfl rfl)
theorem dX0_push_71 : decode cX0_push 71 = .ok (.aload_n 0, 1) := dk_42 (dk_at dksX0_push_3 3 rfl rfl)
theorem dX0_push_72 : decode cX0_push 72 = .ok (.getfield 18, 3) := dk_180 0 18 (dk_at dksX0_push_3 4 rfl rfl)
theorem dX0_push_75 : decode cX0_push 75 = .ok (.iload_n 1, 1) := dk_27 (dk_at dksX0_push_3 7 rfl rfl)
theorem dX0_push_76 : decode cX0_push 76 = .ok (.aaload, 1) := dk_50 (dk_at dksX0_push_3 8 rfl rfl)
theorem dX0_push_77 : decode cX0_push 77 = .ok (.iload_n 2, 1) := dk_28 (dk_at dksX0_push_3 9 rfl rfl)
theorem dX0_push_78 : decode cX0_push 78 = .ok (.iload_n 3, 1) := dk_29 (dk_at dksX0_push_3 10 rfl rfl)
theorem dX0_push_79 : decode cX0_push 79 = .ok (.iload 4, 2) := dk_21 4 (dk_at dksX0_push_3 11 rfl rfl)
theorem dX0_push_81 : decode cX0_push 81 = .ok (.iconst 1, 1) := dk_4 (dk_at dksX0_push_3 13 rfl rfl)
theorem dX0_push_82 : decode cX0_push 82 = .ok (.iadd, 1) := dk_96 (dk_at dksX0_push_3 14 rfl rfl)
theorem dX0_push_83 : decode cX0_push 83 = .ok (.imul, 1) := dk_104 (dk_at dksX0_push_3 15 rfl rfl)
theorem dX0_push_84 : decode cX0_push 84 = .ok (.invokevirtual 139, 3) := dk_182 0 139 (dk_at dksX0_push_3 16 rfl rfl)
theorem dX0_push_87 : decode cX0_push 87 = .ok (.astore 5, 2) := dk_58 5 (dk_at dksX0_push_3 19 rfl rfl)
theorem dX0_push_89 : decode cX0_push 89 = .ok (.goto (-40), 3) := dk_167 255 216 (dk_at dksX0_push_3 21 rfl rfl)
theorem dX0_push_92 : decode cX0_push 92 = .ok (.aload_n 0, 1) := dk_42 (dk_at dksX0_push_4 0 rfl rfl)
theorem dX0_push_93 : decode cX0_push 93 = .ok (.invokevirtual 119, 3) := dk_182 0 119 (dk_at dksX0_push_4 1 rfl rfl)
theorem dX0_push_96 : decode cX0_push 96 = .ok (.aload_n 0, 1) := dk_42 (dk_at dksX0_push_4 4 rfl rfl)
theorem dX0_push_97 : decode cX0_push 97 = .ok (.getfield 18, 3) := dk_180 0 18 (dk_at dksX0_push_4 5 rfl rfl)
theorem dX0_push_100 : decode cX0_push 100 = .ok (.iload_n 1, 1) := dk_27 (dk_at dksX0_push_4 8 rfl rfl)
theorem dX0_push_101 : decode cX0_push 101 = .ok (.aload_n 0, 1) := dk_42 (dk_at dksX0_push_4 9 rfl rfl)
theorem dX0_push_102 : decode cX0_push 102 = .ok (.getfield 18, 3) := dk_180 0 18 (dk_at dksX0_push_4 10 rfl rfl)
theorem dX0_push_105 : decode cX0_push 105 = .ok (.iload_n 1, 1) := dk_27 (dk_at dksX0_push_4 13 rfl rfl)
theorem dX0_push_106 : decode cX0_push 106 = .ok (.aaload, 1) := dk_50 (dk_at dksX0_push_4 14 rfl rfl)
theorem dX0_push_107 : decode cX0_push 107 = .ok (.iload_n 2, 1) := dk_28 (dk_at dksX0_push_4 15 rfl rfl)
theorem dX0_push_108 : decode cX0_push 108 = .ok (.iload_n 3, 1) := dk_29 (dk_at dksX0_push_4 16 rfl rfl)
theorem dX0_push_109 : decode cX0_push 109 = .ok (.iload 4, 2) := dk_21 4 (dk_at dksX0_push_4 17 rfl rfl)
theorem dX0_push_111 : decode cX0_push 111 = .ok (.imul, 1) := dk_104 (dk_at dksX0_push_4 19 rfl rfl)
theorem dX0_push_112 : decode cX0_push 112 = .ok (.invokevirtual 139, 3) := dk_182 0 139 (dk_at dksX0_push_4 20 rfl rfl)
theorem dX0_push_115 : decode cX0_push 115 = .ok (.aastore, 1) := dk_83 (dk_at dksX0_push_4 23 rfl rfl)
theorem dX0_push_116 : decode cX0_push 116 = .ok (.iload 4, 2) := dk_21 4 (dk_at dksX0_push_5 0 rfl rfl)
theorem dX0_push_118 : decode cX0_push 118 = .ok (.ireturn, 1) := dk_172 (dk_at dksX0_push_5 2 rfl rfl)
abbrev cX0_turn : ByteArray := prog_1_method_15_code
def yX0_turn : MethodName := ⟨RX0, "turn", "()I"⟩
def dkwX0_turn_2 : List UInt8 := [182, 0, 126, 172]
abbrev dktX0_turn_2 : List UInt8 := dkwX0_turn_2 ++ []
def dkwX0_turn_1 : List UInt8 := [199, 0, 7, 1, 167, 0, 12, 42, 180, 0, 18, 27, 50, 182, 0, 143, 83, 132, 1, 1, 167, 255, 219, 42]
abbrev dktX0_turn_1 : List UInt8 := dkwX0_turn_1 ++ dktX0_turn_2
def dkwX0_turn_0 : List UInt8 := [42, 182, 0, 119, 3, 60, 27, 16, 12, 162, 0, 37, 42, 180, 0, 18, 27, 42, 180, 0, 18, 27, 50]
abbrev dktX0_turn_0 : List UInt8 := dkwX0_turn_0 ++ dktX0_turn_1
theorem dksX0_turn_0 : cX0_turn.data.toList.drop 0 = dktX0_turn_0 := by decide +kernel
theorem dksX0_turn_1 : cX0_turn.data.toList.drop 23 = dktX0_turn_1 := dk_seg dksX0_turn_0 23 rfl rfl
theorem dksX0_turn_2 : cX0_turn.data.toList.drop 47 = dktX0_turn_2 := dk_seg dksX0_turn_1 24 rfl rfl
theorem dX0_turn_0 : decode cX0_turn 0 = .ok (.aload_n 0, 1) := dk_42 (dk_at dksX0_turn_0 0 rfl rfl)
theorem dX0_turn_1 : decode cX0_turn 1 = .ok (.invokevirtual 119, 3) := dk_182 0 119 (dk_at dksX0_turn_0 1 rfl rfl)
theorem dX0_turn_4 : decode cX0_turn 4 = .ok (.iconst 0, 1) := dk_3 (dk_at dksX0_turn_0 4 rfl rfl)
theorem dX0_turn_5 : decode cX0_turn 5 = .ok (.istore_n 1, 1) := dk_60 (dk_at dksX0_turn_0 5 rfl rfl)
theorem dX0_turn_6 : decode cX0_turn 6 = .ok (.iload_n 1, 1) := dk_27 (dk_at dksX0_turn_0 6 rfl rfl)
theorem dX0_turn_7 : decode cX0_turn 7 = .ok (.bipush 12, 2) := dk_16 12 (dk_at dksX0_turn_0 7 rfl rfl)
theorem dX0_turn_9 : decode cX0_turn 9 = .ok (.if_icmp .ge 37, 3) := dk_162 0 37 (dk_at dksX0_turn_0 9 rfl rfl)
theorem dX0_turn_12 : decode cX0_turn 12 = .ok (.aload_n 0, 1) := dk_42 (dk_at dksX0_turn_0 12 rfl rfl)
theorem dX0_turn_13 : decode cX0_turn 13 = .ok (.getfield 18, 3) := dk_180 0 18 (dk_at dksX0_turn_0 13 rfl rfl)
theorem dX0_turn_16 : decode cX0_turn 16 = .ok (.iload_n 1, 1) := dk_27 (dk_at dksX0_turn_0 16 rfl rfl)
theorem dX0_turn_17 : decode cX0_turn 17 = .ok (.aload_n 0, 1) := dk_42 (dk_at dksX0_turn_0 17 rfl rfl)
theorem dX0_turn_18 : decode cX0_turn 18 = .ok (.getfield 18, 3) := dk_180 0 18 (dk_at dksX0_turn_0 18 rfl rfl)
theorem dX0_turn_21 : decode cX0_turn 21 = .ok (.iload_n 1, 1) := dk_27 (dk_at dksX0_turn_0 21 rfl rfl)
theorem dX0_turn_22 : decode cX0_turn 22 = .ok (.aaload, 1) := dk_50 (dk_at dksX0_turn_0 22 rfl rfl)
theorem dX0_turn_23 : decode cX0_turn 23 = .ok (.ifnonnull 7, 3) := dk_199 0 7 (dk_at dksX0_turn_1 0 rfl rfl)
theorem dX0_turn_26 : decode cX0_turn 26 = .ok (.aconst_null, 1) := dk_1 (dk_at dksX0_turn_1 3 rfl rfl)
theorem dX0_turn_27 : decode cX0_turn 27 = .ok (.goto 12, 3) := dk_167 0 12 (dk_at dksX0_turn_1 4 rfl rfl)
theorem dX0_turn_30 : decode cX0_turn 30 = .ok (.aload_n 0, 1) := dk_42 (dk_at dksX0_turn_1 7 rfl rfl)
theorem dX0_turn_31 : decode cX0_turn 31 = .ok (.getfield 18, 3) := dk_180 0 18 (dk_at dksX0_turn_1 8 rfl rfl)
theorem dX0_turn_34 : decode cX0_turn 34 = .ok (.iload_n 1, 1) := dk_27 (dk_at dksX0_turn_1 11 rfl rfl)
theorem dX0_turn_35 : decode cX0_turn 35 = .ok (.aaload, 1) := dk_50 (dk_at dksX0_turn_1 12 rfl rfl)
theorem dX0_turn_36 : decode cX0_turn 36 = .ok (.invokevirtual 143, 3) := dk_182 0 143 (dk_at dksX0_turn_1 13 rfl rfl)
theorem dX0_turn_39 : decode cX0_turn 39 = .ok (.aastore, 1) := dk_83 (dk_at dksX0_turn_1 16 rfl rfl)
theorem dX0_turn_40 : decode cX0_turn 40 = .ok (.iinc 1 1, 3) := dk_132 1 1 (dk_at dksX0_turn_1 17 rfl rfl)
theorem dX0_turn_43 : decode cX0_turn 43 = .ok (.goto (-37), 3) := dk_167 255 219 (dk_at dksX0_turn_1 20 rfl rfl)
theorem dX0_turn_46 : decode cX0_turn 46 = .ok (.aload_n 0, 1) := dk_42 (dk_at dksX0_turn_1 23 rfl rfl)
theorem dX0_turn_47 : decode cX0_turn 47 = .ok (.invokevirtual 126, 3) := dk_182 0 126 (dk_at dksX0_turn_2 0 rfl rfl)
theorem dX0_turn_50 : decode cX0_turn 50 = .ok (.ireturn, 1) := dk_172 (dk_at dksX0_turn_2 3 rfl rfl)
abbrev cX0_split : ByteArray := prog_1_method_16_code
def yX0_split : MethodName := ⟨RX0, "split", "(III)I"⟩
def dkwX0_split_4 : List UInt8 := [21, 4, 172]
abbrev dktX0_split_4 : List UInt8 := dkwX0_split_4 ++ []
def dkwX0_split_3 : List UInt8 := [25, 5, 28, 29, 182, 0, 151, 83, 42, 180, 0, 18, 21, 4, 25, 5, 21, 4, 28, 29, 182, 0, 154, 83]
abbrev dktX0_split_3 : List UInt8 := dkwX0_split_3 ++ dktX0_split_4
def dkwX0_split_2 : List UInt8 := [160, 0, 6, 16, 152, 172, 42, 182, 0, 119, 42, 180, 0, 18, 27, 50, 58, 5, 42, 180, 0, 18, 27]
abbrev dktX0_split_2 : List UInt8 := dkwX0_split_2 ++ dktX0_split_3
def dkwX0_split_1 : List UInt8 := [27, 50, 28, 29, 182, 0, 147, 154, 0, 6, 16, 154, 172, 42, 182, 0, 111, 54, 4, 21, 4, 16, 12]
abbrev dktX0_split_1 : List UInt8 := dkwX0_split_1 ++ dktX0_split_2
def dkwX0_split_0 : List UInt8 := [42, 27, 182, 0, 122, 154, 0, 6, 16, 155, 172, 28, 3, 5, 184, 0, 68, 153, 0, 17, 42, 180, 0, 18]
abbrev dktX0_split_0 : List UInt8 := dkwX0_split_0 ++ dktX0_split_1
theorem dksX0_split_0 : cX0_split.data.toList.drop 0 = dktX0_split_0 := by decide +kernel
theorem dksX0_split_1 : cX0_split.data.toList.drop 24 = dktX0_split_1 := dk_seg dksX0_split_0 24 rfl rfl
theorem dksX0_split_2 : cX0_split.data.toList.drop 47 = dktX0_split_2 := dk_seg dksX0_split_1 23 rfl rfl
theorem dksX0_split_3 : cX0_split.data.toList.drop 70 = dktX0_split_3 := dk_seg dksX0_split_2 23 rfl rfl
theorem dksX0_split_4 : cX0_split.data.toList.drop 94 = dktX0_split_4 := dk_seg dksX0_split_3 24 rfl rfl
theorem dX0_split_0 : decode cX0_split 0 = .ok (.aload_n 0, 1) := dk_42 (dk_at dksX0_split_0 0 rfl rfl)
theorem dX0_split_1 : decode cX0_split 1 = .ok (.iload_n 1, 1) := dk_27 (dk_at dksX0_split_0 1 rfl rfl)
theorem dX0_split_2 : decode cX0_split 2 = .ok (.invokevirtual 122, 3) := dk_182 0 122 (dk_at dksX0_split_0 2 rfl rfl)
theorem dX0_split_5 : decode cX0_split 5 = .ok (.ifCond .ne 6, 3) := dk_154 0 6 (dk_at dksX0_split_0 5 rfl rfl)
theorem dX0_split_8 : decode cX0_split 8 = .ok (.bipush (-101), 2) := dk_16 155 (dk_at dksX0_split_0 8 rfl rfl)
theorem dX0_split_10 : decode cX0_split 10 = .ok (.ireturn, 1) := dk_172 (dk_at dksX0_split_0 10 rfl rfl)
theorem dX0_split_11 : decode cX0_split 11 = .ok (.iload_n 2, 1) := dk_28 (dk_at dksX0_split_0 11 rfl rfl)
theorem dX0_split_12 : decode cX0_split 12 = .ok (.iconst 0, 1) := dk_3 (dk_at dksX0_split_0 12 rfl rfl)
theorem dX0_split_13 : decode cX0_split 13 = .ok (.iconst 2, 1) := dk_5 (dk_at dksX0_split_0 13 rfl rfl)
theorem dX0_split_14 : decode cX0_split 14 = .ok (.invokestatic 68, 3) := dk_184 0 68 (dk_at dksX0_split_0 14 rfl rfl)
theorem dX0_split_17 : decode cX0_split 17 = .ok (.ifCond .eq 17, 3) := dk_153 0 17 (dk_at dksX0_split_0 17 rfl rfl)
theorem dX0_split_20 : decode cX0_split 20 = .ok (.aload_n 0, 1) := dk_42 (dk_at dksX0_split_0 20 rfl rfl)
theorem dX0_split_21 : decode cX0_split 21 = .ok (.getfield 18, 3) := dk_180 0 18 (dk_at dksX0_split_0 21 rfl rfl)
theorem dX0_split_24 : decode cX0_split 24 = .ok (.iload_n 1, 1) := dk_27 (dk_at dksX0_split_1 0 rfl rfl)
theorem dX0_split_25 : decode cX0_split 25 = .ok (.aaload, 1) := dk_50 (dk_at dksX0_split_1 1 rfl rfl)
theorem dX0_split_26 : decode cX0_split 26 = .ok (.iload_n 2, 1) := dk_28 (dk_at dksX0_split_1 2 rfl rfl)
theorem dX0_split_27 : decode cX0_split 27 = .ok (.iload_n 3, 1) := dk_29 (dk_at dksX0_split_1 3 rfl rfl)
theorem dX0_split_28 : decode cX0_split 28 = .ok (.invokevirtual 147, 3) := dk_182 0 147 (dk_at dksX0_split_1 4 rfl rfl)
theorem dX0_split_31 : decode cX0_split 31 = .ok (.ifCond .ne 6, 3) := dk_154 0 6 (dk_at dksX0_split_1 7 rfl rfl)
theorem dX0_split_34 : decode cX0_split 34 = .ok (.bipush (-102), 2) := dk_16 154 (dk_at dksX0_split_1 10 rfl rfl)
theorem dX0_split_36 : decode cX0_split 36 = .ok (.ireturn, 1) := dk_172 (dk_at dksX0_split_1 12 rfl rfl)
theorem dX0_split_37 : decode cX0_split 37 = .ok (.aload_n 0, 1) := dk_42 (dk_at dksX0_split_1 13 rfl rfl)
theorem dX0_split_38 : decode cX0_split 38 = .ok (.invokevirtual 111, 3) := dk_182 0 111 (dk_at dksX0_split_1 14 rfl rfl)
theorem dX0_split_41 : decode cX0_split 41 = .ok (.istore 4, 2) := dk_54 4 (dk_at dksX0_split_1 17 rfl rfl)
theorem dX0_split_43 : decode cX0_split 43 = .ok (.iload 4, 2) := dk_21 4 (dk_at dksX0_split_1 19 rfl rfl)
theorem dX0_split_45 : decode cX0_split 45 = .ok (.bipush 12, 2) := dk_16 12 (dk_at dksX0_split_1 21 rfl rfl)
theorem dX0_split_47 : decode cX0_split 47 = .ok (.if_icmp .ne 6, 3) := dk_160 0 6 (dk_at dksX0_split_2 0 rfl rfl)
theorem dX0_split_50 : decode cX0_split 50 = .ok (.bipush (-104), 2) := dk_16 152 (dk_at dksX0_split_2 3 rfl rfl)
theorem dX0_split_52 : decode cX0_split 52 = .ok (.ireturn, 1) := dk_172 (dk_at dksX0_split_2 5 rfl rfl)
theorem dX0_split_53 : decode cX0_split 53 = .ok (.aload_n 0, 1) := dk_42 (dk_at dksX0_split_2 6 rfl rfl)
theorem dX0_split_54 : decode cX0_split 54 = .ok (.invokevirtual 119, 3) := dk_182 0 119 (dk_at dksX0_split_2 7 rfl rfl)
theorem dX0_split_57 : decode cX0_split 57 = .ok (.aload_n 0, 1) := dk_42 (dk_at dksX0_split_2 10 rfl rfl)
theorem dX0_split_58 : decode cX0_split 58 = .ok (.getfield 18, 3) := dk_180 0 18 (dk_at dksX0_split_2 11 rfl rfl)
theorem dX0_split_61 : decode cX0_split 61 = .ok (.iload_n 1, 1) := dk_27 (dk_at dksX0_split_2 14 rfl rfl)
theorem dX0_split_62 : decode cX0_split 62 = .ok (.aaload, 1) := dk_50 (dk_at dksX0_split_2 15 rfl rfl)
theorem dX0_split_63 : decode cX0_split 63 = .ok (.astore 5, 2) := dk_58 5 (dk_at dksX0_split_2 16 rfl rfl)
theorem dX0_split_65 : decode cX0_split 65 = .ok (.aload_n 0, 1) := dk_42 (dk_at dksX0_split_2 18 rfl rfl)
theorem dX0_split_66 : decode cX0_split 66 = .ok (.getfield 18, 3) := dk_180 0 18 (dk_at dksX0_split_2 19 rfl rfl)
theorem dX0_split_69 : decode cX0_split 69 = .ok (.iload_n 1, 1) := dk_27 (dk_at dksX0_split_2 22 rfl rfl)
theorem dX0_split_70 : decode cX0_split 70 = .ok (.aload 5, 2) := dk_25 5 (dk_at dksX0_split_3 0 rfl rfl)
theorem dX0_split_72 : decode cX0_split 72 = .ok (.iload_n 2, 1) := dk_28 (dk_at dksX0_split_3 2 rfl rfl)
theorem dX0_split_73 : decode cX0_split 73 = .ok (.iload_n 3, 1) := dk_29 (dk_at dksX0_split_3 3 rfl rfl)
theorem dX0_split_74 : decode cX0_split 74 = .ok (.invokevirtual 151, 3) := dk_182 0 151 (dk_at dksX0_split_3 4 rfl rfl)
theorem dX0_split_77 : decode cX0_split 77 = .ok (.aastore, 1) := dk_83 (dk_at dksX0_split_3 7 rfl rfl)
theorem dX0_split_78 : decode cX0_split 78 = .ok (.aload_n 0, 1) := dk_42 (dk_at dksX0_split_3 8 rfl rfl)
theorem dX0_split_79 : decode cX0_split 79 = .ok (.getfield 18, 3) := dk_180 0 18 (dk_at dksX0_split_3 9 rfl rfl)
theorem dX0_split_82 : decode cX0_split 82 = .ok (.iload 4, 2) := dk_21 4 (dk_at dksX0_split_3 12 rfl rfl)
theorem dX0_split_84 : decode cX0_split 84 = .ok (.aload 5, 2) := dk_25 5 (dk_at dksX0_split_3 14 rfl rfl)
theorem dX0_split_86 : decode cX0_split 86 = .ok (.iload 4, 2) := dk_21 4 (dk_at dksX0_split_3 16 rfl rfl)
theorem dX0_split_88 : decode cX0_split 88 = .ok (.iload_n 2, 1) := dk_28 (dk_at dksX0_split_3 18 rfl rfl)
theorem dX0_split_89 : decode cX0_split 89 = .ok (.iload_n 3, 1) := dk_29 (dk_at dksX0_split_3 19 rfl rfl)
theorem dX0_split_90 : decode cX0_split 90 = .ok (.invokevirtual 154, 3) := dk_182 0 154 (dk_at dksX0_split_3 20 rfl rfl)
theorem dX0_split_93 : decode cX0_split 93 = .ok (.aastore, 1) := dk_83 (dk_at dksX0_split_3 23 rfl rfl)
theorem dX0_split_94 : decode cX0_split 94 = .ok (.iload 4, 2) := dk_21 4 (dk_at dksX0_split_4 0 rfl rfl)
theorem dX0_split_96 : decode cX0_split 96 = .ok (.ireturn, 1) := dk_172 (dk_at dksX0_split_4 2 rfl rfl)
abbrev cX0_undo : ByteArray := prog_1_method_17_code
def yX0_undo : MethodName := ⟨RX0, "undo", "()I"⟩
def dkwX0_undo_2 : List UInt8 := [42, 180, 0, 79, 172]
abbrev dktX0_undo_2 : List UInt8 := dkwX0_undo_2 ++ []
def dkwX0_undo_1 : List UInt8 := [180, 0, 24, 42, 180, 0, 79, 50, 180, 0, 157, 182, 0, 97, 42, 180, 0, 24, 42, 180, 0, 79, 1, 83]
abbrev dktX0_undo_1 : List UInt8 := dkwX0_undo_1 ++ dktX0_undo_2
def dkwX0_undo_0 : List UInt8 := [42, 180, 0, 79, 154, 0, 6, 16, 151, 172, 42, 89, 180, 0, 79, 4, 100, 181, 0, 79, 42, 42]
abbrev dktX0_undo_0 : List UInt8 := dkwX0_undo_0 ++ dktX0_undo_1
theorem dksX0_undo_0 : cX0_undo.data.toList.drop 0 = dktX0_undo_0 := by decide +kernel
theorem dksX0_undo_1 : cX0_undo.data.toList.drop 22 = dktX0_undo_1 := dk_seg dksX0_undo_0 22 rfl rfl
theorem dksX0_undo_2 : cX0_undo.data.toList.drop 46 = dktX0_undo_2 := dk_seg dksX0_undo_1 24 rfl rfl
theorem dX0_undo_0 : decode cX0_undo 0 = .ok (.aload_n 0, 1) := dk_42 (dk_at dksX0_undo_0 0 rfl rfl)
theorem dX0_undo_1 : decode cX0_undo 1 = .ok (.getfield 79, 3) := dk_180 0 79 (dk_at dksX0_undo_0 1 rfl rfl)
theorem dX0_undo_4 : decode cX0_undo 4 = .ok (.ifCond .ne 6, 3) := dk_154 0 6 (dk_at dksX0_undo_0 4 rfl rfl)
theorem dX0_undo_7 : decode cX0_undo 7 = .ok (.bipush (-105), 2) := dk_16 151 (dk_at dksX0_undo_0 7 rfl rfl)
theorem dX0_undo_9 : decode cX0_undo 9 = .ok (.ireturn, 1) := dk_172 (dk_at dksX0_undo_0 9 rfl rfl)
theorem dX0_undo_10 : decode cX0_undo 10 = .ok (.aload_n 0, 1) := dk_42 (dk_at dksX0_undo_0 10 rfl rfl)
theorem dX0_undo_11 : decode cX0_undo 11 = .ok (.dup, 1) := dk_89 (dk_at dksX0_undo_0 11 rfl rfl)
theorem dX0_undo_12 : decode cX0_undo 12 = .ok (.getfield 79, 3) := dk_180 0 79 (dk_at dksX0_undo_0 12 rfl rfl)
theorem dX0_undo_15 : decode cX0_undo 15 = .ok (.iconst 1, 1) := dk_4 (dk_at dksX0_undo_0 15 rfl rfl)
theorem dX0_undo_16 : decode cX0_undo 16 = .ok (.isub, 1) := dk_100 (dk_at dksX0_undo_0 16 rfl rfl)
theorem dX0_undo_17 : decode cX0_undo 17 = .ok (.putfield 79, 3) := dk_181 0 79 (dk_at dksX0_undo_0 17 rfl rfl)
theorem dX0_undo_20 : decode cX0_undo 20 = .ok (.aload_n 0, 1) := dk_42 (dk_at dksX0_undo_0 20 rfl rfl)
theorem dX0_undo_21 : decode cX0_undo 21 = .ok (.aload_n 0, 1) := dk_42 (dk_at dksX0_undo_0 21 rfl rfl)
theorem dX0_undo_22 : decode cX0_undo 22 = .ok (.getfield 24, 3) := dk_180 0 24 (dk_at dksX0_undo_1 0 rfl rfl)
theorem dX0_undo_25 : decode cX0_undo 25 = .ok (.aload_n 0, 1) := dk_42 (dk_at dksX0_undo_1 3 rfl rfl)
theorem dX0_undo_26 : decode cX0_undo 26 = .ok (.getfield 79, 3) := dk_180 0 79 (dk_at dksX0_undo_1 4 rfl rfl)
theorem dX0_undo_29 : decode cX0_undo 29 = .ok (.aaload, 1) := dk_50 (dk_at dksX0_undo_1 7 rfl rfl)
theorem dX0_undo_30 : decode cX0_undo 30 = .ok (.getfield 157, 3) := dk_180 0 157 (dk_at dksX0_undo_1 8 rfl rfl)
theorem dX0_undo_33 : decode cX0_undo 33 = .ok (.invokevirtual 97, 3) := dk_182 0 97 (dk_at dksX0_undo_1 11 rfl rfl)
theorem dX0_undo_36 : decode cX0_undo 36 = .ok (.aload_n 0, 1) := dk_42 (dk_at dksX0_undo_1 14 rfl rfl)
theorem dX0_undo_37 : decode cX0_undo 37 = .ok (.getfield 24, 3) := dk_180 0 24 (dk_at dksX0_undo_1 15 rfl rfl)
theorem dX0_undo_40 : decode cX0_undo 40 = .ok (.aload_n 0, 1) := dk_42 (dk_at dksX0_undo_1 18 rfl rfl)
theorem dX0_undo_41 : decode cX0_undo 41 = .ok (.getfield 79, 3) := dk_180 0 79 (dk_at dksX0_undo_1 19 rfl rfl)
theorem dX0_undo_44 : decode cX0_undo 44 = .ok (.aconst_null, 1) := dk_1 (dk_at dksX0_undo_1 22 rfl rfl)
theorem dX0_undo_45 : decode cX0_undo 45 = .ok (.aastore, 1) := dk_83 (dk_at dksX0_undo_1 23 rfl rfl)
theorem dX0_undo_46 : decode cX0_undo 46 = .ok (.aload_n 0, 1) := dk_42 (dk_at dksX0_undo_2 0 rfl rfl)
theorem dX0_undo_47 : decode cX0_undo 47 = .ok (.getfield 79, 3) := dk_180 0 79 (dk_at dksX0_undo_2 1 rfl rfl)
theorem dX0_undo_50 : decode cX0_undo 50 = .ok (.ireturn, 1) := dk_172 (dk_at dksX0_undo_2 4 rfl rfl)
abbrev cX0_boxes : ByteArray := prog_1_method_18_code
def yX0_boxes : MethodName := ⟨RX0, "boxes", "()I"⟩
theorem dX0_boxes_0 : decode cX0_boxes 0 = .ok (.aload_n 0, 1) := by decide +kernel
theorem dX0_boxes_1 : decode cX0_boxes 1 = .ok (.invokevirtual 126, 3) := by decide +kernel
theorem dX0_boxes_4 : decode cX0_boxes 4 = .ok (.ireturn, 1) := by decide +kernel
abbrev cX0_coordinate : ByteArray := prog_1_method_19_code
def yX0_coordinate : MethodName := ⟨RX0, "coordinate", "(II)I"⟩
def dkwX0_coordinate_1 : List UInt8 := [27, 50, 28, 182, 0, 158, 167, 0, 5, 16, 154, 172]
abbrev dktX0_coordinate_1 : List UInt8 := dkwX0_coordinate_1 ++ []
def dkwX0_coordinate_0 : List UInt8 := [42, 27, 182, 0, 122, 154, 0, 6, 16, 155, 172, 28, 3, 8, 184, 0, 68, 153, 0, 16, 42, 180, 0, 18]
abbrev dktX0_coordinate_0 : List UInt8 := dkwX0_coordinate_0 ++ dktX0_coordinate_1
theorem dksX0_coordinate_0 : cX0_coordinate.data.toList.drop 0 = dktX0_coordinate_0 := by decide +kernel
theorem dksX0_coordinate_1 : cX0_coordinate.data.toList.drop 24 = dktX0_coordinate_1 := dk_seg dksX0_coordinate_0 24 rfl rfl
theorem dX0_coordinate_0 : decode cX0_coordinate 0 = .ok (.aload_n 0, 1) := dk_42 (dk_at dksX0_coordinate_0 0 rfl rfl)
theorem dX0_coordinate_1 : decode cX0_coordinate 1 = .ok (.iload_n 1, 1) := dk_27 (dk_at dksX0_coordinate_0 1 rfl rfl)
theorem dX0_coordinate_2 : decode cX0_coordinate 2 = .ok (.invokevirtual 122, 3) := dk_182 0 122 (dk_at dksX0_coordinate_0 2 rfl rfl)
theorem dX0_coordinate_5 : decode cX0_coordinate 5 = .ok (.ifCond .ne 6, 3) := dk_154 0 6 (dk_at dksX0_coordinate_0 5 rfl rfl)
theorem dX0_coordinate_8 : decode cX0_coordinate 8 = .ok (.bipush (-101), 2) := dk_16 155 (dk_at dksX0_coordinate_0 8 rfl rfl)
theorem dX0_coordinate_10 : decode cX0_coordinate 10 = .ok (.ireturn, 1) := dk_172 (dk_at dksX0_coordinate_0 10 rfl rfl)
theorem dX0_coordinate_11 : decode cX0_coordinate 11 = .ok (.iload_n 2, 1) := dk_28 (dk_at dksX0_coordinate_0 11 rfl rfl)
theorem dX0_coordinate_12 : decode cX0_coordinate 12 = .ok (.iconst 0, 1) := dk_3 (dk_at dksX0_coordinate_0 12 rfl rfl)
theorem dX0_coordinate_13 : decode cX0_coordinate 13 = .ok (.iconst 5, 1) := dk_8 (dk_at dksX0_coordinate_0 13 rfl rfl)
theorem dX0_coordinate_14 : decode cX0_coordinate 14 = .ok (.invokestatic 68, 3) := dk_184 0 68 (dk_at dksX0_coordinate_0 14 rfl rfl)
theorem dX0_coordinate_17 : decode cX0_coordinate 17 = .ok (.ifCond .eq 16, 3) := dk_153 0 16 (dk_at dksX0_coordinate_0 17 rfl rfl)
theorem dX0_coordinate_20 : decode cX0_coordinate 20 = .ok (.aload_n 0, 1) := dk_42 (dk_at dksX0_coordinate_0 20 rfl rfl)
theorem dX0_coordinate_21 : decode cX0_coordinate 21 = .ok (.getfield 18, 3) := dk_180 0 18 (dk_at dksX0_coordinate_0 21 rfl rfl)
theorem dX0_coordinate_24 : decode cX0_coordinate 24 = .ok (.iload_n 1, 1) := dk_27 (dk_at dksX0_coordinate_1 0 rfl rfl)
theorem dX0_coordinate_25 : decode cX0_coordinate 25 = .ok (.aaload, 1) := dk_50 (dk_at dksX0_coordinate_1 1 rfl rfl)
theorem dX0_coordinate_26 : decode cX0_coordinate 26 = .ok (.iload_n 2, 1) := dk_28 (dk_at dksX0_coordinate_1 2 rfl rfl)
theorem dX0_coordinate_27 : decode cX0_coordinate 27 = .ok (.invokevirtual 158, 3) := dk_182 0 158 (dk_at dksX0_coordinate_1 3 rfl rfl)
theorem dX0_coordinate_30 : decode cX0_coordinate 30 = .ok (.goto 5, 3) := dk_167 0 5 (dk_at dksX0_coordinate_1 6 rfl rfl)
theorem dX0_coordinate_33 : decode cX0_coordinate 33 = .ok (.bipush (-102), 2) := dk_16 154 (dk_at dksX0_coordinate_1 9 rfl rfl)
theorem dX0_coordinate_35 : decode cX0_coordinate 35 = .ok (.ireturn, 1) := dk_172 (dk_at dksX0_coordinate_1 11 rfl rfl)
abbrev cX0_met : ByteArray := prog_1_method_20_code
def yX0_met : MethodName := ⟨RX0, "met", "(IIIIII)I"⟩
def dkwX0_met_3 : List UInt8 := [89, 8, 21, 6, 79, 183, 0, 3, 182, 0, 115, 167, 0, 5, 16, 154, 172]
abbrev dktX0_met_3 : List UInt8 := dkwX0_met_3 ++ []
def dkwX0_met_2 : List UInt8 := [188, 10, 89, 3, 27, 79, 89, 4, 28, 79, 89, 5, 29, 79, 89, 6, 21, 4, 79, 89, 7, 21, 5, 79]
abbrev dktX0_met_2 : List UInt8 := dkwX0_met_2 ++ dktX0_met_3
def dkwX0_met_1 : List UInt8 := [21, 5, 79, 89, 8, 21, 6, 79, 184, 0, 107, 153, 0, 50, 42, 187, 0, 1, 89, 16, 12, 16, 6]
abbrev dktX0_met_1 : List UInt8 := dkwX0_met_1 ++ dktX0_met_2
def dkwX0_met_0 : List UInt8 := [16, 6, 188, 10, 89, 3, 27, 79, 89, 4, 28, 79, 89, 5, 29, 79, 89, 6, 21, 4, 79, 89, 7]
abbrev dktX0_met_0 : List UInt8 := dkwX0_met_0 ++ dktX0_met_1
theorem dksX0_met_0 : cX0_met.data.toList.drop 0 = dktX0_met_0 := by decide +kernel
theorem dksX0_met_1 : cX0_met.data.toList.drop 23 = dktX0_met_1 := dk_seg dksX0_met_0 23 rfl rfl
theorem dksX0_met_2 : cX0_met.data.toList.drop 46 = dktX0_met_2 := dk_seg dksX0_met_1 23 rfl rfl
theorem dksX0_met_3 : cX0_met.data.toList.drop 70 = dktX0_met_3 := dk_seg dksX0_met_2 24 rfl rfl
theorem dX0_met_0 : decode cX0_met 0 = .ok (.bipush 6, 2) := dk_16 6 (dk_at dksX0_met_0 0 rfl rfl)
theorem dX0_met_2 : decode cX0_met 2 = .ok (.newarray .int, 2) := dk_188_10 (dk_at dksX0_met_0 2 rfl rfl)
theorem dX0_met_4 : decode cX0_met 4 = .ok (.dup, 1) := dk_89 (dk_at dksX0_met_0 4 rfl rfl)
theorem dX0_met_5 : decode cX0_met 5 = .ok (.iconst 0, 1) := dk_3 (dk_at dksX0_met_0 5 rfl rfl)
theorem dX0_met_6 : decode cX0_met 6 = .ok (.iload_n 1, 1) := dk_27 (dk_at dksX0_met_0 6 rfl rfl)
theorem dX0_met_7 : decode cX0_met 7 = .ok (.iastore, 1) := dk_79 (dk_at dksX0_met_0 7 rfl rfl)
theorem dX0_met_8 : decode cX0_met 8 = .ok (.dup, 1) := dk_89 (dk_at dksX0_met_0 8 rfl rfl)
theorem dX0_met_9 : decode cX0_met 9 = .ok (.iconst 1, 1) := dk_4 (dk_at dksX0_met_0 9 rfl rfl)
theorem dX0_met_10 : decode cX0_met 10 = .ok (.iload_n 2, 1) := dk_28 (dk_at dksX0_met_0 10 rfl rfl)
theorem dX0_met_11 : decode cX0_met 11 = .ok (.iastore, 1) := dk_79 (dk_at dksX0_met_0 11 rfl rfl)
theorem dX0_met_12 : decode cX0_met 12 = .ok (.dup, 1) := dk_89 (dk_at dksX0_met_0 12 rfl rfl)
theorem dX0_met_13 : decode cX0_met 13 = .ok (.iconst 2, 1) := dk_5 (dk_at dksX0_met_0 13 rfl rfl)
theorem dX0_met_14 : decode cX0_met 14 = .ok (.iload_n 3, 1) := dk_29 (dk_at dksX0_met_0 14 rfl rfl)
theorem dX0_met_15 : decode cX0_met 15 = .ok (.iastore, 1) := dk_79 (dk_at dksX0_met_0 15 rfl rfl)
theorem dX0_met_16 : decode cX0_met 16 = .ok (.dup, 1) := dk_89 (dk_at dksX0_met_0 16 rfl rfl)
theorem dX0_met_17 : decode cX0_met 17 = .ok (.iconst 3, 1) := dk_6 (dk_at dksX0_met_0 17 rfl rfl)
theorem dX0_met_18 : decode cX0_met 18 = .ok (.iload 4, 2) := dk_21 4 (dk_at dksX0_met_0 18 rfl rfl)
theorem dX0_met_20 : decode cX0_met 20 = .ok (.iastore, 1) := dk_79 (dk_at dksX0_met_0 20 rfl rfl)
theorem dX0_met_21 : decode cX0_met 21 = .ok (.dup, 1) := dk_89 (dk_at dksX0_met_0 21 rfl rfl)
theorem dX0_met_22 : decode cX0_met 22 = .ok (.iconst 4, 1) := dk_7 (dk_at dksX0_met_0 22 rfl rfl)
theorem dX0_met_23 : decode cX0_met 23 = .ok (.iload 5, 2) := dk_21 5 (dk_at dksX0_met_1 0 rfl rfl)
theorem dX0_met_25 : decode cX0_met 25 = .ok (.iastore, 1) := dk_79 (dk_at dksX0_met_1 2 rfl rfl)
theorem dX0_met_26 : decode cX0_met 26 = .ok (.dup, 1) := dk_89 (dk_at dksX0_met_1 3 rfl rfl)
theorem dX0_met_27 : decode cX0_met 27 = .ok (.iconst 5, 1) := dk_8 (dk_at dksX0_met_1 4 rfl rfl)
theorem dX0_met_28 : decode cX0_met 28 = .ok (.iload 6, 2) := dk_21 6 (dk_at dksX0_met_1 5 rfl rfl)
theorem dX0_met_30 : decode cX0_met 30 = .ok (.iastore, 1) := dk_79 (dk_at dksX0_met_1 7 rfl rfl)
theorem dX0_met_31 : decode cX0_met 31 = .ok (.invokestatic 107, 3) := dk_184 0 107 (dk_at dksX0_met_1 8 rfl rfl)
theorem dX0_met_34 : decode cX0_met 34 = .ok (.ifCond .eq 50, 3) := dk_153 0 50 (dk_at dksX0_met_1 11 rfl rfl)
theorem dX0_met_37 : decode cX0_met 37 = .ok (.aload_n 0, 1) := dk_42 (dk_at dksX0_met_1 14 rfl rfl)
theorem dX0_met_38 : decode cX0_met 38 = .ok (.new 1, 3) := dk_187 0 1 (dk_at dksX0_met_1 15 rfl rfl)
theorem dX0_met_41 : decode cX0_met 41 = .ok (.dup, 1) := dk_89 (dk_at dksX0_met_1 18 rfl rfl)
theorem dX0_met_42 : decode cX0_met 42 = .ok (.bipush 12, 2) := dk_16 12 (dk_at dksX0_met_1 19 rfl rfl)
theorem dX0_met_44 : decode cX0_met 44 = .ok (.bipush 6, 2) := dk_16 6 (dk_at dksX0_met_1 21 rfl rfl)
theorem dX0_met_46 : decode cX0_met 46 = .ok (.newarray .int, 2) := dk_188_10 (dk_at dksX0_met_2 0 rfl rfl)
theorem dX0_met_48 : decode cX0_met 48 = .ok (.dup, 1) := dk_89 (dk_at dksX0_met_2 2 rfl rfl)
theorem dX0_met_49 : decode cX0_met 49 = .ok (.iconst 0, 1) := dk_3 (dk_at dksX0_met_2 3 rfl rfl)
theorem dX0_met_50 : decode cX0_met 50 = .ok (.iload_n 1, 1) := dk_27 (dk_at dksX0_met_2 4 rfl rfl)
theorem dX0_met_51 : decode cX0_met 51 = .ok (.iastore, 1) := dk_79 (dk_at dksX0_met_2 5 rfl rfl)
theorem dX0_met_52 : decode cX0_met 52 = .ok (.dup, 1) := dk_89 (dk_at dksX0_met_2 6 rfl rfl)
theorem dX0_met_53 : decode cX0_met 53 = .ok (.iconst 1, 1) := dk_4 (dk_at dksX0_met_2 7 rfl rfl)
theorem dX0_met_54 : decode cX0_met 54 = .ok (.iload_n 2, 1) := dk_28 (dk_at dksX0_met_2 8 rfl rfl)
theorem dX0_met_55 : decode cX0_met 55 = .ok (.iastore, 1) := dk_79 (dk_at dksX0_met_2 9 rfl rfl)
theorem dX0_met_56 : decode cX0_met 56 = .ok (.dup, 1) := dk_89 (dk_at dksX0_met_2 10 rfl rfl)
theorem dX0_met_57 : decode cX0_met 57 = .ok (.iconst 2, 1) := dk_5 (dk_at dksX0_met_2 11 rfl rfl)
theorem dX0_met_58 : decode cX0_met 58 = .ok (.iload_n 3, 1) := dk_29 (dk_at dksX0_met_2 12 rfl rfl)
theorem dX0_met_59 : decode cX0_met 59 = .ok (.iastore, 1) := dk_79 (dk_at dksX0_met_2 13 rfl rfl)
theorem dX0_met_60 : decode cX0_met 60 = .ok (.dup, 1) := dk_89 (dk_at dksX0_met_2 14 rfl rfl)
theorem dX0_met_61 : decode cX0_met 61 = .ok (.iconst 3, 1) := dk_6 (dk_at dksX0_met_2 15 rfl rfl)
theorem dX0_met_62 : decode cX0_met 62 = .ok (.iload 4, 2) := dk_21 4 (dk_at dksX0_met_2 16 rfl rfl)
theorem dX0_met_64 : decode cX0_met 64 = .ok (.iastore, 1) := dk_79 (dk_at dksX0_met_2 18 rfl rfl)
theorem dX0_met_65 : decode cX0_met 65 = .ok (.dup, 1) := dk_89 (dk_at dksX0_met_2 19 rfl rfl)
theorem dX0_met_66 : decode cX0_met 66 = .ok (.iconst 4, 1) := dk_7 (dk_at dksX0_met_2 20 rfl rfl)
theorem dX0_met_67 : decode cX0_met 67 = .ok (.iload 5, 2) := dk_21 5 (dk_at dksX0_met_2 21 rfl rfl)
theorem dX0_met_69 : decode cX0_met 69 = .ok (.iastore, 1) := dk_79 (dk_at dksX0_met_2 23 rfl rfl)
theorem dX0_met_70 : decode cX0_met 70 = .ok (.dup, 1) := dk_89 (dk_at dksX0_met_3 0 rfl rfl)
theorem dX0_met_71 : decode cX0_met 71 = .ok (.iconst 5, 1) := dk_8 (dk_at dksX0_met_3 1 rfl rfl)
theorem dX0_met_72 : decode cX0_met 72 = .ok (.iload 6, 2) := dk_21 6 (dk_at dksX0_met_3 2 rfl rfl)
theorem dX0_met_74 : decode cX0_met 74 = .ok (.iastore, 1) := dk_79 (dk_at dksX0_met_3 4 rfl rfl)
theorem dX0_met_75 : decode cX0_met 75 = .ok (.invokespecial 3, 3) := dk_183 0 3 (dk_at dksX0_met_3 5 rfl rfl)
theorem dX0_met_78 : decode cX0_met 78 = .ok (.invokevirtual 115, 3) := dk_182 0 115 (dk_at dksX0_met_3 8 rfl rfl)
theorem dX0_met_81 : decode cX0_met 81 = .ok (.goto 5, 3) := dk_167 0 5 (dk_at dksX0_met_3 11 rfl rfl)
theorem dX0_met_84 : decode cX0_met 84 = .ok (.bipush (-102), 2) := dk_16 154 (dk_at dksX0_met_3 14 rfl rfl)
theorem dX0_met_86 : decode cX0_met 86 = .ok (.ireturn, 1) := dk_172 (dk_at dksX0_met_3 16 rfl rfl)
abbrev cX0_compare : ByteArray := prog_1_method_22_code
def yX0_compare : MethodName := ⟨RX0, "compare", "(II)I"⟩
def dkwX0_compare_2 : List UInt8 := [172]
abbrev dktX0_compare_2 : List UInt8 := dkwX0_compare_2 ++ []
def dkwX0_compare_1 : List UInt8 := [182, 0, 165, 153, 0, 7, 2, 167, 0, 17, 42, 28, 27, 182, 0, 165, 153, 0, 7, 4, 167, 0, 4, 3]
abbrev dktX0_compare_1 : List UInt8 := dkwX0_compare_1 ++ dktX0_compare_2
def dkwX0_compare_0 : List UInt8 := [42, 27, 182, 0, 122, 153, 0, 11, 42, 28, 182, 0, 122, 154, 0, 6, 16, 155, 172, 42, 27, 28]
abbrev dktX0_compare_0 : List UInt8 := dkwX0_compare_0 ++ dktX0_compare_1
theorem dksX0_compare_0 : cX0_compare.data.toList.drop 0 = dktX0_compare_0 := by decide +kernel
theorem dksX0_compare_1 : cX0_compare.data.toList.drop 22 = dktX0_compare_1 := dk_seg dksX0_compare_0 22 rfl rfl
theorem dksX0_compare_2 : cX0_compare.data.toList.drop 46 = dktX0_compare_2 := dk_seg dksX0_compare_1 24 rfl rfl
theorem dX0_compare_0 : decode cX0_compare 0 = .ok (.aload_n 0, 1) := dk_42 (dk_at dksX0_compare_0 0 rfl rfl)
theorem dX0_compare_1 : decode cX0_compare 1 = .ok (.iload_n 1, 1) := dk_27 (dk_at dksX0_compare_0 1 rfl rfl)
theorem dX0_compare_2 : decode cX0_compare 2 = .ok (.invokevirtual 122, 3) := dk_182 0 122 (dk_at dksX0_compare_0 2 rfl rfl)
theorem dX0_compare_5 : decode cX0_compare 5 = .ok (.ifCond .eq 11, 3) := dk_153 0 11 (dk_at dksX0_compare_0 5 rfl rfl)
theorem dX0_compare_8 : decode cX0_compare 8 = .ok (.aload_n 0, 1) := dk_42 (dk_at dksX0_compare_0 8 rfl rfl)
theorem dX0_compare_9 : decode cX0_compare 9 = .ok (.iload_n 2, 1) := dk_28 (dk_at dksX0_compare_0 9 rfl rfl)
theorem dX0_compare_10 : decode cX0_compare 10 = .ok (.invokevirtual 122, 3) := dk_182 0 122 (dk_at dksX0_compare_0 10 rfl rfl)
theorem dX0_compare_13 : decode cX0_compare 13 = .ok (.ifCond .ne 6, 3) := dk_154 0 6 (dk_at dksX0_compare_0 13 rfl rfl)
theorem dX0_compare_16 : decode cX0_compare 16 = .ok (.bipush (-101), 2) := dk_16 155 (dk_at dksX0_compare_0 16 rfl rfl)
theorem dX0_compare_18 : decode cX0_compare 18 = .ok (.ireturn, 1) := dk_172 (dk_at dksX0_compare_0 18 rfl rfl)
theorem dX0_compare_19 : decode cX0_compare 19 = .ok (.aload_n 0, 1) := dk_42 (dk_at dksX0_compare_0 19 rfl rfl)
theorem dX0_compare_20 : decode cX0_compare 20 = .ok (.iload_n 1, 1) := dk_27 (dk_at dksX0_compare_0 20 rfl rfl)
theorem dX0_compare_21 : decode cX0_compare 21 = .ok (.iload_n 2, 1) := dk_28 (dk_at dksX0_compare_0 21 rfl rfl)
theorem dX0_compare_22 : decode cX0_compare 22 = .ok (.invokevirtual 165, 3) := dk_182 0 165 (dk_at dksX0_compare_1 0 rfl rfl)
theorem dX0_compare_25 : decode cX0_compare 25 = .ok (.ifCond .eq 7, 3) := dk_153 0 7 (dk_at dksX0_compare_1 3 rfl rfl)
theorem dX0_compare_28 : decode cX0_compare 28 = .ok (.iconst (-1), 1) := dk_2 (dk_at dksX0_compare_1 6 rfl rfl)
theorem dX0_compare_29 : decode cX0_compare 29 = .ok (.goto 17, 3) := dk_167 0 17 (dk_at dksX0_compare_1 7 rfl rfl)
theorem dX0_compare_32 : decode cX0_compare 32 = .ok (.aload_n 0, 1) := dk_42 (dk_at dksX0_compare_1 10 rfl rfl)
theorem dX0_compare_33 : decode cX0_compare 33 = .ok (.iload_n 2, 1) := dk_28 (dk_at dksX0_compare_1 11 rfl rfl)
theorem dX0_compare_34 : decode cX0_compare 34 = .ok (.iload_n 1, 1) := dk_27 (dk_at dksX0_compare_1 12 rfl rfl)
theorem dX0_compare_35 : decode cX0_compare 35 = .ok (.invokevirtual 165, 3) := dk_182 0 165 (dk_at dksX0_compare_1 13 rfl rfl)
theorem dX0_compare_38 : decode cX0_compare 38 = .ok (.ifCond .eq 7, 3) := dk_153 0 7 (dk_at dksX0_compare_1 16 rfl rfl)
theorem dX0_compare_41 : decode cX0_compare 41 = .ok (.iconst 1, 1) := dk_4 (dk_at dksX0_compare_1 19 rfl rfl)
theorem dX0_compare_42 : decode cX0_compare 42 = .ok (.goto 4, 3) := dk_167 0 4 (dk_at dksX0_compare_1 20 rfl rfl)
theorem dX0_compare_45 : decode cX0_compare 45 = .ok (.iconst 0, 1) := dk_3 (dk_at dksX0_compare_1 23 rfl rfl)
theorem dX0_compare_46 : decode cX0_compare 46 = .ok (.ireturn, 1) := dk_172 (dk_at dksX0_compare_2 0 rfl rfl)
abbrev cX0_behind : ByteArray := prog_1_method_24_code
def yX0_behind : MethodName := ⟨RX0, "behind", "(I)I"⟩
def dkwX0_behind_0 : List UInt8 := [42, 27, 182, 0, 122, 153, 0, 11, 42, 27, 182, 0, 167, 167, 0, 5, 16, 155, 172]
abbrev dktX0_behind_0 : List UInt8 := dkwX0_behind_0 ++ []
theorem dksX0_behind_0 : cX0_behind.data.toList.drop 0 = dktX0_behind_0 := by decide +kernel
theorem dX0_behind_0 : decode cX0_behind 0 = .ok (.aload_n 0, 1) := dk_42 (dk_at dksX0_behind_0 0 rfl rfl)
theorem dX0_behind_1 : decode cX0_behind 1 = .ok (.iload_n 1, 1) := dk_27 (dk_at dksX0_behind_0 1 rfl rfl)
theorem dX0_behind_2 : decode cX0_behind 2 = .ok (.invokevirtual 122, 3) := dk_182 0 122 (dk_at dksX0_behind_0 2 rfl rfl)
theorem dX0_behind_5 : decode cX0_behind 5 = .ok (.ifCond .eq 11, 3) := dk_153 0 11 (dk_at dksX0_behind_0 5 rfl rfl)
theorem dX0_behind_8 : decode cX0_behind 8 = .ok (.aload_n 0, 1) := dk_42 (dk_at dksX0_behind_0 8 rfl rfl)
theorem dX0_behind_9 : decode cX0_behind 9 = .ok (.iload_n 1, 1) := dk_27 (dk_at dksX0_behind_0 9 rfl rfl)
theorem dX0_behind_10 : decode cX0_behind 10 = .ok (.invokevirtual 167, 3) := dk_182 0 167 (dk_at dksX0_behind_0 10 rfl rfl)
theorem dX0_behind_13 : decode cX0_behind 13 = .ok (.goto 5, 3) := dk_167 0 5 (dk_at dksX0_behind_0 13 rfl rfl)
theorem dX0_behind_16 : decode cX0_behind 16 = .ok (.bipush (-101), 2) := dk_16 155 (dk_at dksX0_behind_0 16 rfl rfl)
theorem dX0_behind_18 : decode cX0_behind 18 = .ok (.ireturn, 1) := dk_172 (dk_at dksX0_behind_0 18 rfl rfl)
abbrev cX0_touching : ByteArray := prog_1_method_26_code
def yX0_touching : MethodName := ⟨RX0, "touching", "(II)I"⟩
def dkwX0_touching_1 : List UInt8 := [16, 150, 167, 0, 18, 42, 180, 0, 18, 27, 50, 42, 180, 0, 18, 28, 50, 182, 0, 175, 172]
abbrev dktX0_touching_1 : List UInt8 := dkwX0_touching_1 ++ []
def dkwX0_touching_0 : List UInt8 := [42, 27, 182, 0, 122, 153, 0, 11, 42, 28, 182, 0, 122, 154, 0, 6, 16, 155, 172, 27, 28, 160, 0, 8]
abbrev dktX0_touching_0 : List UInt8 := dkwX0_touching_0 ++ dktX0_touching_1
theorem dksX0_touching_0 : cX0_touching.data.toList.drop 0 = dktX0_touching_0 := by decide +kernel
theorem dksX0_touching_1 : cX0_touching.data.toList.drop 24 = dktX0_touching_1 := dk_seg dksX0_touching_0 24 rfl rfl
theorem dX0_touching_0 : decode cX0_touching 0 = .ok (.aload_n 0, 1) := dk_42 (dk_at dksX0_touching_0 0 rfl rfl)
theorem dX0_touching_1 : decode cX0_touching 1 = .ok (.iload_n 1, 1) := dk_27 (dk_at dksX0_touching_0 1 rfl rfl)
theorem dX0_touching_2 : decode cX0_touching 2 = .ok (.invokevirtual 122, 3) := dk_182 0 122 (dk_at dksX0_touching_0 2 rfl rfl)
theorem dX0_touching_5 : decode cX0_touching 5 = .ok (.ifCond .eq 11, 3) := dk_153 0 11 (dk_at dksX0_touching_0 5 rfl rfl)
theorem dX0_touching_8 : decode cX0_touching 8 = .ok (.aload_n 0, 1) := dk_42 (dk_at dksX0_touching_0 8 rfl rfl)
theorem dX0_touching_9 : decode cX0_touching 9 = .ok (.iload_n 2, 1) := dk_28 (dk_at dksX0_touching_0 9 rfl rfl)
theorem dX0_touching_10 : decode cX0_touching 10 = .ok (.invokevirtual 122, 3) := dk_182 0 122 (dk_at dksX0_touching_0 10 rfl rfl)
theorem dX0_touching_13 : decode cX0_touching 13 = .ok (.ifCond .ne 6, 3) := dk_154 0 6 (dk_at dksX0_touching_0 13 rfl rfl)
theorem dX0_touching_16 : decode cX0_touching 16 = .ok (.bipush (-101), 2) := dk_16 155 (dk_at dksX0_touching_0 16 rfl rfl)
theorem dX0_touching_18 : decode cX0_touching 18 = .ok (.ireturn, 1) := dk_172 (dk_at dksX0_touching_0 18 rfl rfl)
theorem dX0_touching_19 : decode cX0_touching 19 = .ok (.iload_n 1, 1) := dk_27 (dk_at dksX0_touching_0 19 rfl rfl)
theorem dX0_touching_20 : decode cX0_touching 20 = .ok (.iload_n 2, 1) := dk_28 (dk_at dksX0_touching_0 20 rfl rfl)
theorem dX0_touching_21 : decode cX0_touching 21 = .ok (.if_icmp .ne 8, 3) := dk_160 0 8 (dk_at dksX0_touching_0 21 rfl rfl)
theorem dX0_touching_24 : decode cX0_touching 24 = .ok (.bipush (-106), 2) := dk_16 150 (dk_at dksX0_touching_1 0 rfl rfl)
theorem dX0_touching_26 : decode cX0_touching 26 = .ok (.goto 18, 3) := dk_167 0 18 (dk_at dksX0_touching_1 2 rfl rfl)
theorem dX0_touching_29 : decode cX0_touching 29 = .ok (.aload_n 0, 1) := dk_42 (dk_at dksX0_touching_1 5 rfl rfl)
theorem dX0_touching_30 : decode cX0_touching 30 = .ok (.getfield 18, 3) := dk_180 0 18 (dk_at dksX0_touching_1 6 rfl rfl)
theorem dX0_touching_33 : decode cX0_touching 33 = .ok (.iload_n 1, 1) := dk_27 (dk_at dksX0_touching_1 9 rfl rfl)
theorem dX0_touching_34 : decode cX0_touching 34 = .ok (.aaload, 1) := dk_50 (dk_at dksX0_touching_1 10 rfl rfl)
theorem dX0_touching_35 : decode cX0_touching 35 = .ok (.aload_n 0, 1) := dk_42 (dk_at dksX0_touching_1 11 rfl rfl)
theorem dX0_touching_36 : decode cX0_touching 36 = .ok (.getfield 18, 3) := dk_180 0 18 (dk_at dksX0_touching_1 12 rfl rfl)
theorem dX0_touching_39 : decode cX0_touching 39 = .ok (.iload_n 2, 1) := dk_28 (dk_at dksX0_touching_1 15 rfl rfl)
theorem dX0_touching_40 : decode cX0_touching 40 = .ok (.aaload, 1) := dk_50 (dk_at dksX0_touching_1 16 rfl rfl)
theorem dX0_touching_41 : decode cX0_touching 41 = .ok (.invokevirtual 175, 3) := dk_182 0 175 (dk_at dksX0_touching_1 17 rfl rfl)
theorem dX0_touching_44 : decode cX0_touching 44 = .ok (.ireturn, 1) := dk_172 (dk_at dksX0_touching_1 20 rfl rfl)
abbrev cX0_cycle : ByteArray := prog_1_method_31_code
def yX0_cycle : MethodName := ⟨RX0, "cycle", "(I)I"⟩
def dkwX0_cycle_1 : List UInt8 := [185, 0, 218, 2, 0, 192, 0, 171, 182, 0, 195, 167, 0, 5, 16, 150, 172]
abbrev dktX0_cycle_1 : List UInt8 := dkwX0_cycle_1 ++ []
def dkwX0_cycle_0 : List UInt8 := [27, 156, 0, 6, 16, 154, 172, 42, 182, 0, 211, 77, 27, 44, 185, 0, 215, 1, 0, 162, 0, 19, 44, 27]
abbrev dktX0_cycle_0 : List UInt8 := dkwX0_cycle_0 ++ dktX0_cycle_1
theorem dksX0_cycle_0 : cX0_cycle.data.toList.drop 0 = dktX0_cycle_0 := by decide +kernel
theorem dksX0_cycle_1 : cX0_cycle.data.toList.drop 24 = dktX0_cycle_1 := dk_seg dksX0_cycle_0 24 rfl rfl
theorem dX0_cycle_0 : decode cX0_cycle 0 = .ok (.iload_n 1, 1) := dk_27 (dk_at dksX0_cycle_0 0 rfl rfl)
theorem dX0_cycle_1 : decode cX0_cycle 1 = .ok (.ifCond .ge 6, 3) := dk_156 0 6 (dk_at dksX0_cycle_0 1 rfl rfl)
theorem dX0_cycle_4 : decode cX0_cycle 4 = .ok (.bipush (-102), 2) := dk_16 154 (dk_at dksX0_cycle_0 4 rfl rfl)
theorem dX0_cycle_6 : decode cX0_cycle 6 = .ok (.ireturn, 1) := dk_172 (dk_at dksX0_cycle_0 6 rfl rfl)
theorem dX0_cycle_7 : decode cX0_cycle 7 = .ok (.aload_n 0, 1) := dk_42 (dk_at dksX0_cycle_0 7 rfl rfl)
theorem dX0_cycle_8 : decode cX0_cycle 8 = .ok (.invokevirtual 211, 3) := dk_182 0 211 (dk_at dksX0_cycle_0 8 rfl rfl)
theorem dX0_cycle_11 : decode cX0_cycle 11 = .ok (.astore_n 2, 1) := dk_77 (dk_at dksX0_cycle_0 11 rfl rfl)
theorem dX0_cycle_12 : decode cX0_cycle 12 = .ok (.iload_n 1, 1) := dk_27 (dk_at dksX0_cycle_0 12 rfl rfl)
theorem dX0_cycle_13 : decode cX0_cycle 13 = .ok (.aload_n 2, 1) := dk_44 (dk_at dksX0_cycle_0 13 rfl rfl)
theorem dX0_cycle_14 : decode cX0_cycle 14 = .ok (.invokeinterface 215 1, 5) := by decide +kernel
theorem dX0_cycle_19 : decode cX0_cycle 19 = .ok (.if_icmp .ge 19, 3) := dk_162 0 19 (dk_at dksX0_cycle_0 19 rfl rfl)
theorem dX0_cycle_22 : decode cX0_cycle 22 = .ok (.aload_n 2, 1) := dk_44 (dk_at dksX0_cycle_0 22 rfl rfl)
theorem dX0_cycle_23 : decode cX0_cycle 23 = .ok (.iload_n 1, 1) := dk_27 (dk_at dksX0_cycle_0 23 rfl rfl)
theorem dX0_cycle_24 : decode cX0_cycle 24 = .ok (.invokeinterface 218 2, 5) := by decide +kernel
theorem dX0_cycle_29 : decode cX0_cycle 29 = .ok (.checkcast 171, 3) := dk_192 0 171 (dk_at dksX0_cycle_1 5 rfl rfl)
theorem dX0_cycle_32 : decode cX0_cycle 32 = .ok (.invokevirtual 195, 3) := dk_182 0 195 (dk_at dksX0_cycle_1 8 rfl rfl)
theorem dX0_cycle_35 : decode cX0_cycle 35 = .ok (.goto 5, 3) := dk_167 0 5 (dk_at dksX0_cycle_1 11 rfl rfl)
theorem dX0_cycle_38 : decode cX0_cycle 38 = .ok (.bipush (-106), 2) := dk_16 150 (dk_at dksX0_cycle_1 14 rfl rfl)
theorem dX0_cycle_40 : decode cX0_cycle 40 = .ok (.ireturn, 1) := dk_172 (dk_at dksX0_cycle_1 16 rfl rfl)
abbrev cX0_shortestCycle : ByteArray := prog_1_method_30_code
def yX0_shortestCycle : MethodName := ⟨RX0, "shortestCycle", "()Ljava/util/List;"⟩
def dkwX0_shortestCycle_5 : List UInt8 := [21, 4, 182, 0, 205, 54, 4, 132, 5, 1, 167, 255, 227, 45, 176]
abbrev dktX0_shortestCycle_5 : List UInt8 := dkwX0_shortestCycle_5 ++ []
def dkwX0_shortestCycle_4 : List UInt8 := [54, 4, 3, 54, 5, 21, 5, 27, 162, 0, 29, 45, 21, 4, 184, 0, 181, 185, 0, 208, 2, 0, 87, 42]
abbrev dktX0_shortestCycle_4 : List UInt8 := dkwX0_shortestCycle_4 ++ dktX0_shortestCycle_5
def dkwX0_shortestCycle_3 : List UInt8 := [167, 255, 197, 187, 0, 45, 89, 183, 0, 47, 78, 28, 16, 150, 159, 0, 46, 42, 28, 182, 0, 201, 28]
abbrev dktX0_shortestCycle_3 : List UInt8 := dkwX0_shortestCycle_3 ++ dktX0_shortestCycle_4
def dkwX0_shortestCycle_2 : List UInt8 := [21, 4, 46, 4, 96, 27, 162, 0, 15, 42, 180, 0, 35, 21, 4, 46, 4, 96, 60, 29, 61, 132, 3, 1]
abbrev dktX0_shortestCycle_2 : List UInt8 := dkwX0_shortestCycle_2 ++ dktX0_shortestCycle_3
def dkwX0_shortestCycle_1 : List UInt8 := [29, 182, 0, 205, 54, 4, 21, 4, 16, 150, 159, 0, 34, 27, 16, 150, 159, 0, 16, 42, 180, 0, 35]
abbrev dktX0_shortestCycle_1 : List UInt8 := dkwX0_shortestCycle_1 ++ dktX0_shortestCycle_2
def dkwX0_shortestCycle_0 : List UInt8 := [42, 182, 0, 198, 16, 150, 60, 16, 150, 61, 3, 62, 29, 16, 12, 162, 0, 59, 42, 29, 182, 0, 201, 42]
abbrev dktX0_shortestCycle_0 : List UInt8 := dkwX0_shortestCycle_0 ++ dktX0_shortestCycle_1
theorem dksX0_shortestCycle_0 : cX0_shortestCycle.data.toList.drop 0 = dktX0_shortestCycle_0 := by decide +kernel
theorem dksX0_shortestCycle_1 : cX0_shortestCycle.data.toList.drop 24 = dktX0_shortestCycle_1 := dk_seg dksX0_shortestCycle_0 24 rfl rfl
theorem dksX0_shortestCycle_2 : cX0_shortestCycle.data.toList.drop 47 = dktX0_shortestCycle_2 := dk_seg dksX0_shortestCycle_1 23 rfl rfl
theorem dksX0_shortestCycle_3 : cX0_shortestCycle.data.toList.drop 71 = dktX0_shortestCycle_3 := dk_seg dksX0_shortestCycle_2 24 rfl rfl
theorem dksX0_shortestCycle_4 : cX0_shortestCycle.data.toList.drop 94 = dktX0_shortestCycle_4 := dk_seg dksX0_shortestCycle_3 23 rfl rfl
theorem dksX0_shortestCycle_5 : cX0_shortestCycle.data.toList.drop 118 = dktX0_shortestCycle_5 := dk_seg dksX0_shortestCycle_4 24 rfl rfl
theorem dX0_shortestCycle_0 : decode cX0_shortestCycle 0 = .ok (.aload_n 0, 1) := dk_42 (dk_at dksX0_shortestCycle_0 0 rfl rfl)
theorem dX0_shortestCycle_1 : decode cX0_shortestCycle 1 = .ok (.invokevirtual 198, 3) := dk_182 0 198 (dk_at dksX0_shortestCycle_0 1 rfl rfl)
theorem dX0_shortestCycle_4 : decode cX0_shortestCycle 4 = .ok (.bipush (-106), 2) := dk_16 150 (dk_at dksX0_shortestCycle_0 4 rfl rfl)
theorem dX0_shortestCycle_6 : decode cX0_shortestCycle 6 = .ok (.istore_n 1, 1) := dk_60 (dk_at dksX0_shortestCycle_0 6 rfl rfl)
theorem dX0_shortestCycle_7 : decode cX0_shortestCycle 7 = .ok (.bipush (-106), 2) := dk_16 150 (dk_at dksX0_shortestCycle_0 7 rfl rfl)
theorem dX0_shortestCycle_9 : decode cX0_shortestCycle 9 = .ok (.istore_n 2, 1) := dk_61 (dk_at dksX0_shortestCycle_0 9 rfl rfl)
theorem dX0_shortestCycle_10 : decode cX0_shortestCycle 10 = .ok (.iconst 0, 1) := dk_3 (dk_at dksX0_shortestCycle_0 10 rfl rfl)
theorem dX0_shortestCycle_11 : decode cX0_shortestCycle 11 = .ok (.istore_n 3, 1) := dk_62 (dk_at dksX0_shortestCycle_0 11 rfl rfl)
theorem dX0_shortestCycle_12 : decode cX0_shortestCycle 12 = .ok (.iload_n 3, 1) := dk_29 (dk_at dksX0_shortestCycle_0 12 rfl rfl)
theorem dX0_shortestCycle_13 : decode cX0_shortestCycle 13 = .ok (.bipush 12, 2) := dk_16 12 (dk_at dksX0_shortestCycle_0 13 rfl rfl)
theorem dX0_shortestCycle_15 : decode cX0_shortestCycle 15 = .ok (.if_icmp .ge 59, 3) := dk_162 0 59 (dk_at dksX0_shortestCycle_0 15 rfl rfl)
theorem dX0_shortestCycle_18 : decode cX0_shortestCycle 18 = .ok (.aload_n 0, 1) := dk_42 (dk_at dksX0_shortestCycle_0 18 rfl rfl)
theorem dX0_shortestCycle_19 : decode cX0_shortestCycle 19 = .ok (.iload_n 3, 1) := dk_29 (dk_at dksX0_shortestCycle_0 19 rfl rfl)
theorem dX0_shortestCycle_20 : decode cX0_shortestCycle 20 = .ok (.invokevirtual 201, 3) := dk_182 0 201 (dk_at dksX0_shortestCycle_0 20 rfl rfl)
theorem dX0_shortestCycle_23 : decode cX0_shortestCycle 23 = .ok (.aload_n 0, 1) := dk_42 (dk_at dksX0_shortestCycle_0 23 rfl rfl)
theorem dX0_shortestCycle_24 : decode cX0_shortestCycle 24 = .ok (.iload_n 3, 1) := dk_29 (dk_at dksX0_shortestCycle_1 0 rfl rfl)
theorem dX0_shortestCycle_25 : decode cX0_shortestCycle 25 = .ok (.invokevirtual 205, 3) := dk_182 0 205 (dk_at dksX0_shortestCycle_1 1 rfl rfl)
theorem dX0_shortestCycle_28 : decode cX0_shortestCycle 28 = .ok (.istore 4, 2) := dk_54 4 (dk_at dksX0_shortestCycle_1 4 rfl rfl)
theorem dX0_shortestCycle_30 : decode cX0_shortestCycle 30 = .ok (.iload 4, 2) := dk_21 4 (dk_at dksX0_shortestCycle_1 6 rfl rfl)
theorem dX0_shortestCycle_32 : decode cX0_shortestCycle 32 = .ok (.bipush (-106), 2) := dk_16 150 (dk_at dksX0_shortestCycle_1 8 rfl rfl)
theorem dX0_shortestCycle_34 : decode cX0_shortestCycle 34 = .ok (.if_icmp .eq 34, 3) := dk_159 0 34 (dk_at dksX0_shortestCycle_1 10 rfl rfl)
theorem dX0_shortestCycle_37 : decode cX0_shortestCycle 37 = .ok (.iload_n 1, 1) := dk_27 (dk_at dksX0_shortestCycle_1 13 rfl rfl)
theorem dX0_shortestCycle_38 : decode cX0_shortestCycle 38 = .ok (.bipush (-106), 2) := dk_16 150 (dk_at dksX0_shortestCycle_1 14 rfl rfl)
theorem dX0_shortestCycle_40 : decode cX0_shortestCycle 40 = .ok (.if_icmp .eq 16, 3) := dk_159 0 16 (dk_at dksX0_shortestCycle_1 16 rfl rfl)
theorem dX0_shortestCycle_43 : decode cX0_shortestCycle 43 = .ok (.aload_n 0, 1) := dk_42 (dk_at dksX0_shortestCycle_1 19 rfl rfl)
theorem dX0_shortestCycle_44 : decode cX0_shortestCycle 44 = .ok (.getfield 35, 3) := dk_180 0 35 (dk_at dksX0_shortestCycle_1 20 rfl rfl)
theorem dX0_shortestCycle_47 : decode cX0_shortestCycle 47 = .ok (.iload 4, 2) := dk_21 4 (dk_at dksX0_shortestCycle_2 0 rfl rfl)
theorem dX0_shortestCycle_49 : decode cX0_shortestCycle 49 = .ok (.iaload, 1) := dk_46 (dk_at dksX0_shortestCycle_2 2 rfl rfl)
theorem dX0_shortestCycle_50 : decode cX0_shortestCycle 50 = .ok (.iconst 1, 1) := dk_4 (dk_at dksX0_shortestCycle_2 3 rfl rfl)
theorem dX0_shortestCycle_51 : decode cX0_shortestCycle 51 = .ok (.iadd, 1) := dk_96 (dk_at dksX0_shortestCycle_2 4 rfl rfl)
theorem dX0_shortestCycle_52 : decode cX0_shortestCycle 52 = .ok (.iload_n 1, 1) := dk_27 (dk_at dksX0_shortestCycle_2 5 rfl rfl)
theorem dX0_shortestCycle_53 : decode cX0_shortestCycle 53 = .ok (.if_icmp .ge 15, 3) := dk_162 0 15 (dk_at dksX0_shortestCycle_2 6 rfl rfl)
theorem dX0_shortestCycle_56 : decode cX0_shortestCycle 56 = .ok (.aload_n 0, 1) := dk_42 (dk_at dksX0_shortestCycle_2 9 rfl rfl)
theorem dX0_shortestCycle_57 : decode cX0_shortestCycle 57 = .ok (.getfield 35, 3) := dk_180 0 35 (dk_at dksX0_shortestCycle_2 10 rfl rfl)
theorem dX0_shortestCycle_60 : decode cX0_shortestCycle 60 = .ok (.iload 4, 2) := dk_21 4 (dk_at dksX0_shortestCycle_2 13 rfl rfl)
theorem dX0_shortestCycle_62 : decode cX0_shortestCycle 62 = .ok (.iaload, 1) := dk_46 (dk_at dksX0_shortestCycle_2 15 rfl rfl)
theorem dX0_shortestCycle_63 : decode cX0_shortestCycle 63 = .ok (.iconst 1, 1) := dk_4 (dk_at dksX0_shortestCycle_2 16 rfl rfl)
theorem dX0_shortestCycle_64 : decode cX0_shortestCycle 64 = .ok (.iadd, 1) := dk_96 (dk_at dksX0_shortestCycle_2 17 rfl rfl)
theorem dX0_shortestCycle_65 : decode cX0_shortestCycle 65 = .ok (.istore_n 1, 1) := dk_60 (dk_at dksX0_shortestCycle_2 18 rfl rfl)
theorem dX0_shortestCycle_66 : decode cX0_shortestCycle 66 = .ok (.iload_n 3, 1) := dk_29 (dk_at dksX0_shortestCycle_2 19 rfl rfl)
theorem dX0_shortestCycle_67 : decode cX0_shortestCycle 67 = .ok (.istore_n 2, 1) := dk_61 (dk_at dksX0_shortestCycle_2 20 rfl rfl)
theorem dX0_shortestCycle_68 : decode cX0_shortestCycle 68 = .ok (.iinc 3 1, 3) := dk_132 3 1 (dk_at dksX0_shortestCycle_2 21 rfl rfl)
theorem dX0_shortestCycle_71 : decode cX0_shortestCycle 71 = .ok (.goto (-59), 3) := dk_167 255 197 (dk_at dksX0_shortestCycle_3 0 rfl rfl)
theorem dX0_shortestCycle_74 : decode cX0_shortestCycle 74 = .ok (.new 45, 3) := dk_187 0 45 (dk_at dksX0_shortestCycle_3 3 rfl rfl)
theorem dX0_shortestCycle_77 : decode cX0_shortestCycle 77 = .ok (.dup, 1) := dk_89 (dk_at dksX0_shortestCycle_3 6 rfl rfl)
theorem dX0_shortestCycle_78 : decode cX0_shortestCycle 78 = .ok (.invokespecial 47, 3) := dk_183 0 47 (dk_at dksX0_shortestCycle_3 7 rfl rfl)
theorem dX0_shortestCycle_81 : decode cX0_shortestCycle 81 = .ok (.astore_n 3, 1) := dk_78 (dk_at dksX0_shortestCycle_3 10 rfl rfl)
theorem dX0_shortestCycle_82 : decode cX0_shortestCycle 82 = .ok (.iload_n 2, 1) := dk_28 (dk_at dksX0_shortestCycle_3 11 rfl rfl)
theorem dX0_shortestCycle_83 : decode cX0_shortestCycle 83 = .ok (.bipush (-106), 2) := dk_16 150 (dk_at dksX0_shortestCycle_3 12 rfl rfl)
theorem dX0_shortestCycle_85 : decode cX0_shortestCycle 85 = .ok (.if_icmp .eq 46, 3) := dk_159 0 46 (dk_at dksX0_shortestCycle_3 14 rfl rfl)
theorem dX0_shortestCycle_88 : decode cX0_shortestCycle 88 = .ok (.aload_n 0, 1) := dk_42 (dk_at dksX0_shortestCycle_3 17 rfl rfl)
theorem dX0_shortestCycle_89 : decode cX0_shortestCycle 89 = .ok (.iload_n 2, 1) := dk_28 (dk_at dksX0_shortestCycle_3 18 rfl rfl)
theorem dX0_shortestCycle_90 : decode cX0_shortestCycle 90 = .ok (.invokevirtual 201, 3) := dk_182 0 201 (dk_at dksX0_shortestCycle_3 19 rfl rfl)
theorem dX0_shortestCycle_93 : decode cX0_shortestCycle 93 = .ok (.iload_n 2, 1) := dk_28 (dk_at dksX0_shortestCycle_3 22 rfl rfl)
theorem dX0_shortestCycle_94 : decode cX0_shortestCycle 94 = .ok (.istore 4, 2) := dk_54 4 (dk_at dksX0_shortestCycle_4 0 rfl rfl)
theorem dX0_shortestCycle_96 : decode cX0_shortestCycle 96 = .ok (.iconst 0, 1) := dk_3 (dk_at dksX0_shortestCycle_4 2 rfl rfl)
theorem dX0_shortestCycle_97 : decode cX0_shortestCycle 97 = .ok (.istore 5, 2) := dk_54 5 (dk_at dksX0_shortestCycle_4 3 rfl rfl)
theorem dX0_shortestCycle_99 : decode cX0_shortestCycle 99 = .ok (.iload 5, 2) := dk_21 5 (dk_at dksX0_shortestCycle_4 5 rfl rfl)
theorem dX0_shortestCycle_101 : decode cX0_shortestCycle 101 = .ok (.iload_n 1, 1) := dk_27 (dk_at dksX0_shortestCycle_4 7 rfl rfl)
theorem dX0_shortestCycle_102 : decode cX0_shortestCycle 102 = .ok (.if_icmp .ge 29, 3) := dk_162 0 29 (dk_at dksX0_shortestCycle_4 8 rfl rfl)
theorem dX0_shortestCycle_105 : decode cX0_shortestCycle 105 = .ok (.aload_n 3, 1) := dk_45 (dk_at dksX0_shortestCycle_4 11 rfl rfl)
theorem dX0_shortestCycle_106 : decode cX0_shortestCycle 106 = .ok (.iload 4, 2) := dk_21 4 (dk_at dksX0_shortestCycle_4 12 rfl rfl)
theorem dX0_shortestCycle_108 : decode cX0_shortestCycle 108 = .ok (.invokestatic 181, 3) := dk_184 0 181 (dk_at dksX0_shortestCycle_4 14 rfl rfl)
theorem dX0_shortestCycle_111 : decode cX0_shortestCycle 111 = .ok (.invokeinterface 208 2, 5) := by decide +kernel
theorem dX0_shortestCycle_116 : decode cX0_shortestCycle 116 = .ok (.pop, 1) := dk_87 (dk_at dksX0_shortestCycle_4 22 rfl rfl)
theorem dX0_shortestCycle_117 : decode cX0_shortestCycle 117 = .ok (.aload_n 0, 1) := dk_42 (dk_at dksX0_shortestCycle_4 23 rfl rfl)
theorem dX0_shortestCycle_118 : decode cX0_shortestCycle 118 = .ok (.iload 4, 2) := dk_21 4 (dk_at dksX0_shortestCycle_5 0 rfl rfl)
theorem dX0_shortestCycle_120 : decode cX0_shortestCycle 120 = .ok (.invokevirtual 205, 3) := dk_182 0 205 (dk_at dksX0_shortestCycle_5 2 rfl rfl)
theorem dX0_shortestCycle_123 : decode cX0_shortestCycle 123 = .ok (.istore 4, 2) := dk_54 4 (dk_at dksX0_shortestCycle_5 5 rfl rfl)
theorem dX0_shortestCycle_125 : decode cX0_shortestCycle 125 = .ok (.iinc 5 1, 3) := dk_132 5 1 (dk_at dksX0_shortestCycle_5 7 rfl rfl)
theorem dX0_shortestCycle_128 : decode cX0_shortestCycle 128 = .ok (.goto (-29), 3) := dk_167 255 227 (dk_at dksX0_shortestCycle_5 10 rfl rfl)
theorem dX0_shortestCycle_131 : decode cX0_shortestCycle 131 = .ok (.aload_n 3, 1) := dk_45 (dk_at dksX0_shortestCycle_5 13 rfl rfl)
theorem dX0_shortestCycle_132 : decode cX0_shortestCycle 132 = .ok (.areturn, 1) := dk_176 (dk_at dksX0_shortestCycle_5 14 rfl rfl)
abbrev cX0_layBehinds : ByteArray := prog_1_method_27_code
def yX0_layBehinds : MethodName := ⟨RX0, "layBehinds", "()V"⟩
def dkwX0_layBehinds_1 : List UInt8 := [167, 0, 8, 42, 27, 182, 0, 167, 79, 132, 1, 1, 167, 255, 223, 177]
abbrev dktX0_layBehinds_1 : List UInt8 := dkwX0_layBehinds_1 ++ []
def dkwX0_layBehinds_0 : List UInt8 := [3, 60, 27, 16, 12, 162, 0, 33, 42, 180, 0, 31, 27, 42, 180, 0, 18, 27, 50, 199, 0, 7, 3]
abbrev dktX0_layBehinds_0 : List UInt8 := dkwX0_layBehinds_0 ++ dktX0_layBehinds_1
theorem dksX0_layBehinds_0 : cX0_layBehinds.data.toList.drop 0 = dktX0_layBehinds_0 := by decide +kernel
theorem dksX0_layBehinds_1 : cX0_layBehinds.data.toList.drop 23 = dktX0_layBehinds_1 := dk_seg dksX0_layBehinds_0 23 rfl rfl
theorem dX0_layBehinds_0 : decode cX0_layBehinds 0 = .ok (.iconst 0, 1) := dk_3 (dk_at dksX0_layBehinds_0 0 rfl rfl)
theorem dX0_layBehinds_1 : decode cX0_layBehinds 1 = .ok (.istore_n 1, 1) := dk_60 (dk_at dksX0_layBehinds_0 1 rfl rfl)
theorem dX0_layBehinds_2 : decode cX0_layBehinds 2 = .ok (.iload_n 1, 1) := dk_27 (dk_at dksX0_layBehinds_0 2 rfl rfl)
theorem dX0_layBehinds_3 : decode cX0_layBehinds 3 = .ok (.bipush 12, 2) := dk_16 12 (dk_at dksX0_layBehinds_0 3 rfl rfl)
theorem dX0_layBehinds_5 : decode cX0_layBehinds 5 = .ok (.if_icmp .ge 33, 3) := dk_162 0 33 (dk_at dksX0_layBehinds_0 5 rfl rfl)
theorem dX0_layBehinds_8 : decode cX0_layBehinds 8 = .ok (.aload_n 0, 1) := dk_42 (dk_at dksX0_layBehinds_0 8 rfl rfl)
theorem dX0_layBehinds_9 : decode cX0_layBehinds 9 = .ok (.getfield 31, 3) := dk_180 0 31 (dk_at dksX0_layBehinds_0 9 rfl rfl)
theorem dX0_layBehinds_12 : decode cX0_layBehinds 12 = .ok (.iload_n 1, 1) := dk_27 (dk_at dksX0_layBehinds_0 12 rfl rfl)
theorem dX0_layBehinds_13 : decode cX0_layBehinds 13 = .ok (.aload_n 0, 1) := dk_42 (dk_at dksX0_layBehinds_0 13 rfl rfl)
theorem dX0_layBehinds_14 : decode cX0_layBehinds 14 = .ok (.getfield 18, 3) := dk_180 0 18 (dk_at dksX0_layBehinds_0 14 rfl rfl)
theorem dX0_layBehinds_17 : decode cX0_layBehinds 17 = .ok (.iload_n 1, 1) := dk_27 (dk_at dksX0_layBehinds_0 17 rfl rfl)
theorem dX0_layBehinds_18 : decode cX0_layBehinds 18 = .ok (.aaload, 1) := dk_50 (dk_at dksX0_layBehinds_0 18 rfl rfl)
theorem dX0_layBehinds_19 : decode cX0_layBehinds 19 = .ok (.ifnonnull 7, 3) := dk_199 0 7 (dk_at dksX0_layBehinds_0 19 rfl rfl)
theorem dX0_layBehinds_22 : decode cX0_layBehinds 22 = .ok (.iconst 0, 1) := dk_3 (dk_at dksX0_layBehinds_0 22 rfl rfl)
theorem dX0_layBehinds_23 : decode cX0_layBehinds 23 = .ok (.goto 8, 3) := dk_167 0 8 (dk_at dksX0_layBehinds_1 0 rfl rfl)
theorem dX0_layBehinds_26 : decode cX0_layBehinds 26 = .ok (.aload_n 0, 1) := dk_42 (dk_at dksX0_layBehinds_1 3 rfl rfl)
theorem dX0_layBehinds_27 : decode cX0_layBehinds 27 = .ok (.iload_n 1, 1) := dk_27 (dk_at dksX0_layBehinds_1 4 rfl rfl)
theorem dX0_layBehinds_28 : decode cX0_layBehinds 28 = .ok (.invokevirtual 167, 3) := dk_182 0 167 (dk_at dksX0_layBehinds_1 5 rfl rfl)
theorem dX0_layBehinds_31 : decode cX0_layBehinds 31 = .ok (.iastore, 1) := dk_79 (dk_at dksX0_layBehinds_1 8 rfl rfl)
theorem dX0_layBehinds_32 : decode cX0_layBehinds 32 = .ok (.iinc 1 1, 3) := dk_132 1 1 (dk_at dksX0_layBehinds_1 9 rfl rfl)
theorem dX0_layBehinds_35 : decode cX0_layBehinds 35 = .ok (.goto (-33), 3) := dk_167 255 223 (dk_at dksX0_layBehinds_1 12 rfl rfl)
theorem dX0_layBehinds_38 : decode cX0_layBehinds 38 = .ok (.return_, 1) := dk_177 (dk_at dksX0_layBehinds_1 15 rfl rfl)
abbrev cX0_laySteps : ByteArray := prog_1_method_28_code
def yX0_laySteps : MethodName := ⟨RX0, "laySteps", "(I)V"⟩
def dkwX0_laySteps_5 : List UInt8 := [184, 0, 181, 182, 0, 185, 87, 132, 4, 1, 167, 255, 194, 167, 255, 170, 177]
abbrev dktX0_laySteps_5 : List UInt8 := dkwX0_laySteps_5 ++ []
def dkwX0_laySteps_4 : List UInt8 := [46, 16, 150, 160, 0, 28, 42, 180, 0, 35, 21, 4, 42, 180, 0, 35, 29, 46, 4, 96, 79, 44, 21, 4]
abbrev dktX0_laySteps_4 : List UInt8 := dkwX0_laySteps_4 ++ dktX0_laySteps_5
def dkwX0_laySteps_3 : List UInt8 := [162, 0, 61, 42, 180, 0, 31, 21, 4, 46, 29, 122, 4, 126, 4, 160, 0, 40, 42, 180, 0, 35, 21, 4]
abbrev dktX0_laySteps_3 : List UInt8 := dkwX0_laySteps_3 ++ dktX0_laySteps_4
def dkwX0_laySteps_2 : List UInt8 := [182, 0, 189, 154, 0, 85, 44, 182, 0, 192, 192, 0, 171, 182, 0, 195, 62, 3, 54, 4, 21, 4, 16, 12]
abbrev dktX0_laySteps_2 : List UInt8 := dkwX0_laySteps_2 ++ dktX0_laySteps_3
def dkwX0_laySteps_1 : List UInt8 := [132, 3, 1, 167, 255, 239, 42, 180, 0, 35, 27, 3, 79, 44, 27, 184, 0, 181, 182, 0, 185, 87, 44]
abbrev dktX0_laySteps_1 : List UInt8 := dkwX0_laySteps_1 ++ dktX0_laySteps_2
def dkwX0_laySteps_0 : List UInt8 := [187, 0, 178, 89, 183, 0, 180, 77, 3, 62, 29, 16, 12, 162, 0, 17, 42, 180, 0, 35, 29, 16, 150, 79]
abbrev dktX0_laySteps_0 : List UInt8 := dkwX0_laySteps_0 ++ dktX0_laySteps_1
theorem dksX0_laySteps_0 : cX0_laySteps.data.toList.drop 0 = dktX0_laySteps_0 := by decide +kernel
theorem dksX0_laySteps_1 : cX0_laySteps.data.toList.drop 24 = dktX0_laySteps_1 := dk_seg dksX0_laySteps_0 24 rfl rfl
theorem dksX0_laySteps_2 : cX0_laySteps.data.toList.drop 47 = dktX0_laySteps_2 := dk_seg dksX0_laySteps_1 23 rfl rfl
theorem dksX0_laySteps_3 : cX0_laySteps.data.toList.drop 71 = dktX0_laySteps_3 := dk_seg dksX0_laySteps_2 24 rfl rfl
theorem dksX0_laySteps_4 : cX0_laySteps.data.toList.drop 95 = dktX0_laySteps_4 := dk_seg dksX0_laySteps_3 24 rfl rfl
theorem dksX0_laySteps_5 : cX0_laySteps.data.toList.drop 119 = dktX0_laySteps_5 := dk_seg dksX0_laySteps_4 24 rfl rfl
theorem dX0_laySteps_0 : decode cX0_laySteps 0 = .ok (.new 178, 3) := dk_187 0 178 (dk_at dksX0_laySteps_0 0 rfl rfl)
theorem dX0_laySteps_3 : decode cX0_laySteps 3 = .ok (.dup, 1) := dk_89 (dk_at dksX0_laySteps_0 3 rfl rfl)
theorem dX0_laySteps_4 : decode cX0_laySteps 4 = .ok (.invokespecial 180, 3) := dk_183 0 180 (dk_at dksX0_laySteps_0 4 rfl rfl)
theorem dX0_laySteps_7 : decode cX0_laySteps 7 = .ok (.astore_n 2, 1) := dk_77 (dk_at dksX0_laySteps_0 7 rfl rfl)
theorem dX0_laySteps_8 : decode cX0_laySteps 8 = .ok (.iconst 0, 1) := dk_3 (dk_at dksX0_laySteps_0 8 rfl rfl)
theorem dX0_laySteps_9 : decode cX0_laySteps 9 = .ok (.istore_n 3, 1) := dk_62 (dk_at dksX0_laySteps_0 9 rfl rfl)
theorem dX0_laySteps_10 : decode cX0_laySteps 10 = .ok (.iload_n 3, 1) := dk_29 (dk_at dksX0_laySteps_0 10 rfl rfl)
theorem dX0_laySteps_11 : decode cX0_laySteps 11 = .ok (.bipush 12, 2) := dk_16 12 (dk_at dksX0_laySteps_0 11 rfl rfl)
theorem dX0_laySteps_13 : decode cX0_laySteps 13 = .ok (.if_icmp .ge 17, 3) := dk_162 0 17 (dk_at dksX0_laySteps_0 13 rfl rfl)
theorem dX0_laySteps_16 : decode cX0_laySteps 16 = .ok (.aload_n 0, 1) := dk_42 (dk_at dksX0_laySteps_0 16 rfl rfl)
theorem dX0_laySteps_17 : decode cX0_laySteps 17 = .ok (.getfield 35, 3) := dk_180 0 35 (dk_at dksX0_laySteps_0 17 rfl rfl)
theorem dX0_laySteps_20 : decode cX0_laySteps 20 = .ok (.iload_n 3, 1) := dk_29 (dk_at dksX0_laySteps_0 20 rfl rfl)
theorem dX0_laySteps_21 : decode cX0_laySteps 21 = .ok (.bipush (-106), 2) := dk_16 150 (dk_at dksX0_laySteps_0 21 rfl rfl)
theorem dX0_laySteps_23 : decode cX0_laySteps 23 = .ok (.iastore, 1) := dk_79 (dk_at dksX0_laySteps_0 23 rfl rfl)
theorem dX0_laySteps_24 : decode cX0_laySteps 24 = .ok (.iinc 3 1, 3) := dk_132 3 1 (dk_at dksX0_laySteps_1 0 rfl rfl)
theorem dX0_laySteps_27 : decode cX0_laySteps 27 = .ok (.goto (-17), 3) := dk_167 255 239 (dk_at dksX0_laySteps_1 3 rfl rfl)
theorem dX0_laySteps_30 : decode cX0_laySteps 30 = .ok (.aload_n 0, 1) := dk_42 (dk_at dksX0_laySteps_1 6 rfl rfl)
theorem dX0_laySteps_31 : decode cX0_laySteps 31 = .ok (.getfield 35, 3) := dk_180 0 35 (dk_at dksX0_laySteps_1 7 rfl rfl)
theorem dX0_laySteps_34 : decode cX0_laySteps 34 = .ok (.iload_n 1, 1) := dk_27 (dk_at dksX0_laySteps_1 10 rfl rfl)
theorem dX0_laySteps_35 : decode cX0_laySteps 35 = .ok (.iconst 0, 1) := dk_3 (dk_at dksX0_laySteps_1 11 rfl rfl)
theorem dX0_laySteps_36 : decode cX0_laySteps 36 = .ok (.iastore, 1) := dk_79 (dk_at dksX0_laySteps_1 12 rfl rfl)
theorem dX0_laySteps_37 : decode cX0_laySteps 37 = .ok (.aload_n 2, 1) := dk_44 (dk_at dksX0_laySteps_1 13 rfl rfl)
theorem dX0_laySteps_38 : decode cX0_laySteps 38 = .ok (.iload_n 1, 1) := dk_27 (dk_at dksX0_laySteps_1 14 rfl rfl)
theorem dX0_laySteps_39 : decode cX0_laySteps 39 = .ok (.invokestatic 181, 3) := dk_184 0 181 (dk_at dksX0_laySteps_1 15 rfl rfl)
theorem dX0_laySteps_42 : decode cX0_laySteps 42 = .ok (.invokevirtual 185, 3) := dk_182 0 185 (dk_at dksX0_laySteps_1 18 rfl rfl)
theorem dX0_laySteps_45 : decode cX0_laySteps 45 = .ok (.pop, 1) := dk_87 (dk_at dksX0_laySteps_1 21 rfl rfl)
theorem dX0_laySteps_46 : decode cX0_laySteps 46 = .ok (.aload_n 2, 1) := dk_44 (dk_at dksX0_laySteps_1 22 rfl rfl)
theorem dX0_laySteps_47 : decode cX0_laySteps 47 = .ok (.invokevirtual 189, 3) := dk_182 0 189 (dk_at dksX0_laySteps_2 0 rfl rfl)
theorem dX0_laySteps_50 : decode cX0_laySteps 50 = .ok (.ifCond .ne 85, 3) := dk_154 0 85 (dk_at dksX0_laySteps_2 3 rfl rfl)
theorem dX0_laySteps_53 : decode cX0_laySteps 53 = .ok (.aload_n 2, 1) := dk_44 (dk_at dksX0_laySteps_2 6 rfl rfl)
theorem dX0_laySteps_54 : decode cX0_laySteps 54 = .ok (.invokevirtual 192, 3) := dk_182 0 192 (dk_at dksX0_laySteps_2 7 rfl rfl)
theorem dX0_laySteps_57 : decode cX0_laySteps 57 = .ok (.checkcast 171, 3) := dk_192 0 171 (dk_at dksX0_laySteps_2 10 rfl rfl)
theorem dX0_laySteps_60 : decode cX0_laySteps 60 = .ok (.invokevirtual 195, 3) := dk_182 0 195 (dk_at dksX0_laySteps_2 13 rfl rfl)
theorem dX0_laySteps_63 : decode cX0_laySteps 63 = .ok (.istore_n 3, 1) := dk_62 (dk_at dksX0_laySteps_2 16 rfl rfl)
theorem dX0_laySteps_64 : decode cX0_laySteps 64 = .ok (.iconst 0, 1) := dk_3 (dk_at dksX0_laySteps_2 17 rfl rfl)
theorem dX0_laySteps_65 : decode cX0_laySteps 65 = .ok (.istore 4, 2) := dk_54 4 (dk_at dksX0_laySteps_2 18 rfl rfl)
theorem dX0_laySteps_67 : decode cX0_laySteps 67 = .ok (.iload 4, 2) := dk_21 4 (dk_at dksX0_laySteps_2 20 rfl rfl)
theorem dX0_laySteps_69 : decode cX0_laySteps 69 = .ok (.bipush 12, 2) := dk_16 12 (dk_at dksX0_laySteps_2 22 rfl rfl)
theorem dX0_laySteps_71 : decode cX0_laySteps 71 = .ok (.if_icmp .ge 61, 3) := dk_162 0 61 (dk_at dksX0_laySteps_3 0 rfl rfl)
theorem dX0_laySteps_74 : decode cX0_laySteps 74 = .ok (.aload_n 0, 1) := dk_42 (dk_at dksX0_laySteps_3 3 rfl rfl)
theorem dX0_laySteps_75 : decode cX0_laySteps 75 = .ok (.getfield 31, 3) := dk_180 0 31 (dk_at dksX0_laySteps_3 4 rfl rfl)
theorem dX0_laySteps_78 : decode cX0_laySteps 78 = .ok (.iload 4, 2) := dk_21 4 (dk_at dksX0_laySteps_3 7 rfl rfl)
theorem dX0_laySteps_80 : decode cX0_laySteps 80 = .ok (.iaload, 1) := dk_46 (dk_at dksX0_laySteps_3 9 rfl rfl)
theorem dX0_laySteps_81 : decode cX0_laySteps 81 = .ok (.iload_n 3, 1) := dk_29 (dk_at dksX0_laySteps_3 10 rfl rfl)
theorem dX0_laySteps_82 : decode cX0_laySteps 82 = .ok (.ishr, 1) := dk_122 (dk_at dksX0_laySteps_3 11 rfl rfl)
theorem dX0_laySteps_83 : decode cX0_laySteps 83 = .ok (.iconst 1, 1) := dk_4 (dk_at dksX0_laySteps_3 12 rfl rfl)
theorem dX0_laySteps_84 : decode cX0_laySteps 84 = .ok (.iand, 1) := dk_126 (dk_at dksX0_laySteps_3 13 rfl rfl)
theorem dX0_laySteps_85 : decode cX0_laySteps 85 = .ok (.iconst 1, 1) := dk_4 (dk_at dksX0_laySteps_3 14 rfl rfl)
theorem dX0_laySteps_86 : decode cX0_laySteps 86 = .ok (.if_icmp .ne 40, 3) := dk_160 0 40 (dk_at dksX0_laySteps_3 15 rfl rfl)
theorem dX0_laySteps_89 : decode cX0_laySteps 89 = .ok (.aload_n 0, 1) := dk_42 (dk_at dksX0_laySteps_3 18 rfl rfl)
theorem dX0_laySteps_90 : decode cX0_laySteps 90 = .ok (.getfield 35, 3) := dk_180 0 35 (dk_at dksX0_laySteps_3 19 rfl rfl)
theorem dX0_laySteps_93 : decode cX0_laySteps 93 = .ok (.iload 4, 2) := dk_21 4 (dk_at dksX0_laySteps_3 22 rfl rfl)
theorem dX0_laySteps_95 : decode cX0_laySteps 95 = .ok (.iaload, 1) := dk_46 (dk_at dksX0_laySteps_4 0 rfl rfl)
theorem dX0_laySteps_96 : decode cX0_laySteps 96 = .ok (.bipush (-106), 2) := dk_16 150 (dk_at dksX0_laySteps_4 1 rfl rfl)
theorem dX0_laySteps_98 : decode cX0_laySteps 98 = .ok (.if_icmp .ne 28, 3) := dk_160 0 28 (dk_at dksX0_laySteps_4 3 rfl rfl)
theorem dX0_laySteps_101 : decode cX0_laySteps 101 = .ok (.aload_n 0, 1) := dk_42 (dk_at dksX0_laySteps_4 6 rfl rfl)
theorem dX0_laySteps_102 : decode cX0_laySteps 102 = .ok (.getfield 35, 3) := dk_180 0 35 (dk_at dksX0_laySteps_4 7 rfl rfl)
theorem dX0_laySteps_105 : decode cX0_laySteps 105 = .ok (.iload 4, 2) := dk_21 4 (dk_at dksX0_laySteps_4 10 rfl rfl)
theorem dX0_laySteps_107 : decode cX0_laySteps 107 = .ok (.aload_n 0, 1) := dk_42 (dk_at dksX0_laySteps_4 12 rfl rfl)
theorem dX0_laySteps_108 : decode cX0_laySteps 108 = .ok (.getfield 35, 3) := dk_180 0 35 (dk_at dksX0_laySteps_4 13 rfl rfl)
theorem dX0_laySteps_111 : decode cX0_laySteps 111 = .ok (.iload_n 3, 1) := dk_29 (dk_at dksX0_laySteps_4 16 rfl rfl)
theorem dX0_laySteps_112 : decode cX0_laySteps 112 = .ok (.iaload, 1) := dk_46 (dk_at dksX0_laySteps_4 17 rfl rfl)
theorem dX0_laySteps_113 : decode cX0_laySteps 113 = .ok (.iconst 1, 1) := dk_4 (dk_at dksX0_laySteps_4 18 rfl rfl)
theorem dX0_laySteps_114 : decode cX0_laySteps 114 = .ok (.iadd, 1) := dk_96 (dk_at dksX0_laySteps_4 19 rfl rfl)
theorem dX0_laySteps_115 : decode cX0_laySteps 115 = .ok (.iastore, 1) := dk_79 (dk_at dksX0_laySteps_4 20 rfl rfl)
theorem dX0_laySteps_116 : decode cX0_laySteps 116 = .ok (.aload_n 2, 1) := dk_44 (dk_at dksX0_laySteps_4 21 rfl rfl)
theorem dX0_laySteps_117 : decode cX0_laySteps 117 = .ok (.iload 4, 2) := dk_21 4 (dk_at dksX0_laySteps_4 22 rfl rfl)
theorem dX0_laySteps_119 : decode cX0_laySteps 119 = .ok (.invokestatic 181, 3) := dk_184 0 181 (dk_at dksX0_laySteps_5 0 rfl rfl)
theorem dX0_laySteps_122 : decode cX0_laySteps 122 = .ok (.invokevirtual 185, 3) := dk_182 0 185 (dk_at dksX0_laySteps_5 3 rfl rfl)
theorem dX0_laySteps_125 : decode cX0_laySteps 125 = .ok (.pop, 1) := dk_87 (dk_at dksX0_laySteps_5 6 rfl rfl)
theorem dX0_laySteps_126 : decode cX0_laySteps 126 = .ok (.iinc 4 1, 3) := dk_132 4 1 (dk_at dksX0_laySteps_5 7 rfl rfl)
theorem dX0_laySteps_129 : decode cX0_laySteps 129 = .ok (.goto (-62), 3) := dk_167 255 194 (dk_at dksX0_laySteps_5 10 rfl rfl)
theorem dX0_laySteps_132 : decode cX0_laySteps 132 = .ok (.goto (-86), 3) := dk_167 255 170 (dk_at dksX0_laySteps_5 13 rfl rfl)
theorem dX0_laySteps_135 : decode cX0_laySteps 135 = .ok (.return_, 1) := dk_177 (dk_at dksX0_laySteps_5 16 rfl rfl)
abbrev cX0_stepFrom : ByteArray := prog_1_method_29_code
def yX0_stepFrom : MethodName := ⟨RX0, "stepFrom", "(I)I"⟩
def dkwX0_stepFrom_3 : List UInt8 := [29, 167, 0, 4, 28, 61, 132, 3, 1, 167, 255, 183, 28, 172]
abbrev dktX0_stepFrom_3 : List UInt8 := dkwX0_stepFrom_3 ++ []
def dkwX0_stepFrom_2 : List UInt8 := [153, 0, 28, 28, 16, 150, 159, 0, 18, 42, 180, 0, 35, 29, 46, 42, 180, 0, 35, 28, 46, 162, 0, 7]
abbrev dktX0_stepFrom_2 : List UInt8 := dkwX0_stepFrom_2 ++ dktX0_stepFrom_3
def dkwX0_stepFrom_1 : List UInt8 := [160, 0, 18, 42, 180, 0, 35, 29, 46, 16, 150, 159, 0, 7, 4, 167, 0, 4, 3, 54, 4, 21, 4]
abbrev dktX0_stepFrom_1 : List UInt8 := dkwX0_stepFrom_1 ++ dktX0_stepFrom_2
def dkwX0_stepFrom_0 : List UInt8 := [16, 150, 61, 3, 62, 29, 16, 12, 162, 0, 73, 42, 180, 0, 31, 27, 46, 29, 122, 4, 126, 4]
abbrev dktX0_stepFrom_0 : List UInt8 := dkwX0_stepFrom_0 ++ dktX0_stepFrom_1
theorem dksX0_stepFrom_0 : cX0_stepFrom.data.toList.drop 0 = dktX0_stepFrom_0 := by decide +kernel
theorem dksX0_stepFrom_1 : cX0_stepFrom.data.toList.drop 22 = dktX0_stepFrom_1 := dk_seg dksX0_stepFrom_0 22 rfl rfl
theorem dksX0_stepFrom_2 : cX0_stepFrom.data.toList.drop 45 = dktX0_stepFrom_2 := dk_seg dksX0_stepFrom_1 23 rfl rfl
theorem dksX0_stepFrom_3 : cX0_stepFrom.data.toList.drop 69 = dktX0_stepFrom_3 := dk_seg dksX0_stepFrom_2 24 rfl rfl
theorem dX0_stepFrom_0 : decode cX0_stepFrom 0 = .ok (.bipush (-106), 2) := dk_16 150 (dk_at dksX0_stepFrom_0 0 rfl rfl)
theorem dX0_stepFrom_2 : decode cX0_stepFrom 2 = .ok (.istore_n 2, 1) := dk_61 (dk_at dksX0_stepFrom_0 2 rfl rfl)
theorem dX0_stepFrom_3 : decode cX0_stepFrom 3 = .ok (.iconst 0, 1) := dk_3 (dk_at dksX0_stepFrom_0 3 rfl rfl)
theorem dX0_stepFrom_4 : decode cX0_stepFrom 4 = .ok (.istore_n 3, 1) := dk_62 (dk_at dksX0_stepFrom_0 4 rfl rfl)
theorem dX0_stepFrom_5 : decode cX0_stepFrom 5 = .ok (.iload_n 3, 1) := dk_29 (dk_at dksX0_stepFrom_0 5 rfl rfl)
theorem dX0_stepFrom_6 : decode cX0_stepFrom 6 = .ok (.bipush 12, 2) := dk_16 12 (dk_at dksX0_stepFrom_0 6 rfl rfl)
theorem dX0_stepFrom_8 : decode cX0_stepFrom 8 = .ok (.if_icmp .ge 73, 3) := dk_162 0 73 (dk_at dksX0_stepFrom_0 8 rfl rfl)
theorem dX0_stepFrom_11 : decode cX0_stepFrom 11 = .ok (.aload_n 0, 1) := dk_42 (dk_at dksX0_stepFrom_0 11 rfl rfl)
theorem dX0_stepFrom_12 : decode cX0_stepFrom 12 = .ok (.getfield 31, 3) := dk_180 0 31 (dk_at dksX0_stepFrom_0 12 rfl rfl)
theorem dX0_stepFrom_15 : decode cX0_stepFrom 15 = .ok (.iload_n 1, 1) := dk_27 (dk_at dksX0_stepFrom_0 15 rfl rfl)
theorem dX0_stepFrom_16 : decode cX0_stepFrom 16 = .ok (.iaload, 1) := dk_46 (dk_at dksX0_stepFrom_0 16 rfl rfl)
theorem dX0_stepFrom_17 : decode cX0_stepFrom 17 = .ok (.iload_n 3, 1) := dk_29 (dk_at dksX0_stepFrom_0 17 rfl rfl)
theorem dX0_stepFrom_18 : decode cX0_stepFrom 18 = .ok (.ishr, 1) := dk_122 (dk_at dksX0_stepFrom_0 18 rfl rfl)
theorem dX0_stepFrom_19 : decode cX0_stepFrom 19 = .ok (.iconst 1, 1) := dk_4 (dk_at dksX0_stepFrom_0 19 rfl rfl)
theorem dX0_stepFrom_20 : decode cX0_stepFrom 20 = .ok (.iand, 1) := dk_126 (dk_at dksX0_stepFrom_0 20 rfl rfl)
theorem dX0_stepFrom_21 : decode cX0_stepFrom 21 = .ok (.iconst 1, 1) := dk_4 (dk_at dksX0_stepFrom_0 21 rfl rfl)
theorem dX0_stepFrom_22 : decode cX0_stepFrom 22 = .ok (.if_icmp .ne 18, 3) := dk_160 0 18 (dk_at dksX0_stepFrom_1 0 rfl rfl)
theorem dX0_stepFrom_25 : decode cX0_stepFrom 25 = .ok (.aload_n 0, 1) := dk_42 (dk_at dksX0_stepFrom_1 3 rfl rfl)
theorem dX0_stepFrom_26 : decode cX0_stepFrom 26 = .ok (.getfield 35, 3) := dk_180 0 35 (dk_at dksX0_stepFrom_1 4 rfl rfl)
theorem dX0_stepFrom_29 : decode cX0_stepFrom 29 = .ok (.iload_n 3, 1) := dk_29 (dk_at dksX0_stepFrom_1 7 rfl rfl)
theorem dX0_stepFrom_30 : decode cX0_stepFrom 30 = .ok (.iaload, 1) := dk_46 (dk_at dksX0_stepFrom_1 8 rfl rfl)
theorem dX0_stepFrom_31 : decode cX0_stepFrom 31 = .ok (.bipush (-106), 2) := dk_16 150 (dk_at dksX0_stepFrom_1 9 rfl rfl)
theorem dX0_stepFrom_33 : decode cX0_stepFrom 33 = .ok (.if_icmp .eq 7, 3) := dk_159 0 7 (dk_at dksX0_stepFrom_1 11 rfl rfl)
theorem dX0_stepFrom_36 : decode cX0_stepFrom 36 = .ok (.iconst 1, 1) := dk_4 (dk_at dksX0_stepFrom_1 14 rfl rfl)
theorem dX0_stepFrom_37 : decode cX0_stepFrom 37 = .ok (.goto 4, 3) := dk_167 0 4 (dk_at dksX0_stepFrom_1 15 rfl rfl)
theorem dX0_stepFrom_40 : decode cX0_stepFrom 40 = .ok (.iconst 0, 1) := dk_3 (dk_at dksX0_stepFrom_1 18 rfl rfl)
theorem dX0_stepFrom_41 : decode cX0_stepFrom 41 = .ok (.istore 4, 2) := dk_54 4 (dk_at dksX0_stepFrom_1 19 rfl rfl)
theorem dX0_stepFrom_43 : decode cX0_stepFrom 43 = .ok (.iload 4, 2) := dk_21 4 (dk_at dksX0_stepFrom_1 21 rfl rfl)
theorem dX0_stepFrom_45 : decode cX0_stepFrom 45 = .ok (.ifCond .eq 28, 3) := dk_153 0 28 (dk_at dksX0_stepFrom_2 0 rfl rfl)
theorem dX0_stepFrom_48 : decode cX0_stepFrom 48 = .ok (.iload_n 2, 1) := dk_28 (dk_at dksX0_stepFrom_2 3 rfl rfl)
theorem dX0_stepFrom_49 : decode cX0_stepFrom 49 = .ok (.bipush (-106), 2) := dk_16 150 (dk_at dksX0_stepFrom_2 4 rfl rfl)
theorem dX0_stepFrom_51 : decode cX0_stepFrom 51 = .ok (.if_icmp .eq 18, 3) := dk_159 0 18 (dk_at dksX0_stepFrom_2 6 rfl rfl)
theorem dX0_stepFrom_54 : decode cX0_stepFrom 54 = .ok (.aload_n 0, 1) := dk_42 (dk_at dksX0_stepFrom_2 9 rfl rfl)
theorem dX0_stepFrom_55 : decode cX0_stepFrom 55 = .ok (.getfield 35, 3) := dk_180 0 35 (dk_at dksX0_stepFrom_2 10 rfl rfl)
theorem dX0_stepFrom_58 : decode cX0_stepFrom 58 = .ok (.iload_n 3, 1) := dk_29 (dk_at dksX0_stepFrom_2 13 rfl rfl)
theorem dX0_stepFrom_59 : decode cX0_stepFrom 59 = .ok (.iaload, 1) := dk_46 (dk_at dksX0_stepFrom_2 14 rfl rfl)
theorem dX0_stepFrom_60 : decode cX0_stepFrom 60 = .ok (.aload_n 0, 1) := dk_42 (dk_at dksX0_stepFrom_2 15 rfl rfl)
theorem dX0_stepFrom_61 : decode cX0_stepFrom 61 = .ok (.getfield 35, 3) := dk_180 0 35 (dk_at dksX0_stepFrom_2 16 rfl rfl)
theorem dX0_stepFrom_64 : decode cX0_stepFrom 64 = .ok (.iload_n 2, 1) := dk_28 (dk_at dksX0_stepFrom_2 19 rfl rfl)
theorem dX0_stepFrom_65 : decode cX0_stepFrom 65 = .ok (.iaload, 1) := dk_46 (dk_at dksX0_stepFrom_2 20 rfl rfl)
theorem dX0_stepFrom_66 : decode cX0_stepFrom 66 = .ok (.if_icmp .ge 7, 3) := dk_162 0 7 (dk_at dksX0_stepFrom_2 21 rfl rfl)
theorem dX0_stepFrom_69 : decode cX0_stepFrom 69 = .ok (.iload_n 3, 1) := dk_29 (dk_at dksX0_stepFrom_3 0 rfl rfl)
theorem dX0_stepFrom_70 : decode cX0_stepFrom 70 = .ok (.goto 4, 3) := dk_167 0 4 (dk_at dksX0_stepFrom_3 1 rfl rfl)
theorem dX0_stepFrom_73 : decode cX0_stepFrom 73 = .ok (.iload_n 2, 1) := dk_28 (dk_at dksX0_stepFrom_3 4 rfl rfl)
theorem dX0_stepFrom_74 : decode cX0_stepFrom 74 = .ok (.istore_n 2, 1) := dk_61 (dk_at dksX0_stepFrom_3 5 rfl rfl)
theorem dX0_stepFrom_75 : decode cX0_stepFrom 75 = .ok (.iinc 3 1, 3) := dk_132 3 1 (dk_at dksX0_stepFrom_3 6 rfl rfl)
theorem dX0_stepFrom_78 : decode cX0_stepFrom 78 = .ok (.goto (-73), 3) := dk_167 255 183 (dk_at dksX0_stepFrom_3 9 rfl rfl)
theorem dX0_stepFrom_81 : decode cX0_stepFrom 81 = .ok (.iload_n 2, 1) := dk_28 (dk_at dksX0_stepFrom_3 12 rfl rfl)
theorem dX0_stepFrom_82 : decode cX0_stepFrom 82 = .ok (.ireturn, 1) := dk_172 (dk_at dksX0_stepFrom_3 13 rfl rfl)
abbrev cX0_level : ByteArray := prog_1_method_32_code
def yX0_level : MethodName := ⟨RX0, "level", "(I)I"⟩
def dkwX0_level_5 : List UInt8 := [167, 255, 175, 44, 27, 46, 172]
abbrev dktX0_level_5 : List UInt8 := dkwX0_level_5 ++ []
def dkwX0_level_4 : List UInt8 := [167, 0, 7, 44, 21, 4, 46, 79, 132, 5, 1, 167, 255, 206, 132, 4, 1, 167, 255, 190, 132, 3, 1]
abbrev dktX0_level_4 : List UInt8 := dkwX0_level_4 ++ dktX0_level_5
def dkwX0_level_3 : List UInt8 := [21, 5, 122, 4, 126, 4, 160, 0, 19, 44, 21, 4, 46, 44, 21, 5, 46, 4, 96, 184, 0, 223]
abbrev dktX0_level_3 : List UInt8 := dkwX0_level_3 ++ dktX0_level_4
def dkwX0_level_2 : List UInt8 := [162, 0, 65, 3, 54, 5, 21, 5, 16, 12, 162, 0, 49, 44, 21, 4, 42, 180, 0, 31, 21, 4, 46]
abbrev dktX0_level_2 : List UInt8 := dkwX0_level_2 ++ dktX0_level_3
def dkwX0_level_1 : List UInt8 := [16, 151, 172, 16, 12, 188, 10, 77, 3, 62, 29, 16, 12, 162, 0, 81, 3, 54, 4, 21, 4, 16, 12]
abbrev dktX0_level_1 : List UInt8 := dkwX0_level_1 ++ dktX0_level_2
def dkwX0_level_0 : List UInt8 := [42, 27, 182, 0, 122, 154, 0, 6, 16, 155, 172, 42, 182, 0, 211, 185, 0, 222, 1, 0, 154, 0, 6]
abbrev dktX0_level_0 : List UInt8 := dkwX0_level_0 ++ dktX0_level_1
theorem dksX0_level_0 : cX0_level.data.toList.drop 0 = dktX0_level_0 := by decide +kernel
theorem dksX0_level_1 : cX0_level.data.toList.drop 23 = dktX0_level_1 := dk_seg dksX0_level_0 23 rfl rfl
theorem dksX0_level_2 : cX0_level.data.toList.drop 46 = dktX0_level_2 := dk_seg dksX0_level_1 23 rfl rfl
theorem dksX0_level_3 : cX0_level.data.toList.drop 69 = dktX0_level_3 := dk_seg dksX0_level_2 23 rfl rfl
theorem dksX0_level_4 : cX0_level.data.toList.drop 91 = dktX0_level_4 := dk_seg dksX0_level_3 22 rfl rfl
theorem dksX0_level_5 : cX0_level.data.toList.drop 114 = dktX0_level_5 := dk_seg dksX0_level_4 23 rfl rfl
theorem dX0_level_0 : decode cX0_level 0 = .ok (.aload_n 0, 1) := dk_42 (dk_at dksX0_level_0 0 rfl rfl)
theorem dX0_level_1 : decode cX0_level 1 = .ok (.iload_n 1, 1) := dk_27 (dk_at dksX0_level_0 1 rfl rfl)
theorem dX0_level_2 : decode cX0_level 2 = .ok (.invokevirtual 122, 3) := dk_182 0 122 (dk_at dksX0_level_0 2 rfl rfl)
theorem dX0_level_5 : decode cX0_level 5 = .ok (.ifCond .ne 6, 3) := dk_154 0 6 (dk_at dksX0_level_0 5 rfl rfl)
theorem dX0_level_8 : decode cX0_level 8 = .ok (.bipush (-101), 2) := dk_16 155 (dk_at dksX0_level_0 8 rfl rfl)
theorem dX0_level_10 : decode cX0_level 10 = .ok (.ireturn, 1) := dk_172 (dk_at dksX0_level_0 10 rfl rfl)
theorem dX0_level_11 : decode cX0_level 11 = .ok (.aload_n 0, 1) := dk_42 (dk_at dksX0_level_0 11 rfl rfl)
theorem dX0_level_12 : decode cX0_level 12 = .ok (.invokevirtual 211, 3) := dk_182 0 211 (dk_at dksX0_level_0 12 rfl rfl)
theorem dX0_level_15 : decode cX0_level 15 = .ok (.invokeinterface 222 1, 5) := by decide +kernel
theorem dX0_level_20 : decode cX0_level 20 = .ok (.ifCond .ne 6, 3) := dk_154 0 6 (dk_at dksX0_level_0 20 rfl rfl)
theorem dX0_level_23 : decode cX0_level 23 = .ok (.bipush (-105), 2) := dk_16 151 (dk_at dksX0_level_1 0 rfl rfl)
theorem dX0_level_25 : decode cX0_level 25 = .ok (.ireturn, 1) := dk_172 (dk_at dksX0_level_1 2 rfl rfl)
theorem dX0_level_26 : decode cX0_level 26 = .ok (.bipush 12, 2) := dk_16 12 (dk_at dksX0_level_1 3 rfl rfl)
theorem dX0_level_28 : decode cX0_level 28 = .ok (.newarray .int, 2) := dk_188_10 (dk_at dksX0_level_1 5 rfl rfl)
theorem dX0_level_30 : decode cX0_level 30 = .ok (.astore_n 2, 1) := dk_77 (dk_at dksX0_level_1 7 rfl rfl)
theorem dX0_level_31 : decode cX0_level 31 = .ok (.iconst 0, 1) := dk_3 (dk_at dksX0_level_1 8 rfl rfl)
theorem dX0_level_32 : decode cX0_level 32 = .ok (.istore_n 3, 1) := dk_62 (dk_at dksX0_level_1 9 rfl rfl)
theorem dX0_level_33 : decode cX0_level 33 = .ok (.iload_n 3, 1) := dk_29 (dk_at dksX0_level_1 10 rfl rfl)
theorem dX0_level_34 : decode cX0_level 34 = .ok (.bipush 12, 2) := dk_16 12 (dk_at dksX0_level_1 11 rfl rfl)
theorem dX0_level_36 : decode cX0_level 36 = .ok (.if_icmp .ge 81, 3) := dk_162 0 81 (dk_at dksX0_level_1 13 rfl rfl)
theorem dX0_level_39 : decode cX0_level 39 = .ok (.iconst 0, 1) := dk_3 (dk_at dksX0_level_1 16 rfl rfl)
theorem dX0_level_40 : decode cX0_level 40 = .ok (.istore 4, 2) := dk_54 4 (dk_at dksX0_level_1 17 rfl rfl)
theorem dX0_level_42 : decode cX0_level 42 = .ok (.iload 4, 2) := dk_21 4 (dk_at dksX0_level_1 19 rfl rfl)
theorem dX0_level_44 : decode cX0_level 44 = .ok (.bipush 12, 2) := dk_16 12 (dk_at dksX0_level_1 21 rfl rfl)
theorem dX0_level_46 : decode cX0_level 46 = .ok (.if_icmp .ge 65, 3) := dk_162 0 65 (dk_at dksX0_level_2 0 rfl rfl)
theorem dX0_level_49 : decode cX0_level 49 = .ok (.iconst 0, 1) := dk_3 (dk_at dksX0_level_2 3 rfl rfl)
theorem dX0_level_50 : decode cX0_level 50 = .ok (.istore 5, 2) := dk_54 5 (dk_at dksX0_level_2 4 rfl rfl)
theorem dX0_level_52 : decode cX0_level 52 = .ok (.iload 5, 2) := dk_21 5 (dk_at dksX0_level_2 6 rfl rfl)
theorem dX0_level_54 : decode cX0_level 54 = .ok (.bipush 12, 2) := dk_16 12 (dk_at dksX0_level_2 8 rfl rfl)
theorem dX0_level_56 : decode cX0_level 56 = .ok (.if_icmp .ge 49, 3) := dk_162 0 49 (dk_at dksX0_level_2 10 rfl rfl)
theorem dX0_level_59 : decode cX0_level 59 = .ok (.aload_n 2, 1) := dk_44 (dk_at dksX0_level_2 13 rfl rfl)
theorem dX0_level_60 : decode cX0_level 60 = .ok (.iload 4, 2) := dk_21 4 (dk_at dksX0_level_2 14 rfl rfl)
theorem dX0_level_62 : decode cX0_level 62 = .ok (.aload_n 0, 1) := dk_42 (dk_at dksX0_level_2 16 rfl rfl)
theorem dX0_level_63 : decode cX0_level 63 = .ok (.getfield 31, 3) := dk_180 0 31 (dk_at dksX0_level_2 17 rfl rfl)
theorem dX0_level_66 : decode cX0_level 66 = .ok (.iload 4, 2) := dk_21 4 (dk_at dksX0_level_2 20 rfl rfl)
theorem dX0_level_68 : decode cX0_level 68 = .ok (.iaload, 1) := dk_46 (dk_at dksX0_level_2 22 rfl rfl)
theorem dX0_level_69 : decode cX0_level 69 = .ok (.iload 5, 2) := dk_21 5 (dk_at dksX0_level_3 0 rfl rfl)
theorem dX0_level_71 : decode cX0_level 71 = .ok (.ishr, 1) := dk_122 (dk_at dksX0_level_3 2 rfl rfl)
theorem dX0_level_72 : decode cX0_level 72 = .ok (.iconst 1, 1) := dk_4 (dk_at dksX0_level_3 3 rfl rfl)
theorem dX0_level_73 : decode cX0_level 73 = .ok (.iand, 1) := dk_126 (dk_at dksX0_level_3 4 rfl rfl)
theorem dX0_level_74 : decode cX0_level 74 = .ok (.iconst 1, 1) := dk_4 (dk_at dksX0_level_3 5 rfl rfl)
theorem dX0_level_75 : decode cX0_level 75 = .ok (.if_icmp .ne 19, 3) := dk_160 0 19 (dk_at dksX0_level_3 6 rfl rfl)
theorem dX0_level_78 : decode cX0_level 78 = .ok (.aload_n 2, 1) := dk_44 (dk_at dksX0_level_3 9 rfl rfl)
theorem dX0_level_79 : decode cX0_level 79 = .ok (.iload 4, 2) := dk_21 4 (dk_at dksX0_level_3 10 rfl rfl)
theorem dX0_level_81 : decode cX0_level 81 = .ok (.iaload, 1) := dk_46 (dk_at dksX0_level_3 12 rfl rfl)
theorem dX0_level_82 : decode cX0_level 82 = .ok (.aload_n 2, 1) := dk_44 (dk_at dksX0_level_3 13 rfl rfl)
theorem dX0_level_83 : decode cX0_level 83 = .ok (.iload 5, 2) := dk_21 5 (dk_at dksX0_level_3 14 rfl rfl)
theorem dX0_level_85 : decode cX0_level 85 = .ok (.iaload, 1) := dk_46 (dk_at dksX0_level_3 16 rfl rfl)
theorem dX0_level_86 : decode cX0_level 86 = .ok (.iconst 1, 1) := dk_4 (dk_at dksX0_level_3 17 rfl rfl)
theorem dX0_level_87 : decode cX0_level 87 = .ok (.iadd, 1) := dk_96 (dk_at dksX0_level_3 18 rfl rfl)
theorem dX0_level_88 : decode cX0_level 88 = .ok (.invokestatic 223, 3) := dk_184 0 223 (dk_at dksX0_level_3 19 rfl rfl)
theorem dX0_level_91 : decode cX0_level 91 = .ok (.goto 7, 3) := dk_167 0 7 (dk_at dksX0_level_4 0 rfl rfl)
theorem dX0_level_94 : decode cX0_level 94 = .ok (.aload_n 2, 1) := dk_44 (dk_at dksX0_level_4 3 rfl rfl)
theorem dX0_level_95 : decode cX0_level 95 = .ok (.iload 4, 2) := dk_21 4 (dk_at dksX0_level_4 4 rfl rfl)
theorem dX0_level_97 : decode cX0_level 97 = .ok (.iaload, 1) := dk_46 (dk_at dksX0_level_4 6 rfl rfl)
theorem dX0_level_98 : decode cX0_level 98 = .ok (.iastore, 1) := dk_79 (dk_at dksX0_level_4 7 rfl rfl)
theorem dX0_level_99 : decode cX0_level 99 = .ok (.iinc 5 1, 3) := dk_132 5 1 (dk_at dksX0_level_4 8 rfl rfl)
theorem dX0_level_102 : decode cX0_level 102 = .ok (.goto (-50), 3) := dk_167 255 206 (dk_at dksX0_level_4 11 rfl rfl)
theorem dX0_level_105 : decode cX0_level 105 = .ok (.iinc 4 1, 3) := dk_132 4 1 (dk_at dksX0_level_4 14 rfl rfl)
theorem dX0_level_108 : decode cX0_level 108 = .ok (.goto (-66), 3) := dk_167 255 190 (dk_at dksX0_level_4 17 rfl rfl)
theorem dX0_level_111 : decode cX0_level 111 = .ok (.iinc 3 1, 3) := dk_132 3 1 (dk_at dksX0_level_4 20 rfl rfl)
theorem dX0_level_114 : decode cX0_level 114 = .ok (.goto (-81), 3) := dk_167 255 175 (dk_at dksX0_level_5 0 rfl rfl)
theorem dX0_level_117 : decode cX0_level 117 = .ok (.aload_n 2, 1) := dk_44 (dk_at dksX0_level_5 3 rfl rfl)
theorem dX0_level_118 : decode cX0_level 118 = .ok (.iload_n 1, 1) := dk_27 (dk_at dksX0_level_5 4 rfl rfl)
theorem dX0_level_119 : decode cX0_level 119 = .ok (.iaload, 1) := dk_46 (dk_at dksX0_level_5 5 rfl rfl)
theorem dX0_level_120 : decode cX0_level 120 = .ok (.ireturn, 1) := dk_172 (dk_at dksX0_level_5 6 rfl rfl)
abbrev cX0_pieces : ByteArray := prog_1_method_40_code
def yX0_pieces : MethodName := ⟨RX0, "pieces", "()I"⟩
def dkwX0_pieces_1 : List UInt8 := [185, 0, 215, 1, 0, 172]
abbrev dktX0_pieces_1 : List UInt8 := dkwX0_pieces_1 ++ []
def dkwX0_pieces_0 : List UInt8 := [42, 182, 1, 58, 42, 180, 1, 44, 153, 0, 8, 16, 152, 167, 0, 12, 42, 180, 0, 48]
abbrev dktX0_pieces_0 : List UInt8 := dkwX0_pieces_0 ++ dktX0_pieces_1
theorem dksX0_pieces_0 : cX0_pieces.data.toList.drop 0 = dktX0_pieces_0 := by decide +kernel
theorem dksX0_pieces_1 : cX0_pieces.data.toList.drop 20 = dktX0_pieces_1 := dk_seg dksX0_pieces_0 20 rfl rfl
theorem dX0_pieces_0 : decode cX0_pieces 0 = .ok (.aload_n 0, 1) := dk_42 (dk_at dksX0_pieces_0 0 rfl rfl)
theorem dX0_pieces_1 : decode cX0_pieces 1 = .ok (.invokevirtual 314, 3) := dk_182 1 58 (dk_at dksX0_pieces_0 1 rfl rfl)
theorem dX0_pieces_4 : decode cX0_pieces 4 = .ok (.aload_n 0, 1) := dk_42 (dk_at dksX0_pieces_0 4 rfl rfl)
theorem dX0_pieces_5 : decode cX0_pieces 5 = .ok (.getfield 300, 3) := dk_180 1 44 (dk_at dksX0_pieces_0 5 rfl rfl)
theorem dX0_pieces_8 : decode cX0_pieces 8 = .ok (.ifCond .eq 8, 3) := dk_153 0 8 (dk_at dksX0_pieces_0 8 rfl rfl)
theorem dX0_pieces_11 : decode cX0_pieces 11 = .ok (.bipush (-104), 2) := dk_16 152 (dk_at dksX0_pieces_0 11 rfl rfl)
theorem dX0_pieces_13 : decode cX0_pieces 13 = .ok (.goto 12, 3) := dk_167 0 12 (dk_at dksX0_pieces_0 13 rfl rfl)
theorem dX0_pieces_16 : decode cX0_pieces 16 = .ok (.aload_n 0, 1) := dk_42 (dk_at dksX0_pieces_0 16 rfl rfl)
theorem dX0_pieces_17 : decode cX0_pieces 17 = .ok (.getfield 48, 3) := dk_180 0 48 (dk_at dksX0_pieces_0 17 rfl rfl)
theorem dX0_pieces_20 : decode cX0_pieces 20 = .ok (.invokeinterface 215 1, 5) := by decide +kernel
theorem dX0_pieces_25 : decode cX0_pieces 25 = .ok (.ireturn, 1) := dk_172 (dk_at dksX0_pieces_1 5 rfl rfl)
abbrev cX0_drawAll : ByteArray := prog_1_method_39_code
def yX0_drawAll : MethodName := ⟨RX0, "drawAll", "()V"⟩
def dkwX0_drawAll_7 : List UInt8 := [167, 255, 190, 177]
abbrev dktX0_drawAll_7 : List UInt8 := dkwX0_drawAll_7 ++ []
def dkwX0_drawAll_6 : List UInt8 := [160, 0, 7, 4, 167, 0, 4, 3, 181, 1, 44, 42, 180, 1, 44, 154, 255, 197, 42, 182, 1, 55]
abbrev dktX0_drawAll_6 : List UInt8 := dkwX0_drawAll_6 ++ dktX0_drawAll_7
def dkwX0_drawAll_5 : List UInt8 := [154, 255, 235, 42, 42, 180, 0, 48, 185, 0, 215, 1, 0, 42, 180, 0, 41, 182, 1, 33, 96, 16, 40]
abbrev dktX0_drawAll_5 : List UInt8 := dkwX0_drawAll_5 ++ dktX0_drawAll_6
def dkwX0_drawAll_4 : List UInt8 := [167, 255, 209, 42, 180, 0, 41, 182, 1, 51, 154, 0, 62, 42, 180, 1, 44, 154, 0, 55, 42, 182, 1, 52]
abbrev dktX0_drawAll_4 : List UInt8 := dkwX0_drawAll_4 ++ dktX0_drawAll_5
def dkwX0_drawAll_3 : List UInt8 := [42, 180, 0, 41, 182, 1, 33, 25, 4, 180, 0, 100, 25, 4, 183, 1, 37, 182, 1, 40, 87, 132, 3, 1]
abbrev dktX0_drawAll_3 : List UInt8 := dkwX0_drawAll_3 ++ dktX0_drawAll_4
def dkwX0_drawAll_2 : List UInt8 := [62, 29, 28, 162, 0, 48, 43, 29, 50, 58, 4, 25, 4, 198, 0, 32, 42, 180, 0, 41, 187, 0, 241, 89]
abbrev dktX0_drawAll_2 : List UInt8 := dkwX0_drawAll_2 ++ dktX0_drawAll_3
def dkwX0_drawAll_1 : List UInt8 := [180, 0, 48, 185, 1, 47, 1, 0, 42, 180, 0, 41, 182, 1, 50, 42, 180, 0, 18, 76, 43, 190, 61, 3]
abbrev dktX0_drawAll_1 : List UInt8 := dkwX0_drawAll_1 ++ dktX0_drawAll_2
def dkwX0_drawAll_0 : List UInt8 := [42, 180, 0, 72, 153, 0, 4, 177, 42, 4, 181, 0, 72, 42, 3, 181, 1, 44, 42, 3, 181, 1, 41, 42]
abbrev dktX0_drawAll_0 : List UInt8 := dkwX0_drawAll_0 ++ dktX0_drawAll_1
theorem dksX0_drawAll_0 : cX0_drawAll.data.toList.drop 0 = dktX0_drawAll_0 := by decide +kernel
theorem dksX0_drawAll_1 : cX0_drawAll.data.toList.drop 24 = dktX0_drawAll_1 := dk_seg dksX0_drawAll_0 24 rfl rfl
theorem dksX0_drawAll_2 : cX0_drawAll.data.toList.drop 48 = dktX0_drawAll_2 := dk_seg dksX0_drawAll_1 24 rfl rfl
theorem dksX0_drawAll_3 : cX0_drawAll.data.toList.drop 72 = dktX0_drawAll_3 := dk_seg dksX0_drawAll_2 24 rfl rfl
theorem dksX0_drawAll_4 : cX0_drawAll.data.toList.drop 96 = dktX0_drawAll_4 := dk_seg dksX0_drawAll_3 24 rfl rfl
theorem dksX0_drawAll_5 : cX0_drawAll.data.toList.drop 120 = dktX0_drawAll_5 := dk_seg dksX0_drawAll_4 24 rfl rfl
theorem dksX0_drawAll_6 : cX0_drawAll.data.toList.drop 143 = dktX0_drawAll_6 := dk_seg dksX0_drawAll_5 23 rfl rfl
theorem dksX0_drawAll_7 : cX0_drawAll.data.toList.drop 165 = dktX0_drawAll_7 := dk_seg dksX0_drawAll_6 22 rfl rfl
theorem dX0_drawAll_0 : decode cX0_drawAll 0 = .ok (.aload_n 0, 1) := dk_42 (dk_at dksX0_drawAll_0 0 rfl rfl)
theorem dX0_drawAll_1 : decode cX0_drawAll 1 = .ok (.getfield 72, 3) := dk_180 0 72 (dk_at dksX0_drawAll_0 1 rfl rfl)
theorem dX0_drawAll_4 : decode cX0_drawAll 4 = .ok (.ifCond .eq 4, 3) := dk_153 0 4 (dk_at dksX0_drawAll_0 4 rfl rfl)
theorem dX0_drawAll_7 : decode cX0_drawAll 7 = .ok (.return_, 1) := dk_177 (dk_at dksX0_drawAll_0 7 rfl rfl)
theorem dX0_drawAll_8 : decode cX0_drawAll 8 = .ok (.aload_n 0, 1) := dk_42 (dk_at dksX0_drawAll_0 8 rfl rfl)
theorem dX0_drawAll_9 : decode cX0_drawAll 9 = .ok (.iconst 1, 1) := dk_4 (dk_at dksX0_drawAll_0 9 rfl rfl)
theorem dX0_drawAll_10 : decode cX0_drawAll 10 = .ok (.putfield 72, 3) := dk_181 0 72 (dk_at dksX0_drawAll_0 10 rfl rfl)
theorem dX0_drawAll_13 : decode cX0_drawAll 13 = .ok (.aload_n 0, 1) := dk_42 (dk_at dksX0_drawAll_0 13 rfl rfl)
theorem dX0_drawAll_14 : decode cX0_drawAll 14 = .ok (.iconst 0, 1) := dk_3 (dk_at dksX0_drawAll_0 14 rfl rfl)
theorem dX0_drawAll_15 : decode cX0_drawAll 15 = .ok (.putfield 300, 3) := dk_181 1 44 (dk_at dksX0_drawAll_0 15 rfl rfl)
theorem dX0_drawAll_18 : decode cX0_drawAll 18 = .ok (.aload_n 0, 1) := dk_42 (dk_at dksX0_drawAll_0 18 rfl rfl)
theorem dX0_drawAll_19 : decode cX0_drawAll 19 = .ok (.iconst 0, 1) := dk_3 (dk_at dksX0_drawAll_0 19 rfl rfl)
theorem dX0_drawAll_20 : decode cX0_drawAll 20 = .ok (.putfield 297, 3) := dk_181 1 41 (dk_at dksX0_drawAll_0 20 rfl rfl)
theorem dX0_drawAll_23 : decode cX0_drawAll 23 = .ok (.aload_n 0, 1) := dk_42 (dk_at dksX0_drawAll_0 23 rfl rfl)
theorem dX0_drawAll_24 : decode cX0_drawAll 24 = .ok (.getfield 48, 3) := dk_180 0 48 (dk_at dksX0_drawAll_1 0 rfl rfl)
theorem dX0_drawAll_27 : decode cX0_drawAll 27 = .ok (.invokeinterface 303 1, 5) := by decide +kernel
theorem dX0_drawAll_32 : decode cX0_drawAll 32 = .ok (.aload_n 0, 1) := dk_42 (dk_at dksX0_drawAll_1 8 rfl rfl)
theorem dX0_drawAll_33 : decode cX0_drawAll 33 = .ok (.getfield 41, 3) := dk_180 0 41 (dk_at dksX0_drawAll_1 9 rfl rfl)
theorem dX0_drawAll_36 : decode cX0_drawAll 36 = .ok (.invokevirtual 306, 3) := dk_182 1 50 (dk_at dksX0_drawAll_1 12 rfl rfl)
theorem dX0_drawAll_39 : decode cX0_drawAll 39 = .ok (.aload_n 0, 1) := dk_42 (dk_at dksX0_drawAll_1 15 rfl rfl)
theorem dX0_drawAll_40 : decode cX0_drawAll 40 = .ok (.getfield 18, 3) := dk_180 0 18 (dk_at dksX0_drawAll_1 16 rfl rfl)
theorem dX0_drawAll_43 : decode cX0_drawAll 43 = .ok (.astore_n 1, 1) := dk_76 (dk_at dksX0_drawAll_1 19 rfl rfl)
theorem dX0_drawAll_44 : decode cX0_drawAll 44 = .ok (.aload_n 1, 1) := dk_43 (dk_at dksX0_drawAll_1 20 rfl rfl)
theorem dX0_drawAll_45 : decode cX0_drawAll 45 = .ok (.arraylength, 1) := dk_190 (dk_at dksX0_drawAll_1 21 rfl rfl)
theorem dX0_drawAll_46 : decode cX0_drawAll 46 = .ok (.istore_n 2, 1) := dk_61 (dk_at dksX0_drawAll_1 22 rfl rfl)
theorem dX0_drawAll_47 : decode cX0_drawAll 47 = .ok (.iconst 0, 1) := dk_3 (dk_at dksX0_drawAll_1 23 rfl rfl)
theorem dX0_drawAll_48 : decode cX0_drawAll 48 = .ok (.istore_n 3, 1) := dk_62 (dk_at dksX0_drawAll_2 0 rfl rfl)
theorem dX0_drawAll_49 : decode cX0_drawAll 49 = .ok (.iload_n 3, 1) := dk_29 (dk_at dksX0_drawAll_2 1 rfl rfl)
theorem dX0_drawAll_50 : decode cX0_drawAll 50 = .ok (.iload_n 2, 1) := dk_28 (dk_at dksX0_drawAll_2 2 rfl rfl)
theorem dX0_drawAll_51 : decode cX0_drawAll 51 = .ok (.if_icmp .ge 48, 3) := dk_162 0 48 (dk_at dksX0_drawAll_2 3 rfl rfl)
theorem dX0_drawAll_54 : decode cX0_drawAll 54 = .ok (.aload_n 1, 1) := dk_43 (dk_at dksX0_drawAll_2 6 rfl rfl)
theorem dX0_drawAll_55 : decode cX0_drawAll 55 = .ok (.iload_n 3, 1) := dk_29 (dk_at dksX0_drawAll_2 7 rfl rfl)
theorem dX0_drawAll_56 : decode cX0_drawAll 56 = .ok (.aaload, 1) := dk_50 (dk_at dksX0_drawAll_2 8 rfl rfl)
theorem dX0_drawAll_57 : decode cX0_drawAll 57 = .ok (.astore 4, 2) := dk_58 4 (dk_at dksX0_drawAll_2 9 rfl rfl)
theorem dX0_drawAll_59 : decode cX0_drawAll 59 = .ok (.aload 4, 2) := dk_25 4 (dk_at dksX0_drawAll_2 11 rfl rfl)
theorem dX0_drawAll_61 : decode cX0_drawAll 61 = .ok (.ifnull 32, 3) := dk_198 0 32 (dk_at dksX0_drawAll_2 13 rfl rfl)
theorem dX0_drawAll_64 : decode cX0_drawAll 64 = .ok (.aload_n 0, 1) := dk_42 (dk_at dksX0_drawAll_2 16 rfl rfl)
theorem dX0_drawAll_65 : decode cX0_drawAll 65 = .ok (.getfield 41, 3) := dk_180 0 41 (dk_at dksX0_drawAll_2 17 rfl rfl)
theorem dX0_drawAll_68 : decode cX0_drawAll 68 = .ok (.new 241, 3) := dk_187 0 241 (dk_at dksX0_drawAll_2 20 rfl rfl)
theorem dX0_drawAll_71 : decode cX0_drawAll 71 = .ok (.dup, 1) := dk_89 (dk_at dksX0_drawAll_2 23 rfl rfl)
theorem dX0_drawAll_72 : decode cX0_drawAll 72 = .ok (.aload_n 0, 1) := dk_42 (dk_at dksX0_drawAll_3 0 rfl rfl)
theorem dX0_drawAll_73 : decode cX0_drawAll 73 = .ok (.getfield 41, 3) := dk_180 0 41 (dk_at dksX0_drawAll_3 1 rfl rfl)
theorem dX0_drawAll_76 : decode cX0_drawAll 76 = .ok (.invokevirtual 289, 3) := dk_182 1 33 (dk_at dksX0_drawAll_3 4 rfl rfl)
theorem dX0_drawAll_79 : decode cX0_drawAll 79 = .ok (.aload 4, 2) := dk_25 4 (dk_at dksX0_drawAll_3 7 rfl rfl)
theorem dX0_drawAll_81 : decode cX0_drawAll 81 = .ok (.getfield 100, 3) := dk_180 0 100 (dk_at dksX0_drawAll_3 9 rfl rfl)
theorem dX0_drawAll_84 : decode cX0_drawAll 84 = .ok (.aload 4, 2) := dk_25 4 (dk_at dksX0_drawAll_3 12 rfl rfl)
theorem dX0_drawAll_86 : decode cX0_drawAll 86 = .ok (.invokespecial 293, 3) := dk_183 1 37 (dk_at dksX0_drawAll_3 14 rfl rfl)
theorem dX0_drawAll_89 : decode cX0_drawAll 89 = .ok (.invokevirtual 296, 3) := dk_182 1 40 (dk_at dksX0_drawAll_3 17 rfl rfl)
theorem dX0_drawAll_92 : decode cX0_drawAll 92 = .ok (.pop, 1) := dk_87 (dk_at dksX0_drawAll_3 20 rfl rfl)
theorem dX0_drawAll_93 : decode cX0_drawAll 93 = .ok (.iinc 3 1, 3) := dk_132 3 1 (dk_at dksX0_drawAll_3 21 rfl rfl)
theorem dX0_drawAll_96 : decode cX0_drawAll 96 = .ok (.goto (-47), 3) := dk_167 255 209 (dk_at dksX0_drawAll_4 0 rfl rfl)
theorem dX0_drawAll_99 : decode cX0_drawAll 99 = .ok (.aload_n 0, 1) := dk_42 (dk_at dksX0_drawAll_4 3 rfl rfl)
theorem dX0_drawAll_100 : decode cX0_drawAll 100 = .ok (.getfield 41, 3) := dk_180 0 41 (dk_at dksX0_drawAll_4 4 rfl rfl)
theorem dX0_drawAll_103 : decode cX0_drawAll 103 = .ok (.invokevirtual 307, 3) := dk_182 1 51 (dk_at dksX0_drawAll_4 7 rfl rfl)
theorem dX0_drawAll_106 : decode cX0_drawAll 106 = .ok (.ifCond .ne 62, 3) := dk_154 0 62 (dk_at dksX0_drawAll_4 10 rfl rfl)
theorem dX0_drawAll_109 : decode cX0_drawAll 109 = .ok (.aload_n 0, 1) := dk_42 (dk_at dksX0_drawAll_4 13 rfl rfl)
theorem dX0_drawAll_110 : decode cX0_drawAll 110 = .ok (.getfield 300, 3) := dk_180 1 44 (dk_at dksX0_drawAll_4 14 rfl rfl)
theorem dX0_drawAll_113 : decode cX0_drawAll 113 = .ok (.ifCond .ne 55, 3) := dk_154 0 55 (dk_at dksX0_drawAll_4 17 rfl rfl)
theorem dX0_drawAll_116 : decode cX0_drawAll 116 = .ok (.aload_n 0, 1) := dk_42 (dk_at dksX0_drawAll_4 20 rfl rfl)
theorem dX0_drawAll_117 : decode cX0_drawAll 117 = .ok (.invokevirtual 308, 3) := dk_182 1 52 (dk_at dksX0_drawAll_4 21 rfl rfl)
theorem dX0_drawAll_120 : decode cX0_drawAll 120 = .ok (.ifCond .ne (-21), 3) := dk_154 255 235 (dk_at dksX0_drawAll_5 0 rfl rfl)
theorem dX0_drawAll_123 : decode cX0_drawAll 123 = .ok (.aload_n 0, 1) := dk_42 (dk_at dksX0_drawAll_5 3 rfl rfl)
theorem dX0_drawAll_124 : decode cX0_drawAll 124 = .ok (.aload_n 0, 1) := dk_42 (dk_at dksX0_drawAll_5 4 rfl rfl)
theorem dX0_drawAll_125 : decode cX0_drawAll 125 = .ok (.getfield 48, 3) := dk_180 0 48 (dk_at dksX0_drawAll_5 5 rfl rfl)
theorem dX0_drawAll_128 : decode cX0_drawAll 128 = .ok (.invokeinterface 215 1, 5) := by decide +kernel
theorem dX0_drawAll_133 : decode cX0_drawAll 133 = .ok (.aload_n 0, 1) := dk_42 (dk_at dksX0_drawAll_5 13 rfl rfl)
theorem dX0_drawAll_134 : decode cX0_drawAll 134 = .ok (.getfield 41, 3) := dk_180 0 41 (dk_at dksX0_drawAll_5 14 rfl rfl)
theorem dX0_drawAll_137 : decode cX0_drawAll 137 = .ok (.invokevirtual 289, 3) := dk_182 1 33 (dk_at dksX0_drawAll_5 17 rfl rfl)
theorem dX0_drawAll_140 : decode cX0_drawAll 140 = .ok (.iadd, 1) := dk_96 (dk_at dksX0_drawAll_5 20 rfl rfl)
theorem dX0_drawAll_141 : decode cX0_drawAll 141 = .ok (.bipush 40, 2) := dk_16 40 (dk_at dksX0_drawAll_5 21 rfl rfl)
theorem dX0_drawAll_143 : decode cX0_drawAll 143 = .ok (.if_icmp .ne 7, 3) := dk_160 0 7 (dk_at dksX0_drawAll_6 0 rfl rfl)
theorem dX0_drawAll_146 : decode cX0_drawAll 146 = .ok (.iconst 1, 1) := dk_4 (dk_at dksX0_drawAll_6 3 rfl rfl)
theorem dX0_drawAll_147 : decode cX0_drawAll 147 = .ok (.goto 4, 3) := dk_167 0 4 (dk_at dksX0_drawAll_6 4 rfl rfl)
theorem dX0_drawAll_150 : decode cX0_drawAll 150 = .ok (.iconst 0, 1) := dk_3 (dk_at dksX0_drawAll_6 7 rfl rfl)
theorem dX0_drawAll_151 : decode cX0_drawAll 151 = .ok (.putfield 300, 3) := dk_181 1 44 (dk_at dksX0_drawAll_6 8 rfl rfl)
theorem dX0_drawAll_154 : decode cX0_drawAll 154 = .ok (.aload_n 0, 1) := dk_42 (dk_at dksX0_drawAll_6 11 rfl rfl)
theorem dX0_drawAll_155 : decode cX0_drawAll 155 = .ok (.getfield 300, 3) := dk_180 1 44 (dk_at dksX0_drawAll_6 12 rfl rfl)
theorem dX0_drawAll_158 : decode cX0_drawAll 158 = .ok (.ifCond .ne (-59), 3) := dk_154 255 197 (dk_at dksX0_drawAll_6 15 rfl rfl)
theorem dX0_drawAll_161 : decode cX0_drawAll 161 = .ok (.aload_n 0, 1) := dk_42 (dk_at dksX0_drawAll_6 18 rfl rfl)
theorem dX0_drawAll_162 : decode cX0_drawAll 162 = .ok (.invokevirtual 311, 3) := dk_182 1 55 (dk_at dksX0_drawAll_6 19 rfl rfl)
theorem dX0_drawAll_165 : decode cX0_drawAll 165 = .ok (.goto (-66), 3) := dk_167 255 190 (dk_at dksX0_drawAll_7 0 rfl rfl)
theorem dX0_drawAll_168 : decode cX0_drawAll 168 = .ok (.return_, 1) := dk_177 (dk_at dksX0_drawAll_7 3 rfl rfl)
abbrev cX0_drawsOne : ByteArray := prog_1_method_34_code
def yX0_drawsOne : MethodName := ⟨RX0, "drawsOne", "()Z"⟩
def dkwX0_drawsOne_3 : List UInt8 := [185, 0, 208, 2, 0, 87, 4, 172]
abbrev dktX0_drawsOne_3 : List UInt8 := dkwX0_drawsOne_3 ++ []
def dkwX0_drawsOne_2 : List UInt8 := [167, 255, 219, 44, 199, 0, 5, 3, 172, 43, 185, 0, 251, 1, 0, 42, 180, 0, 48, 44]
abbrev dktX0_drawsOne_2 : List UInt8 := dkwX0_drawsOne_2 ++ dktX0_drawsOne_3
def dkwX0_drawsOne_1 : List UInt8 := [185, 0, 238, 1, 0, 192, 0, 241, 78, 42, 45, 182, 0, 247, 153, 0, 7, 1, 167, 0, 4, 45, 77]
abbrev dktX0_drawsOne_1 : List UInt8 := dkwX0_drawsOne_1 ++ dktX0_drawsOne_2
def dkwX0_drawsOne_0 : List UInt8 := [42, 180, 0, 41, 182, 0, 229, 76, 1, 77, 43, 185, 0, 233, 1, 0, 153, 0, 34, 44, 199, 0, 30, 43]
abbrev dktX0_drawsOne_0 : List UInt8 := dkwX0_drawsOne_0 ++ dktX0_drawsOne_1
theorem dksX0_drawsOne_0 : cX0_drawsOne.data.toList.drop 0 = dktX0_drawsOne_0 := by decide +kernel
theorem dksX0_drawsOne_1 : cX0_drawsOne.data.toList.drop 24 = dktX0_drawsOne_1 := dk_seg dksX0_drawsOne_0 24 rfl rfl
theorem dksX0_drawsOne_2 : cX0_drawsOne.data.toList.drop 47 = dktX0_drawsOne_2 := dk_seg dksX0_drawsOne_1 23 rfl rfl
theorem dksX0_drawsOne_3 : cX0_drawsOne.data.toList.drop 67 = dktX0_drawsOne_3 := dk_seg dksX0_drawsOne_2 20 rfl rfl
theorem dX0_drawsOne_0 : decode cX0_drawsOne 0 = .ok (.aload_n 0, 1) := dk_42 (dk_at dksX0_drawsOne_0 0 rfl rfl)
theorem dX0_drawsOne_1 : decode cX0_drawsOne 1 = .ok (.getfield 41, 3) := dk_180 0 41 (dk_at dksX0_drawsOne_0 1 rfl rfl)
theorem dX0_drawsOne_4 : decode cX0_drawsOne 4 = .ok (.invokevirtual 229, 3) := dk_182 0 229 (dk_at dksX0_drawsOne_0 4 rfl rfl)
theorem dX0_drawsOne_7 : decode cX0_drawsOne 7 = .ok (.astore_n 1, 1) := dk_76 (dk_at dksX0_drawsOne_0 7 rfl rfl)
theorem dX0_drawsOne_8 : decode cX0_drawsOne 8 = .ok (.aconst_null, 1) := dk_1 (dk_at dksX0_drawsOne_0 8 rfl rfl)
theorem dX0_drawsOne_9 : decode cX0_drawsOne 9 = .ok (.astore_n 2, 1) := dk_77 (dk_at dksX0_drawsOne_0 9 rfl rfl)
theorem dX0_drawsOne_10 : decode cX0_drawsOne 10 = .ok (.aload_n 1, 1) := dk_43 (dk_at dksX0_drawsOne_0 10 rfl rfl)
theorem dX0_drawsOne_11 : decode cX0_drawsOne 11 = .ok (.invokeinterface 233 1, 5) := by decide +kernel
theorem dX0_drawsOne_16 : decode cX0_drawsOne 16 = .ok (.ifCond .eq 34, 3) := dk_153 0 34 (dk_at dksX0_drawsOne_0 16 rfl rfl)
theorem dX0_drawsOne_19 : decode cX0_drawsOne 19 = .ok (.aload_n 2, 1) := dk_44 (dk_at dksX0_drawsOne_0 19 rfl rfl)
theorem dX0_drawsOne_20 : decode cX0_drawsOne 20 = .ok (.ifnonnull 30, 3) := dk_199 0 30 (dk_at dksX0_drawsOne_0 20 rfl rfl)
theorem dX0_drawsOne_23 : decode cX0_drawsOne 23 = .ok (.aload_n 1, 1) := dk_43 (dk_at dksX0_drawsOne_0 23 rfl rfl)
theorem dX0_drawsOne_24 : decode cX0_drawsOne 24 = .ok (.invokeinterface 238 1, 5) := by decide +kernel
theorem dX0_drawsOne_29 : decode cX0_drawsOne 29 = .ok (.checkcast 241, 3) := dk_192 0 241 (dk_at dksX0_drawsOne_1 5 rfl rfl)
theorem dX0_drawsOne_32 : decode cX0_drawsOne 32 = .ok (.astore_n 3, 1) := dk_78 (dk_at dksX0_drawsOne_1 8 rfl rfl)
theorem dX0_drawsOne_33 : decode cX0_drawsOne 33 = .ok (.aload_n 0, 1) := dk_42 (dk_at dksX0_drawsOne_1 9 rfl rfl)
theorem dX0_drawsOne_34 : decode cX0_drawsOne 34 = .ok (.aload_n 3, 1) := dk_45 (dk_at dksX0_drawsOne_1 10 rfl rfl)
theorem dX0_drawsOne_35 : decode cX0_drawsOne 35 = .ok (.invokevirtual 247, 3) := dk_182 0 247 (dk_at dksX0_drawsOne_1 11 rfl rfl)
theorem dX0_drawsOne_38 : decode cX0_drawsOne 38 = .ok (.ifCond .eq 7, 3) := dk_153 0 7 (dk_at dksX0_drawsOne_1 14 rfl rfl)
theorem dX0_drawsOne_41 : decode cX0_drawsOne 41 = .ok (.aconst_null, 1) := dk_1 (dk_at dksX0_drawsOne_1 17 rfl rfl)
theorem dX0_drawsOne_42 : decode cX0_drawsOne 42 = .ok (.goto 4, 3) := dk_167 0 4 (dk_at dksX0_drawsOne_1 18 rfl rfl)
theorem dX0_drawsOne_45 : decode cX0_drawsOne 45 = .ok (.aload_n 3, 1) := dk_45 (dk_at dksX0_drawsOne_1 21 rfl rfl)
theorem dX0_drawsOne_46 : decode cX0_drawsOne 46 = .ok (.astore_n 2, 1) := dk_77 (dk_at dksX0_drawsOne_1 22 rfl rfl)
theorem dX0_drawsOne_47 : decode cX0_drawsOne 47 = .ok (.goto (-37), 3) := dk_167 255 219 (dk_at dksX0_drawsOne_2 0 rfl rfl)
theorem dX0_drawsOne_50 : decode cX0_drawsOne 50 = .ok (.aload_n 2, 1) := dk_44 (dk_at dksX0_drawsOne_2 3 rfl rfl)
theorem dX0_drawsOne_51 : decode cX0_drawsOne 51 = .ok (.ifnonnull 5, 3) := dk_199 0 5 (dk_at dksX0_drawsOne_2 4 rfl rfl)
theorem dX0_drawsOne_54 : decode cX0_drawsOne 54 = .ok (.iconst 0, 1) := dk_3 (dk_at dksX0_drawsOne_2 7 rfl rfl)
theorem dX0_drawsOne_55 : decode cX0_drawsOne 55 = .ok (.ireturn, 1) := dk_172 (dk_at dksX0_drawsOne_2 8 rfl rfl)
theorem dX0_drawsOne_56 : decode cX0_drawsOne 56 = .ok (.aload_n 1, 1) := dk_43 (dk_at dksX0_drawsOne_2 9 rfl rfl)
theorem dX0_drawsOne_57 : decode cX0_drawsOne 57 = .ok (.invokeinterface 251 1, 5) := by decide +kernel
theorem dX0_drawsOne_62 : decode cX0_drawsOne 62 = .ok (.aload_n 0, 1) := dk_42 (dk_at dksX0_drawsOne_2 15 rfl rfl)
theorem dX0_drawsOne_63 : decode cX0_drawsOne 63 = .ok (.getfield 48, 3) := dk_180 0 48 (dk_at dksX0_drawsOne_2 16 rfl rfl)
theorem dX0_drawsOne_66 : decode cX0_drawsOne 66 = .ok (.aload_n 2, 1) := dk_44 (dk_at dksX0_drawsOne_2 19 rfl rfl)
theorem dX0_drawsOne_67 : decode cX0_drawsOne 67 = .ok (.invokeinterface 208 2, 5) := by decide +kernel
theorem dX0_drawsOne_72 : decode cX0_drawsOne 72 = .ok (.pop, 1) := dk_87 (dk_at dksX0_drawsOne_3 5 rfl rfl)
theorem dX0_drawsOne_73 : decode cX0_drawsOne 73 = .ok (.iconst 1, 1) := dk_4 (dk_at dksX0_drawsOne_3 6 rfl rfl)
theorem dX0_drawsOne_74 : decode cX0_drawsOne 74 = .ok (.ireturn, 1) := dk_172 (dk_at dksX0_drawsOne_3 7 rfl rfl)
abbrev cX0_hasBehind : ByteArray := prog_1_method_33_code
def yX0_hasBehind : MethodName := ⟨RX0, "hasBehind", "(LDepthSorter$Piece;)Z"⟩
def dkwX0_hasBehind_2 : List UInt8 := [172, 167, 255, 216, 3, 172]
abbrev dktX0_hasBehind_2 : List UInt8 := dkwX0_hasBehind_2 ++ []
def dkwX0_hasBehind_1 : List UInt8 := [192, 0, 241, 78, 45, 43, 165, 0, 19, 45, 180, 0, 243, 43, 180, 0, 243, 182, 0, 162, 153, 0, 5, 4]
abbrev dktX0_hasBehind_1 : List UInt8 := dkwX0_hasBehind_1 ++ dktX0_hasBehind_2
def dkwX0_hasBehind_0 : List UInt8 := [42, 180, 0, 41, 182, 0, 229, 77, 44, 185, 0, 233, 1, 0, 153, 0, 37, 44, 185, 0, 238, 1, 0]
abbrev dktX0_hasBehind_0 : List UInt8 := dkwX0_hasBehind_0 ++ dktX0_hasBehind_1
theorem dksX0_hasBehind_0 : cX0_hasBehind.data.toList.drop 0 = dktX0_hasBehind_0 := by decide +kernel
theorem dksX0_hasBehind_1 : cX0_hasBehind.data.toList.drop 23 = dktX0_hasBehind_1 := dk_seg dksX0_hasBehind_0 23 rfl rfl
theorem dksX0_hasBehind_2 : cX0_hasBehind.data.toList.drop 47 = dktX0_hasBehind_2 := dk_seg dksX0_hasBehind_1 24 rfl rfl
theorem dX0_hasBehind_0 : decode cX0_hasBehind 0 = .ok (.aload_n 0, 1) := dk_42 (dk_at dksX0_hasBehind_0 0 rfl rfl)
theorem dX0_hasBehind_1 : decode cX0_hasBehind 1 = .ok (.getfield 41, 3) := dk_180 0 41 (dk_at dksX0_hasBehind_0 1 rfl rfl)
theorem dX0_hasBehind_4 : decode cX0_hasBehind 4 = .ok (.invokevirtual 229, 3) := dk_182 0 229 (dk_at dksX0_hasBehind_0 4 rfl rfl)
theorem dX0_hasBehind_7 : decode cX0_hasBehind 7 = .ok (.astore_n 2, 1) := dk_77 (dk_at dksX0_hasBehind_0 7 rfl rfl)
theorem dX0_hasBehind_8 : decode cX0_hasBehind 8 = .ok (.aload_n 2, 1) := dk_44 (dk_at dksX0_hasBehind_0 8 rfl rfl)
theorem dX0_hasBehind_9 : decode cX0_hasBehind 9 = .ok (.invokeinterface 233 1, 5) := by decide +kernel
theorem dX0_hasBehind_14 : decode cX0_hasBehind 14 = .ok (.ifCond .eq 37, 3) := dk_153 0 37 (dk_at dksX0_hasBehind_0 14 rfl rfl)
theorem dX0_hasBehind_17 : decode cX0_hasBehind 17 = .ok (.aload_n 2, 1) := dk_44 (dk_at dksX0_hasBehind_0 17 rfl rfl)
theorem dX0_hasBehind_18 : decode cX0_hasBehind 18 = .ok (.invokeinterface 238 1, 5) := by decide +kernel
theorem dX0_hasBehind_23 : decode cX0_hasBehind 23 = .ok (.checkcast 241, 3) := dk_192 0 241 (dk_at dksX0_hasBehind_1 0 rfl rfl)
theorem dX0_hasBehind_26 : decode cX0_hasBehind 26 = .ok (.astore_n 3, 1) := dk_78 (dk_at dksX0_hasBehind_1 3 rfl rfl)
theorem dX0_hasBehind_27 : decode cX0_hasBehind 27 = .ok (.aload_n 3, 1) := dk_45 (dk_at dksX0_hasBehind_1 4 rfl rfl)
theorem dX0_hasBehind_28 : decode cX0_hasBehind 28 = .ok (.aload_n 1, 1) := dk_43 (dk_at dksX0_hasBehind_1 5 rfl rfl)
theorem dX0_hasBehind_29 : decode cX0_hasBehind 29 = .ok (.if_acmp .eq 19, 3) := dk_165 0 19 (dk_at dksX0_hasBehind_1 6 rfl rfl)
theorem dX0_hasBehind_32 : decode cX0_hasBehind 32 = .ok (.aload_n 3, 1) := dk_45 (dk_at dksX0_hasBehind_1 9 rfl rfl)
theorem dX0_hasBehind_33 : decode cX0_hasBehind 33 = .ok (.getfield 243, 3) := dk_180 0 243 (dk_at dksX0_hasBehind_1 10 rfl rfl)
theorem dX0_hasBehind_36 : decode cX0_hasBehind 36 = .ok (.aload_n 1, 1) := dk_43 (dk_at dksX0_hasBehind_1 13 rfl rfl)
theorem dX0_hasBehind_37 : decode cX0_hasBehind 37 = .ok (.getfield 243, 3) := dk_180 0 243 (dk_at dksX0_hasBehind_1 14 rfl rfl)
theorem dX0_hasBehind_40 : decode cX0_hasBehind 40 = .ok (.invokevirtual 162, 3) := dk_182 0 162 (dk_at dksX0_hasBehind_1 17 rfl rfl)
theorem dX0_hasBehind_43 : decode cX0_hasBehind 43 = .ok (.ifCond .eq 5, 3) := dk_153 0 5 (dk_at dksX0_hasBehind_1 20 rfl rfl)
theorem dX0_hasBehind_46 : decode cX0_hasBehind 46 = .ok (.iconst 1, 1) := dk_4 (dk_at dksX0_hasBehind_1 23 rfl rfl)
theorem dX0_hasBehind_47 : decode cX0_hasBehind 47 = .ok (.ireturn, 1) := dk_172 (dk_at dksX0_hasBehind_2 0 rfl rfl)
theorem dX0_hasBehind_48 : decode cX0_hasBehind 48 = .ok (.goto (-40), 3) := dk_167 255 216 (dk_at dksX0_hasBehind_2 1 rfl rfl)
theorem dX0_hasBehind_51 : decode cX0_hasBehind 51 = .ok (.iconst 0, 1) := dk_3 (dk_at dksX0_hasBehind_2 4 rfl rfl)
theorem dX0_hasBehind_52 : decode cX0_hasBehind 52 = .ok (.ireturn, 1) := dk_172 (dk_at dksX0_hasBehind_2 5 rfl rfl)
abbrev cX0_cutCycle : ByteArray := prog_1_method_38_code
def yX0_cutCycle : MethodName := ⟨RX0, "cutCycle", "()V"⟩
def dkwX0_cutCycle_8 : List UInt8 := [21, 4, 4, 96, 182, 1, 26, 54, 4, 167, 255, 147, 132, 2, 1, 167, 255, 62, 177]
abbrev dktX0_cutCycle_8 : List UInt8 := dkwX0_cutCycle_8 ++ []
def dkwX0_cutCycle_7 : List UInt8 := [180, 0, 243, 28, 21, 4, 182, 0, 151, 181, 0, 243, 42, 89, 180, 1, 41, 4, 96, 181, 1, 41, 177, 45]
abbrev dktX0_cutCycle_7 : List UInt8 := dkwX0_cutCycle_7 ++ dktX0_cutCycle_8
def dkwX0_cutCycle_6 : List UInt8 := [25, 5, 180, 1, 34, 28, 21, 4, 182, 0, 154, 183, 1, 37, 182, 1, 40, 87, 25, 5, 25, 5]
abbrev dktX0_cutCycle_6 : List UInt8 := dkwX0_cutCycle_6 ++ dktX0_cutCycle_7
def dkwX0_cutCycle_5 : List UInt8 := [185, 0, 215, 1, 0, 42, 180, 0, 41, 182, 1, 33, 96, 25, 5, 180, 1, 34, 25, 5, 180, 0, 243]
abbrev dktX0_cutCycle_5 : List UInt8 := dkwX0_cutCycle_5 ++ dktX0_cutCycle_6
def dkwX0_cutCycle_4 : List UInt8 := [184, 1, 29, 58, 5, 25, 5, 198, 0, 83, 42, 180, 0, 41, 187, 0, 241, 89, 42, 180, 0, 48]
abbrev dktX0_cutCycle_4 : List UInt8 := dkwX0_cutCycle_4 ++ dktX0_cutCycle_5
def dkwX0_cutCycle_3 : List UInt8 := [46, 182, 1, 7, 167, 255, 206, 45, 3, 182, 1, 26, 54, 4, 21, 4, 155, 0, 110, 43, 28, 21, 4]
abbrev dktX0_cutCycle_3 : List UInt8 := dkwX0_cutCycle_3 ++ dktX0_cutCycle_4
def dkwX0_cutCycle_2 : List UInt8 := [45, 25, 5, 180, 0, 243, 180, 1, 20, 28, 46, 182, 1, 7, 45, 25, 5, 180, 0, 243, 180, 1, 23, 28]
abbrev dktX0_cutCycle_2 : List UInt8 := dkwX0_cutCycle_2 ++ dktX0_cutCycle_3
def dkwX0_cutCycle_1 : List UInt8 := [58, 4, 25, 4, 185, 0, 233, 1, 0, 153, 0, 46, 25, 4, 185, 0, 238, 1, 0, 192, 0, 241, 58, 5]
abbrev dktX0_cutCycle_1 : List UInt8 := dkwX0_cutCycle_1 ++ dktX0_cutCycle_2
def dkwX0_cutCycle_0 : List UInt8 := [42, 182, 1, 16, 76, 3, 61, 28, 6, 162, 0, 195, 187, 0, 254, 89, 183, 1, 0, 78, 43, 182, 1, 15]
abbrev dktX0_cutCycle_0 : List UInt8 := dkwX0_cutCycle_0 ++ dktX0_cutCycle_1
theorem dksX0_cutCycle_0 : cX0_cutCycle.data.toList.drop 0 = dktX0_cutCycle_0 := by decide +kernel
theorem dksX0_cutCycle_1 : cX0_cutCycle.data.toList.drop 24 = dktX0_cutCycle_1 := dk_seg dksX0_cutCycle_0 24 rfl rfl
theorem dksX0_cutCycle_2 : cX0_cutCycle.data.toList.drop 48 = dktX0_cutCycle_2 := dk_seg dksX0_cutCycle_1 24 rfl rfl
theorem dksX0_cutCycle_3 : cX0_cutCycle.data.toList.drop 72 = dktX0_cutCycle_3 := dk_seg dksX0_cutCycle_2 24 rfl rfl
theorem dksX0_cutCycle_4 : cX0_cutCycle.data.toList.drop 95 = dktX0_cutCycle_4 := dk_seg dksX0_cutCycle_3 23 rfl rfl
theorem dksX0_cutCycle_5 : cX0_cutCycle.data.toList.drop 117 = dktX0_cutCycle_5 := dk_seg dksX0_cutCycle_4 22 rfl rfl
theorem dksX0_cutCycle_6 : cX0_cutCycle.data.toList.drop 140 = dktX0_cutCycle_6 := dk_seg dksX0_cutCycle_5 23 rfl rfl
theorem dksX0_cutCycle_7 : cX0_cutCycle.data.toList.drop 162 = dktX0_cutCycle_7 := dk_seg dksX0_cutCycle_6 22 rfl rfl
theorem dksX0_cutCycle_8 : cX0_cutCycle.data.toList.drop 186 = dktX0_cutCycle_8 := dk_seg dksX0_cutCycle_7 24 rfl rfl
theorem dX0_cutCycle_0 : decode cX0_cutCycle 0 = .ok (.aload_n 0, 1) := dk_42 (dk_at dksX0_cutCycle_0 0 rfl rfl)
theorem dX0_cutCycle_1 : decode cX0_cutCycle 1 = .ok (.invokevirtual 272, 3) := dk_182 1 16 (dk_at dksX0_cutCycle_0 1 rfl rfl)
theorem dX0_cutCycle_4 : decode cX0_cutCycle 4 = .ok (.astore_n 1, 1) := dk_76 (dk_at dksX0_cutCycle_0 4 rfl rfl)
theorem dX0_cutCycle_5 : decode cX0_cutCycle 5 = .ok (.iconst 0, 1) := dk_3 (dk_at dksX0_cutCycle_0 5 rfl rfl)
theorem dX0_cutCycle_6 : decode cX0_cutCycle 6 = .ok (.istore_n 2, 1) := dk_61 (dk_at dksX0_cutCycle_0 6 rfl rfl)
theorem dX0_cutCycle_7 : decode cX0_cutCycle 7 = .ok (.iload_n 2, 1) := dk_28 (dk_at dksX0_cutCycle_0 7 rfl rfl)
theorem dX0_cutCycle_8 : decode cX0_cutCycle 8 = .ok (.iconst 3, 1) := dk_6 (dk_at dksX0_cutCycle_0 8 rfl rfl)
theorem dX0_cutCycle_9 : decode cX0_cutCycle 9 = .ok (.if_icmp .ge 195, 3) := dk_162 0 195 (dk_at dksX0_cutCycle_0 9 rfl rfl)
theorem dX0_cutCycle_12 : decode cX0_cutCycle 12 = .ok (.new 254, 3) := dk_187 0 254 (dk_at dksX0_cutCycle_0 12 rfl rfl)
theorem dX0_cutCycle_15 : decode cX0_cutCycle 15 = .ok (.dup, 1) := dk_89 (dk_at dksX0_cutCycle_0 15 rfl rfl)
theorem dX0_cutCycle_16 : decode cX0_cutCycle 16 = .ok (.invokespecial 256, 3) := dk_183 1 0 (dk_at dksX0_cutCycle_0 16 rfl rfl)
theorem dX0_cutCycle_19 : decode cX0_cutCycle 19 = .ok (.astore_n 3, 1) := dk_78 (dk_at dksX0_cutCycle_0 19 rfl rfl)
theorem dX0_cutCycle_20 : decode cX0_cutCycle 20 = .ok (.aload_n 1, 1) := dk_43 (dk_at dksX0_cutCycle_0 20 rfl rfl)
theorem dX0_cutCycle_21 : decode cX0_cutCycle 21 = .ok (.invokevirtual 271, 3) := dk_182 1 15 (dk_at dksX0_cutCycle_0 21 rfl rfl)
theorem dX0_cutCycle_24 : decode cX0_cutCycle 24 = .ok (.astore 4, 2) := dk_58 4 (dk_at dksX0_cutCycle_1 0 rfl rfl)
theorem dX0_cutCycle_26 : decode cX0_cutCycle 26 = .ok (.aload 4, 2) := dk_25 4 (dk_at dksX0_cutCycle_1 2 rfl rfl)
theorem dX0_cutCycle_28 : decode cX0_cutCycle 28 = .ok (.invokeinterface 233 1, 5) := by decide +kernel
theorem dX0_cutCycle_33 : decode cX0_cutCycle 33 = .ok (.ifCond .eq 46, 3) := dk_153 0 46 (dk_at dksX0_cutCycle_1 9 rfl rfl)
theorem dX0_cutCycle_36 : decode cX0_cutCycle 36 = .ok (.aload 4, 2) := dk_25 4 (dk_at dksX0_cutCycle_1 12 rfl rfl)
theorem dX0_cutCycle_38 : decode cX0_cutCycle 38 = .ok (.invokeinterface 238 1, 5) := by decide +kernel
theorem dX0_cutCycle_43 : decode cX0_cutCycle 43 = .ok (.checkcast 241, 3) := dk_192 0 241 (dk_at dksX0_cutCycle_1 19 rfl rfl)
theorem dX0_cutCycle_46 : decode cX0_cutCycle 46 = .ok (.astore 5, 2) := dk_58 5 (dk_at dksX0_cutCycle_1 22 rfl rfl)
theorem dX0_cutCycle_48 : decode cX0_cutCycle 48 = .ok (.aload_n 3, 1) := dk_45 (dk_at dksX0_cutCycle_2 0 rfl rfl)
theorem dX0_cutCycle_49 : decode cX0_cutCycle 49 = .ok (.aload 5, 2) := dk_25 5 (dk_at dksX0_cutCycle_2 1 rfl rfl)
theorem dX0_cutCycle_51 : decode cX0_cutCycle 51 = .ok (.getfield 243, 3) := dk_180 0 243 (dk_at dksX0_cutCycle_2 3 rfl rfl)
theorem dX0_cutCycle_54 : decode cX0_cutCycle 54 = .ok (.getfield 276, 3) := dk_180 1 20 (dk_at dksX0_cutCycle_2 6 rfl rfl)
theorem dX0_cutCycle_57 : decode cX0_cutCycle 57 = .ok (.iload_n 2, 1) := dk_28 (dk_at dksX0_cutCycle_2 9 rfl rfl)
theorem dX0_cutCycle_58 : decode cX0_cutCycle 58 = .ok (.iaload, 1) := dk_46 (dk_at dksX0_cutCycle_2 10 rfl rfl)
theorem dX0_cutCycle_59 : decode cX0_cutCycle 59 = .ok (.invokevirtual 263, 3) := dk_182 1 7 (dk_at dksX0_cutCycle_2 11 rfl rfl)
theorem dX0_cutCycle_62 : decode cX0_cutCycle 62 = .ok (.aload_n 3, 1) := dk_45 (dk_at dksX0_cutCycle_2 14 rfl rfl)
theorem dX0_cutCycle_63 : decode cX0_cutCycle 63 = .ok (.aload 5, 2) := dk_25 5 (dk_at dksX0_cutCycle_2 15 rfl rfl)
theorem dX0_cutCycle_65 : decode cX0_cutCycle 65 = .ok (.getfield 243, 3) := dk_180 0 243 (dk_at dksX0_cutCycle_2 17 rfl rfl)
theorem dX0_cutCycle_68 : decode cX0_cutCycle 68 = .ok (.getfield 279, 3) := dk_180 1 23 (dk_at dksX0_cutCycle_2 20 rfl rfl)
theorem dX0_cutCycle_71 : decode cX0_cutCycle 71 = .ok (.iload_n 2, 1) := dk_28 (dk_at dksX0_cutCycle_2 23 rfl rfl)
theorem dX0_cutCycle_72 : decode cX0_cutCycle 72 = .ok (.iaload, 1) := dk_46 (dk_at dksX0_cutCycle_3 0 rfl rfl)
theorem dX0_cutCycle_73 : decode cX0_cutCycle 73 = .ok (.invokevirtual 263, 3) := dk_182 1 7 (dk_at dksX0_cutCycle_3 1 rfl rfl)
theorem dX0_cutCycle_76 : decode cX0_cutCycle 76 = .ok (.goto (-50), 3) := dk_167 255 206 (dk_at dksX0_cutCycle_3 4 rfl rfl)
theorem dX0_cutCycle_79 : decode cX0_cutCycle 79 = .ok (.aload_n 3, 1) := dk_45 (dk_at dksX0_cutCycle_3 7 rfl rfl)
theorem dX0_cutCycle_80 : decode cX0_cutCycle 80 = .ok (.iconst 0, 1) := dk_3 (dk_at dksX0_cutCycle_3 8 rfl rfl)
theorem dX0_cutCycle_81 : decode cX0_cutCycle 81 = .ok (.invokevirtual 282, 3) := dk_182 1 26 (dk_at dksX0_cutCycle_3 9 rfl rfl)
theorem dX0_cutCycle_84 : decode cX0_cutCycle 84 = .ok (.istore 4, 2) := dk_54 4 (dk_at dksX0_cutCycle_3 12 rfl rfl)
theorem dX0_cutCycle_86 : decode cX0_cutCycle 86 = .ok (.iload 4, 2) := dk_21 4 (dk_at dksX0_cutCycle_3 14 rfl rfl)
theorem dX0_cutCycle_88 : decode cX0_cutCycle 88 = .ok (.ifCond .lt 110, 3) := dk_155 0 110 (dk_at dksX0_cutCycle_3 16 rfl rfl)
theorem dX0_cutCycle_91 : decode cX0_cutCycle 91 = .ok (.aload_n 1, 1) := dk_43 (dk_at dksX0_cutCycle_3 19 rfl rfl)
theorem dX0_cutCycle_92 : decode cX0_cutCycle 92 = .ok (.iload_n 2, 1) := dk_28 (dk_at dksX0_cutCycle_3 20 rfl rfl)
theorem dX0_cutCycle_93 : decode cX0_cutCycle 93 = .ok (.iload 4, 2) := dk_21 4 (dk_at dksX0_cutCycle_3 21 rfl rfl)
theorem dX0_cutCycle_95 : decode cX0_cutCycle 95 = .ok (.invokestatic 285, 3) := dk_184 1 29 (dk_at dksX0_cutCycle_4 0 rfl rfl)
theorem dX0_cutCycle_98 : decode cX0_cutCycle 98 = .ok (.astore 5, 2) := dk_58 5 (dk_at dksX0_cutCycle_4 3 rfl rfl)
theorem dX0_cutCycle_100 : decode cX0_cutCycle 100 = .ok (.aload 5, 2) := dk_25 5 (dk_at dksX0_cutCycle_4 5 rfl rfl)
theorem dX0_cutCycle_102 : decode cX0_cutCycle 102 = .ok (.ifnull 83, 3) := dk_198 0 83 (dk_at dksX0_cutCycle_4 7 rfl rfl)
theorem dX0_cutCycle_105 : decode cX0_cutCycle 105 = .ok (.aload_n 0, 1) := dk_42 (dk_at dksX0_cutCycle_4 10 rfl rfl)
theorem dX0_cutCycle_106 : decode cX0_cutCycle 106 = .ok (.getfield 41, 3) := dk_180 0 41 (dk_at dksX0_cutCycle_4 11 rfl rfl)
theorem dX0_cutCycle_109 : decode cX0_cutCycle 109 = .ok (.new 241, 3) := dk_187 0 241 (dk_at dksX0_cutCycle_4 14 rfl rfl)
theorem dX0_cutCycle_112 : decode cX0_cutCycle 112 = .ok (.dup, 1) := dk_89 (dk_at dksX0_cutCycle_4 17 rfl rfl)
theorem dX0_cutCycle_113 : decode cX0_cutCycle 113 = .ok (.aload_n 0, 1) := dk_42 (dk_at dksX0_cutCycle_4 18 rfl rfl)
theorem dX0_cutCycle_114 : decode cX0_cutCycle 114 = .ok (.getfield 48, 3) := dk_180 0 48 (dk_at dksX0_cutCycle_4 19 rfl rfl)
theorem dX0_cutCycle_117 : decode cX0_cutCycle 117 = .ok (.invokeinterface 215 1, 5) := by decide +kernel
theorem dX0_cutCycle_122 : decode cX0_cutCycle 122 = .ok (.aload_n 0, 1) := dk_42 (dk_at dksX0_cutCycle_5 5 rfl rfl)
theorem dX0_cutCycle_123 : decode cX0_cutCycle 123 = .ok (.getfield 41, 3) := dk_180 0 41 (dk_at dksX0_cutCycle_5 6 rfl rfl)
theorem dX0_cutCycle_126 : decode cX0_cutCycle 126 = .ok (.invokevirtual 289, 3) := dk_182 1 33 (dk_at dksX0_cutCycle_5 9 rfl rfl)
theorem dX0_cutCycle_129 : decode cX0_cutCycle 129 = .ok (.iadd, 1) := dk_96 (dk_at dksX0_cutCycle_5 12 rfl rfl)
theorem dX0_cutCycle_130 : decode cX0_cutCycle 130 = .ok (.aload 5, 2) := dk_25 5 (dk_at dksX0_cutCycle_5 13 rfl rfl)
theorem dX0_cutCycle_132 : decode cX0_cutCycle 132 = .ok (.getfield 290, 3) := dk_180 1 34 (dk_at dksX0_cutCycle_5 15 rfl rfl)
theorem dX0_cutCycle_135 : decode cX0_cutCycle 135 = .ok (.aload 5, 2) := dk_25 5 (dk_at dksX0_cutCycle_5 18 rfl rfl)
theorem dX0_cutCycle_137 : decode cX0_cutCycle 137 = .ok (.getfield 243, 3) := dk_180 0 243 (dk_at dksX0_cutCycle_5 20 rfl rfl)
theorem dX0_cutCycle_140 : decode cX0_cutCycle 140 = .ok (.aload 5, 2) := dk_25 5 (dk_at dksX0_cutCycle_6 0 rfl rfl)
theorem dX0_cutCycle_142 : decode cX0_cutCycle 142 = .ok (.getfield 290, 3) := dk_180 1 34 (dk_at dksX0_cutCycle_6 2 rfl rfl)
theorem dX0_cutCycle_145 : decode cX0_cutCycle 145 = .ok (.iload_n 2, 1) := dk_28 (dk_at dksX0_cutCycle_6 5 rfl rfl)
theorem dX0_cutCycle_146 : decode cX0_cutCycle 146 = .ok (.iload 4, 2) := dk_21 4 (dk_at dksX0_cutCycle_6 6 rfl rfl)
theorem dX0_cutCycle_148 : decode cX0_cutCycle 148 = .ok (.invokevirtual 154, 3) := dk_182 0 154 (dk_at dksX0_cutCycle_6 8 rfl rfl)
theorem dX0_cutCycle_151 : decode cX0_cutCycle 151 = .ok (.invokespecial 293, 3) := dk_183 1 37 (dk_at dksX0_cutCycle_6 11 rfl rfl)
theorem dX0_cutCycle_154 : decode cX0_cutCycle 154 = .ok (.invokevirtual 296, 3) := dk_182 1 40 (dk_at dksX0_cutCycle_6 14 rfl rfl)
theorem dX0_cutCycle_157 : decode cX0_cutCycle 157 = .ok (.pop, 1) := dk_87 (dk_at dksX0_cutCycle_6 17 rfl rfl)
theorem dX0_cutCycle_158 : decode cX0_cutCycle 158 = .ok (.aload 5, 2) := dk_25 5 (dk_at dksX0_cutCycle_6 18 rfl rfl)
theorem dX0_cutCycle_160 : decode cX0_cutCycle 160 = .ok (.aload 5, 2) := dk_25 5 (dk_at dksX0_cutCycle_6 20 rfl rfl)
theorem dX0_cutCycle_162 : decode cX0_cutCycle 162 = .ok (.getfield 243, 3) := dk_180 0 243 (dk_at dksX0_cutCycle_7 0 rfl rfl)
theorem dX0_cutCycle_165 : decode cX0_cutCycle 165 = .ok (.iload_n 2, 1) := dk_28 (dk_at dksX0_cutCycle_7 3 rfl rfl)
theorem dX0_cutCycle_166 : decode cX0_cutCycle 166 = .ok (.iload 4, 2) := dk_21 4 (dk_at dksX0_cutCycle_7 4 rfl rfl)
theorem dX0_cutCycle_168 : decode cX0_cutCycle 168 = .ok (.invokevirtual 151, 3) := dk_182 0 151 (dk_at dksX0_cutCycle_7 6 rfl rfl)
theorem dX0_cutCycle_171 : decode cX0_cutCycle 171 = .ok (.putfield 243, 3) := dk_181 0 243 (dk_at dksX0_cutCycle_7 9 rfl rfl)
theorem dX0_cutCycle_174 : decode cX0_cutCycle 174 = .ok (.aload_n 0, 1) := dk_42 (dk_at dksX0_cutCycle_7 12 rfl rfl)
theorem dX0_cutCycle_175 : decode cX0_cutCycle 175 = .ok (.dup, 1) := dk_89 (dk_at dksX0_cutCycle_7 13 rfl rfl)
theorem dX0_cutCycle_176 : decode cX0_cutCycle 176 = .ok (.getfield 297, 3) := dk_180 1 41 (dk_at dksX0_cutCycle_7 14 rfl rfl)
theorem dX0_cutCycle_179 : decode cX0_cutCycle 179 = .ok (.iconst 1, 1) := dk_4 (dk_at dksX0_cutCycle_7 17 rfl rfl)
theorem dX0_cutCycle_180 : decode cX0_cutCycle 180 = .ok (.iadd, 1) := dk_96 (dk_at dksX0_cutCycle_7 18 rfl rfl)
theorem dX0_cutCycle_181 : decode cX0_cutCycle 181 = .ok (.putfield 297, 3) := dk_181 1 41 (dk_at dksX0_cutCycle_7 19 rfl rfl)
theorem dX0_cutCycle_184 : decode cX0_cutCycle 184 = .ok (.return_, 1) := dk_177 (dk_at dksX0_cutCycle_7 22 rfl rfl)
theorem dX0_cutCycle_185 : decode cX0_cutCycle 185 = .ok (.aload_n 3, 1) := dk_45 (dk_at dksX0_cutCycle_7 23 rfl rfl)
theorem dX0_cutCycle_186 : decode cX0_cutCycle 186 = .ok (.iload 4, 2) := dk_21 4 (dk_at dksX0_cutCycle_8 0 rfl rfl)
theorem dX0_cutCycle_188 : decode cX0_cutCycle 188 = .ok (.iconst 1, 1) := dk_4 (dk_at dksX0_cutCycle_8 2 rfl rfl)
theorem dX0_cutCycle_189 : decode cX0_cutCycle 189 = .ok (.iadd, 1) := dk_96 (dk_at dksX0_cutCycle_8 3 rfl rfl)
theorem dX0_cutCycle_190 : decode cX0_cutCycle 190 = .ok (.invokevirtual 282, 3) := dk_182 1 26 (dk_at dksX0_cutCycle_8 4 rfl rfl)
theorem dX0_cutCycle_193 : decode cX0_cutCycle 193 = .ok (.istore 4, 2) := dk_54 4 (dk_at dksX0_cutCycle_8 7 rfl rfl)
theorem dX0_cutCycle_195 : decode cX0_cutCycle 195 = .ok (.goto (-109), 3) := dk_167 255 147 (dk_at dksX0_cutCycle_8 9 rfl rfl)
theorem dX0_cutCycle_198 : decode cX0_cutCycle 198 = .ok (.iinc 2 1, 3) := dk_132 2 1 (dk_at dksX0_cutCycle_8 12 rfl rfl)
theorem dX0_cutCycle_201 : decode cX0_cutCycle 201 = .ok (.goto (-194), 3) := dk_167 255 62 (dk_at dksX0_cutCycle_8 15 rfl rfl)
theorem dX0_cutCycle_204 : decode cX0_cutCycle 204 = .ok (.return_, 1) := dk_177 (dk_at dksX0_cutCycle_8 18 rfl rfl)
abbrev cX0_undrawnCycle : ByteArray := prog_1_method_36_code
def yX0_undrawnCycle : MethodName := ⟨RX0, "undrawnCycle", "()Ljava/util/ArrayDeque;"⟩
def dkwX0_undrawnCycle_3 : List UInt8 := [182, 0, 192, 192, 0, 241, 58, 4, 167, 255, 239, 43, 176]
abbrev dktX0_undrawnCycle_3 : List UInt8 := dkwX0_undrawnCycle_3 ++ []
def dkwX0_undrawnCycle_2 : List UInt8 := [45, 182, 0, 185, 87, 42, 45, 182, 1, 10, 78, 167, 255, 225, 43, 182, 1, 14, 45, 165, 0, 15, 43]
abbrev dktX0_undrawnCycle_2 : List UInt8 := dkwX0_undrawnCycle_2 ++ dktX0_undrawnCycle_3
def dkwX0_undrawnCycle_1 : List UInt8 := [192, 0, 241, 78, 44, 45, 180, 1, 4, 182, 1, 5, 154, 0, 26, 44, 45, 180, 1, 4, 182, 1, 7, 43]
abbrev dktX0_undrawnCycle_1 : List UInt8 := dkwX0_undrawnCycle_1 ++ dktX0_undrawnCycle_2
def dkwX0_undrawnCycle_0 : List UInt8 := [187, 0, 178, 89, 183, 0, 180, 76, 187, 0, 254, 89, 183, 1, 0, 77, 42, 180, 0, 41, 182, 1, 1]
abbrev dktX0_undrawnCycle_0 : List UInt8 := dkwX0_undrawnCycle_0 ++ dktX0_undrawnCycle_1
theorem dksX0_undrawnCycle_0 : cX0_undrawnCycle.data.toList.drop 0 = dktX0_undrawnCycle_0 := by decide +kernel
theorem dksX0_undrawnCycle_1 : cX0_undrawnCycle.data.toList.drop 23 = dktX0_undrawnCycle_1 := dk_seg dksX0_undrawnCycle_0 23 rfl rfl
theorem dksX0_undrawnCycle_2 : cX0_undrawnCycle.data.toList.drop 47 = dktX0_undrawnCycle_2 := dk_seg dksX0_undrawnCycle_1 24 rfl rfl
theorem dksX0_undrawnCycle_3 : cX0_undrawnCycle.data.toList.drop 70 = dktX0_undrawnCycle_3 := dk_seg dksX0_undrawnCycle_2 23 rfl rfl
theorem dX0_undrawnCycle_0 : decode cX0_undrawnCycle 0 = .ok (.new 178, 3) := dk_187 0 178 (dk_at dksX0_undrawnCycle_0 0 rfl rfl)
theorem dX0_undrawnCycle_3 : decode cX0_undrawnCycle 3 = .ok (.dup, 1) := dk_89 (dk_at dksX0_undrawnCycle_0 3 rfl rfl)
theorem dX0_undrawnCycle_4 : decode cX0_undrawnCycle 4 = .ok (.invokespecial 180, 3) := dk_183 0 180 (dk_at dksX0_undrawnCycle_0 4 rfl rfl)
theorem dX0_undrawnCycle_7 : decode cX0_undrawnCycle 7 = .ok (.astore_n 1, 1) := dk_76 (dk_at dksX0_undrawnCycle_0 7 rfl rfl)
theorem dX0_undrawnCycle_8 : decode cX0_undrawnCycle 8 = .ok (.new 254, 3) := dk_187 0 254 (dk_at dksX0_undrawnCycle_0 8 rfl rfl)
theorem dX0_undrawnCycle_11 : decode cX0_undrawnCycle 11 = .ok (.dup, 1) := dk_89 (dk_at dksX0_undrawnCycle_0 11 rfl rfl)
theorem dX0_undrawnCycle_12 : decode cX0_undrawnCycle 12 = .ok (.invokespecial 256, 3) := dk_183 1 0 (dk_at dksX0_undrawnCycle_0 12 rfl rfl)
theorem dX0_undrawnCycle_15 : decode cX0_undrawnCycle 15 = .ok (.astore_n 2, 1) := dk_77 (dk_at dksX0_undrawnCycle_0 15 rfl rfl)
theorem dX0_undrawnCycle_16 : decode cX0_undrawnCycle 16 = .ok (.aload_n 0, 1) := dk_42 (dk_at dksX0_undrawnCycle_0 16 rfl rfl)
theorem dX0_undrawnCycle_17 : decode cX0_undrawnCycle 17 = .ok (.getfield 41, 3) := dk_180 0 41 (dk_at dksX0_undrawnCycle_0 17 rfl rfl)
theorem dX0_undrawnCycle_20 : decode cX0_undrawnCycle 20 = .ok (.invokevirtual 257, 3) := dk_182 1 1 (dk_at dksX0_undrawnCycle_0 20 rfl rfl)
theorem dX0_undrawnCycle_23 : decode cX0_undrawnCycle 23 = .ok (.checkcast 241, 3) := dk_192 0 241 (dk_at dksX0_undrawnCycle_1 0 rfl rfl)
theorem dX0_undrawnCycle_26 : decode cX0_undrawnCycle 26 = .ok (.astore_n 3, 1) := dk_78 (dk_at dksX0_undrawnCycle_1 3 rfl rfl)
theorem dX0_undrawnCycle_27 : decode cX0_undrawnCycle 27 = .ok (.aload_n 2, 1) := dk_44 (dk_at dksX0_undrawnCycle_1 4 rfl rfl)
theorem dX0_undrawnCycle_28 : decode cX0_undrawnCycle 28 = .ok (.aload_n 3, 1) := dk_45 (dk_at dksX0_undrawnCycle_1 5 rfl rfl)
theorem dX0_undrawnCycle_29 : decode cX0_undrawnCycle 29 = .ok (.getfield 260, 3) := dk_180 1 4 (dk_at dksX0_undrawnCycle_1 6 rfl rfl)
theorem dX0_undrawnCycle_32 : decode cX0_undrawnCycle 32 = .ok (.invokevirtual 261, 3) := dk_182 1 5 (dk_at dksX0_undrawnCycle_1 9 rfl rfl)
theorem dX0_undrawnCycle_35 : decode cX0_undrawnCycle 35 = .ok (.ifCond .ne 26, 3) := dk_154 0 26 (dk_at dksX0_undrawnCycle_1 12 rfl rfl)
theorem dX0_undrawnCycle_38 : decode cX0_undrawnCycle 38 = .ok (.aload_n 2, 1) := dk_44 (dk_at dksX0_undrawnCycle_1 15 rfl rfl)
theorem dX0_undrawnCycle_39 : decode cX0_undrawnCycle 39 = .ok (.aload_n 3, 1) := dk_45 (dk_at dksX0_undrawnCycle_1 16 rfl rfl)
theorem dX0_undrawnCycle_40 : decode cX0_undrawnCycle 40 = .ok (.getfield 260, 3) := dk_180 1 4 (dk_at dksX0_undrawnCycle_1 17 rfl rfl)
theorem dX0_undrawnCycle_43 : decode cX0_undrawnCycle 43 = .ok (.invokevirtual 263, 3) := dk_182 1 7 (dk_at dksX0_undrawnCycle_1 20 rfl rfl)
theorem dX0_undrawnCycle_46 : decode cX0_undrawnCycle 46 = .ok (.aload_n 1, 1) := dk_43 (dk_at dksX0_undrawnCycle_1 23 rfl rfl)
theorem dX0_undrawnCycle_47 : decode cX0_undrawnCycle 47 = .ok (.aload_n 3, 1) := dk_45 (dk_at dksX0_undrawnCycle_2 0 rfl rfl)
theorem dX0_undrawnCycle_48 : decode cX0_undrawnCycle 48 = .ok (.invokevirtual 185, 3) := dk_182 0 185 (dk_at dksX0_undrawnCycle_2 1 rfl rfl)
theorem dX0_undrawnCycle_51 : decode cX0_undrawnCycle 51 = .ok (.pop, 1) := dk_87 (dk_at dksX0_undrawnCycle_2 4 rfl rfl)
theorem dX0_undrawnCycle_52 : decode cX0_undrawnCycle 52 = .ok (.aload_n 0, 1) := dk_42 (dk_at dksX0_undrawnCycle_2 5 rfl rfl)
theorem dX0_undrawnCycle_53 : decode cX0_undrawnCycle 53 = .ok (.aload_n 3, 1) := dk_45 (dk_at dksX0_undrawnCycle_2 6 rfl rfl)
theorem dX0_undrawnCycle_54 : decode cX0_undrawnCycle 54 = .ok (.invokevirtual 266, 3) := dk_182 1 10 (dk_at dksX0_undrawnCycle_2 7 rfl rfl)
theorem dX0_undrawnCycle_57 : decode cX0_undrawnCycle 57 = .ok (.astore_n 3, 1) := dk_78 (dk_at dksX0_undrawnCycle_2 10 rfl rfl)
theorem dX0_undrawnCycle_58 : decode cX0_undrawnCycle 58 = .ok (.goto (-31), 3) := dk_167 255 225 (dk_at dksX0_undrawnCycle_2 11 rfl rfl)
theorem dX0_undrawnCycle_61 : decode cX0_undrawnCycle 61 = .ok (.aload_n 1, 1) := dk_43 (dk_at dksX0_undrawnCycle_2 14 rfl rfl)
theorem dX0_undrawnCycle_62 : decode cX0_undrawnCycle 62 = .ok (.invokevirtual 270, 3) := dk_182 1 14 (dk_at dksX0_undrawnCycle_2 15 rfl rfl)
theorem dX0_undrawnCycle_65 : decode cX0_undrawnCycle 65 = .ok (.aload_n 3, 1) := dk_45 (dk_at dksX0_undrawnCycle_2 18 rfl rfl)
theorem dX0_undrawnCycle_66 : decode cX0_undrawnCycle 66 = .ok (.if_acmp .eq 15, 3) := dk_165 0 15 (dk_at dksX0_undrawnCycle_2 19 rfl rfl)
theorem dX0_undrawnCycle_69 : decode cX0_undrawnCycle 69 = .ok (.aload_n 1, 1) := dk_43 (dk_at dksX0_undrawnCycle_2 22 rfl rfl)
theorem dX0_undrawnCycle_70 : decode cX0_undrawnCycle 70 = .ok (.invokevirtual 192, 3) := dk_182 0 192 (dk_at dksX0_undrawnCycle_3 0 rfl rfl)
theorem dX0_undrawnCycle_73 : decode cX0_undrawnCycle 73 = .ok (.checkcast 241, 3) := dk_192 0 241 (dk_at dksX0_undrawnCycle_3 3 rfl rfl)
theorem dX0_undrawnCycle_76 : decode cX0_undrawnCycle 76 = .ok (.astore 4, 2) := dk_58 4 (dk_at dksX0_undrawnCycle_3 6 rfl rfl)
theorem dX0_undrawnCycle_78 : decode cX0_undrawnCycle 78 = .ok (.goto (-17), 3) := dk_167 255 239 (dk_at dksX0_undrawnCycle_3 8 rfl rfl)
theorem dX0_undrawnCycle_81 : decode cX0_undrawnCycle 81 = .ok (.aload_n 1, 1) := dk_43 (dk_at dksX0_undrawnCycle_3 11 rfl rfl)
theorem dX0_undrawnCycle_82 : decode cX0_undrawnCycle 82 = .ok (.areturn, 1) := dk_176 (dk_at dksX0_undrawnCycle_3 12 rfl rfl)
abbrev cX0_firstBehind : ByteArray := prog_1_method_35_code
def yX0_firstBehind : MethodName := ⟨RX0, "firstBehind", "(LDepthSorter$Piece;)LDepthSorter$Piece;"⟩
def dkwX0_firstBehind_2 : List UInt8 := [176, 167, 255, 216, 43, 176]
abbrev dktX0_firstBehind_2 : List UInt8 := dkwX0_firstBehind_2 ++ []
def dkwX0_firstBehind_1 : List UInt8 := [192, 0, 241, 78, 45, 43, 165, 0, 19, 45, 180, 0, 243, 43, 180, 0, 243, 182, 0, 162, 153, 0, 5, 45]
abbrev dktX0_firstBehind_1 : List UInt8 := dkwX0_firstBehind_1 ++ dktX0_firstBehind_2
def dkwX0_firstBehind_0 : List UInt8 := [42, 180, 0, 41, 182, 0, 229, 77, 44, 185, 0, 233, 1, 0, 153, 0, 37, 44, 185, 0, 238, 1, 0]
abbrev dktX0_firstBehind_0 : List UInt8 := dkwX0_firstBehind_0 ++ dktX0_firstBehind_1
theorem dksX0_firstBehind_0 : cX0_firstBehind.data.toList.drop 0 = dktX0_firstBehind_0 := by decide +kernel
theorem dksX0_firstBehind_1 : cX0_firstBehind.data.toList.drop 23 = dktX0_firstBehind_1 := dk_seg dksX0_firstBehind_0 23 rfl rfl
theorem dksX0_firstBehind_2 : cX0_firstBehind.data.toList.drop 47 = dktX0_firstBehind_2 := dk_seg dksX0_firstBehind_1 24 rfl rfl
theorem dX0_firstBehind_0 : decode cX0_firstBehind 0 = .ok (.aload_n 0, 1) := dk_42 (dk_at dksX0_firstBehind_0 0 rfl rfl)
theorem dX0_firstBehind_1 : decode cX0_firstBehind 1 = .ok (.getfield 41, 3) := dk_180 0 41 (dk_at dksX0_firstBehind_0 1 rfl rfl)
theorem dX0_firstBehind_4 : decode cX0_firstBehind 4 = .ok (.invokevirtual 229, 3) := dk_182 0 229 (dk_at dksX0_firstBehind_0 4 rfl rfl)
theorem dX0_firstBehind_7 : decode cX0_firstBehind 7 = .ok (.astore_n 2, 1) := dk_77 (dk_at dksX0_firstBehind_0 7 rfl rfl)
theorem dX0_firstBehind_8 : decode cX0_firstBehind 8 = .ok (.aload_n 2, 1) := dk_44 (dk_at dksX0_firstBehind_0 8 rfl rfl)
theorem dX0_firstBehind_9 : decode cX0_firstBehind 9 = .ok (.invokeinterface 233 1, 5) := by decide +kernel
theorem dX0_firstBehind_14 : decode cX0_firstBehind 14 = .ok (.ifCond .eq 37, 3) := dk_153 0 37 (dk_at dksX0_firstBehind_0 14 rfl rfl)
theorem dX0_firstBehind_17 : decode cX0_firstBehind 17 = .ok (.aload_n 2, 1) := dk_44 (dk_at dksX0_firstBehind_0 17 rfl rfl)
theorem dX0_firstBehind_18 : decode cX0_firstBehind 18 = .ok (.invokeinterface 238 1, 5) := by decide +kernel
theorem dX0_firstBehind_23 : decode cX0_firstBehind 23 = .ok (.checkcast 241, 3) := dk_192 0 241 (dk_at dksX0_firstBehind_1 0 rfl rfl)
theorem dX0_firstBehind_26 : decode cX0_firstBehind 26 = .ok (.astore_n 3, 1) := dk_78 (dk_at dksX0_firstBehind_1 3 rfl rfl)
theorem dX0_firstBehind_27 : decode cX0_firstBehind 27 = .ok (.aload_n 3, 1) := dk_45 (dk_at dksX0_firstBehind_1 4 rfl rfl)
theorem dX0_firstBehind_28 : decode cX0_firstBehind 28 = .ok (.aload_n 1, 1) := dk_43 (dk_at dksX0_firstBehind_1 5 rfl rfl)
theorem dX0_firstBehind_29 : decode cX0_firstBehind 29 = .ok (.if_acmp .eq 19, 3) := dk_165 0 19 (dk_at dksX0_firstBehind_1 6 rfl rfl)
theorem dX0_firstBehind_32 : decode cX0_firstBehind 32 = .ok (.aload_n 3, 1) := dk_45 (dk_at dksX0_firstBehind_1 9 rfl rfl)
theorem dX0_firstBehind_33 : decode cX0_firstBehind 33 = .ok (.getfield 243, 3) := dk_180 0 243 (dk_at dksX0_firstBehind_1 10 rfl rfl)
theorem dX0_firstBehind_36 : decode cX0_firstBehind 36 = .ok (.aload_n 1, 1) := dk_43 (dk_at dksX0_firstBehind_1 13 rfl rfl)
theorem dX0_firstBehind_37 : decode cX0_firstBehind 37 = .ok (.getfield 243, 3) := dk_180 0 243 (dk_at dksX0_firstBehind_1 14 rfl rfl)
theorem dX0_firstBehind_40 : decode cX0_firstBehind 40 = .ok (.invokevirtual 162, 3) := dk_182 0 162 (dk_at dksX0_firstBehind_1 17 rfl rfl)
theorem dX0_firstBehind_43 : decode cX0_firstBehind 43 = .ok (.ifCond .eq 5, 3) := dk_153 0 5 (dk_at dksX0_firstBehind_1 20 rfl rfl)
theorem dX0_firstBehind_46 : decode cX0_firstBehind 46 = .ok (.aload_n 3, 1) := dk_45 (dk_at dksX0_firstBehind_1 23 rfl rfl)
theorem dX0_firstBehind_47 : decode cX0_firstBehind 47 = .ok (.areturn, 1) := dk_176 (dk_at dksX0_firstBehind_2 0 rfl rfl)
theorem dX0_firstBehind_48 : decode cX0_firstBehind 48 = .ok (.goto (-40), 3) := dk_167 255 216 (dk_at dksX0_firstBehind_2 1 rfl rfl)
theorem dX0_firstBehind_51 : decode cX0_firstBehind 51 = .ok (.aload_n 1, 1) := dk_43 (dk_at dksX0_firstBehind_2 4 rfl rfl)
theorem dX0_firstBehind_52 : decode cX0_firstBehind 52 = .ok (.areturn, 1) := dk_176 (dk_at dksX0_firstBehind_2 5 rfl rfl)
abbrev cX0_lowestCut : ByteArray := prog_1_method_37_code
def yX0_lowestCut : MethodName := ⟨RX0, "lowestCut", "(Ljava/util/ArrayDeque;II)LDepthSorter$Piece;"⟩
def dkwX0_lowestCut_3 : List UInt8 := [167, 255, 198, 45, 176]
abbrev dktX0_lowestCut_3 : List UInt8 := dkwX0_lowestCut_3 ++ []
def dkwX0_lowestCut_2 : List UInt8 := [198, 0, 15, 25, 5, 180, 1, 4, 45, 180, 1, 4, 162, 0, 8, 25, 5, 167, 0, 4, 45, 78]
abbrev dktX0_lowestCut_2 : List UInt8 := dkwX0_lowestCut_2 ++ dktX0_lowestCut_3
def dkwX0_lowestCut_1 : List UInt8 := [185, 0, 238, 1, 0, 192, 0, 241, 58, 5, 25, 5, 180, 0, 243, 27, 28, 182, 0, 147, 153, 0, 24, 45]
abbrev dktX0_lowestCut_1 : List UInt8 := dkwX0_lowestCut_1 ++ dktX0_lowestCut_2
def dkwX0_lowestCut_0 : List UInt8 := [1, 78, 42, 182, 1, 15, 58, 4, 25, 4, 185, 0, 233, 1, 0, 153, 0, 54, 25, 4]
abbrev dktX0_lowestCut_0 : List UInt8 := dkwX0_lowestCut_0 ++ dktX0_lowestCut_1
theorem dksX0_lowestCut_0 : cX0_lowestCut.data.toList.drop 0 = dktX0_lowestCut_0 := by decide +kernel
theorem dksX0_lowestCut_1 : cX0_lowestCut.data.toList.drop 20 = dktX0_lowestCut_1 := dk_seg dksX0_lowestCut_0 20 rfl rfl
theorem dksX0_lowestCut_2 : cX0_lowestCut.data.toList.drop 44 = dktX0_lowestCut_2 := dk_seg dksX0_lowestCut_1 24 rfl rfl
theorem dksX0_lowestCut_3 : cX0_lowestCut.data.toList.drop 66 = dktX0_lowestCut_3 := dk_seg dksX0_lowestCut_2 22 rfl rfl
theorem dX0_lowestCut_0 : decode cX0_lowestCut 0 = .ok (.aconst_null, 1) := dk_1 (dk_at dksX0_lowestCut_0 0 rfl rfl)
theorem dX0_lowestCut_1 : decode cX0_lowestCut 1 = .ok (.astore_n 3, 1) := dk_78 (dk_at dksX0_lowestCut_0 1 rfl rfl)
theorem dX0_lowestCut_2 : decode cX0_lowestCut 2 = .ok (.aload_n 0, 1) := dk_42 (dk_at dksX0_lowestCut_0 2 rfl rfl)
theorem dX0_lowestCut_3 : decode cX0_lowestCut 3 = .ok (.invokevirtual 271, 3) := dk_182 1 15 (dk_at dksX0_lowestCut_0 3 rfl rfl)
theorem dX0_lowestCut_6 : decode cX0_lowestCut 6 = .ok (.astore 4, 2) := dk_58 4 (dk_at dksX0_lowestCut_0 6 rfl rfl)
theorem dX0_lowestCut_8 : decode cX0_lowestCut 8 = .ok (.aload 4, 2) := dk_25 4 (dk_at dksX0_lowestCut_0 8 rfl rfl)
theorem dX0_lowestCut_10 : decode cX0_lowestCut 10 = .ok (.invokeinterface 233 1, 5) := by decide +kernel
theorem dX0_lowestCut_15 : decode cX0_lowestCut 15 = .ok (.ifCond .eq 54, 3) := dk_153 0 54 (dk_at dksX0_lowestCut_0 15 rfl rfl)
theorem dX0_lowestCut_18 : decode cX0_lowestCut 18 = .ok (.aload 4, 2) := dk_25 4 (dk_at dksX0_lowestCut_0 18 rfl rfl)
theorem dX0_lowestCut_20 : decode cX0_lowestCut 20 = .ok (.invokeinterface 238 1, 5) := by decide +kernel
theorem dX0_lowestCut_25 : decode cX0_lowestCut 25 = .ok (.checkcast 241, 3) := dk_192 0 241 (dk_at dksX0_lowestCut_1 5 rfl rfl)
theorem dX0_lowestCut_28 : decode cX0_lowestCut 28 = .ok (.astore 5, 2) := dk_58 5 (dk_at dksX0_lowestCut_1 8 rfl rfl)
theorem dX0_lowestCut_30 : decode cX0_lowestCut 30 = .ok (.aload 5, 2) := dk_25 5 (dk_at dksX0_lowestCut_1 10 rfl rfl)
theorem dX0_lowestCut_32 : decode cX0_lowestCut 32 = .ok (.getfield 243, 3) := dk_180 0 243 (dk_at dksX0_lowestCut_1 12 rfl rfl)
theorem dX0_lowestCut_35 : decode cX0_lowestCut 35 = .ok (.iload_n 1, 1) := dk_27 (dk_at dksX0_lowestCut_1 15 rfl rfl)
theorem dX0_lowestCut_36 : decode cX0_lowestCut 36 = .ok (.iload_n 2, 1) := dk_28 (dk_at dksX0_lowestCut_1 16 rfl rfl)
theorem dX0_lowestCut_37 : decode cX0_lowestCut 37 = .ok (.invokevirtual 147, 3) := dk_182 0 147 (dk_at dksX0_lowestCut_1 17 rfl rfl)
theorem dX0_lowestCut_40 : decode cX0_lowestCut 40 = .ok (.ifCond .eq 24, 3) := dk_153 0 24 (dk_at dksX0_lowestCut_1 20 rfl rfl)
theorem dX0_lowestCut_43 : decode cX0_lowestCut 43 = .ok (.aload_n 3, 1) := dk_45 (dk_at dksX0_lowestCut_1 23 rfl rfl)
theorem dX0_lowestCut_44 : decode cX0_lowestCut 44 = .ok (.ifnull 15, 3) := dk_198 0 15 (dk_at dksX0_lowestCut_2 0 rfl rfl)
theorem dX0_lowestCut_47 : decode cX0_lowestCut 47 = .ok (.aload 5, 2) := dk_25 5 (dk_at dksX0_lowestCut_2 3 rfl rfl)
theorem dX0_lowestCut_49 : decode cX0_lowestCut 49 = .ok (.getfield 260, 3) := dk_180 1 4 (dk_at dksX0_lowestCut_2 5 rfl rfl)
theorem dX0_lowestCut_52 : decode cX0_lowestCut 52 = .ok (.aload_n 3, 1) := dk_45 (dk_at dksX0_lowestCut_2 8 rfl rfl)
theorem dX0_lowestCut_53 : decode cX0_lowestCut 53 = .ok (.getfield 260, 3) := dk_180 1 4 (dk_at dksX0_lowestCut_2 9 rfl rfl)
theorem dX0_lowestCut_56 : decode cX0_lowestCut 56 = .ok (.if_icmp .ge 8, 3) := dk_162 0 8 (dk_at dksX0_lowestCut_2 12 rfl rfl)
theorem dX0_lowestCut_59 : decode cX0_lowestCut 59 = .ok (.aload 5, 2) := dk_25 5 (dk_at dksX0_lowestCut_2 15 rfl rfl)
theorem dX0_lowestCut_61 : decode cX0_lowestCut 61 = .ok (.goto 4, 3) := dk_167 0 4 (dk_at dksX0_lowestCut_2 17 rfl rfl)
theorem dX0_lowestCut_64 : decode cX0_lowestCut 64 = .ok (.aload_n 3, 1) := dk_45 (dk_at dksX0_lowestCut_2 20 rfl rfl)
theorem dX0_lowestCut_65 : decode cX0_lowestCut 65 = .ok (.astore_n 3, 1) := dk_78 (dk_at dksX0_lowestCut_2 21 rfl rfl)
theorem dX0_lowestCut_66 : decode cX0_lowestCut 66 = .ok (.goto (-58), 3) := dk_167 255 198 (dk_at dksX0_lowestCut_3 0 rfl rfl)
theorem dX0_lowestCut_69 : decode cX0_lowestCut 69 = .ok (.aload_n 3, 1) := dk_45 (dk_at dksX0_lowestCut_3 3 rfl rfl)
theorem dX0_lowestCut_70 : decode cX0_lowestCut 70 = .ok (.areturn, 1) := dk_176 (dk_at dksX0_lowestCut_3 4 rfl rfl)
abbrev cX0_cuts : ByteArray := prog_1_method_41_code
def yX0_cuts : MethodName := ⟨RX0, "cuts", "()I"⟩
def dkwX0_cuts_0 : List UInt8 := [42, 182, 1, 58, 42, 180, 1, 44, 153, 0, 8, 16, 152, 167, 0, 7, 42, 180, 1, 41, 172]
abbrev dktX0_cuts_0 : List UInt8 := dkwX0_cuts_0 ++ []
theorem dksX0_cuts_0 : cX0_cuts.data.toList.drop 0 = dktX0_cuts_0 := by decide +kernel
theorem dX0_cuts_0 : decode cX0_cuts 0 = .ok (.aload_n 0, 1) := dk_42 (dk_at dksX0_cuts_0 0 rfl rfl)
theorem dX0_cuts_1 : decode cX0_cuts 1 = .ok (.invokevirtual 314, 3) := dk_182 1 58 (dk_at dksX0_cuts_0 1 rfl rfl)
theorem dX0_cuts_4 : decode cX0_cuts 4 = .ok (.aload_n 0, 1) := dk_42 (dk_at dksX0_cuts_0 4 rfl rfl)
theorem dX0_cuts_5 : decode cX0_cuts 5 = .ok (.getfield 300, 3) := dk_180 1 44 (dk_at dksX0_cuts_0 5 rfl rfl)
theorem dX0_cuts_8 : decode cX0_cuts 8 = .ok (.ifCond .eq 8, 3) := dk_153 0 8 (dk_at dksX0_cuts_0 8 rfl rfl)
theorem dX0_cuts_11 : decode cX0_cuts 11 = .ok (.bipush (-104), 2) := dk_16 152 (dk_at dksX0_cuts_0 11 rfl rfl)
theorem dX0_cuts_13 : decode cX0_cuts 13 = .ok (.goto 7, 3) := dk_167 0 7 (dk_at dksX0_cuts_0 13 rfl rfl)
theorem dX0_cuts_16 : decode cX0_cuts 16 = .ok (.aload_n 0, 1) := dk_42 (dk_at dksX0_cuts_0 16 rfl rfl)
theorem dX0_cuts_17 : decode cX0_cuts 17 = .ok (.getfield 297, 3) := dk_180 1 41 (dk_at dksX0_cuts_0 17 rfl rfl)
theorem dX0_cuts_20 : decode cX0_cuts 20 = .ok (.ireturn, 1) := dk_172 (dk_at dksX0_cuts_0 20 rfl rfl)
abbrev cX0_piece : ByteArray := prog_1_method_42_code
def yX0_piece : MethodName := ⟨RX0, "piece", "(II)I"⟩
def dkwX0_piece_4 : List UInt8 := [182, 0, 158, 172]
abbrev dktX0_piece_4 : List UInt8 := dkwX0_piece_4 ++ []
def dkwX0_piece_3 : List UInt8 := [167, 0, 25, 28, 4, 160, 0, 10, 45, 180, 1, 34, 167, 0, 13, 45, 180, 0, 243, 28, 5, 100]
abbrev dktX0_piece_3 : List UInt8 := dkwX0_piece_3 ++ dktX0_piece_4
def dkwX0_piece_2 : List UInt8 := [172, 42, 180, 0, 48, 27, 185, 0, 218, 2, 0, 192, 0, 241, 78, 28, 154, 0, 10, 45, 180, 1, 4]
abbrev dktX0_piece_2 : List UInt8 := dkwX0_piece_2 ++ dktX0_piece_3
def dkwX0_piece_1 : List UInt8 := [180, 1, 44, 153, 0, 6, 16, 152, 172, 27, 42, 180, 0, 48, 185, 0, 215, 1, 0, 161, 0, 6, 16, 150]
abbrev dktX0_piece_1 : List UInt8 := dkwX0_piece_1 ++ dktX0_piece_2
def dkwX0_piece_0 : List UInt8 := [27, 155, 0, 13, 28, 3, 16, 7, 184, 0, 68, 154, 0, 6, 16, 154, 172, 42, 182, 1, 58, 42]
abbrev dktX0_piece_0 : List UInt8 := dkwX0_piece_0 ++ dktX0_piece_1
theorem dksX0_piece_0 : cX0_piece.data.toList.drop 0 = dktX0_piece_0 := by decide +kernel
theorem dksX0_piece_1 : cX0_piece.data.toList.drop 22 = dktX0_piece_1 := dk_seg dksX0_piece_0 22 rfl rfl
theorem dksX0_piece_2 : cX0_piece.data.toList.drop 46 = dktX0_piece_2 := dk_seg dksX0_piece_1 24 rfl rfl
theorem dksX0_piece_3 : cX0_piece.data.toList.drop 69 = dktX0_piece_3 := dk_seg dksX0_piece_2 23 rfl rfl
theorem dksX0_piece_4 : cX0_piece.data.toList.drop 91 = dktX0_piece_4 := dk_seg dksX0_piece_3 22 rfl rfl
theorem dX0_piece_0 : decode cX0_piece 0 = .ok (.iload_n 1, 1) := dk_27 (dk_at dksX0_piece_0 0 rfl rfl)
theorem dX0_piece_1 : decode cX0_piece 1 = .ok (.ifCond .lt 13, 3) := dk_155 0 13 (dk_at dksX0_piece_0 1 rfl rfl)
theorem dX0_piece_4 : decode cX0_piece 4 = .ok (.iload_n 2, 1) := dk_28 (dk_at dksX0_piece_0 4 rfl rfl)
theorem dX0_piece_5 : decode cX0_piece 5 = .ok (.iconst 0, 1) := dk_3 (dk_at dksX0_piece_0 5 rfl rfl)
theorem dX0_piece_6 : decode cX0_piece 6 = .ok (.bipush 7, 2) := dk_16 7 (dk_at dksX0_piece_0 6 rfl rfl)
theorem dX0_piece_8 : decode cX0_piece 8 = .ok (.invokestatic 68, 3) := dk_184 0 68 (dk_at dksX0_piece_0 8 rfl rfl)
theorem dX0_piece_11 : decode cX0_piece 11 = .ok (.ifCond .ne 6, 3) := dk_154 0 6 (dk_at dksX0_piece_0 11 rfl rfl)
theorem dX0_piece_14 : decode cX0_piece 14 = .ok (.bipush (-102), 2) := dk_16 154 (dk_at dksX0_piece_0 14 rfl rfl)
theorem dX0_piece_16 : decode cX0_piece 16 = .ok (.ireturn, 1) := dk_172 (dk_at dksX0_piece_0 16 rfl rfl)
theorem dX0_piece_17 : decode cX0_piece 17 = .ok (.aload_n 0, 1) := dk_42 (dk_at dksX0_piece_0 17 rfl rfl)
theorem dX0_piece_18 : decode cX0_piece 18 = .ok (.invokevirtual 314, 3) := dk_182 1 58 (dk_at dksX0_piece_0 18 rfl rfl)
theorem dX0_piece_21 : decode cX0_piece 21 = .ok (.aload_n 0, 1) := dk_42 (dk_at dksX0_piece_0 21 rfl rfl)
theorem dX0_piece_22 : decode cX0_piece 22 = .ok (.getfield 300, 3) := dk_180 1 44 (dk_at dksX0_piece_1 0 rfl rfl)
theorem dX0_piece_25 : decode cX0_piece 25 = .ok (.ifCond .eq 6, 3) := dk_153 0 6 (dk_at dksX0_piece_1 3 rfl rfl)
theorem dX0_piece_28 : decode cX0_piece 28 = .ok (.bipush (-104), 2) := dk_16 152 (dk_at dksX0_piece_1 6 rfl rfl)
theorem dX0_piece_30 : decode cX0_piece 30 = .ok (.ireturn, 1) := dk_172 (dk_at dksX0_piece_1 8 rfl rfl)
theorem dX0_piece_31 : decode cX0_piece 31 = .ok (.iload_n 1, 1) := dk_27 (dk_at dksX0_piece_1 9 rfl rfl)
theorem dX0_piece_32 : decode cX0_piece 32 = .ok (.aload_n 0, 1) := dk_42 (dk_at dksX0_piece_1 10 rfl rfl)
theorem dX0_piece_33 : decode cX0_piece 33 = .ok (.getfield 48, 3) := dk_180 0 48 (dk_at dksX0_piece_1 11 rfl rfl)
theorem dX0_piece_36 : decode cX0_piece 36 = .ok (.invokeinterface 215 1, 5) := by decide +kernel
theorem dX0_piece_41 : decode cX0_piece 41 = .ok (.if_icmp .lt 6, 3) := dk_161 0 6 (dk_at dksX0_piece_1 19 rfl rfl)
theorem dX0_piece_44 : decode cX0_piece 44 = .ok (.bipush (-106), 2) := dk_16 150 (dk_at dksX0_piece_1 22 rfl rfl)
theorem dX0_piece_46 : decode cX0_piece 46 = .ok (.ireturn, 1) := dk_172 (dk_at dksX0_piece_2 0 rfl rfl)
theorem dX0_piece_47 : decode cX0_piece 47 = .ok (.aload_n 0, 1) := dk_42 (dk_at dksX0_piece_2 1 rfl rfl)
theorem dX0_piece_48 : decode cX0_piece 48 = .ok (.getfield 48, 3) := dk_180 0 48 (dk_at dksX0_piece_2 2 rfl rfl)
theorem dX0_piece_51 : decode cX0_piece 51 = .ok (.iload_n 1, 1) := dk_27 (dk_at dksX0_piece_2 5 rfl rfl)
theorem dX0_piece_52 : decode cX0_piece 52 = .ok (.invokeinterface 218 2, 5) := by decide +kernel
theorem dX0_piece_57 : decode cX0_piece 57 = .ok (.checkcast 241, 3) := dk_192 0 241 (dk_at dksX0_piece_2 11 rfl rfl)
theorem dX0_piece_60 : decode cX0_piece 60 = .ok (.astore_n 3, 1) := dk_78 (dk_at dksX0_piece_2 14 rfl rfl)
theorem dX0_piece_61 : decode cX0_piece 61 = .ok (.iload_n 2, 1) := dk_28 (dk_at dksX0_piece_2 15 rfl rfl)
theorem dX0_piece_62 : decode cX0_piece 62 = .ok (.ifCond .ne 10, 3) := dk_154 0 10 (dk_at dksX0_piece_2 16 rfl rfl)
theorem dX0_piece_65 : decode cX0_piece 65 = .ok (.aload_n 3, 1) := dk_45 (dk_at dksX0_piece_2 19 rfl rfl)
theorem dX0_piece_66 : decode cX0_piece 66 = .ok (.getfield 260, 3) := dk_180 1 4 (dk_at dksX0_piece_2 20 rfl rfl)
theorem dX0_piece_69 : decode cX0_piece 69 = .ok (.goto 25, 3) := dk_167 0 25 (dk_at dksX0_piece_3 0 rfl rfl)
theorem dX0_piece_72 : decode cX0_piece 72 = .ok (.iload_n 2, 1) := dk_28 (dk_at dksX0_piece_3 3 rfl rfl)
theorem dX0_piece_73 : decode cX0_piece 73 = .ok (.iconst 1, 1) := dk_4 (dk_at dksX0_piece_3 4 rfl rfl)
theorem dX0_piece_74 : decode cX0_piece 74 = .ok (.if_icmp .ne 10, 3) := dk_160 0 10 (dk_at dksX0_piece_3 5 rfl rfl)
theorem dX0_piece_77 : decode cX0_piece 77 = .ok (.aload_n 3, 1) := dk_45 (dk_at dksX0_piece_3 8 rfl rfl)
theorem dX0_piece_78 : decode cX0_piece 78 = .ok (.getfield 290, 3) := dk_180 1 34 (dk_at dksX0_piece_3 9 rfl rfl)
theorem dX0_piece_81 : decode cX0_piece 81 = .ok (.goto 13, 3) := dk_167 0 13 (dk_at dksX0_piece_3 12 rfl rfl)
theorem dX0_piece_84 : decode cX0_piece 84 = .ok (.aload_n 3, 1) := dk_45 (dk_at dksX0_piece_3 15 rfl rfl)
theorem dX0_piece_85 : decode cX0_piece 85 = .ok (.getfield 243, 3) := dk_180 0 243 (dk_at dksX0_piece_3 16 rfl rfl)
theorem dX0_piece_88 : decode cX0_piece 88 = .ok (.iload_n 2, 1) := dk_28 (dk_at dksX0_piece_3 19 rfl rfl)
theorem dX0_piece_89 : decode cX0_piece 89 = .ok (.iconst 2, 1) := dk_5 (dk_at dksX0_piece_3 20 rfl rfl)
theorem dX0_piece_90 : decode cX0_piece 90 = .ok (.isub, 1) := dk_100 (dk_at dksX0_piece_3 21 rfl rfl)
theorem dX0_piece_91 : decode cX0_piece 91 = .ok (.invokevirtual 158, 3) := dk_182 0 158 (dk_at dksX0_piece_4 0 rfl rfl)
theorem dX0_piece_94 : decode cX0_piece 94 = .ok (.ireturn, 1) := dk_172 (dk_at dksX0_piece_4 3 rfl rfl)
abbrev cX0_drawnLast : ByteArray := prog_1_method_44_code
def yX0_drawnLast : MethodName := ⟨RX0, "drawnLast", "(III)I"⟩
def dkwX0_drawnLast_3 : List UInt8 := [153, 0, 8, 21, 5, 167, 0, 5, 21, 4, 54, 4, 132, 5, 1, 167, 255, 204, 21, 4, 172]
abbrev dktX0_drawnLast_3 : List UInt8 := dkwX0_drawnLast_3 ++ []
def dkwX0_drawnLast_2 : List UInt8 := [42, 180, 0, 48, 21, 5, 185, 0, 218, 2, 0, 192, 0, 241, 180, 0, 243, 27, 28, 29, 182, 1, 64]
abbrev dktX0_drawnLast_2 : List UInt8 := dkwX0_drawnLast_2 ++ dktX0_drawnLast_3
def dkwX0_drawnLast_1 : List UInt8 := [16, 152, 172, 16, 150, 54, 4, 3, 54, 5, 21, 5, 42, 180, 0, 48, 185, 0, 215, 1, 0, 162, 0, 44]
abbrev dktX0_drawnLast_1 : List UInt8 := dkwX0_drawnLast_1 ++ dktX0_drawnLast_2
def dkwX0_drawnLast_0 : List UInt8 := [27, 28, 29, 184, 1, 61, 154, 0, 6, 16, 154, 172, 42, 182, 1, 58, 42, 180, 1, 44, 153, 0, 6]
abbrev dktX0_drawnLast_0 : List UInt8 := dkwX0_drawnLast_0 ++ dktX0_drawnLast_1
theorem dksX0_drawnLast_0 : cX0_drawnLast.data.toList.drop 0 = dktX0_drawnLast_0 := by decide +kernel
theorem dksX0_drawnLast_1 : cX0_drawnLast.data.toList.drop 23 = dktX0_drawnLast_1 := dk_seg dksX0_drawnLast_0 23 rfl rfl
theorem dksX0_drawnLast_2 : cX0_drawnLast.data.toList.drop 47 = dktX0_drawnLast_2 := dk_seg dksX0_drawnLast_1 24 rfl rfl
theorem dksX0_drawnLast_3 : cX0_drawnLast.data.toList.drop 70 = dktX0_drawnLast_3 := dk_seg dksX0_drawnLast_2 23 rfl rfl
theorem dX0_drawnLast_0 : decode cX0_drawnLast 0 = .ok (.iload_n 1, 1) := dk_27 (dk_at dksX0_drawnLast_0 0 rfl rfl)
theorem dX0_drawnLast_1 : decode cX0_drawnLast 1 = .ok (.iload_n 2, 1) := dk_28 (dk_at dksX0_drawnLast_0 1 rfl rfl)
theorem dX0_drawnLast_2 : decode cX0_drawnLast 2 = .ok (.iload_n 3, 1) := dk_29 (dk_at dksX0_drawnLast_0 2 rfl rfl)
theorem dX0_drawnLast_3 : decode cX0_drawnLast 3 = .ok (.invokestatic 317, 3) := dk_184 1 61 (dk_at dksX0_drawnLast_0 3 rfl rfl)
theorem dX0_drawnLast_6 : decode cX0_drawnLast 6 = .ok (.ifCond .ne 6, 3) := dk_154 0 6 (dk_at dksX0_drawnLast_0 6 rfl rfl)
theorem dX0_drawnLast_9 : decode cX0_drawnLast 9 = .ok (.bipush (-102), 2) := dk_16 154 (dk_at dksX0_drawnLast_0 9 rfl rfl)
theorem dX0_drawnLast_11 : decode cX0_drawnLast 11 = .ok (.ireturn, 1) := dk_172 (dk_at dksX0_drawnLast_0 11 rfl rfl)
theorem dX0_drawnLast_12 : decode cX0_drawnLast 12 = .ok (.aload_n 0, 1) := dk_42 (dk_at dksX0_drawnLast_0 12 rfl rfl)
theorem dX0_drawnLast_13 : decode cX0_drawnLast 13 = .ok (.invokevirtual 314, 3) := dk_182 1 58 (dk_at dksX0_drawnLast_0 13 rfl rfl)
theorem dX0_drawnLast_16 : decode cX0_drawnLast 16 = .ok (.aload_n 0, 1) := dk_42 (dk_at dksX0_drawnLast_0 16 rfl rfl)
theorem dX0_drawnLast_17 : decode cX0_drawnLast 17 = .ok (.getfield 300, 3) := dk_180 1 44 (dk_at dksX0_drawnLast_0 17 rfl rfl)
theorem dX0_drawnLast_20 : decode cX0_drawnLast 20 = .ok (.ifCond .eq 6, 3) := dk_153 0 6 (dk_at dksX0_drawnLast_0 20 rfl rfl)
theorem dX0_drawnLast_23 : decode cX0_drawnLast 23 = .ok (.bipush (-104), 2) := dk_16 152 (dk_at dksX0_drawnLast_1 0 rfl rfl)
theorem dX0_drawnLast_25 : decode cX0_drawnLast 25 = .ok (.ireturn, 1) := dk_172 (dk_at dksX0_drawnLast_1 2 rfl rfl)
theorem dX0_drawnLast_26 : decode cX0_drawnLast 26 = .ok (.bipush (-106), 2) := dk_16 150 (dk_at dksX0_drawnLast_1 3 rfl rfl)
theorem dX0_drawnLast_28 : decode cX0_drawnLast 28 = .ok (.istore 4, 2) := dk_54 4 (dk_at dksX0_drawnLast_1 5 rfl rfl)
theorem dX0_drawnLast_30 : decode cX0_drawnLast 30 = .ok (.iconst 0, 1) := dk_3 (dk_at dksX0_drawnLast_1 7 rfl rfl)
theorem dX0_drawnLast_31 : decode cX0_drawnLast 31 = .ok (.istore 5, 2) := dk_54 5 (dk_at dksX0_drawnLast_1 8 rfl rfl)
theorem dX0_drawnLast_33 : decode cX0_drawnLast 33 = .ok (.iload 5, 2) := dk_21 5 (dk_at dksX0_drawnLast_1 10 rfl rfl)
theorem dX0_drawnLast_35 : decode cX0_drawnLast 35 = .ok (.aload_n 0, 1) := dk_42 (dk_at dksX0_drawnLast_1 12 rfl rfl)
theorem dX0_drawnLast_36 : decode cX0_drawnLast 36 = .ok (.getfield 48, 3) := dk_180 0 48 (dk_at dksX0_drawnLast_1 13 rfl rfl)
theorem dX0_drawnLast_39 : decode cX0_drawnLast 39 = .ok (.invokeinterface 215 1, 5) := by decide +kernel
theorem dX0_drawnLast_44 : decode cX0_drawnLast 44 = .ok (.if_icmp .ge 44, 3) := dk_162 0 44 (dk_at dksX0_drawnLast_1 21 rfl rfl)
theorem dX0_drawnLast_47 : decode cX0_drawnLast 47 = .ok (.aload_n 0, 1) := dk_42 (dk_at dksX0_drawnLast_2 0 rfl rfl)
theorem dX0_drawnLast_48 : decode cX0_drawnLast 48 = .ok (.getfield 48, 3) := dk_180 0 48 (dk_at dksX0_drawnLast_2 1 rfl rfl)
theorem dX0_drawnLast_51 : decode cX0_drawnLast 51 = .ok (.iload 5, 2) := dk_21 5 (dk_at dksX0_drawnLast_2 4 rfl rfl)
theorem dX0_drawnLast_53 : decode cX0_drawnLast 53 = .ok (.invokeinterface 218 2, 5) := by decide +kernel
theorem dX0_drawnLast_58 : decode cX0_drawnLast 58 = .ok (.checkcast 241, 3) := dk_192 0 241 (dk_at dksX0_drawnLast_2 11 rfl rfl)
theorem dX0_drawnLast_61 : decode cX0_drawnLast 61 = .ok (.getfield 243, 3) := dk_180 0 243 (dk_at dksX0_drawnLast_2 14 rfl rfl)
theorem dX0_drawnLast_64 : decode cX0_drawnLast 64 = .ok (.iload_n 1, 1) := dk_27 (dk_at dksX0_drawnLast_2 17 rfl rfl)
theorem dX0_drawnLast_65 : decode cX0_drawnLast 65 = .ok (.iload_n 2, 1) := dk_28 (dk_at dksX0_drawnLast_2 18 rfl rfl)
theorem dX0_drawnLast_66 : decode cX0_drawnLast 66 = .ok (.iload_n 3, 1) := dk_29 (dk_at dksX0_drawnLast_2 19 rfl rfl)
theorem dX0_drawnLast_67 : decode cX0_drawnLast 67 = .ok (.invokevirtual 320, 3) := dk_182 1 64 (dk_at dksX0_drawnLast_2 20 rfl rfl)
theorem dX0_drawnLast_70 : decode cX0_drawnLast 70 = .ok (.ifCond .eq 8, 3) := dk_153 0 8 (dk_at dksX0_drawnLast_3 0 rfl rfl)
theorem dX0_drawnLast_73 : decode cX0_drawnLast 73 = .ok (.iload 5, 2) := dk_21 5 (dk_at dksX0_drawnLast_3 3 rfl rfl)
theorem dX0_drawnLast_75 : decode cX0_drawnLast 75 = .ok (.goto 5, 3) := dk_167 0 5 (dk_at dksX0_drawnLast_3 5 rfl rfl)
theorem dX0_drawnLast_78 : decode cX0_drawnLast 78 = .ok (.iload 4, 2) := dk_21 4 (dk_at dksX0_drawnLast_3 8 rfl rfl)
theorem dX0_drawnLast_80 : decode cX0_drawnLast 80 = .ok (.istore 4, 2) := dk_54 4 (dk_at dksX0_drawnLast_3 10 rfl rfl)
theorem dX0_drawnLast_82 : decode cX0_drawnLast 82 = .ok (.iinc 5 1, 3) := dk_132 5 1 (dk_at dksX0_drawnLast_3 12 rfl rfl)
theorem dX0_drawnLast_85 : decode cX0_drawnLast 85 = .ok (.goto (-52), 3) := dk_167 255 204 (dk_at dksX0_drawnLast_3 15 rfl rfl)
theorem dX0_drawnLast_88 : decode cX0_drawnLast 88 = .ok (.iload 4, 2) := dk_21 4 (dk_at dksX0_drawnLast_3 18 rfl rfl)
theorem dX0_drawnLast_90 : decode cX0_drawnLast 90 = .ok (.ireturn, 1) := dk_172 (dk_at dksX0_drawnLast_3 20 rfl rfl)
abbrev cX0_isPoint : ByteArray := prog_1_method_43_code
def yX0_isPoint : MethodName := ⟨RX0, "isPoint", "(III)Z"⟩
def dkwX0_isPoint_1 : List UInt8 := [4, 184, 0, 68, 153, 0, 7, 4, 167, 0, 4, 3, 172]
abbrev dktX0_isPoint_1 : List UInt8 := dkwX0_isPoint_1 ++ []
def dkwX0_isPoint_0 : List UInt8 := [26, 16, 224, 16, 31, 184, 0, 68, 153, 0, 27, 27, 16, 224, 16, 31, 184, 0, 68, 153, 0, 16, 28, 3]
abbrev dktX0_isPoint_0 : List UInt8 := dkwX0_isPoint_0 ++ dktX0_isPoint_1
theorem dksX0_isPoint_0 : cX0_isPoint.data.toList.drop 0 = dktX0_isPoint_0 := by decide +kernel
theorem dksX0_isPoint_1 : cX0_isPoint.data.toList.drop 24 = dktX0_isPoint_1 := dk_seg dksX0_isPoint_0 24 rfl rfl
theorem dX0_isPoint_0 : decode cX0_isPoint 0 = .ok (.iload_n 0, 1) := dk_26 (dk_at dksX0_isPoint_0 0 rfl rfl)
theorem dX0_isPoint_1 : decode cX0_isPoint 1 = .ok (.bipush (-32), 2) := dk_16 224 (dk_at dksX0_isPoint_0 1 rfl rfl)
theorem dX0_isPoint_3 : decode cX0_isPoint 3 = .ok (.bipush 31, 2) := dk_16 31 (dk_at dksX0_isPoint_0 3 rfl rfl)
theorem dX0_isPoint_5 : decode cX0_isPoint 5 = .ok (.invokestatic 68, 3) := dk_184 0 68 (dk_at dksX0_isPoint_0 5 rfl rfl)
theorem dX0_isPoint_8 : decode cX0_isPoint 8 = .ok (.ifCond .eq 27, 3) := dk_153 0 27 (dk_at dksX0_isPoint_0 8 rfl rfl)
theorem dX0_isPoint_11 : decode cX0_isPoint 11 = .ok (.iload_n 1, 1) := dk_27 (dk_at dksX0_isPoint_0 11 rfl rfl)
theorem dX0_isPoint_12 : decode cX0_isPoint 12 = .ok (.bipush (-32), 2) := dk_16 224 (dk_at dksX0_isPoint_0 12 rfl rfl)
theorem dX0_isPoint_14 : decode cX0_isPoint 14 = .ok (.bipush 31, 2) := dk_16 31 (dk_at dksX0_isPoint_0 14 rfl rfl)
theorem dX0_isPoint_16 : decode cX0_isPoint 16 = .ok (.invokestatic 68, 3) := dk_184 0 68 (dk_at dksX0_isPoint_0 16 rfl rfl)
theorem dX0_isPoint_19 : decode cX0_isPoint 19 = .ok (.ifCond .eq 16, 3) := dk_153 0 16 (dk_at dksX0_isPoint_0 19 rfl rfl)
theorem dX0_isPoint_22 : decode cX0_isPoint 22 = .ok (.iload_n 2, 1) := dk_28 (dk_at dksX0_isPoint_0 22 rfl rfl)
theorem dX0_isPoint_23 : decode cX0_isPoint 23 = .ok (.iconst 0, 1) := dk_3 (dk_at dksX0_isPoint_0 23 rfl rfl)
theorem dX0_isPoint_24 : decode cX0_isPoint 24 = .ok (.iconst 1, 1) := dk_4 (dk_at dksX0_isPoint_1 0 rfl rfl)
theorem dX0_isPoint_25 : decode cX0_isPoint 25 = .ok (.invokestatic 68, 3) := dk_184 0 68 (dk_at dksX0_isPoint_1 1 rfl rfl)
theorem dX0_isPoint_28 : decode cX0_isPoint 28 = .ok (.ifCond .eq 7, 3) := dk_153 0 7 (dk_at dksX0_isPoint_1 4 rfl rfl)
theorem dX0_isPoint_31 : decode cX0_isPoint 31 = .ok (.iconst 1, 1) := dk_4 (dk_at dksX0_isPoint_1 7 rfl rfl)
theorem dX0_isPoint_32 : decode cX0_isPoint 32 = .ok (.goto 4, 3) := dk_167 0 4 (dk_at dksX0_isPoint_1 8 rfl rfl)
theorem dX0_isPoint_35 : decode cX0_isPoint 35 = .ok (.iconst 0, 1) := dk_3 (dk_at dksX0_isPoint_1 11 rfl rfl)
theorem dX0_isPoint_36 : decode cX0_isPoint 36 = .ok (.ireturn, 1) := dk_172 (dk_at dksX0_isPoint_1 12 rfl rfl)
abbrev cX0_seen : ByteArray := prog_1_method_46_code
def yX0_seen : MethodName := ⟨RX0, "seen", "(III)I"⟩
def dkwX0_seen_0 : List UInt8 := [27, 28, 29, 184, 1, 61, 153, 0, 13, 42, 27, 28, 29, 182, 1, 71, 167, 0, 5, 16, 154, 172]
abbrev dktX0_seen_0 : List UInt8 := dkwX0_seen_0 ++ []
theorem dksX0_seen_0 : cX0_seen.data.toList.drop 0 = dktX0_seen_0 := by decide +kernel
theorem dX0_seen_0 : decode cX0_seen 0 = .ok (.iload_n 1, 1) := dk_27 (dk_at dksX0_seen_0 0 rfl rfl)
theorem dX0_seen_1 : decode cX0_seen 1 = .ok (.iload_n 2, 1) := dk_28 (dk_at dksX0_seen_0 1 rfl rfl)
theorem dX0_seen_2 : decode cX0_seen 2 = .ok (.iload_n 3, 1) := dk_29 (dk_at dksX0_seen_0 2 rfl rfl)
theorem dX0_seen_3 : decode cX0_seen 3 = .ok (.invokestatic 317, 3) := dk_184 1 61 (dk_at dksX0_seen_0 3 rfl rfl)
theorem dX0_seen_6 : decode cX0_seen 6 = .ok (.ifCond .eq 13, 3) := dk_153 0 13 (dk_at dksX0_seen_0 6 rfl rfl)
theorem dX0_seen_9 : decode cX0_seen 9 = .ok (.aload_n 0, 1) := dk_42 (dk_at dksX0_seen_0 9 rfl rfl)
theorem dX0_seen_10 : decode cX0_seen 10 = .ok (.iload_n 1, 1) := dk_27 (dk_at dksX0_seen_0 10 rfl rfl)
theorem dX0_seen_11 : decode cX0_seen 11 = .ok (.iload_n 2, 1) := dk_28 (dk_at dksX0_seen_0 11 rfl rfl)
theorem dX0_seen_12 : decode cX0_seen 12 = .ok (.iload_n 3, 1) := dk_29 (dk_at dksX0_seen_0 12 rfl rfl)
theorem dX0_seen_13 : decode cX0_seen 13 = .ok (.invokevirtual 327, 3) := dk_182 1 71 (dk_at dksX0_seen_0 13 rfl rfl)
theorem dX0_seen_16 : decode cX0_seen 16 = .ok (.goto 5, 3) := dk_167 0 5 (dk_at dksX0_seen_0 16 rfl rfl)
theorem dX0_seen_19 : decode cX0_seen 19 = .ok (.bipush (-102), 2) := dk_16 154 (dk_at dksX0_seen_0 19 rfl rfl)
theorem dX0_seen_21 : decode cX0_seen 21 = .ok (.ireturn, 1) := dk_172 (dk_at dksX0_seen_0 21 rfl rfl)
abbrev cX0_seenAt : ByteArray := prog_1_method_45_code
def yX0_seenAt : MethodName := ⟨RX0, "seenAt", "(III)I"⟩
def dkwX0_seenAt_3 : List UInt8 := [164, 0, 11, 21, 6, 54, 4, 21, 7, 54, 5, 132, 6, 1, 167, 255, 183, 21, 4, 172]
abbrev dktX0_seenAt_3 : List UInt8 := dkwX0_seenAt_3 ++ []
def dkwX0_seenAt_2 : List UInt8 := [21, 6, 50, 27, 28, 29, 182, 1, 67, 54, 7, 21, 4, 16, 150, 159, 0, 10, 21, 7, 21, 5]
abbrev dktX0_seenAt_2 : List UInt8 := dkwX0_seenAt_2 ++ dktX0_seenAt_3
def dkwX0_seenAt_1 : List UInt8 := [198, 0, 56, 42, 180, 0, 18, 21, 6, 50, 27, 28, 29, 182, 1, 64, 153, 0, 40, 42, 180, 0, 18]
abbrev dktX0_seenAt_1 : List UInt8 := dkwX0_seenAt_1 ++ dktX0_seenAt_2
def dkwX0_seenAt_0 : List UInt8 := [16, 150, 54, 4, 3, 54, 5, 3, 54, 6, 21, 6, 16, 12, 162, 0, 72, 42, 180, 0, 18, 21, 6, 50]
abbrev dktX0_seenAt_0 : List UInt8 := dkwX0_seenAt_0 ++ dktX0_seenAt_1
theorem dksX0_seenAt_0 : cX0_seenAt.data.toList.drop 0 = dktX0_seenAt_0 := by decide +kernel
theorem dksX0_seenAt_1 : cX0_seenAt.data.toList.drop 24 = dktX0_seenAt_1 := dk_seg dksX0_seenAt_0 24 rfl rfl
theorem dksX0_seenAt_2 : cX0_seenAt.data.toList.drop 47 = dktX0_seenAt_2 := dk_seg dksX0_seenAt_1 23 rfl rfl
theorem dksX0_seenAt_3 : cX0_seenAt.data.toList.drop 69 = dktX0_seenAt_3 := dk_seg dksX0_seenAt_2 22 rfl rfl
theorem dX0_seenAt_0 : decode cX0_seenAt 0 = .ok (.bipush (-106), 2) := dk_16 150 (dk_at dksX0_seenAt_0 0 rfl rfl)
theorem dX0_seenAt_2 : decode cX0_seenAt 2 = .ok (.istore 4, 2) := dk_54 4 (dk_at dksX0_seenAt_0 2 rfl rfl)
theorem dX0_seenAt_4 : decode cX0_seenAt 4 = .ok (.iconst 0, 1) := dk_3 (dk_at dksX0_seenAt_0 4 rfl rfl)
theorem dX0_seenAt_5 : decode cX0_seenAt 5 = .ok (.istore 5, 2) := dk_54 5 (dk_at dksX0_seenAt_0 5 rfl rfl)
theorem dX0_seenAt_7 : decode cX0_seenAt 7 = .ok (.iconst 0, 1) := dk_3 (dk_at dksX0_seenAt_0 7 rfl rfl)
theorem dX0_seenAt_8 : decode cX0_seenAt 8 = .ok (.istore 6, 2) := dk_54 6 (dk_at dksX0_seenAt_0 8 rfl rfl)
theorem dX0_seenAt_10 : decode cX0_seenAt 10 = .ok (.iload 6, 2) := dk_21 6 (dk_at dksX0_seenAt_0 10 rfl rfl)
theorem dX0_seenAt_12 : decode cX0_seenAt 12 = .ok (.bipush 12, 2) := dk_16 12 (dk_at dksX0_seenAt_0 12 rfl rfl)
theorem dX0_seenAt_14 : decode cX0_seenAt 14 = .ok (.if_icmp .ge 72, 3) := dk_162 0 72 (dk_at dksX0_seenAt_0 14 rfl rfl)
theorem dX0_seenAt_17 : decode cX0_seenAt 17 = .ok (.aload_n 0, 1) := dk_42 (dk_at dksX0_seenAt_0 17 rfl rfl)
theorem dX0_seenAt_18 : decode cX0_seenAt 18 = .ok (.getfield 18, 3) := dk_180 0 18 (dk_at dksX0_seenAt_0 18 rfl rfl)
theorem dX0_seenAt_21 : decode cX0_seenAt 21 = .ok (.iload 6, 2) := dk_21 6 (dk_at dksX0_seenAt_0 21 rfl rfl)
theorem dX0_seenAt_23 : decode cX0_seenAt 23 = .ok (.aaload, 1) := dk_50 (dk_at dksX0_seenAt_0 23 rfl rfl)
theorem dX0_seenAt_24 : decode cX0_seenAt 24 = .ok (.ifnull 56, 3) := dk_198 0 56 (dk_at dksX0_seenAt_1 0 rfl rfl)
theorem dX0_seenAt_27 : decode cX0_seenAt 27 = .ok (.aload_n 0, 1) := dk_42 (dk_at dksX0_seenAt_1 3 rfl rfl)
theorem dX0_seenAt_28 : decode cX0_seenAt 28 = .ok (.getfield 18, 3) := dk_180 0 18 (dk_at dksX0_seenAt_1 4 rfl rfl)
theorem dX0_seenAt_31 : decode cX0_seenAt 31 = .ok (.iload 6, 2) := dk_21 6 (dk_at dksX0_seenAt_1 7 rfl rfl)
theorem dX0_seenAt_33 : decode cX0_seenAt 33 = .ok (.aaload, 1) := dk_50 (dk_at dksX0_seenAt_1 9 rfl rfl)
theorem dX0_seenAt_34 : decode cX0_seenAt 34 = .ok (.iload_n 1, 1) := dk_27 (dk_at dksX0_seenAt_1 10 rfl rfl)
theorem dX0_seenAt_35 : decode cX0_seenAt 35 = .ok (.iload_n 2, 1) := dk_28 (dk_at dksX0_seenAt_1 11 rfl rfl)
theorem dX0_seenAt_36 : decode cX0_seenAt 36 = .ok (.iload_n 3, 1) := dk_29 (dk_at dksX0_seenAt_1 12 rfl rfl)
theorem dX0_seenAt_37 : decode cX0_seenAt 37 = .ok (.invokevirtual 320, 3) := dk_182 1 64 (dk_at dksX0_seenAt_1 13 rfl rfl)
theorem dX0_seenAt_40 : decode cX0_seenAt 40 = .ok (.ifCond .eq 40, 3) := dk_153 0 40 (dk_at dksX0_seenAt_1 16 rfl rfl)
theorem dX0_seenAt_43 : decode cX0_seenAt 43 = .ok (.aload_n 0, 1) := dk_42 (dk_at dksX0_seenAt_1 19 rfl rfl)
theorem dX0_seenAt_44 : decode cX0_seenAt 44 = .ok (.getfield 18, 3) := dk_180 0 18 (dk_at dksX0_seenAt_1 20 rfl rfl)
theorem dX0_seenAt_47 : decode cX0_seenAt 47 = .ok (.iload 6, 2) := dk_21 6 (dk_at dksX0_seenAt_2 0 rfl rfl)
theorem dX0_seenAt_49 : decode cX0_seenAt 49 = .ok (.aaload, 1) := dk_50 (dk_at dksX0_seenAt_2 2 rfl rfl)
theorem dX0_seenAt_50 : decode cX0_seenAt 50 = .ok (.iload_n 1, 1) := dk_27 (dk_at dksX0_seenAt_2 3 rfl rfl)
theorem dX0_seenAt_51 : decode cX0_seenAt 51 = .ok (.iload_n 2, 1) := dk_28 (dk_at dksX0_seenAt_2 4 rfl rfl)
theorem dX0_seenAt_52 : decode cX0_seenAt 52 = .ok (.iload_n 3, 1) := dk_29 (dk_at dksX0_seenAt_2 5 rfl rfl)
theorem dX0_seenAt_53 : decode cX0_seenAt 53 = .ok (.invokevirtual 323, 3) := dk_182 1 67 (dk_at dksX0_seenAt_2 6 rfl rfl)
theorem dX0_seenAt_56 : decode cX0_seenAt 56 = .ok (.istore 7, 2) := dk_54 7 (dk_at dksX0_seenAt_2 9 rfl rfl)
theorem dX0_seenAt_58 : decode cX0_seenAt 58 = .ok (.iload 4, 2) := dk_21 4 (dk_at dksX0_seenAt_2 11 rfl rfl)
theorem dX0_seenAt_60 : decode cX0_seenAt 60 = .ok (.bipush (-106), 2) := dk_16 150 (dk_at dksX0_seenAt_2 13 rfl rfl)
theorem dX0_seenAt_62 : decode cX0_seenAt 62 = .ok (.if_icmp .eq 10, 3) := dk_159 0 10 (dk_at dksX0_seenAt_2 15 rfl rfl)
theorem dX0_seenAt_65 : decode cX0_seenAt 65 = .ok (.iload 7, 2) := dk_21 7 (dk_at dksX0_seenAt_2 18 rfl rfl)
theorem dX0_seenAt_67 : decode cX0_seenAt 67 = .ok (.iload 5, 2) := dk_21 5 (dk_at dksX0_seenAt_2 20 rfl rfl)
theorem dX0_seenAt_69 : decode cX0_seenAt 69 = .ok (.if_icmp .le 11, 3) := dk_164 0 11 (dk_at dksX0_seenAt_3 0 rfl rfl)
theorem dX0_seenAt_72 : decode cX0_seenAt 72 = .ok (.iload 6, 2) := dk_21 6 (dk_at dksX0_seenAt_3 3 rfl rfl)
theorem dX0_seenAt_74 : decode cX0_seenAt 74 = .ok (.istore 4, 2) := dk_54 4 (dk_at dksX0_seenAt_3 5 rfl rfl)
theorem dX0_seenAt_76 : decode cX0_seenAt 76 = .ok (.iload 7, 2) := dk_21 7 (dk_at dksX0_seenAt_3 7 rfl rfl)
theorem dX0_seenAt_78 : decode cX0_seenAt 78 = .ok (.istore 5, 2) := dk_54 5 (dk_at dksX0_seenAt_3 9 rfl rfl)
theorem dX0_seenAt_80 : decode cX0_seenAt 80 = .ok (.iinc 6 1, 3) := dk_132 6 1 (dk_at dksX0_seenAt_3 11 rfl rfl)
theorem dX0_seenAt_83 : decode cX0_seenAt 83 = .ok (.goto (-73), 3) := dk_167 255 183 (dk_at dksX0_seenAt_3 14 rfl rfl)
theorem dX0_seenAt_86 : decode cX0_seenAt 86 = .ok (.iload 4, 2) := dk_21 4 (dk_at dksX0_seenAt_3 17 rfl rfl)
theorem dX0_seenAt_88 : decode cX0_seenAt 88 = .ok (.ireturn, 1) := dk_172 (dk_at dksX0_seenAt_3 19 rfl rfl)
abbrev cX0_face : ByteArray := prog_1_method_48_code
def yX0_face : MethodName := ⟨RX0, "face", "(III)I"⟩
def dkwX0_face_0 : List UInt8 := [27, 28, 29, 184, 1, 61, 153, 0, 13, 42, 27, 28, 29, 182, 1, 77, 167, 0, 5, 16, 154, 172]
abbrev dktX0_face_0 : List UInt8 := dkwX0_face_0 ++ []
theorem dksX0_face_0 : cX0_face.data.toList.drop 0 = dktX0_face_0 := by decide +kernel
theorem dX0_face_0 : decode cX0_face 0 = .ok (.iload_n 1, 1) := dk_27 (dk_at dksX0_face_0 0 rfl rfl)
theorem dX0_face_1 : decode cX0_face 1 = .ok (.iload_n 2, 1) := dk_28 (dk_at dksX0_face_0 1 rfl rfl)
theorem dX0_face_2 : decode cX0_face 2 = .ok (.iload_n 3, 1) := dk_29 (dk_at dksX0_face_0 2 rfl rfl)
theorem dX0_face_3 : decode cX0_face 3 = .ok (.invokestatic 317, 3) := dk_184 1 61 (dk_at dksX0_face_0 3 rfl rfl)
theorem dX0_face_6 : decode cX0_face 6 = .ok (.ifCond .eq 13, 3) := dk_153 0 13 (dk_at dksX0_face_0 6 rfl rfl)
theorem dX0_face_9 : decode cX0_face 9 = .ok (.aload_n 0, 1) := dk_42 (dk_at dksX0_face_0 9 rfl rfl)
theorem dX0_face_10 : decode cX0_face 10 = .ok (.iload_n 1, 1) := dk_27 (dk_at dksX0_face_0 10 rfl rfl)
theorem dX0_face_11 : decode cX0_face 11 = .ok (.iload_n 2, 1) := dk_28 (dk_at dksX0_face_0 11 rfl rfl)
theorem dX0_face_12 : decode cX0_face 12 = .ok (.iload_n 3, 1) := dk_29 (dk_at dksX0_face_0 12 rfl rfl)
theorem dX0_face_13 : decode cX0_face 13 = .ok (.invokevirtual 333, 3) := dk_182 1 77 (dk_at dksX0_face_0 13 rfl rfl)
theorem dX0_face_16 : decode cX0_face 16 = .ok (.goto 5, 3) := dk_167 0 5 (dk_at dksX0_face_0 16 rfl rfl)
theorem dX0_face_19 : decode cX0_face 19 = .ok (.bipush (-102), 2) := dk_16 154 (dk_at dksX0_face_0 19 rfl rfl)
theorem dX0_face_21 : decode cX0_face 21 = .ok (.ireturn, 1) := dk_172 (dk_at dksX0_face_0 21 rfl rfl)
abbrev cX0_faceAt : ByteArray := prog_1_method_47_code
def yX0_faceAt : MethodName := ⟨RX0, "faceAt", "(III)I"⟩
def dkwX0_faceAt_1 : List UInt8 := [180, 0, 18, 21, 4, 50, 27, 28, 29, 182, 1, 74, 172]
abbrev dktX0_faceAt_1 : List UInt8 := dkwX0_faceAt_1 ++ []
def dkwX0_faceAt_0 : List UInt8 := [42, 27, 28, 29, 182, 1, 71, 54, 4, 21, 4, 16, 150, 160, 0, 8, 16, 150, 167, 0, 16, 42]
abbrev dktX0_faceAt_0 : List UInt8 := dkwX0_faceAt_0 ++ dktX0_faceAt_1
theorem dksX0_faceAt_0 : cX0_faceAt.data.toList.drop 0 = dktX0_faceAt_0 := by decide +kernel
theorem dksX0_faceAt_1 : cX0_faceAt.data.toList.drop 22 = dktX0_faceAt_1 := dk_seg dksX0_faceAt_0 22 rfl rfl
theorem dX0_faceAt_0 : decode cX0_faceAt 0 = .ok (.aload_n 0, 1) := dk_42 (dk_at dksX0_faceAt_0 0 rfl rfl)
theorem dX0_faceAt_1 : decode cX0_faceAt 1 = .ok (.iload_n 1, 1) := dk_27 (dk_at dksX0_faceAt_0 1 rfl rfl)
theorem dX0_faceAt_2 : decode cX0_faceAt 2 = .ok (.iload_n 2, 1) := dk_28 (dk_at dksX0_faceAt_0 2 rfl rfl)
theorem dX0_faceAt_3 : decode cX0_faceAt 3 = .ok (.iload_n 3, 1) := dk_29 (dk_at dksX0_faceAt_0 3 rfl rfl)
theorem dX0_faceAt_4 : decode cX0_faceAt 4 = .ok (.invokevirtual 327, 3) := dk_182 1 71 (dk_at dksX0_faceAt_0 4 rfl rfl)
theorem dX0_faceAt_7 : decode cX0_faceAt 7 = .ok (.istore 4, 2) := dk_54 4 (dk_at dksX0_faceAt_0 7 rfl rfl)
theorem dX0_faceAt_9 : decode cX0_faceAt 9 = .ok (.iload 4, 2) := dk_21 4 (dk_at dksX0_faceAt_0 9 rfl rfl)
theorem dX0_faceAt_11 : decode cX0_faceAt 11 = .ok (.bipush (-106), 2) := dk_16 150 (dk_at dksX0_faceAt_0 11 rfl rfl)
theorem dX0_faceAt_13 : decode cX0_faceAt 13 = .ok (.if_icmp .ne 8, 3) := dk_160 0 8 (dk_at dksX0_faceAt_0 13 rfl rfl)
theorem dX0_faceAt_16 : decode cX0_faceAt 16 = .ok (.bipush (-106), 2) := dk_16 150 (dk_at dksX0_faceAt_0 16 rfl rfl)
theorem dX0_faceAt_18 : decode cX0_faceAt 18 = .ok (.goto 16, 3) := dk_167 0 16 (dk_at dksX0_faceAt_0 18 rfl rfl)
theorem dX0_faceAt_21 : decode cX0_faceAt 21 = .ok (.aload_n 0, 1) := dk_42 (dk_at dksX0_faceAt_0 21 rfl rfl)
theorem dX0_faceAt_22 : decode cX0_faceAt 22 = .ok (.getfield 18, 3) := dk_180 0 18 (dk_at dksX0_faceAt_1 0 rfl rfl)
theorem dX0_faceAt_25 : decode cX0_faceAt 25 = .ok (.iload 4, 2) := dk_21 4 (dk_at dksX0_faceAt_1 3 rfl rfl)
theorem dX0_faceAt_27 : decode cX0_faceAt 27 = .ok (.aaload, 1) := dk_50 (dk_at dksX0_faceAt_1 5 rfl rfl)
theorem dX0_faceAt_28 : decode cX0_faceAt 28 = .ok (.iload_n 1, 1) := dk_27 (dk_at dksX0_faceAt_1 6 rfl rfl)
theorem dX0_faceAt_29 : decode cX0_faceAt 29 = .ok (.iload_n 2, 1) := dk_28 (dk_at dksX0_faceAt_1 7 rfl rfl)
theorem dX0_faceAt_30 : decode cX0_faceAt 30 = .ok (.iload_n 3, 1) := dk_29 (dk_at dksX0_faceAt_1 8 rfl rfl)
theorem dX0_faceAt_31 : decode cX0_faceAt 31 = .ok (.invokevirtual 330, 3) := dk_182 1 74 (dk_at dksX0_faceAt_1 9 rfl rfl)
theorem dX0_faceAt_34 : decode cX0_faceAt 34 = .ok (.ireturn, 1) := dk_172 (dk_at dksX0_faceAt_1 12 rfl rfl)
abbrev cX0_through : ByteArray := prog_1_method_49_code
def yX0_through : MethodName := ⟨RX0, "through", "(IIII)I"⟩
def dkwX0_through_7 : List UInt8 := [182, 1, 83, 192, 0, 1, 180, 0, 100, 167, 0, 5, 16, 150, 172]
abbrev dktX0_through_7 : List UInt8 := dkwX0_through_7 ++ []
def dkwX0_through_6 : List UInt8 := [182, 1, 80, 132, 8, 1, 167, 255, 150, 21, 4, 25, 5, 182, 1, 33, 162, 0, 19, 25, 5, 21, 4]
abbrev dktX0_through_6 : List UInt8 := dkwX0_through_6 ++ dktX0_through_7
def dkwX0_through_5 : List UInt8 := [29, 182, 1, 67, 164, 0, 7, 4, 167, 0, 4, 3, 96, 54, 10, 167, 255, 205, 25, 5, 21, 10, 25, 9]
abbrev dktX0_through_5 : List UInt8 := dkwX0_through_5 ++ dktX0_through_6
def dkwX0_through_4 : List UInt8 := [185, 0, 238, 1, 0, 192, 0, 1, 58, 12, 21, 10, 25, 12, 27, 28, 29, 182, 1, 67, 25, 9, 27, 28]
abbrev dktX0_through_4 : List UInt8 := dkwX0_through_4 ++ dktX0_through_5
def dkwX0_through_3 : List UInt8 := [54, 10, 25, 5, 182, 0, 229, 58, 11, 25, 11, 185, 0, 233, 1, 0, 153, 0, 47, 25, 11]
abbrev dktX0_through_3 : List UInt8 := dkwX0_through_3 ++ dktX0_through_4
def dkwX0_through_2 : List UInt8 := [25, 6, 21, 8, 50, 58, 9, 25, 9, 198, 0, 87, 25, 9, 27, 28, 29, 182, 1, 64, 153, 0, 76, 3]
abbrev dktX0_through_2 : List UInt8 := dkwX0_through_2 ++ dktX0_through_3
def dkwX0_through_1 : List UInt8 := [58, 5, 42, 180, 0, 18, 58, 6, 25, 6, 190, 54, 7, 3, 54, 8, 21, 8, 21, 7, 162, 0, 105]
abbrev dktX0_through_1 : List UInt8 := dkwX0_through_1 ++ dktX0_through_2
def dkwX0_through_0 : List UInt8 := [27, 28, 29, 184, 1, 61, 153, 0, 8, 21, 4, 156, 0, 6, 16, 154, 172, 187, 0, 38, 89, 183, 0, 40]
abbrev dktX0_through_0 : List UInt8 := dkwX0_through_0 ++ dktX0_through_1
theorem dksX0_through_0 : cX0_through.data.toList.drop 0 = dktX0_through_0 := by decide +kernel
theorem dksX0_through_1 : cX0_through.data.toList.drop 24 = dktX0_through_1 := dk_seg dksX0_through_0 24 rfl rfl
theorem dksX0_through_2 : cX0_through.data.toList.drop 47 = dktX0_through_2 := dk_seg dksX0_through_1 23 rfl rfl
theorem dksX0_through_3 : cX0_through.data.toList.drop 71 = dktX0_through_3 := dk_seg dksX0_through_2 24 rfl rfl
theorem dksX0_through_4 : cX0_through.data.toList.drop 92 = dktX0_through_4 := dk_seg dksX0_through_3 21 rfl rfl
theorem dksX0_through_5 : cX0_through.data.toList.drop 116 = dktX0_through_5 := dk_seg dksX0_through_4 24 rfl rfl
theorem dksX0_through_6 : cX0_through.data.toList.drop 140 = dktX0_through_6 := dk_seg dksX0_through_5 24 rfl rfl
theorem dksX0_through_7 : cX0_through.data.toList.drop 163 = dktX0_through_7 := dk_seg dksX0_through_6 23 rfl rfl
theorem dX0_through_0 : decode cX0_through 0 = .ok (.iload_n 1, 1) := dk_27 (dk_at dksX0_through_0 0 rfl rfl)
theorem dX0_through_1 : decode cX0_through 1 = .ok (.iload_n 2, 1) := dk_28 (dk_at dksX0_through_0 1 rfl rfl)
theorem dX0_through_2 : decode cX0_through 2 = .ok (.iload_n 3, 1) := dk_29 (dk_at dksX0_through_0 2 rfl rfl)
theorem dX0_through_3 : decode cX0_through 3 = .ok (.invokestatic 317, 3) := dk_184 1 61 (dk_at dksX0_through_0 3 rfl rfl)
theorem dX0_through_6 : decode cX0_through 6 = .ok (.ifCond .eq 8, 3) := dk_153 0 8 (dk_at dksX0_through_0 6 rfl rfl)
theorem dX0_through_9 : decode cX0_through 9 = .ok (.iload 4, 2) := dk_21 4 (dk_at dksX0_through_0 9 rfl rfl)
theorem dX0_through_11 : decode cX0_through 11 = .ok (.ifCond .ge 6, 3) := dk_156 0 6 (dk_at dksX0_through_0 11 rfl rfl)
theorem dX0_through_14 : decode cX0_through 14 = .ok (.bipush (-102), 2) := dk_16 154 (dk_at dksX0_through_0 14 rfl rfl)
theorem dX0_through_16 : decode cX0_through 16 = .ok (.ireturn, 1) := dk_172 (dk_at dksX0_through_0 16 rfl rfl)
theorem dX0_through_17 : decode cX0_through 17 = .ok (.new 38, 3) := dk_187 0 38 (dk_at dksX0_through_0 17 rfl rfl)
theorem dX0_through_20 : decode cX0_through 20 = .ok (.dup, 1) := dk_89 (dk_at dksX0_through_0 20 rfl rfl)
theorem dX0_through_21 : decode cX0_through 21 = .ok (.invokespecial 40, 3) := dk_183 0 40 (dk_at dksX0_through_0 21 rfl rfl)
theorem dX0_through_24 : decode cX0_through 24 = .ok (.astore 5, 2) := dk_58 5 (dk_at dksX0_through_1 0 rfl rfl)
theorem dX0_through_26 : decode cX0_through 26 = .ok (.aload_n 0, 1) := dk_42 (dk_at dksX0_through_1 2 rfl rfl)
theorem dX0_through_27 : decode cX0_through 27 = .ok (.getfield 18, 3) := dk_180 0 18 (dk_at dksX0_through_1 3 rfl rfl)
theorem dX0_through_30 : decode cX0_through 30 = .ok (.astore 6, 2) := dk_58 6 (dk_at dksX0_through_1 6 rfl rfl)
theorem dX0_through_32 : decode cX0_through 32 = .ok (.aload 6, 2) := dk_25 6 (dk_at dksX0_through_1 8 rfl rfl)
theorem dX0_through_34 : decode cX0_through 34 = .ok (.arraylength, 1) := dk_190 (dk_at dksX0_through_1 10 rfl rfl)
theorem dX0_through_35 : decode cX0_through 35 = .ok (.istore 7, 2) := dk_54 7 (dk_at dksX0_through_1 11 rfl rfl)
theorem dX0_through_37 : decode cX0_through 37 = .ok (.iconst 0, 1) := dk_3 (dk_at dksX0_through_1 13 rfl rfl)
theorem dX0_through_38 : decode cX0_through 38 = .ok (.istore 8, 2) := dk_54 8 (dk_at dksX0_through_1 14 rfl rfl)
theorem dX0_through_40 : decode cX0_through 40 = .ok (.iload 8, 2) := dk_21 8 (dk_at dksX0_through_1 16 rfl rfl)
theorem dX0_through_42 : decode cX0_through 42 = .ok (.iload 7, 2) := dk_21 7 (dk_at dksX0_through_1 18 rfl rfl)
theorem dX0_through_44 : decode cX0_through 44 = .ok (.if_icmp .ge 105, 3) := dk_162 0 105 (dk_at dksX0_through_1 20 rfl rfl)
theorem dX0_through_47 : decode cX0_through 47 = .ok (.aload 6, 2) := dk_25 6 (dk_at dksX0_through_2 0 rfl rfl)
theorem dX0_through_49 : decode cX0_through 49 = .ok (.iload 8, 2) := dk_21 8 (dk_at dksX0_through_2 2 rfl rfl)
theorem dX0_through_51 : decode cX0_through 51 = .ok (.aaload, 1) := dk_50 (dk_at dksX0_through_2 4 rfl rfl)
theorem dX0_through_52 : decode cX0_through 52 = .ok (.astore 9, 2) := dk_58 9 (dk_at dksX0_through_2 5 rfl rfl)
theorem dX0_through_54 : decode cX0_through 54 = .ok (.aload 9, 2) := dk_25 9 (dk_at dksX0_through_2 7 rfl rfl)
theorem dX0_through_56 : decode cX0_through 56 = .ok (.ifnull 87, 3) := dk_198 0 87 (dk_at dksX0_through_2 9 rfl rfl)
theorem dX0_through_59 : decode cX0_through 59 = .ok (.aload 9, 2) := dk_25 9 (dk_at dksX0_through_2 12 rfl rfl)
theorem dX0_through_61 : decode cX0_through 61 = .ok (.iload_n 1, 1) := dk_27 (dk_at dksX0_through_2 14 rfl rfl)
theorem dX0_through_62 : decode cX0_through 62 = .ok (.iload_n 2, 1) := dk_28 (dk_at dksX0_through_2 15 rfl rfl)
theorem dX0_through_63 : decode cX0_through 63 = .ok (.iload_n 3, 1) := dk_29 (dk_at dksX0_through_2 16 rfl rfl)
theorem dX0_through_64 : decode cX0_through 64 = .ok (.invokevirtual 320, 3) := dk_182 1 64 (dk_at dksX0_through_2 17 rfl rfl)
theorem dX0_through_67 : decode cX0_through 67 = .ok (.ifCond .eq 76, 3) := dk_153 0 76 (dk_at dksX0_through_2 20 rfl rfl)
theorem dX0_through_70 : decode cX0_through 70 = .ok (.iconst 0, 1) := dk_3 (dk_at dksX0_through_2 23 rfl rfl)
theorem dX0_through_71 : decode cX0_through 71 = .ok (.istore 10, 2) := dk_54 10 (dk_at dksX0_through_3 0 rfl rfl)
theorem dX0_through_73 : decode cX0_through 73 = .ok (.aload 5, 2) := dk_25 5 (dk_at dksX0_through_3 2 rfl rfl)
theorem dX0_through_75 : decode cX0_through 75 = .ok (.invokevirtual 229, 3) := dk_182 0 229 (dk_at dksX0_through_3 4 rfl rfl)
theorem dX0_through_78 : decode cX0_through 78 = .ok (.astore 11, 2) := dk_58 11 (dk_at dksX0_through_3 7 rfl rfl)
theorem dX0_through_80 : decode cX0_through 80 = .ok (.aload 11, 2) := dk_25 11 (dk_at dksX0_through_3 9 rfl rfl)
theorem dX0_through_82 : decode cX0_through 82 = .ok (.invokeinterface 233 1, 5) := by decide +kernel
theorem dX0_through_87 : decode cX0_through 87 = .ok (.ifCond .eq 47, 3) := dk_153 0 47 (dk_at dksX0_through_3 16 rfl rfl)
theorem dX0_through_90 : decode cX0_through 90 = .ok (.aload 11, 2) := dk_25 11 (dk_at dksX0_through_3 19 rfl rfl)
theorem dX0_through_92 : decode cX0_through 92 = .ok (.invokeinterface 238 1, 5) := by decide +kernel
theorem dX0_through_97 : decode cX0_through 97 = .ok (.checkcast 1, 3) := dk_192 0 1 (dk_at dksX0_through_4 5 rfl rfl)
theorem dX0_through_100 : decode cX0_through 100 = .ok (.astore 12, 2) := dk_58 12 (dk_at dksX0_through_4 8 rfl rfl)
theorem dX0_through_102 : decode cX0_through 102 = .ok (.iload 10, 2) := dk_21 10 (dk_at dksX0_through_4 10 rfl rfl)
theorem dX0_through_104 : decode cX0_through 104 = .ok (.aload 12, 2) := dk_25 12 (dk_at dksX0_through_4 12 rfl rfl)
theorem dX0_through_106 : decode cX0_through 106 = .ok (.iload_n 1, 1) := dk_27 (dk_at dksX0_through_4 14 rfl rfl)
theorem dX0_through_107 : decode cX0_through 107 = .ok (.iload_n 2, 1) := dk_28 (dk_at dksX0_through_4 15 rfl rfl)
theorem dX0_through_108 : decode cX0_through 108 = .ok (.iload_n 3, 1) := dk_29 (dk_at dksX0_through_4 16 rfl rfl)
theorem dX0_through_109 : decode cX0_through 109 = .ok (.invokevirtual 323, 3) := dk_182 1 67 (dk_at dksX0_through_4 17 rfl rfl)
theorem dX0_through_112 : decode cX0_through 112 = .ok (.aload 9, 2) := dk_25 9 (dk_at dksX0_through_4 20 rfl rfl)
theorem dX0_through_114 : decode cX0_through 114 = .ok (.iload_n 1, 1) := dk_27 (dk_at dksX0_through_4 22 rfl rfl)
theorem dX0_through_115 : decode cX0_through 115 = .ok (.iload_n 2, 1) := dk_28 (dk_at dksX0_through_4 23 rfl rfl)
theorem dX0_through_116 : decode cX0_through 116 = .ok (.iload_n 3, 1) := dk_29 (dk_at dksX0_through_5 0 rfl rfl)
theorem dX0_through_117 : decode cX0_through 117 = .ok (.invokevirtual 323, 3) := dk_182 1 67 (dk_at dksX0_through_5 1 rfl rfl)
theorem dX0_through_120 : decode cX0_through 120 = .ok (.if_icmp .le 7, 3) := dk_164 0 7 (dk_at dksX0_through_5 4 rfl rfl)
theorem dX0_through_123 : decode cX0_through 123 = .ok (.iconst 1, 1) := dk_4 (dk_at dksX0_through_5 7 rfl rfl)
theorem dX0_through_124 : decode cX0_through 124 = .ok (.goto 4, 3) := dk_167 0 4 (dk_at dksX0_through_5 8 rfl rfl)
theorem dX0_through_127 : decode cX0_through 127 = .ok (.iconst 0, 1) := dk_3 (dk_at dksX0_through_5 11 rfl rfl)
theorem dX0_through_128 : decode cX0_through 128 = .ok (.iadd, 1) := dk_96 (dk_at dksX0_through_5 12 rfl rfl)
theorem dX0_through_129 : decode cX0_through 129 = .ok (.istore 10, 2) := dk_54 10 (dk_at dksX0_through_5 13 rfl rfl)
theorem dX0_through_131 : decode cX0_through 131 = .ok (.goto (-51), 3) := dk_167 255 205 (dk_at dksX0_through_5 15 rfl rfl)
theorem dX0_through_134 : decode cX0_through 134 = .ok (.aload 5, 2) := dk_25 5 (dk_at dksX0_through_5 18 rfl rfl)
theorem dX0_through_136 : decode cX0_through 136 = .ok (.iload 10, 2) := dk_21 10 (dk_at dksX0_through_5 20 rfl rfl)
theorem dX0_through_138 : decode cX0_through 138 = .ok (.aload 9, 2) := dk_25 9 (dk_at dksX0_through_5 22 rfl rfl)
theorem dX0_through_140 : decode cX0_through 140 = .ok (.invokevirtual 336, 3) := dk_182 1 80 (dk_at dksX0_through_6 0 rfl rfl)
theorem dX0_through_143 : decode cX0_through 143 = .ok (.iinc 8 1, 3) := dk_132 8 1 (dk_at dksX0_through_6 3 rfl rfl)
theorem dX0_through_146 : decode cX0_through 146 = .ok (.goto (-106), 3) := dk_167 255 150 (dk_at dksX0_through_6 6 rfl rfl)
theorem dX0_through_149 : decode cX0_through 149 = .ok (.iload 4, 2) := dk_21 4 (dk_at dksX0_through_6 9 rfl rfl)
theorem dX0_through_151 : decode cX0_through 151 = .ok (.aload 5, 2) := dk_25 5 (dk_at dksX0_through_6 11 rfl rfl)
theorem dX0_through_153 : decode cX0_through 153 = .ok (.invokevirtual 289, 3) := dk_182 1 33 (dk_at dksX0_through_6 13 rfl rfl)
theorem dX0_through_156 : decode cX0_through 156 = .ok (.if_icmp .ge 19, 3) := dk_162 0 19 (dk_at dksX0_through_6 16 rfl rfl)
theorem dX0_through_159 : decode cX0_through 159 = .ok (.aload 5, 2) := dk_25 5 (dk_at dksX0_through_6 19 rfl rfl)
theorem dX0_through_161 : decode cX0_through 161 = .ok (.iload 4, 2) := dk_21 4 (dk_at dksX0_through_6 21 rfl rfl)
theorem dX0_through_163 : decode cX0_through 163 = .ok (.invokevirtual 339, 3) := dk_182 1 83 (dk_at dksX0_through_7 0 rfl rfl)
theorem dX0_through_166 : decode cX0_through 166 = .ok (.checkcast 1, 3) := dk_192 0 1 (dk_at dksX0_through_7 3 rfl rfl)
theorem dX0_through_169 : decode cX0_through 169 = .ok (.getfield 100, 3) := dk_180 0 100 (dk_at dksX0_through_7 6 rfl rfl)
theorem dX0_through_172 : decode cX0_through 172 = .ok (.goto 5, 3) := dk_167 0 5 (dk_at dksX0_through_7 9 rfl rfl)
theorem dX0_through_175 : decode cX0_through 175 = .ok (.bipush (-106), 2) := dk_16 150 (dk_at dksX0_through_7 12 rfl rfl)
theorem dX0_through_177 : decode cX0_through 177 = .ok (.ireturn, 1) := dk_172 (dk_at dksX0_through_7 14 rfl rfl)
abbrev cX0_area : ByteArray := prog_1_method_53_code
def yX0_area : MethodName := ⟨RX0, "area", "(I)I"⟩
def dkwX0_area_0 : List UInt8 := [42, 27, 182, 0, 122, 154, 0, 6, 16, 155, 172, 42, 182, 1, 97, 42, 180, 0, 52, 27, 46, 172]
abbrev dktX0_area_0 : List UInt8 := dkwX0_area_0 ++ []
theorem dksX0_area_0 : cX0_area.data.toList.drop 0 = dktX0_area_0 := by decide +kernel
theorem dX0_area_0 : decode cX0_area 0 = .ok (.aload_n 0, 1) := dk_42 (dk_at dksX0_area_0 0 rfl rfl)
theorem dX0_area_1 : decode cX0_area 1 = .ok (.iload_n 1, 1) := dk_27 (dk_at dksX0_area_0 1 rfl rfl)
theorem dX0_area_2 : decode cX0_area 2 = .ok (.invokevirtual 122, 3) := dk_182 0 122 (dk_at dksX0_area_0 2 rfl rfl)
theorem dX0_area_5 : decode cX0_area 5 = .ok (.ifCond .ne 6, 3) := dk_154 0 6 (dk_at dksX0_area_0 5 rfl rfl)
theorem dX0_area_8 : decode cX0_area 8 = .ok (.bipush (-101), 2) := dk_16 155 (dk_at dksX0_area_0 8 rfl rfl)
theorem dX0_area_10 : decode cX0_area 10 = .ok (.ireturn, 1) := dk_172 (dk_at dksX0_area_0 10 rfl rfl)
theorem dX0_area_11 : decode cX0_area 11 = .ok (.aload_n 0, 1) := dk_42 (dk_at dksX0_area_0 11 rfl rfl)
theorem dX0_area_12 : decode cX0_area 12 = .ok (.invokevirtual 353, 3) := dk_182 1 97 (dk_at dksX0_area_0 12 rfl rfl)
theorem dX0_area_15 : decode cX0_area 15 = .ok (.aload_n 0, 1) := dk_42 (dk_at dksX0_area_0 15 rfl rfl)
theorem dX0_area_16 : decode cX0_area 16 = .ok (.getfield 52, 3) := dk_180 0 52 (dk_at dksX0_area_0 16 rfl rfl)
theorem dX0_area_19 : decode cX0_area 19 = .ok (.iload_n 1, 1) := dk_27 (dk_at dksX0_area_0 19 rfl rfl)
theorem dX0_area_20 : decode cX0_area 20 = .ok (.iaload, 1) := dk_46 (dk_at dksX0_area_0 20 rfl rfl)
theorem dX0_area_21 : decode cX0_area 21 = .ok (.ireturn, 1) := dk_172 (dk_at dksX0_area_0 21 rfl rfl)
abbrev cX0_lookAll : ByteArray := prog_1_method_52_code
def yX0_lookAll : MethodName := ⟨RX0, "lookAll", "()V"⟩
def dkwX0_lookAll_3 : List UInt8 := [42, 186, 1, 90, 0, 0, 182, 1, 93, 177]
abbrev dktX0_lookAll_3 : List UInt8 := dkwX0_lookAll_3 ++ []
def dkwX0_lookAll_2 : List UInt8 := [167, 255, 226, 3, 60, 27, 6, 162, 0, 16, 42, 180, 0, 61, 27, 3, 79, 132, 1, 1, 167, 255, 241, 42]
abbrev dktX0_lookAll_2 : List UInt8 := dkwX0_lookAll_2 ++ dktX0_lookAll_3
def dkwX0_lookAll_1 : List UInt8 := [180, 0, 52, 27, 3, 79, 42, 180, 0, 55, 27, 3, 79, 42, 180, 0, 58, 27, 3, 79, 132, 1, 1]
abbrev dktX0_lookAll_1 : List UInt8 := dkwX0_lookAll_1 ++ dktX0_lookAll_2
def dkwX0_lookAll_0 : List UInt8 := [42, 180, 0, 76, 153, 0, 4, 177, 42, 4, 181, 0, 76, 3, 60, 27, 16, 12, 162, 0, 30, 42]
abbrev dktX0_lookAll_0 : List UInt8 := dkwX0_lookAll_0 ++ dktX0_lookAll_1
theorem dksX0_lookAll_0 : cX0_lookAll.data.toList.drop 0 = dktX0_lookAll_0 := by decide +kernel
theorem dksX0_lookAll_1 : cX0_lookAll.data.toList.drop 22 = dktX0_lookAll_1 := dk_seg dksX0_lookAll_0 22 rfl rfl
theorem dksX0_lookAll_2 : cX0_lookAll.data.toList.drop 45 = dktX0_lookAll_2 := dk_seg dksX0_lookAll_1 23 rfl rfl
theorem dksX0_lookAll_3 : cX0_lookAll.data.toList.drop 69 = dktX0_lookAll_3 := dk_seg dksX0_lookAll_2 24 rfl rfl
theorem dX0_lookAll_0 : decode cX0_lookAll 0 = .ok (.aload_n 0, 1) := dk_42 (dk_at dksX0_lookAll_0 0 rfl rfl)
theorem dX0_lookAll_1 : decode cX0_lookAll 1 = .ok (.getfield 76, 3) := dk_180 0 76 (dk_at dksX0_lookAll_0 1 rfl rfl)
theorem dX0_lookAll_4 : decode cX0_lookAll 4 = .ok (.ifCond .eq 4, 3) := dk_153 0 4 (dk_at dksX0_lookAll_0 4 rfl rfl)
theorem dX0_lookAll_7 : decode cX0_lookAll 7 = .ok (.return_, 1) := dk_177 (dk_at dksX0_lookAll_0 7 rfl rfl)
theorem dX0_lookAll_8 : decode cX0_lookAll 8 = .ok (.aload_n 0, 1) := dk_42 (dk_at dksX0_lookAll_0 8 rfl rfl)
theorem dX0_lookAll_9 : decode cX0_lookAll 9 = .ok (.iconst 1, 1) := dk_4 (dk_at dksX0_lookAll_0 9 rfl rfl)
theorem dX0_lookAll_10 : decode cX0_lookAll 10 = .ok (.putfield 76, 3) := dk_181 0 76 (dk_at dksX0_lookAll_0 10 rfl rfl)
theorem dX0_lookAll_13 : decode cX0_lookAll 13 = .ok (.iconst 0, 1) := dk_3 (dk_at dksX0_lookAll_0 13 rfl rfl)
theorem dX0_lookAll_14 : decode cX0_lookAll 14 = .ok (.istore_n 1, 1) := dk_60 (dk_at dksX0_lookAll_0 14 rfl rfl)
theorem dX0_lookAll_15 : decode cX0_lookAll 15 = .ok (.iload_n 1, 1) := dk_27 (dk_at dksX0_lookAll_0 15 rfl rfl)
theorem dX0_lookAll_16 : decode cX0_lookAll 16 = .ok (.bipush 12, 2) := dk_16 12 (dk_at dksX0_lookAll_0 16 rfl rfl)
theorem dX0_lookAll_18 : decode cX0_lookAll 18 = .ok (.if_icmp .ge 30, 3) := dk_162 0 30 (dk_at dksX0_lookAll_0 18 rfl rfl)
theorem dX0_lookAll_21 : decode cX0_lookAll 21 = .ok (.aload_n 0, 1) := dk_42 (dk_at dksX0_lookAll_0 21 rfl rfl)
theorem dX0_lookAll_22 : decode cX0_lookAll 22 = .ok (.getfield 52, 3) := dk_180 0 52 (dk_at dksX0_lookAll_1 0 rfl rfl)
theorem dX0_lookAll_25 : decode cX0_lookAll 25 = .ok (.iload_n 1, 1) := dk_27 (dk_at dksX0_lookAll_1 3 rfl rfl)
theorem dX0_lookAll_26 : decode cX0_lookAll 26 = .ok (.iconst 0, 1) := dk_3 (dk_at dksX0_lookAll_1 4 rfl rfl)
theorem dX0_lookAll_27 : decode cX0_lookAll 27 = .ok (.iastore, 1) := dk_79 (dk_at dksX0_lookAll_1 5 rfl rfl)
theorem dX0_lookAll_28 : decode cX0_lookAll 28 = .ok (.aload_n 0, 1) := dk_42 (dk_at dksX0_lookAll_1 6 rfl rfl)
theorem dX0_lookAll_29 : decode cX0_lookAll 29 = .ok (.getfield 55, 3) := dk_180 0 55 (dk_at dksX0_lookAll_1 7 rfl rfl)
theorem dX0_lookAll_32 : decode cX0_lookAll 32 = .ok (.iload_n 1, 1) := dk_27 (dk_at dksX0_lookAll_1 10 rfl rfl)
theorem dX0_lookAll_33 : decode cX0_lookAll 33 = .ok (.iconst 0, 1) := dk_3 (dk_at dksX0_lookAll_1 11 rfl rfl)
theorem dX0_lookAll_34 : decode cX0_lookAll 34 = .ok (.iastore, 1) := dk_79 (dk_at dksX0_lookAll_1 12 rfl rfl)
theorem dX0_lookAll_35 : decode cX0_lookAll 35 = .ok (.aload_n 0, 1) := dk_42 (dk_at dksX0_lookAll_1 13 rfl rfl)
theorem dX0_lookAll_36 : decode cX0_lookAll 36 = .ok (.getfield 58, 3) := dk_180 0 58 (dk_at dksX0_lookAll_1 14 rfl rfl)
theorem dX0_lookAll_39 : decode cX0_lookAll 39 = .ok (.iload_n 1, 1) := dk_27 (dk_at dksX0_lookAll_1 17 rfl rfl)
theorem dX0_lookAll_40 : decode cX0_lookAll 40 = .ok (.iconst 0, 1) := dk_3 (dk_at dksX0_lookAll_1 18 rfl rfl)
theorem dX0_lookAll_41 : decode cX0_lookAll 41 = .ok (.iastore, 1) := dk_79 (dk_at dksX0_lookAll_1 19 rfl rfl)
theorem dX0_lookAll_42 : decode cX0_lookAll 42 = .ok (.iinc 1 1, 3) := dk_132 1 1 (dk_at dksX0_lookAll_1 20 rfl rfl)
theorem dX0_lookAll_45 : decode cX0_lookAll 45 = .ok (.goto (-30), 3) := dk_167 255 226 (dk_at dksX0_lookAll_2 0 rfl rfl)
theorem dX0_lookAll_48 : decode cX0_lookAll 48 = .ok (.iconst 0, 1) := dk_3 (dk_at dksX0_lookAll_2 3 rfl rfl)
theorem dX0_lookAll_49 : decode cX0_lookAll 49 = .ok (.istore_n 1, 1) := dk_60 (dk_at dksX0_lookAll_2 4 rfl rfl)
theorem dX0_lookAll_50 : decode cX0_lookAll 50 = .ok (.iload_n 1, 1) := dk_27 (dk_at dksX0_lookAll_2 5 rfl rfl)
theorem dX0_lookAll_51 : decode cX0_lookAll 51 = .ok (.iconst 3, 1) := dk_6 (dk_at dksX0_lookAll_2 6 rfl rfl)
theorem dX0_lookAll_52 : decode cX0_lookAll 52 = .ok (.if_icmp .ge 16, 3) := dk_162 0 16 (dk_at dksX0_lookAll_2 7 rfl rfl)
theorem dX0_lookAll_55 : decode cX0_lookAll 55 = .ok (.aload_n 0, 1) := dk_42 (dk_at dksX0_lookAll_2 10 rfl rfl)
theorem dX0_lookAll_56 : decode cX0_lookAll 56 = .ok (.getfield 61, 3) := dk_180 0 61 (dk_at dksX0_lookAll_2 11 rfl rfl)
theorem dX0_lookAll_59 : decode cX0_lookAll 59 = .ok (.iload_n 1, 1) := dk_27 (dk_at dksX0_lookAll_2 14 rfl rfl)
theorem dX0_lookAll_60 : decode cX0_lookAll 60 = .ok (.iconst 0, 1) := dk_3 (dk_at dksX0_lookAll_2 15 rfl rfl)
theorem dX0_lookAll_61 : decode cX0_lookAll 61 = .ok (.iastore, 1) := dk_79 (dk_at dksX0_lookAll_2 16 rfl rfl)
theorem dX0_lookAll_62 : decode cX0_lookAll 62 = .ok (.iinc 1 1, 3) := dk_132 1 1 (dk_at dksX0_lookAll_2 17 rfl rfl)
theorem dX0_lookAll_65 : decode cX0_lookAll 65 = .ok (.goto (-15), 3) := dk_167 255 241 (dk_at dksX0_lookAll_2 20 rfl rfl)
theorem dX0_lookAll_68 : decode cX0_lookAll 68 = .ok (.aload_n 0, 1) := dk_42 (dk_at dksX0_lookAll_2 23 rfl rfl)
theorem dX0_lookAll_69 : decode cX0_lookAll 69 = .ok (.aload_n 0, 1) := dk_42 (dk_at dksX0_lookAll_3 0 rfl rfl)
theorem dX0_lookAll_70 : decode cX0_lookAll 70 = .ok (.invokedynamic 346, 5) := by decide +kernel
theorem dX0_lookAll_75 : decode cX0_lookAll 75 = .ok (.invokevirtual 349, 3) := dk_182 1 93 (dk_at dksX0_lookAll_3 6 rfl rfl)
theorem dX0_lookAll_78 : decode cX0_lookAll 78 = .ok (.return_, 1) := dk_177 (dk_at dksX0_lookAll_3 9 rfl rfl)
abbrev cX0_countPoint : ByteArray := prog_1_method_51_code
def yX0_countPoint : MethodName := ⟨RX0, "countPoint", "(III)V"⟩
def dkwX0_countPoint_5 : List UInt8 := [182, 1, 74, 92, 46, 4, 96, 79, 177]
abbrev dktX0_countPoint_5 : List UInt8 := dkwX0_countPoint_5 ++ []
def dkwX0_countPoint_4 : List UInt8 := [164, 0, 7, 4, 167, 0, 4, 3, 96, 79, 42, 180, 0, 61, 42, 180, 0, 18, 21, 5, 50, 27, 28, 29]
abbrev dktX0_countPoint_4 : List UInt8 := dkwX0_countPoint_4 ++ dktX0_countPoint_5
def dkwX0_countPoint_3 : List UInt8 := [54, 5, 42, 180, 0, 55, 21, 5, 92, 46, 4, 96, 79, 42, 180, 0, 58, 21, 5, 92, 46, 21, 4, 4]
abbrev dktX0_countPoint_3 : List UInt8 := dkwX0_countPoint_3 ++ dktX0_countPoint_4
def dkwX0_countPoint_2 : List UInt8 := [96, 79, 132, 4, 1, 132, 5, 1, 167, 255, 206, 21, 4, 158, 0, 66, 42, 27, 28, 29, 182, 1, 71]
abbrev dktX0_countPoint_2 : List UInt8 := dkwX0_countPoint_2 ++ dktX0_countPoint_3
def dkwX0_countPoint_1 : List UInt8 := [180, 0, 18, 21, 5, 50, 27, 28, 29, 182, 1, 64, 153, 0, 17, 42, 180, 0, 52, 21, 5, 92, 46, 4]
abbrev dktX0_countPoint_1 : List UInt8 := dkwX0_countPoint_1 ++ dktX0_countPoint_2
def dkwX0_countPoint_0 : List UInt8 := [3, 54, 4, 3, 54, 5, 21, 5, 16, 12, 162, 0, 49, 42, 180, 0, 18, 21, 5, 50, 198, 0, 33, 42]
abbrev dktX0_countPoint_0 : List UInt8 := dkwX0_countPoint_0 ++ dktX0_countPoint_1
theorem dksX0_countPoint_0 : cX0_countPoint.data.toList.drop 0 = dktX0_countPoint_0 := by decide +kernel
theorem dksX0_countPoint_1 : cX0_countPoint.data.toList.drop 24 = dktX0_countPoint_1 := dk_seg dksX0_countPoint_0 24 rfl rfl
theorem dksX0_countPoint_2 : cX0_countPoint.data.toList.drop 48 = dktX0_countPoint_2 := dk_seg dksX0_countPoint_1 24 rfl rfl
theorem dksX0_countPoint_3 : cX0_countPoint.data.toList.drop 71 = dktX0_countPoint_3 := dk_seg dksX0_countPoint_2 23 rfl rfl
theorem dksX0_countPoint_4 : cX0_countPoint.data.toList.drop 95 = dktX0_countPoint_4 := dk_seg dksX0_countPoint_3 24 rfl rfl
theorem dksX0_countPoint_5 : cX0_countPoint.data.toList.drop 119 = dktX0_countPoint_5 := dk_seg dksX0_countPoint_4 24 rfl rfl
theorem dX0_countPoint_0 : decode cX0_countPoint 0 = .ok (.iconst 0, 1) := dk_3 (dk_at dksX0_countPoint_0 0 rfl rfl)
theorem dX0_countPoint_1 : decode cX0_countPoint 1 = .ok (.istore 4, 2) := dk_54 4 (dk_at dksX0_countPoint_0 1 rfl rfl)
theorem dX0_countPoint_3 : decode cX0_countPoint 3 = .ok (.iconst 0, 1) := dk_3 (dk_at dksX0_countPoint_0 3 rfl rfl)
theorem dX0_countPoint_4 : decode cX0_countPoint 4 = .ok (.istore 5, 2) := dk_54 5 (dk_at dksX0_countPoint_0 4 rfl rfl)
theorem dX0_countPoint_6 : decode cX0_countPoint 6 = .ok (.iload 5, 2) := dk_21 5 (dk_at dksX0_countPoint_0 6 rfl rfl)
theorem dX0_countPoint_8 : decode cX0_countPoint 8 = .ok (.bipush 12, 2) := dk_16 12 (dk_at dksX0_countPoint_0 8 rfl rfl)
theorem dX0_countPoint_10 : decode cX0_countPoint 10 = .ok (.if_icmp .ge 49, 3) := dk_162 0 49 (dk_at dksX0_countPoint_0 10 rfl rfl)
theorem dX0_countPoint_13 : decode cX0_countPoint 13 = .ok (.aload_n 0, 1) := dk_42 (dk_at dksX0_countPoint_0 13 rfl rfl)
theorem dX0_countPoint_14 : decode cX0_countPoint 14 = .ok (.getfield 18, 3) := dk_180 0 18 (dk_at dksX0_countPoint_0 14 rfl rfl)
theorem dX0_countPoint_17 : decode cX0_countPoint 17 = .ok (.iload 5, 2) := dk_21 5 (dk_at dksX0_countPoint_0 17 rfl rfl)
theorem dX0_countPoint_19 : decode cX0_countPoint 19 = .ok (.aaload, 1) := dk_50 (dk_at dksX0_countPoint_0 19 rfl rfl)
theorem dX0_countPoint_20 : decode cX0_countPoint 20 = .ok (.ifnull 33, 3) := dk_198 0 33 (dk_at dksX0_countPoint_0 20 rfl rfl)
theorem dX0_countPoint_23 : decode cX0_countPoint 23 = .ok (.aload_n 0, 1) := dk_42 (dk_at dksX0_countPoint_0 23 rfl rfl)
theorem dX0_countPoint_24 : decode cX0_countPoint 24 = .ok (.getfield 18, 3) := dk_180 0 18 (dk_at dksX0_countPoint_1 0 rfl rfl)
theorem dX0_countPoint_27 : decode cX0_countPoint 27 = .ok (.iload 5, 2) := dk_21 5 (dk_at dksX0_countPoint_1 3 rfl rfl)
theorem dX0_countPoint_29 : decode cX0_countPoint 29 = .ok (.aaload, 1) := dk_50 (dk_at dksX0_countPoint_1 5 rfl rfl)
theorem dX0_countPoint_30 : decode cX0_countPoint 30 = .ok (.iload_n 1, 1) := dk_27 (dk_at dksX0_countPoint_1 6 rfl rfl)
theorem dX0_countPoint_31 : decode cX0_countPoint 31 = .ok (.iload_n 2, 1) := dk_28 (dk_at dksX0_countPoint_1 7 rfl rfl)
theorem dX0_countPoint_32 : decode cX0_countPoint 32 = .ok (.iload_n 3, 1) := dk_29 (dk_at dksX0_countPoint_1 8 rfl rfl)
theorem dX0_countPoint_33 : decode cX0_countPoint 33 = .ok (.invokevirtual 320, 3) := dk_182 1 64 (dk_at dksX0_countPoint_1 9 rfl rfl)
theorem dX0_countPoint_36 : decode cX0_countPoint 36 = .ok (.ifCond .eq 17, 3) := dk_153 0 17 (dk_at dksX0_countPoint_1 12 rfl rfl)
theorem dX0_countPoint_39 : decode cX0_countPoint 39 = .ok (.aload_n 0, 1) := dk_42 (dk_at dksX0_countPoint_1 15 rfl rfl)
theorem dX0_countPoint_40 : decode cX0_countPoint 40 = .ok (.getfield 52, 3) := dk_180 0 52 (dk_at dksX0_countPoint_1 16 rfl rfl)
theorem dX0_countPoint_43 : decode cX0_countPoint 43 = .ok (.iload 5, 2) := dk_21 5 (dk_at dksX0_countPoint_1 19 rfl rfl)
theorem dX0_countPoint_45 : decode cX0_countPoint 45 = .ok (.dup2, 1) := dk_92 (dk_at dksX0_countPoint_1 21 rfl rfl)
theorem dX0_countPoint_46 : decode cX0_countPoint 46 = .ok (.iaload, 1) := dk_46 (dk_at dksX0_countPoint_1 22 rfl rfl)
theorem dX0_countPoint_47 : decode cX0_countPoint 47 = .ok (.iconst 1, 1) := dk_4 (dk_at dksX0_countPoint_1 23 rfl rfl)
theorem dX0_countPoint_48 : decode cX0_countPoint 48 = .ok (.iadd, 1) := dk_96 (dk_at dksX0_countPoint_2 0 rfl rfl)
theorem dX0_countPoint_49 : decode cX0_countPoint 49 = .ok (.iastore, 1) := dk_79 (dk_at dksX0_countPoint_2 1 rfl rfl)
theorem dX0_countPoint_50 : decode cX0_countPoint 50 = .ok (.iinc 4 1, 3) := dk_132 4 1 (dk_at dksX0_countPoint_2 2 rfl rfl)
theorem dX0_countPoint_53 : decode cX0_countPoint 53 = .ok (.iinc 5 1, 3) := dk_132 5 1 (dk_at dksX0_countPoint_2 5 rfl rfl)
theorem dX0_countPoint_56 : decode cX0_countPoint 56 = .ok (.goto (-50), 3) := dk_167 255 206 (dk_at dksX0_countPoint_2 8 rfl rfl)
theorem dX0_countPoint_59 : decode cX0_countPoint 59 = .ok (.iload 4, 2) := dk_21 4 (dk_at dksX0_countPoint_2 11 rfl rfl)
theorem dX0_countPoint_61 : decode cX0_countPoint 61 = .ok (.ifCond .le 66, 3) := dk_158 0 66 (dk_at dksX0_countPoint_2 13 rfl rfl)
theorem dX0_countPoint_64 : decode cX0_countPoint 64 = .ok (.aload_n 0, 1) := dk_42 (dk_at dksX0_countPoint_2 16 rfl rfl)
theorem dX0_countPoint_65 : decode cX0_countPoint 65 = .ok (.iload_n 1, 1) := dk_27 (dk_at dksX0_countPoint_2 17 rfl rfl)
theorem dX0_countPoint_66 : decode cX0_countPoint 66 = .ok (.iload_n 2, 1) := dk_28 (dk_at dksX0_countPoint_2 18 rfl rfl)
theorem dX0_countPoint_67 : decode cX0_countPoint 67 = .ok (.iload_n 3, 1) := dk_29 (dk_at dksX0_countPoint_2 19 rfl rfl)
theorem dX0_countPoint_68 : decode cX0_countPoint 68 = .ok (.invokevirtual 327, 3) := dk_182 1 71 (dk_at dksX0_countPoint_2 20 rfl rfl)
theorem dX0_countPoint_71 : decode cX0_countPoint 71 = .ok (.istore 5, 2) := dk_54 5 (dk_at dksX0_countPoint_3 0 rfl rfl)
theorem dX0_countPoint_73 : decode cX0_countPoint 73 = .ok (.aload_n 0, 1) := dk_42 (dk_at dksX0_countPoint_3 2 rfl rfl)
theorem dX0_countPoint_74 : decode cX0_countPoint 74 = .ok (.getfield 55, 3) := dk_180 0 55 (dk_at dksX0_countPoint_3 3 rfl rfl)
theorem dX0_countPoint_77 : decode cX0_countPoint 77 = .ok (.iload 5, 2) := dk_21 5 (dk_at dksX0_countPoint_3 6 rfl rfl)
theorem dX0_countPoint_79 : decode cX0_countPoint 79 = .ok (.dup2, 1) := dk_92 (dk_at dksX0_countPoint_3 8 rfl rfl)
theorem dX0_countPoint_80 : decode cX0_countPoint 80 = .ok (.iaload, 1) := dk_46 (dk_at dksX0_countPoint_3 9 rfl rfl)
theorem dX0_countPoint_81 : decode cX0_countPoint 81 = .ok (.iconst 1, 1) := dk_4 (dk_at dksX0_countPoint_3 10 rfl rfl)
theorem dX0_countPoint_82 : decode cX0_countPoint 82 = .ok (.iadd, 1) := dk_96 (dk_at dksX0_countPoint_3 11 rfl rfl)
theorem dX0_countPoint_83 : decode cX0_countPoint 83 = .ok (.iastore, 1) := dk_79 (dk_at dksX0_countPoint_3 12 rfl rfl)
theorem dX0_countPoint_84 : decode cX0_countPoint 84 = .ok (.aload_n 0, 1) := dk_42 (dk_at dksX0_countPoint_3 13 rfl rfl)
theorem dX0_countPoint_85 : decode cX0_countPoint 85 = .ok (.getfield 58, 3) := dk_180 0 58 (dk_at dksX0_countPoint_3 14 rfl rfl)
theorem dX0_countPoint_88 : decode cX0_countPoint 88 = .ok (.iload 5, 2) := dk_21 5 (dk_at dksX0_countPoint_3 17 rfl rfl)
theorem dX0_countPoint_90 : decode cX0_countPoint 90 = .ok (.dup2, 1) := dk_92 (dk_at dksX0_countPoint_3 19 rfl rfl)
theorem dX0_countPoint_91 : decode cX0_countPoint 91 = .ok (.iaload, 1) := dk_46 (dk_at dksX0_countPoint_3 20 rfl rfl)
theorem dX0_countPoint_92 : decode cX0_countPoint 92 = .ok (.iload 4, 2) := dk_21 4 (dk_at dksX0_countPoint_3 21 rfl rfl)
theorem dX0_countPoint_94 : decode cX0_countPoint 94 = .ok (.iconst 1, 1) := dk_4 (dk_at dksX0_countPoint_3 23 rfl rfl)
theorem dX0_countPoint_95 : decode cX0_countPoint 95 = .ok (.if_icmp .le 7, 3) := dk_164 0 7 (dk_at dksX0_countPoint_4 0 rfl rfl)
theorem dX0_countPoint_98 : decode cX0_countPoint 98 = .ok (.iconst 1, 1) := dk_4 (dk_at dksX0_countPoint_4 3 rfl rfl)
theorem dX0_countPoint_99 : decode cX0_countPoint 99 = .ok (.goto 4, 3) := dk_167 0 4 (dk_at dksX0_countPoint_4 4 rfl rfl)
theorem dX0_countPoint_102 : decode cX0_countPoint 102 = .ok (.iconst 0, 1) := dk_3 (dk_at dksX0_countPoint_4 7 rfl rfl)
theorem dX0_countPoint_103 : decode cX0_countPoint 103 = .ok (.iadd, 1) := dk_96 (dk_at dksX0_countPoint_4 8 rfl rfl)
theorem dX0_countPoint_104 : decode cX0_countPoint 104 = .ok (.iastore, 1) := dk_79 (dk_at dksX0_countPoint_4 9 rfl rfl)
theorem dX0_countPoint_105 : decode cX0_countPoint 105 = .ok (.aload_n 0, 1) := dk_42 (dk_at dksX0_countPoint_4 10 rfl rfl)
theorem dX0_countPoint_106 : decode cX0_countPoint 106 = .ok (.getfield 61, 3) := dk_180 0 61 (dk_at dksX0_countPoint_4 11 rfl rfl)
theorem dX0_countPoint_109 : decode cX0_countPoint 109 = .ok (.aload_n 0, 1) := dk_42 (dk_at dksX0_countPoint_4 14 rfl rfl)
theorem dX0_countPoint_110 : decode cX0_countPoint 110 = .ok (.getfield 18, 3) := dk_180 0 18 (dk_at dksX0_countPoint_4 15 rfl rfl)
theorem dX0_countPoint_113 : decode cX0_countPoint 113 = .ok (.iload 5, 2) := dk_21 5 (dk_at dksX0_countPoint_4 18 rfl rfl)
theorem dX0_countPoint_115 : decode cX0_countPoint 115 = .ok (.aaload, 1) := dk_50 (dk_at dksX0_countPoint_4 20 rfl rfl)
theorem dX0_countPoint_116 : decode cX0_countPoint 116 = .ok (.iload_n 1, 1) := dk_27 (dk_at dksX0_countPoint_4 21 rfl rfl)
theorem dX0_countPoint_117 : decode cX0_countPoint 117 = .ok (.iload_n 2, 1) := dk_28 (dk_at dksX0_countPoint_4 22 rfl rfl)
theorem dX0_countPoint_118 : decode cX0_countPoint 118 = .ok (.iload_n 3, 1) := dk_29 (dk_at dksX0_countPoint_4 23 rfl rfl)
theorem dX0_countPoint_119 : decode cX0_countPoint 119 = .ok (.invokevirtual 330, 3) := dk_182 1 74 (dk_at dksX0_countPoint_5 0 rfl rfl)
theorem dX0_countPoint_122 : decode cX0_countPoint 122 = .ok (.dup2, 1) := dk_92 (dk_at dksX0_countPoint_5 3 rfl rfl)
theorem dX0_countPoint_123 : decode cX0_countPoint 123 = .ok (.iaload, 1) := dk_46 (dk_at dksX0_countPoint_5 4 rfl rfl)
theorem dX0_countPoint_124 : decode cX0_countPoint 124 = .ok (.iconst 1, 1) := dk_4 (dk_at dksX0_countPoint_5 5 rfl rfl)
theorem dX0_countPoint_125 : decode cX0_countPoint 125 = .ok (.iadd, 1) := dk_96 (dk_at dksX0_countPoint_5 6 rfl rfl)
theorem dX0_countPoint_126 : decode cX0_countPoint 126 = .ok (.iastore, 1) := dk_79 (dk_at dksX0_countPoint_5 7 rfl rfl)
theorem dX0_countPoint_127 : decode cX0_countPoint 127 = .ok (.return_, 1) := dk_177 (dk_at dksX0_countPoint_5 8 rfl rfl)
abbrev cX0_visitAll : ByteArray := prog_1_method_50_code
def yX0_visitAll : MethodName := ⟨RX0, "visitAll", "(LDepthSorter$Visitor;)V"⟩
def dkwX0_visitAll_2 : List UInt8 := [167, 255, 214, 177]
abbrev dktX0_visitAll_2 : List UInt8 := dkwX0_visitAll_2 ++ []
def dkwX0_visitAll_1 : List UInt8 := [185, 1, 84, 4, 0, 43, 28, 29, 4, 185, 1, 84, 4, 0, 132, 3, 1, 167, 255, 229, 132, 2, 1]
abbrev dktX0_visitAll_1 : List UInt8 := dkwX0_visitAll_1 ++ dktX0_visitAll_2
def dkwX0_visitAll_0 : List UInt8 := [16, 224, 61, 28, 16, 32, 162, 0, 42, 16, 224, 62, 29, 16, 32, 162, 0, 27, 43, 28, 29, 3]
abbrev dktX0_visitAll_0 : List UInt8 := dkwX0_visitAll_0 ++ dktX0_visitAll_1
theorem dksX0_visitAll_0 : cX0_visitAll.data.toList.drop 0 = dktX0_visitAll_0 := by decide +kernel
theorem dksX0_visitAll_1 : cX0_visitAll.data.toList.drop 22 = dktX0_visitAll_1 := dk_seg dksX0_visitAll_0 22 rfl rfl
theorem dksX0_visitAll_2 : cX0_visitAll.data.toList.drop 45 = dktX0_visitAll_2 := dk_seg dksX0_visitAll_1 23 rfl rfl
theorem dX0_visitAll_0 : decode cX0_visitAll 0 = .ok (.bipush (-32), 2) := dk_16 224 (dk_at dksX0_visitAll_0 0 rfl rfl)
theorem dX0_visitAll_2 : decode cX0_visitAll 2 = .ok (.istore_n 2, 1) := dk_61 (dk_at dksX0_visitAll_0 2 rfl rfl)
theorem dX0_visitAll_3 : decode cX0_visitAll 3 = .ok (.iload_n 2, 1) := dk_28 (dk_at dksX0_visitAll_0 3 rfl rfl)
theorem dX0_visitAll_4 : decode cX0_visitAll 4 = .ok (.bipush 32, 2) := dk_16 32 (dk_at dksX0_visitAll_0 4 rfl rfl)
theorem dX0_visitAll_6 : decode cX0_visitAll 6 = .ok (.if_icmp .ge 42, 3) := dk_162 0 42 (dk_at dksX0_visitAll_0 6 rfl rfl)
theorem dX0_visitAll_9 : decode cX0_visitAll 9 = .ok (.bipush (-32), 2) := dk_16 224 (dk_at dksX0_visitAll_0 9 rfl rfl)
theorem dX0_visitAll_11 : decode cX0_visitAll 11 = .ok (.istore_n 3, 1) := dk_62 (dk_at dksX0_visitAll_0 11 rfl rfl)
theorem dX0_visitAll_12 : decode cX0_visitAll 12 = .ok (.iload_n 3, 1) := dk_29 (dk_at dksX0_visitAll_0 12 rfl rfl)
theorem dX0_visitAll_13 : decode cX0_visitAll 13 = .ok (.bipush 32, 2) := dk_16 32 (dk_at dksX0_visitAll_0 13 rfl rfl)
theorem dX0_visitAll_15 : decode cX0_visitAll 15 = .ok (.if_icmp .ge 27, 3) := dk_162 0 27 (dk_at dksX0_visitAll_0 15 rfl rfl)
theorem dX0_visitAll_18 : decode cX0_visitAll 18 = .ok (.aload_n 1, 1) := dk_43 (dk_at dksX0_visitAll_0 18 rfl rfl)
theorem dX0_visitAll_19 : decode cX0_visitAll 19 = .ok (.iload_n 2, 1) := dk_28 (dk_at dksX0_visitAll_0 19 rfl rfl)
theorem dX0_visitAll_20 : decode cX0_visitAll 20 = .ok (.iload_n 3, 1) := dk_29 (dk_at dksX0_visitAll_0 20 rfl rfl)
theorem dX0_visitAll_21 : decode cX0_visitAll 21 = .ok (.iconst 0, 1) := dk_3 (dk_at dksX0_visitAll_0 21 rfl rfl)
theorem dX0_visitAll_22 : decode cX0_visitAll 22 = .ok (.invokeinterface 340 4, 5) := by decide +kernel
theorem dX0_visitAll_27 : decode cX0_visitAll 27 = .ok (.aload_n 1, 1) := dk_43 (dk_at dksX0_visitAll_1 5 rfl rfl)
theorem dX0_visitAll_28 : decode cX0_visitAll 28 = .ok (.iload_n 2, 1) := dk_28 (dk_at dksX0_visitAll_1 6 rfl rfl)
theorem dX0_visitAll_29 : decode cX0_visitAll 29 = .ok (.iload_n 3, 1) := dk_29 (dk_at dksX0_visitAll_1 7 rfl rfl)
theorem dX0_visitAll_30 : decode cX0_visitAll 30 = .ok (.iconst 1, 1) := dk_4 (dk_at dksX0_visitAll_1 8 rfl rfl)
theorem dX0_visitAll_31 : decode cX0_visitAll 31 = .ok (.invokeinterface 340 4, 5) := by decide +kernel
theorem dX0_visitAll_36 : decode cX0_visitAll 36 = .ok (.iinc 3 1, 3) := dk_132 3 1 (dk_at dksX0_visitAll_1 14 rfl rfl)
theorem dX0_visitAll_39 : decode cX0_visitAll 39 = .ok (.goto (-27), 3) := dk_167 255 229 (dk_at dksX0_visitAll_1 17 rfl rfl)
theorem dX0_visitAll_42 : decode cX0_visitAll 42 = .ok (.iinc 2 1, 3) := dk_132 2 1 (dk_at dksX0_visitAll_1 20 rfl rfl)
theorem dX0_visitAll_45 : decode cX0_visitAll 45 = .ok (.goto (-42), 3) := dk_167 255 214 (dk_at dksX0_visitAll_2 0 rfl rfl)
theorem dX0_visitAll_48 : decode cX0_visitAll 48 = .ok (.return_, 1) := dk_177 (dk_at dksX0_visitAll_2 3 rfl rfl)
abbrev cX0_seenArea : ByteArray := prog_1_method_54_code
def yX0_seenArea : MethodName := ⟨RX0, "seenArea", "(I)I"⟩
def dkwX0_seenArea_0 : List UInt8 := [42, 27, 182, 0, 122, 154, 0, 6, 16, 155, 172, 42, 182, 1, 97, 42, 180, 0, 55, 27, 46, 172]
abbrev dktX0_seenArea_0 : List UInt8 := dkwX0_seenArea_0 ++ []
theorem dksX0_seenArea_0 : cX0_seenArea.data.toList.drop 0 = dktX0_seenArea_0 := by decide +kernel
theorem dX0_seenArea_0 : decode cX0_seenArea 0 = .ok (.aload_n 0, 1) := dk_42 (dk_at dksX0_seenArea_0 0 rfl rfl)
theorem dX0_seenArea_1 : decode cX0_seenArea 1 = .ok (.iload_n 1, 1) := dk_27 (dk_at dksX0_seenArea_0 1 rfl rfl)
theorem dX0_seenArea_2 : decode cX0_seenArea 2 = .ok (.invokevirtual 122, 3) := dk_182 0 122 (dk_at dksX0_seenArea_0 2 rfl rfl)
theorem dX0_seenArea_5 : decode cX0_seenArea 5 = .ok (.ifCond .ne 6, 3) := dk_154 0 6 (dk_at dksX0_seenArea_0 5 rfl rfl)
theorem dX0_seenArea_8 : decode cX0_seenArea 8 = .ok (.bipush (-101), 2) := dk_16 155 (dk_at dksX0_seenArea_0 8 rfl rfl)
theorem dX0_seenArea_10 : decode cX0_seenArea 10 = .ok (.ireturn, 1) := dk_172 (dk_at dksX0_seenArea_0 10 rfl rfl)
theorem dX0_seenArea_11 : decode cX0_seenArea 11 = .ok (.aload_n 0, 1) := dk_42 (dk_at dksX0_seenArea_0 11 rfl rfl)
theorem dX0_seenArea_12 : decode cX0_seenArea 12 = .ok (.invokevirtual 353, 3) := dk_182 1 97 (dk_at dksX0_seenArea_0 12 rfl rfl)
theorem dX0_seenArea_15 : decode cX0_seenArea 15 = .ok (.aload_n 0, 1) := dk_42 (dk_at dksX0_seenArea_0 15 rfl rfl)
theorem dX0_seenArea_16 : decode cX0_seenArea 16 = .ok (.getfield 55, 3) := dk_180 0 55 (dk_at dksX0_seenArea_0 16 rfl rfl)
theorem dX0_seenArea_19 : decode cX0_seenArea 19 = .ok (.iload_n 1, 1) := dk_27 (dk_at dksX0_seenArea_0 19 rfl rfl)
theorem dX0_seenArea_20 : decode cX0_seenArea 20 = .ok (.iaload, 1) := dk_46 (dk_at dksX0_seenArea_0 20 rfl rfl)
theorem dX0_seenArea_21 : decode cX0_seenArea 21 = .ok (.ireturn, 1) := dk_172 (dk_at dksX0_seenArea_0 21 rfl rfl)
abbrev cX0_faceArea : ByteArray := prog_1_method_55_code
def yX0_faceArea : MethodName := ⟨RX0, "faceArea", "(I)I"⟩
def dkwX0_faceArea_0 : List UInt8 := [27, 3, 5, 184, 0, 68, 154, 0, 6, 16, 154, 172, 42, 182, 1, 97, 42, 180, 0, 61, 27, 46, 172]
abbrev dktX0_faceArea_0 : List UInt8 := dkwX0_faceArea_0 ++ []
theorem dksX0_faceArea_0 : cX0_faceArea.data.toList.drop 0 = dktX0_faceArea_0 := by decide +kernel
theorem dX0_faceArea_0 : decode cX0_faceArea 0 = .ok (.iload_n 1, 1) := dk_27 (dk_at dksX0_faceArea_0 0 rfl rfl)
theorem dX0_faceArea_1 : decode cX0_faceArea 1 = .ok (.iconst 0, 1) := dk_3 (dk_at dksX0_faceArea_0 1 rfl rfl)
theorem dX0_faceArea_2 : decode cX0_faceArea 2 = .ok (.iconst 2, 1) := dk_5 (dk_at dksX0_faceArea_0 2 rfl rfl)
theorem dX0_faceArea_3 : decode cX0_faceArea 3 = .ok (.invokestatic 68, 3) := dk_184 0 68 (dk_at dksX0_faceArea_0 3 rfl rfl)
theorem dX0_faceArea_6 : decode cX0_faceArea 6 = .ok (.ifCond .ne 6, 3) := dk_154 0 6 (dk_at dksX0_faceArea_0 6 rfl rfl)
theorem dX0_faceArea_9 : decode cX0_faceArea 9 = .ok (.bipush (-102), 2) := dk_16 154 (dk_at dksX0_faceArea_0 9 rfl rfl)
theorem dX0_faceArea_11 : decode cX0_faceArea 11 = .ok (.ireturn, 1) := dk_172 (dk_at dksX0_faceArea_0 11 rfl rfl)
theorem dX0_faceArea_12 : decode cX0_faceArea 12 = .ok (.aload_n 0, 1) := dk_42 (dk_at dksX0_faceArea_0 12 rfl rfl)
theorem dX0_faceArea_13 : decode cX0_faceArea 13 = .ok (.invokevirtual 353, 3) := dk_182 1 97 (dk_at dksX0_faceArea_0 13 rfl rfl)
theorem dX0_faceArea_16 : decode cX0_faceArea 16 = .ok (.aload_n 0, 1) := dk_42 (dk_at dksX0_faceArea_0 16 rfl rfl)
theorem dX0_faceArea_17 : decode cX0_faceArea 17 = .ok (.getfield 61, 3) := dk_180 0 61 (dk_at dksX0_faceArea_0 17 rfl rfl)
theorem dX0_faceArea_20 : decode cX0_faceArea 20 = .ok (.iload_n 1, 1) := dk_27 (dk_at dksX0_faceArea_0 20 rfl rfl)
theorem dX0_faceArea_21 : decode cX0_faceArea 21 = .ok (.iaload, 1) := dk_46 (dk_at dksX0_faceArea_0 21 rfl rfl)
theorem dX0_faceArea_22 : decode cX0_faceArea 22 = .ok (.ireturn, 1) := dk_172 (dk_at dksX0_faceArea_0 22 rfl rfl)
abbrev cX0_pictureArea : ByteArray := prog_1_method_56_code
def yX0_pictureArea : MethodName := ⟨RX0, "pictureArea", "()I"⟩
def dkwX0_pictureArea_1 : List UInt8 := [172]
abbrev dktX0_pictureArea_1 : List UInt8 := dkwX0_pictureArea_1 ++ []
def dkwX0_pictureArea_0 : List UInt8 := [42, 182, 1, 97, 42, 180, 0, 61, 3, 46, 42, 180, 0, 61, 4, 46, 96, 42, 180, 0, 61, 5, 46, 96]
abbrev dktX0_pictureArea_0 : List UInt8 := dkwX0_pictureArea_0 ++ dktX0_pictureArea_1
theorem dksX0_pictureArea_0 : cX0_pictureArea.data.toList.drop 0 = dktX0_pictureArea_0 := by decide +kernel
theorem dksX0_pictureArea_1 : cX0_pictureArea.data.toList.drop 24 = dktX0_pictureArea_1 := dk_seg dksX0_pictureArea_0 24 rfl rfl
theorem dX0_pictureArea_0 : decode cX0_pictureArea 0 = .ok (.aload_n 0, 1) := dk_42 (dk_at dksX0_pictureArea_0 0 rfl rfl)
theorem dX0_pictureArea_1 : decode cX0_pictureArea 1 = .ok (.invokevirtual 353, 3) := dk_182 1 97 (dk_at dksX0_pictureArea_0 1 rfl rfl)
theorem dX0_pictureArea_4 : decode cX0_pictureArea 4 = .ok (.aload_n 0, 1) := dk_42 (dk_at dksX0_pictureArea_0 4 rfl rfl)
theorem dX0_pictureArea_5 : decode cX0_pictureArea 5 = .ok (.getfield 61, 3) := dk_180 0 61 (dk_at dksX0_pictureArea_0 5 rfl rfl)
theorem dX0_pictureArea_8 : decode cX0_pictureArea 8 = .ok (.iconst 0, 1) := dk_3 (dk_at dksX0_pictureArea_0 8 rfl rfl)
theorem dX0_pictureArea_9 : decode cX0_pictureArea 9 = .ok (.iaload, 1) := dk_46 (dk_at dksX0_pictureArea_0 9 rfl rfl)
theorem dX0_pictureArea_10 : decode cX0_pictureArea 10 = .ok (.aload_n 0, 1) := dk_42 (dk_at dksX0_pictureArea_0 10 rfl rfl)
theorem dX0_pictureArea_11 : decode cX0_pictureArea 11 = .ok (.getfield 61, 3) := dk_180 0 61 (dk_at dksX0_pictureArea_0 11 rfl rfl)
theorem dX0_pictureArea_14 : decode cX0_pictureArea 14 = .ok (.iconst 1, 1) := dk_4 (dk_at dksX0_pictureArea_0 14 rfl rfl)
theorem dX0_pictureArea_15 : decode cX0_pictureArea 15 = .ok (.iaload, 1) := dk_46 (dk_at dksX0_pictureArea_0 15 rfl rfl)
theorem dX0_pictureArea_16 : decode cX0_pictureArea 16 = .ok (.iadd, 1) := dk_96 (dk_at dksX0_pictureArea_0 16 rfl rfl)
theorem dX0_pictureArea_17 : decode cX0_pictureArea 17 = .ok (.aload_n 0, 1) := dk_42 (dk_at dksX0_pictureArea_0 17 rfl rfl)
theorem dX0_pictureArea_18 : decode cX0_pictureArea 18 = .ok (.getfield 61, 3) := dk_180 0 61 (dk_at dksX0_pictureArea_0 18 rfl rfl)
theorem dX0_pictureArea_21 : decode cX0_pictureArea 21 = .ok (.iconst 2, 1) := dk_5 (dk_at dksX0_pictureArea_0 21 rfl rfl)
theorem dX0_pictureArea_22 : decode cX0_pictureArea 22 = .ok (.iaload, 1) := dk_46 (dk_at dksX0_pictureArea_0 22 rfl rfl)
theorem dX0_pictureArea_23 : decode cX0_pictureArea 23 = .ok (.iadd, 1) := dk_96 (dk_at dksX0_pictureArea_0 23 rfl rfl)
theorem dX0_pictureArea_24 : decode cX0_pictureArea 24 = .ok (.ireturn, 1) := dk_172 (dk_at dksX0_pictureArea_1 0 rfl rfl)
abbrev cX0_hiddenBoxes : ByteArray := prog_1_method_57_code
def yX0_hiddenBoxes : MethodName := ⟨RX0, "hiddenBoxes", "()I"⟩
def dkwX0_hiddenBoxes_1 : List UInt8 := [42, 180, 0, 55, 28, 46, 154, 0, 7, 4, 167, 0, 4, 3, 96, 60, 132, 2, 1, 167, 255, 221, 27, 172]
abbrev dktX0_hiddenBoxes_1 : List UInt8 := dkwX0_hiddenBoxes_1 ++ []
def dkwX0_hiddenBoxes_0 : List UInt8 := [42, 182, 1, 97, 3, 60, 3, 61, 28, 16, 12, 162, 0, 35, 27, 42, 180, 0, 18, 28, 50, 198, 0, 16]
abbrev dktX0_hiddenBoxes_0 : List UInt8 := dkwX0_hiddenBoxes_0 ++ dktX0_hiddenBoxes_1
theorem dksX0_hiddenBoxes_0 : cX0_hiddenBoxes.data.toList.drop 0 = dktX0_hiddenBoxes_0 := by decide +kernel
theorem dksX0_hiddenBoxes_1 : cX0_hiddenBoxes.data.toList.drop 24 = dktX0_hiddenBoxes_1 := dk_seg dksX0_hiddenBoxes_0 24 rfl rfl
theorem dX0_hiddenBoxes_0 : decode cX0_hiddenBoxes 0 = .ok (.aload_n 0, 1) := dk_42 (dk_at dksX0_hiddenBoxes_0 0 rfl rfl)
theorem dX0_hiddenBoxes_1 : decode cX0_hiddenBoxes 1 = .ok (.invokevirtual 353, 3) := dk_182 1 97 (dk_at dksX0_hiddenBoxes_0 1 rfl rfl)
theorem dX0_hiddenBoxes_4 : decode cX0_hiddenBoxes 4 = .ok (.iconst 0, 1) := dk_3 (dk_at dksX0_hiddenBoxes_0 4 rfl rfl)
theorem dX0_hiddenBoxes_5 : decode cX0_hiddenBoxes 5 = .ok (.istore_n 1, 1) := dk_60 (dk_at dksX0_hiddenBoxes_0 5 rfl rfl)
theorem dX0_hiddenBoxes_6 : decode cX0_hiddenBoxes 6 = .ok (.iconst 0, 1) := dk_3 (dk_at dksX0_hiddenBoxes_0 6 rfl rfl)
theorem dX0_hiddenBoxes_7 : decode cX0_hiddenBoxes 7 = .ok (.istore_n 2, 1) := dk_61 (dk_at dksX0_hiddenBoxes_0 7 rfl rfl)
theorem dX0_hiddenBoxes_8 : decode cX0_hiddenBoxes 8 = .ok (.iload_n 2, 1) := dk_28 (dk_at dksX0_hiddenBoxes_0 8 rfl rfl)
theorem dX0_hiddenBoxes_9 : decode cX0_hiddenBoxes 9 = .ok (.bipush 12, 2) := dk_16 12 (dk_at dksX0_hiddenBoxes_0 9 rfl rfl)
theorem dX0_hiddenBoxes_11 : decode cX0_hiddenBoxes 11 = .ok (.if_icmp .ge 35, 3) := dk_162 0 35 (dk_at dksX0_hiddenBoxes_0 11 rfl rfl)
theorem dX0_hiddenBoxes_14 : decode cX0_hiddenBoxes 14 = .ok (.iload_n 1, 1) := dk_27 (dk_at dksX0_hiddenBoxes_0 14 rfl rfl)
theorem dX0_hiddenBoxes_15 : decode cX0_hiddenBoxes 15 = .ok (.aload_n 0, 1) := dk_42 (dk_at dksX0_hiddenBoxes_0 15 rfl rfl)
theorem dX0_hiddenBoxes_16 : decode cX0_hiddenBoxes 16 = .ok (.getfield 18, 3) := dk_180 0 18 (dk_at dksX0_hiddenBoxes_0 16 rfl rfl)
theorem dX0_hiddenBoxes_19 : decode cX0_hiddenBoxes 19 = .ok (.iload_n 2, 1) := dk_28 (dk_at dksX0_hiddenBoxes_0 19 rfl rfl)
theorem dX0_hiddenBoxes_20 : decode cX0_hiddenBoxes 20 = .ok (.aaload, 1) := dk_50 (dk_at dksX0_hiddenBoxes_0 20 rfl rfl)
theorem dX0_hiddenBoxes_21 : decode cX0_hiddenBoxes 21 = .ok (.ifnull 16, 3) := dk_198 0 16 (dk_at dksX0_hiddenBoxes_0 21 rfl rfl)
theorem dX0_hiddenBoxes_24 : decode cX0_hiddenBoxes 24 = .ok (.aload_n 0, 1) := dk_42 (dk_at dksX0_hiddenBoxes_1 0 rfl rfl)
theorem dX0_hiddenBoxes_25 : decode cX0_hiddenBoxes 25 = .ok (.getfield 55, 3) := dk_180 0 55 (dk_at dksX0_hiddenBoxes_1 1 rfl rfl)
theorem dX0_hiddenBoxes_28 : decode cX0_hiddenBoxes 28 = .ok (.iload_n 2, 1) := dk_28 (dk_at dksX0_hiddenBoxes_1 4 rfl rfl)
theorem dX0_hiddenBoxes_29 : decode cX0_hiddenBoxes 29 = .ok (.iaload, 1) := dk_46 (dk_at dksX0_hiddenBoxes_1 5 rfl rfl)
theorem dX0_hiddenBoxes_30 : decode cX0_hiddenBoxes 30 = .ok (.ifCond .ne 7, 3) := dk_154 0 7 (dk_at dksX0_hiddenBoxes_1 6 rfl rfl)
theorem dX0_hiddenBoxes_33 : decode cX0_hiddenBoxes 33 = .ok (.iconst 1, 1) := dk_4 (dk_at dksX0_hiddenBoxes_1 9 rfl rfl)
theorem dX0_hiddenBoxes_34 : decode cX0_hiddenBoxes 34 = .ok (.goto 4, 3) := dk_167 0 4 (dk_at dksX0_hiddenBoxes_1 10 rfl rfl)
theorem dX0_hiddenBoxes_37 : decode cX0_hiddenBoxes 37 = .ok (.iconst 0, 1) := dk_3 (dk_at dksX0_hiddenBoxes_1 13 rfl rfl)
theorem dX0_hiddenBoxes_38 : decode cX0_hiddenBoxes 38 = .ok (.iadd, 1) := dk_96 (dk_at dksX0_hiddenBoxes_1 14 rfl rfl)
theorem dX0_hiddenBoxes_39 : decode cX0_hiddenBoxes 39 = .ok (.istore_n 1, 1) := dk_60 (dk_at dksX0_hiddenBoxes_1 15 rfl rfl)
theorem dX0_hiddenBoxes_40 : decode cX0_hiddenBoxes 40 = .ok (.iinc 2 1, 3) := dk_132 2 1 (dk_at dksX0_hiddenBoxes_1 16 rfl rfl)
theorem dX0_hiddenBoxes_43 : decode cX0_hiddenBoxes 43 = .ok (.goto (-35), 3) := dk_167 255 221 (dk_at dksX0_hiddenBoxes_1 19 rfl rfl)
theorem dX0_hiddenBoxes_46 : decode cX0_hiddenBoxes 46 = .ok (.iload_n 1, 1) := dk_27 (dk_at dksX0_hiddenBoxes_1 22 rfl rfl)
theorem dX0_hiddenBoxes_47 : decode cX0_hiddenBoxes 47 = .ok (.ireturn, 1) := dk_172 (dk_at dksX0_hiddenBoxes_1 23 rfl rfl)
abbrev cX0_greatestCover : ByteArray := prog_1_method_58_code
def yX0_greatestCover : MethodName := ⟨RX0, "greatestCover", "(I)I"⟩
def dkwX0_greatestCover_3 : List UInt8 := [160, 0, 8, 16, 150, 167, 0, 17, 27, 154, 0, 7, 28, 167, 0, 9, 42, 180, 0, 58, 28, 46, 172]
abbrev dktX0_greatestCover_3 : List UInt8 := dkwX0_greatestCover_3 ++ []
def dkwX0_greatestCover_2 : List UInt8 := [42, 180, 0, 58, 28, 46, 164, 0, 7, 29, 167, 0, 4, 28, 61, 132, 3, 1, 167, 255, 211, 28, 16, 150]
abbrev dktX0_greatestCover_2 : List UInt8 := dkwX0_greatestCover_2 ++ dktX0_greatestCover_3
def dkwX0_greatestCover_1 : List UInt8 := [162, 0, 45, 42, 180, 0, 18, 29, 50, 198, 0, 28, 28, 16, 150, 159, 0, 18, 42, 180, 0, 58, 29, 46]
abbrev dktX0_greatestCover_1 : List UInt8 := dkwX0_greatestCover_1 ++ dktX0_greatestCover_2
def dkwX0_greatestCover_0 : List UInt8 := [27, 3, 4, 184, 0, 68, 154, 0, 6, 16, 154, 172, 42, 182, 1, 97, 16, 150, 61, 3, 62, 29, 16, 12]
abbrev dktX0_greatestCover_0 : List UInt8 := dkwX0_greatestCover_0 ++ dktX0_greatestCover_1
theorem dksX0_greatestCover_0 : cX0_greatestCover.data.toList.drop 0 = dktX0_greatestCover_0 := by decide +kernel
theorem dksX0_greatestCover_1 : cX0_greatestCover.data.toList.drop 24 = dktX0_greatestCover_1 := dk_seg dksX0_greatestCover_0 24 rfl rfl
theorem dksX0_greatestCover_2 : cX0_greatestCover.data.toList.drop 48 = dktX0_greatestCover_2 := dk_seg dksX0_greatestCover_1 24 rfl rfl
theorem dksX0_greatestCover_3 : cX0_greatestCover.data.toList.drop 72 = dktX0_greatestCover_3 := dk_seg dksX0_greatestCover_2 24 rfl rfl
theorem dX0_greatestCover_0 : decode cX0_greatestCover 0 = .ok (.iload_n 1, 1) := dk_27 (dk_at dksX0_greatestCover_0 0 rfl rfl)
theorem dX0_greatestCover_1 : decode cX0_greatestCover 1 = .ok (.iconst 0, 1) := dk_3 (dk_at dksX0_greatestCover_0 1 rfl rfl)
theorem dX0_greatestCover_2 : decode cX0_greatestCover 2 = .ok (.iconst 1, 1) := dk_4 (dk_at dksX0_greatestCover_0 2 rfl rfl)
theorem dX0_greatestCover_3 : decode cX0_greatestCover 3 = .ok (.invokestatic 68, 3) := dk_184 0 68 (dk_at dksX0_greatestCover_0 3 rfl rfl)
theorem dX0_greatestCover_6 : decode cX0_greatestCover 6 = .ok (.ifCond .ne 6, 3) := dk_154 0 6 (dk_at dksX0_greatestCover_0 6 rfl rfl)
theorem dX0_greatestCover_9 : decode cX0_greatestCover 9 = .ok (.bipush (-102), 2) := dk_16 154 (dk_at dksX0_greatestCover_0 9 rfl rfl)
theorem dX0_greatestCover_11 : decode cX0_greatestCover 11 = .ok (.ireturn, 1) := dk_172 (dk_at dksX0_greatestCover_0 11 rfl rfl)
theorem dX0_greatestCover_12 : decode cX0_greatestCover 12 = .ok (.aload_n 0, 1) := dk_42 (dk_at dksX0_greatestCover_0 12 rfl rfl)
theorem dX0_greatestCover_13 : decode cX0_greatestCover 13 = .ok (.invokevirtual 353, 3) := dk_182 1 97 (dk_at dksX0_greatestCover_0 13 rfl rfl)
theorem dX0_greatestCover_16 : decode cX0_greatestCover 16 = .ok (.bipush (-106), 2) := dk_16 150 (dk_at dksX0_greatestCover_0 16 rfl rfl)
theorem dX0_greatestCover_18 : decode cX0_greatestCover 18 = .ok (.istore_n 2, 1) := dk_61 (dk_at dksX0_greatestCover_0 18 rfl rfl)
theorem dX0_greatestCover_19 : decode cX0_greatestCover 19 = .ok (.iconst 0, 1) := dk_3 (dk_at dksX0_greatestCover_0 19 rfl rfl)
theorem dX0_greatestCover_20 : decode cX0_greatestCover 20 = .ok (.istore_n 3, 1) := dk_62 (dk_at dksX0_greatestCover_0 20 rfl rfl)
theorem dX0_greatestCover_21 : decode cX0_greatestCover 21 = .ok (.iload_n 3, 1) := dk_29 (dk_at dksX0_greatestCover_0 21 rfl rfl)
theorem dX0_greatestCover_22 : decode cX0_greatestCover 22 = .ok (.bipush 12, 2) := dk_16 12 (dk_at dksX0_greatestCover_0 22 rfl rfl)
theorem dX0_greatestCover_24 : decode cX0_greatestCover 24 = .ok (.if_icmp .ge 45, 3) := dk_162 0 45 (dk_at dksX0_greatestCover_1 0 rfl rfl)
theorem dX0_greatestCover_27 : decode cX0_greatestCover 27 = .ok (.aload_n 0, 1) := dk_42 (dk_at dksX0_greatestCover_1 3 rfl rfl)
theorem dX0_greatestCover_28 : decode cX0_greatestCover 28 = .ok (.getfield 18, 3) := dk_180 0 18 (dk_at dksX0_greatestCover_1 4 rfl rfl)
theorem dX0_greatestCover_31 : decode cX0_greatestCover 31 = .ok (.iload_n 3, 1) := dk_29 (dk_at dksX0_greatestCover_1 7 rfl rfl)
theorem dX0_greatestCover_32 : decode cX0_greatestCover 32 = .ok (.aaload, 1) := dk_50 (dk_at dksX0_greatestCover_1 8 rfl rfl)
theorem dX0_greatestCover_33 : decode cX0_greatestCover 33 = .ok (.ifnull 28, 3) := dk_198 0 28 (dk_at dksX0_greatestCover_1 9 rfl rfl)
theorem dX0_greatestCover_36 : decode cX0_greatestCover 36 = .ok (.iload_n 2, 1) := dk_28 (dk_at dksX0_greatestCover_1 12 rfl rfl)
theorem dX0_greatestCover_37 : decode cX0_greatestCover 37 = .ok (.bipush (-106), 2) := dk_16 150 (dk_at dksX0_greatestCover_1 13 rfl rfl)
theorem dX0_greatestCover_39 : decode cX0_greatestCover 39 = .ok (.if_icmp .eq 18, 3) := dk_159 0 18 (dk_at dksX0_greatestCover_1 15 rfl rfl)
theorem dX0_greatestCover_42 : decode cX0_greatestCover 42 = .ok (.aload_n 0, 1) := dk_42 (dk_at dksX0_greatestCover_1 18 rfl rfl)
theorem dX0_greatestCover_43 : decode cX0_greatestCover 43 = .ok (.getfield 58, 3) := dk_180 0 58 (dk_at dksX0_greatestCover_1 19 rfl rfl)
theorem dX0_greatestCover_46 : decode cX0_greatestCover 46 = .ok (.iload_n 3, 1) := dk_29 (dk_at dksX0_greatestCover_1 22 rfl rfl)
theorem dX0_greatestCover_47 : decode cX0_greatestCover 47 = .ok (.iaload, 1) := dk_46 (dk_at dksX0_greatestCover_1 23 rfl rfl)
theorem dX0_greatestCover_48 : decode cX0_greatestCover 48 = .ok (.aload_n 0, 1) := dk_42 (dk_at dksX0_greatestCover_2 0 rfl rfl)
theorem dX0_greatestCover_49 : decode cX0_greatestCover 49 = .ok (.getfield 58, 3) := dk_180 0 58 (dk_at dksX0_greatestCover_2 1 rfl rfl)
theorem dX0_greatestCover_52 : decode cX0_greatestCover 52 = .ok (.iload_n 2, 1) := dk_28 (dk_at dksX0_greatestCover_2 4 rfl rfl)
theorem dX0_greatestCover_53 : decode cX0_greatestCover 53 = .ok (.iaload, 1) := dk_46 (dk_at dksX0_greatestCover_2 5 rfl rfl)
theorem dX0_greatestCover_54 : decode cX0_greatestCover 54 = .ok (.if_icmp .le 7, 3) := dk_164 0 7 (dk_at dksX0_greatestCover_2 6 rfl rfl)
theorem dX0_greatestCover_57 : decode cX0_greatestCover 57 = .ok (.iload_n 3, 1) := dk_29 (dk_at dksX0_greatestCover_2 9 rfl rfl)
theorem dX0_greatestCover_58 : decode cX0_greatestCover 58 = .ok (.goto 4, 3) := dk_167 0 4 (dk_at dksX0_greatestCover_2 10 rfl rfl)
theorem dX0_greatestCover_61 : decode cX0_greatestCover 61 = .ok (.iload_n 2, 1) := dk_28 (dk_at dksX0_greatestCover_2 13 rfl rfl)
theorem dX0_greatestCover_62 : decode cX0_greatestCover 62 = .ok (.istore_n 2, 1) := dk_61 (dk_at dksX0_greatestCover_2 14 rfl rfl)
theorem dX0_greatestCover_63 : decode cX0_greatestCover 63 = .ok (.iinc 3 1, 3) := dk_132 3 1 (dk_at dksX0_greatestCover_2 15 rfl rfl)
theorem dX0_greatestCover_66 : decode cX0_greatestCover 66 = .ok (.goto (-45), 3) := dk_167 255 211 (dk_at dksX0_greatestCover_2 18 rfl rfl)
theorem dX0_greatestCover_69 : decode cX0_greatestCover 69 = .ok (.iload_n 2, 1) := dk_28 (dk_at dksX0_greatestCover_2 21 rfl rfl)
theorem dX0_greatestCover_70 : decode cX0_greatestCover 70 = .ok (.bipush (-106), 2) := dk_16 150 (dk_at dksX0_greatestCover_2 22 rfl rfl)
theorem dX0_greatestCover_72 : decode cX0_greatestCover 72 = .ok (.if_icmp .ne 8, 3) := dk_160 0 8 (dk_at dksX0_greatestCover_3 0 rfl rfl)
theorem dX0_greatestCover_75 : decode cX0_greatestCover 75 = .ok (.bipush (-106), 2) := dk_16 150 (dk_at dksX0_greatestCover_3 3 rfl rfl)
theorem dX0_greatestCover_77 : decode cX0_greatestCover 77 = .ok (.goto 17, 3) := dk_167 0 17 (dk_at dksX0_greatestCover_3 5 rfl rfl)
theorem dX0_greatestCover_80 : decode cX0_greatestCover 80 = .ok (.iload_n 1, 1) := dk_27 (dk_at dksX0_greatestCover_3 8 rfl rfl)
theorem dX0_greatestCover_81 : decode cX0_greatestCover 81 = .ok (.ifCond .ne 7, 3) := dk_154 0 7 (dk_at dksX0_greatestCover_3 9 rfl rfl)
theorem dX0_greatestCover_84 : decode cX0_greatestCover 84 = .ok (.iload_n 2, 1) := dk_28 (dk_at dksX0_greatestCover_3 12 rfl rfl)
theorem dX0_greatestCover_85 : decode cX0_greatestCover 85 = .ok (.goto 9, 3) := dk_167 0 9 (dk_at dksX0_greatestCover_3 13 rfl rfl)
theorem dX0_greatestCover_88 : decode cX0_greatestCover 88 = .ok (.aload_n 0, 1) := dk_42 (dk_at dksX0_greatestCover_3 16 rfl rfl)
theorem dX0_greatestCover_89 : decode cX0_greatestCover 89 = .ok (.getfield 58, 3) := dk_180 0 58 (dk_at dksX0_greatestCover_3 17 rfl rfl)
theorem dX0_greatestCover_92 : decode cX0_greatestCover 92 = .ok (.iload_n 2, 1) := dk_28 (dk_at dksX0_greatestCover_3 20 rfl rfl)
theorem dX0_greatestCover_93 : decode cX0_greatestCover 93 = .ok (.iaload, 1) := dk_46 (dk_at dksX0_greatestCover_3 21 rfl rfl)
theorem dX0_greatestCover_94 : decode cX0_greatestCover 94 = .ok (.ireturn, 1) := dk_172 (dk_at dksX0_greatestCover_3 22 rfl rfl)
abbrev cX0_write : ByteArray := prog_1_method_59_code
def yX0_write : MethodName := ⟨RX0, "write", "(I)I"⟩
def dkwX0_write_2 : List UInt8 := [42, 180, 1, 100, 172]
abbrev dktX0_write_2 : List UInt8 := dkwX0_write_2 ++ []
def dkwX0_write_1 : List UInt8 := [16, 152, 172, 42, 180, 0, 64, 42, 180, 1, 100, 27, 145, 84, 42, 89, 180, 1, 100, 4, 96, 181, 1, 100]
abbrev dktX0_write_1 : List UInt8 := dkwX0_write_1 ++ dktX0_write_2
def dkwX0_write_0 : List UInt8 := [27, 16, 32, 16, 126, 184, 0, 68, 154, 0, 6, 16, 154, 172, 42, 180, 1, 100, 17, 0, 240, 160, 0, 6]
abbrev dktX0_write_0 : List UInt8 := dkwX0_write_0 ++ dktX0_write_1
theorem dksX0_write_0 : cX0_write.data.toList.drop 0 = dktX0_write_0 := by decide +kernel
theorem dksX0_write_1 : cX0_write.data.toList.drop 24 = dktX0_write_1 := dk_seg dksX0_write_0 24 rfl rfl
theorem dksX0_write_2 : cX0_write.data.toList.drop 48 = dktX0_write_2 := dk_seg dksX0_write_1 24 rfl rfl
theorem dX0_write_0 : decode cX0_write 0 = .ok (.iload_n 1, 1) := dk_27 (dk_at dksX0_write_0 0 rfl rfl)
theorem dX0_write_1 : decode cX0_write 1 = .ok (.bipush 32, 2) := dk_16 32 (dk_at dksX0_write_0 1 rfl rfl)
theorem dX0_write_3 : decode cX0_write 3 = .ok (.bipush 126, 2) := dk_16 126 (dk_at dksX0_write_0 3 rfl rfl)
theorem dX0_write_5 : decode cX0_write 5 = .ok (.invokestatic 68, 3) := dk_184 0 68 (dk_at dksX0_write_0 5 rfl rfl)
theorem dX0_write_8 : decode cX0_write 8 = .ok (.ifCond .ne 6, 3) := dk_154 0 6 (dk_at dksX0_write_0 8 rfl rfl)
theorem dX0_write_11 : decode cX0_write 11 = .ok (.bipush (-102), 2) := dk_16 154 (dk_at dksX0_write_0 11 rfl rfl)
theorem dX0_write_13 : decode cX0_write 13 = .ok (.ireturn, 1) := dk_172 (dk_at dksX0_write_0 13 rfl rfl)
theorem dX0_write_14 : decode cX0_write 14 = .ok (.aload_n 0, 1) := dk_42 (dk_at dksX0_write_0 14 rfl rfl)
theorem dX0_write_15 : decode cX0_write 15 = .ok (.getfield 356, 3) := dk_180 1 100 (dk_at dksX0_write_0 15 rfl rfl)
theorem dX0_write_18 : decode cX0_write 18 = .ok (.sipush 240, 3) := dk_17 0 240 (dk_at dksX0_write_0 18 rfl rfl)
theorem dX0_write_21 : decode cX0_write 21 = .ok (.if_icmp .ne 6, 3) := dk_160 0 6 (dk_at dksX0_write_0 21 rfl rfl)
theorem dX0_write_24 : decode cX0_write 24 = .ok (.bipush (-104), 2) := dk_16 152 (dk_at dksX0_write_1 0 rfl rfl)
theorem dX0_write_26 : decode cX0_write 26 = .ok (.ireturn, 1) := dk_172 (dk_at dksX0_write_1 2 rfl rfl)
theorem dX0_write_27 : decode cX0_write 27 = .ok (.aload_n 0, 1) := dk_42 (dk_at dksX0_write_1 3 rfl rfl)
theorem dX0_write_28 : decode cX0_write 28 = .ok (.getfield 64, 3) := dk_180 0 64 (dk_at dksX0_write_1 4 rfl rfl)
theorem dX0_write_31 : decode cX0_write 31 = .ok (.aload_n 0, 1) := dk_42 (dk_at dksX0_write_1 7 rfl rfl)
theorem dX0_write_32 : decode cX0_write 32 = .ok (.getfield 356, 3) := dk_180 1 100 (dk_at dksX0_write_1 8 rfl rfl)
theorem dX0_write_35 : decode cX0_write 35 = .ok (.iload_n 1, 1) := dk_27 (dk_at dksX0_write_1 11 rfl rfl)
theorem dX0_write_36 : decode cX0_write 36 = .ok (.i2b, 1) := dk_145 (dk_at dksX0_write_1 12 rfl rfl)
theorem dX0_write_37 : decode cX0_write 37 = .ok (.bastore, 1) := dk_84 (dk_at dksX0_write_1 13 rfl rfl)
theorem dX0_write_38 : decode cX0_write 38 = .ok (.aload_n 0, 1) := dk_42 (dk_at dksX0_write_1 14 rfl rfl)
theorem dX0_write_39 : decode cX0_write 39 = .ok (.dup, 1) := dk_89 (dk_at dksX0_write_1 15 rfl rfl)
theorem dX0_write_40 : decode cX0_write 40 = .ok (.getfield 356, 3) := dk_180 1 100 (dk_at dksX0_write_1 16 rfl rfl)
theorem dX0_write_43 : decode cX0_write 43 = .ok (.iconst 1, 1) := dk_4 (dk_at dksX0_write_1 19 rfl rfl)
theorem dX0_write_44 : decode cX0_write 44 = .ok (.iadd, 1) := dk_96 (dk_at dksX0_write_1 20 rfl rfl)
theorem dX0_write_45 : decode cX0_write 45 = .ok (.putfield 356, 3) := dk_181 1 100 (dk_at dksX0_write_1 21 rfl rfl)
theorem dX0_write_48 : decode cX0_write 48 = .ok (.aload_n 0, 1) := dk_42 (dk_at dksX0_write_2 0 rfl rfl)
theorem dX0_write_49 : decode cX0_write 49 = .ok (.getfield 356, 3) := dk_180 1 100 (dk_at dksX0_write_2 1 rfl rfl)
theorem dX0_write_52 : decode cX0_write 52 = .ok (.ireturn, 1) := dk_172 (dk_at dksX0_write_2 4 rfl rfl)
abbrev cX0_wipe : ByteArray := prog_1_method_60_code
def yX0_wipe : MethodName := ⟨RX0, "wipe", "()I"⟩
def dkwX0_wipe_0 : List UInt8 := [42, 180, 1, 100, 60, 42, 3, 181, 1, 100, 27, 172]
abbrev dktX0_wipe_0 : List UInt8 := dkwX0_wipe_0 ++ []
theorem dksX0_wipe_0 : cX0_wipe.data.toList.drop 0 = dktX0_wipe_0 := by decide +kernel
theorem dX0_wipe_0 : decode cX0_wipe 0 = .ok (.aload_n 0, 1) := dk_42 (dk_at dksX0_wipe_0 0 rfl rfl)
theorem dX0_wipe_1 : decode cX0_wipe 1 = .ok (.getfield 356, 3) := dk_180 1 100 (dk_at dksX0_wipe_0 1 rfl rfl)
theorem dX0_wipe_4 : decode cX0_wipe 4 = .ok (.istore_n 1, 1) := dk_60 (dk_at dksX0_wipe_0 4 rfl rfl)
theorem dX0_wipe_5 : decode cX0_wipe 5 = .ok (.aload_n 0, 1) := dk_42 (dk_at dksX0_wipe_0 5 rfl rfl)
theorem dX0_wipe_6 : decode cX0_wipe 6 = .ok (.iconst 0, 1) := dk_3 (dk_at dksX0_wipe_0 6 rfl rfl)
theorem dX0_wipe_7 : decode cX0_wipe 7 = .ok (.putfield 356, 3) := dk_181 1 100 (dk_at dksX0_wipe_0 7 rfl rfl)
theorem dX0_wipe_10 : decode cX0_wipe 10 = .ok (.iload_n 1, 1) := dk_27 (dk_at dksX0_wipe_0 10 rfl rfl)
theorem dX0_wipe_11 : decode cX0_wipe 11 = .ok (.ireturn, 1) := dk_172 (dk_at dksX0_wipe_0 11 rfl rfl)
abbrev cX0_fault : ByteArray := prog_1_method_61_code
def yX0_fault : MethodName := ⟨RX0, "fault", "()I"⟩
def dkwX0_fault_0 : List UInt8 := [187, 1, 103, 89, 42, 183, 1, 105, 182, 1, 108, 76, 16, 150, 172, 76, 43, 180, 1, 114, 172]
abbrev dktX0_fault_0 : List UInt8 := dkwX0_fault_0 ++ []
theorem dksX0_fault_0 : cX0_fault.data.toList.drop 0 = dktX0_fault_0 := by decide +kernel
theorem dX0_fault_0 : decode cX0_fault 0 = .ok (.new 359, 3) := dk_187 1 103 (dk_at dksX0_fault_0 0 rfl rfl)
theorem dX0_fault_3 : decode cX0_fault 3 = .ok (.dup, 1) := dk_89 (dk_at dksX0_fault_0 3 rfl rfl)
theorem dX0_fault_4 : decode cX0_fault 4 = .ok (.aload_n 0, 1) := dk_42 (dk_at dksX0_fault_0 4 rfl rfl)
theorem dX0_fault_5 : decode cX0_fault 5 = .ok (.invokespecial 361, 3) := dk_183 1 105 (dk_at dksX0_fault_0 5 rfl rfl)
theorem dX0_fault_8 : decode cX0_fault 8 = .ok (.invokevirtual 364, 3) := dk_182 1 108 (dk_at dksX0_fault_0 8 rfl rfl)
theorem dX0_fault_11 : decode cX0_fault 11 = .ok (.astore_n 1, 1) := dk_76 (dk_at dksX0_fault_0 11 rfl rfl)
theorem dX0_fault_12 : decode cX0_fault 12 = .ok (.bipush (-106), 2) := dk_16 150 (dk_at dksX0_fault_0 12 rfl rfl)
theorem dX0_fault_14 : decode cX0_fault 14 = .ok (.ireturn, 1) := dk_172 (dk_at dksX0_fault_0 14 rfl rfl)
theorem dX0_fault_15 : decode cX0_fault 15 = .ok (.astore_n 1, 1) := dk_76 (dk_at dksX0_fault_0 15 rfl rfl)
theorem dX0_fault_16 : decode cX0_fault 16 = .ok (.aload_n 1, 1) := dk_43 (dk_at dksX0_fault_0 16 rfl rfl)
theorem dX0_fault_17 : decode cX0_fault 17 = .ok (.getfield 370, 3) := dk_180 1 114 (dk_at dksX0_fault_0 17 rfl rfl)
theorem dX0_fault_20 : decode cX0_fault 20 = .ok (.ireturn, 1) := dk_172 (dk_at dksX0_fault_0 20 rfl rfl)
abbrev cX0_load : ByteArray := prog_1_method_62_code
def yX0_load : MethodName := ⟨RX0, "load", "()I"⟩
def dkwX0_load_1 : List UInt8 := [43, 182, 0, 97, 42, 182, 0, 126, 172]
abbrev dktX0_load_1 : List UInt8 := dkwX0_load_1 ++ []
def dkwX0_load_0 : List UInt8 := [187, 1, 103, 89, 42, 183, 1, 105, 182, 1, 108, 76, 167, 0, 7, 77, 16, 151, 172, 42, 182, 0, 119, 42]
abbrev dktX0_load_0 : List UInt8 := dkwX0_load_0 ++ dktX0_load_1
theorem dksX0_load_0 : cX0_load.data.toList.drop 0 = dktX0_load_0 := by decide +kernel
theorem dksX0_load_1 : cX0_load.data.toList.drop 24 = dktX0_load_1 := dk_seg dksX0_load_0 24 rfl rfl
theorem dX0_load_0 : decode cX0_load 0 = .ok (.new 359, 3) := dk_187 1 103 (dk_at dksX0_load_0 0 rfl rfl)
theorem dX0_load_3 : decode cX0_load 3 = .ok (.dup, 1) := dk_89 (dk_at dksX0_load_0 3 rfl rfl)
theorem dX0_load_4 : decode cX0_load 4 = .ok (.aload_n 0, 1) := dk_42 (dk_at dksX0_load_0 4 rfl rfl)
theorem dX0_load_5 : decode cX0_load 5 = .ok (.invokespecial 361, 3) := dk_183 1 105 (dk_at dksX0_load_0 5 rfl rfl)
theorem dX0_load_8 : decode cX0_load 8 = .ok (.invokevirtual 364, 3) := dk_182 1 108 (dk_at dksX0_load_0 8 rfl rfl)
theorem dX0_load_11 : decode cX0_load 11 = .ok (.astore_n 1, 1) := dk_76 (dk_at dksX0_load_0 11 rfl rfl)
theorem dX0_load_12 : decode cX0_load 12 = .ok (.goto 7, 3) := dk_167 0 7 (dk_at dksX0_load_0 12 rfl rfl)
theorem dX0_load_15 : decode cX0_load 15 = .ok (.astore_n 2, 1) := dk_77 (dk_at dksX0_load_0 15 rfl rfl)
theorem dX0_load_16 : decode cX0_load 16 = .ok (.bipush (-105), 2) := dk_16 151 (dk_at dksX0_load_0 16 rfl rfl)
theorem dX0_load_18 : decode cX0_load 18 = .ok (.ireturn, 1) := dk_172 (dk_at dksX0_load_0 18 rfl rfl)
theorem dX0_load_19 : decode cX0_load 19 = .ok (.aload_n 0, 1) := dk_42 (dk_at dksX0_load_0 19 rfl rfl)
theorem dX0_load_20 : decode cX0_load 20 = .ok (.invokevirtual 119, 3) := dk_182 0 119 (dk_at dksX0_load_0 20 rfl rfl)
theorem dX0_load_23 : decode cX0_load 23 = .ok (.aload_n 0, 1) := dk_42 (dk_at dksX0_load_0 23 rfl rfl)
theorem dX0_load_24 : decode cX0_load 24 = .ok (.aload_n 1, 1) := dk_43 (dk_at dksX0_load_1 0 rfl rfl)
theorem dX0_load_25 : decode cX0_load 25 = .ok (.invokevirtual 97, 3) := dk_182 0 97 (dk_at dksX0_load_1 1 rfl rfl)
theorem dX0_load_28 : decode cX0_load 28 = .ok (.aload_n 0, 1) := dk_42 (dk_at dksX0_load_1 4 rfl rfl)
theorem dX0_load_29 : decode cX0_load 29 = .ok (.invokevirtual 126, 3) := dk_182 0 126 (dk_at dksX0_load_1 5 rfl rfl)
theorem dX0_load_32 : decode cX0_load 32 = .ok (.ireturn, 1) := dk_172 (dk_at dksX0_load_1 8 rfl rfl)
abbrev cX0_save : ByteArray := prog_1_method_63_code
def yX0_save : MethodName := ⟨RX0, "save", "(I)I"⟩
def dkwX0_save_1 : List UInt8 := [180, 0, 18, 182, 0, 92, 192, 0, 93, 183, 0, 89, 83, 42, 182, 0, 126, 172]
abbrev dktX0_save_1 : List UInt8 := dkwX0_save_1 ++ []
def dkwX0_save_0 : List UInt8 := [27, 3, 4, 184, 0, 68, 154, 0, 6, 16, 154, 172, 42, 180, 0, 28, 27, 187, 0, 22, 89, 42]
abbrev dktX0_save_0 : List UInt8 := dkwX0_save_0 ++ dktX0_save_1
theorem dksX0_save_0 : cX0_save.data.toList.drop 0 = dktX0_save_0 := by decide +kernel
theorem dksX0_save_1 : cX0_save.data.toList.drop 22 = dktX0_save_1 := dk_seg dksX0_save_0 22 rfl rfl
theorem dX0_save_0 : decode cX0_save 0 = .ok (.iload_n 1, 1) := dk_27 (dk_at dksX0_save_0 0 rfl rfl)
theorem dX0_save_1 : decode cX0_save 1 = .ok (.iconst 0, 1) := dk_3 (dk_at dksX0_save_0 1 rfl rfl)
theorem dX0_save_2 : decode cX0_save 2 = .ok (.iconst 1, 1) := dk_4 (dk_at dksX0_save_0 2 rfl rfl)
theorem dX0_save_3 : decode cX0_save 3 = .ok (.invokestatic 68, 3) := dk_184 0 68 (dk_at dksX0_save_0 3 rfl rfl)
theorem dX0_save_6 : decode cX0_save 6 = .ok (.ifCond .ne 6, 3) := dk_154 0 6 (dk_at dksX0_save_0 6 rfl rfl)
theorem dX0_save_9 : decode cX0_save 9 = .ok (.bipush (-102), 2) := dk_16 154 (dk_at dksX0_save_0 9 rfl rfl)
theorem dX0_save_11 : decode cX0_save 11 = .ok (.ireturn, 1) := dk_172 (dk_at dksX0_save_0 11 rfl rfl)
theorem dX0_save_12 : decode cX0_save 12 = .ok (.aload_n 0, 1) := dk_42 (dk_at dksX0_save_0 12 rfl rfl)
theorem dX0_save_13 : decode cX0_save 13 = .ok (.getfield 28, 3) := dk_180 0 28 (dk_at dksX0_save_0 13 rfl rfl)
theorem dX0_save_16 : decode cX0_save 16 = .ok (.iload_n 1, 1) := dk_27 (dk_at dksX0_save_0 16 rfl rfl)
theorem dX0_save_17 : decode cX0_save 17 = .ok (.new 22, 3) := dk_187 0 22 (dk_at dksX0_save_0 17 rfl rfl)
theorem dX0_save_20 : decode cX0_save 20 = .ok (.dup, 1) := dk_89 (dk_at dksX0_save_0 20 rfl rfl)
theorem dX0_save_21 : decode cX0_save 21 = .ok (.aload_n 0, 1) := dk_42 (dk_at dksX0_save_0 21 rfl rfl)
theorem dX0_save_22 : decode cX0_save 22 = .ok (.getfield 18, 3) := dk_180 0 18 (dk_at dksX0_save_1 0 rfl rfl)
theorem dX0_save_25 : decode cX0_save 25 = .ok (.invokevirtual 92, 3) := dk_182 0 92 (dk_at dksX0_save_1 3 rfl rfl)
theorem dX0_save_28 : decode cX0_save 28 = .ok (.checkcast 93, 3) := dk_192 0 93 (dk_at dksX0_save_1 6 rfl rfl)
theorem dX0_save_31 : decode cX0_save 31 = .ok (.invokespecial 89, 3) := dk_183 0 89 (dk_at dksX0_save_1 9 rfl rfl)
theorem dX0_save_34 : decode cX0_save 34 = .ok (.aastore, 1) := dk_83 (dk_at dksX0_save_1 12 rfl rfl)
theorem dX0_save_35 : decode cX0_save 35 = .ok (.aload_n 0, 1) := dk_42 (dk_at dksX0_save_1 13 rfl rfl)
theorem dX0_save_36 : decode cX0_save 36 = .ok (.invokevirtual 126, 3) := dk_182 0 126 (dk_at dksX0_save_1 14 rfl rfl)
theorem dX0_save_39 : decode cX0_save 39 = .ok (.ireturn, 1) := dk_172 (dk_at dksX0_save_1 17 rfl rfl)
abbrev cX0_restore : ByteArray := prog_1_method_64_code
def yX0_restore : MethodName := ⟨RX0, "restore", "(I)I"⟩
def dkwX0_restore_2 : List UInt8 := [42, 182, 0, 126, 172]
abbrev dktX0_restore_2 : List UInt8 := dkwX0_restore_2 ++ []
def dkwX0_restore_1 : List UInt8 := [42, 42, 180, 0, 28, 27, 50, 180, 0, 157, 182, 0, 92, 192, 0, 93, 182, 0, 97, 42, 3, 181, 0, 79]
abbrev dktX0_restore_1 : List UInt8 := dkwX0_restore_1 ++ dktX0_restore_2
def dkwX0_restore_0 : List UInt8 := [27, 3, 4, 184, 0, 68, 154, 0, 6, 16, 154, 172, 42, 180, 0, 28, 27, 50, 199, 0, 6, 16, 151, 172]
abbrev dktX0_restore_0 : List UInt8 := dkwX0_restore_0 ++ dktX0_restore_1
theorem dksX0_restore_0 : cX0_restore.data.toList.drop 0 = dktX0_restore_0 := by decide +kernel
theorem dksX0_restore_1 : cX0_restore.data.toList.drop 24 = dktX0_restore_1 := dk_seg dksX0_restore_0 24 rfl rfl
theorem dksX0_restore_2 : cX0_restore.data.toList.drop 48 = dktX0_restore_2 := dk_seg dksX0_restore_1 24 rfl rfl
theorem dX0_restore_0 : decode cX0_restore 0 = .ok (.iload_n 1, 1) := dk_27 (dk_at dksX0_restore_0 0 rfl rfl)
theorem dX0_restore_1 : decode cX0_restore 1 = .ok (.iconst 0, 1) := dk_3 (dk_at dksX0_restore_0 1 rfl rfl)
theorem dX0_restore_2 : decode cX0_restore 2 = .ok (.iconst 1, 1) := dk_4 (dk_at dksX0_restore_0 2 rfl rfl)
theorem dX0_restore_3 : decode cX0_restore 3 = .ok (.invokestatic 68, 3) := dk_184 0 68 (dk_at dksX0_restore_0 3 rfl rfl)
theorem dX0_restore_6 : decode cX0_restore 6 = .ok (.ifCond .ne 6, 3) := dk_154 0 6 (dk_at dksX0_restore_0 6 rfl rfl)
theorem dX0_restore_9 : decode cX0_restore 9 = .ok (.bipush (-102), 2) := dk_16 154 (dk_at dksX0_restore_0 9 rfl rfl)
theorem dX0_restore_11 : decode cX0_restore 11 = .ok (.ireturn, 1) := dk_172 (dk_at dksX0_restore_0 11 rfl rfl)
theorem dX0_restore_12 : decode cX0_restore 12 = .ok (.aload_n 0, 1) := dk_42 (dk_at dksX0_restore_0 12 rfl rfl)
theorem dX0_restore_13 : decode cX0_restore 13 = .ok (.getfield 28, 3) := dk_180 0 28 (dk_at dksX0_restore_0 13 rfl rfl)
theorem dX0_restore_16 : decode cX0_restore 16 = .ok (.iload_n 1, 1) := dk_27 (dk_at dksX0_restore_0 16 rfl rfl)
theorem dX0_restore_17 : decode cX0_restore 17 = .ok (.aaload, 1) := dk_50 (dk_at dksX0_restore_0 17 rfl rfl)
theorem dX0_restore_18 : decode cX0_restore 18 = .ok (.ifnonnull 6, 3) := dk_199 0 6 (dk_at dksX0_restore_0 18 rfl rfl)
theorem dX0_restore_21 : decode cX0_restore 21 = .ok (.bipush (-105), 2) := dk_16 151 (dk_at dksX0_restore_0 21 rfl rfl)
theorem dX0_restore_23 : decode cX0_restore 23 = .ok (.ireturn, 1) := dk_172 (dk_at dksX0_restore_0 23 rfl rfl)
theorem dX0_restore_24 : decode cX0_restore 24 = .ok (.aload_n 0, 1) := dk_42 (dk_at dksX0_restore_1 0 rfl rfl)
theorem dX0_restore_25 : decode cX0_restore 25 = .ok (.aload_n 0, 1) := dk_42 (dk_at dksX0_restore_1 1 rfl rfl)
theorem dX0_restore_26 : decode cX0_restore 26 = .ok (.getfield 28, 3) := dk_180 0 28 (dk_at dksX0_restore_1 2 rfl rfl)
theorem dX0_restore_29 : decode cX0_restore 29 = .ok (.iload_n 1, 1) := dk_27 (dk_at dksX0_restore_1 5 rfl rfl)
theorem dX0_restore_30 : decode cX0_restore 30 = .ok (.aaload, 1) := dk_50 (dk_at dksX0_restore_1 6 rfl rfl)
theorem dX0_restore_31 : decode cX0_restore 31 = .ok (.getfield 157, 3) := dk_180 0 157 (dk_at dksX0_restore_1 7 rfl rfl)
theorem dX0_restore_34 : decode cX0_restore 34 = .ok (.invokevirtual 92, 3) := dk_182 0 92 (dk_at dksX0_restore_1 10 rfl rfl)
theorem dX0_restore_37 : decode cX0_restore 37 = .ok (.checkcast 93, 3) := dk_192 0 93 (dk_at dksX0_restore_1 13 rfl rfl)
theorem dX0_restore_40 : decode cX0_restore 40 = .ok (.invokevirtual 97, 3) := dk_182 0 97 (dk_at dksX0_restore_1 16 rfl rfl)
theorem dX0_restore_43 : decode cX0_restore 43 = .ok (.aload_n 0, 1) := dk_42 (dk_at dksX0_restore_1 19 rfl rfl)
theorem dX0_restore_44 : decode cX0_restore 44 = .ok (.iconst 0, 1) := dk_3 (dk_at dksX0_restore_1 20 rfl rfl)
theorem dX0_restore_45 : decode cX0_restore 45 = .ok (.putfield 79, 3) := dk_181 0 79 (dk_at dksX0_restore_1 21 rfl rfl)
theorem dX0_restore_48 : decode cX0_restore 48 = .ok (.aload_n 0, 1) := dk_42 (dk_at dksX0_restore_2 0 rfl rfl)
theorem dX0_restore_49 : decode cX0_restore 49 = .ok (.invokevirtual 126, 3) := dk_182 0 126 (dk_at dksX0_restore_2 1 rfl rfl)
theorem dX0_restore_52 : decode cX0_restore 52 = .ok (.ireturn, 1) := dk_172 (dk_at dksX0_restore_2 4 rfl rfl)
theorem q75 : (Jvm.Cond.initialized "DepthSorter") ∈ lw_all := lw_g (lw_at lw_m1 1 rfl) rfl
theorem q118 : (Jvm.Cond.instantiable "DepthSorter" (18 : Nat)) ∈ lw_all := lw_g (lw_at lw_m1 44 rfl) rfl
theorem q120 : (Jvm.Cond.instanceMethod ({ cls := "DepthSorter", name := "<init>", desc := "()V" } : Jvm.MethodName)) ∈ lw_all := lw_g (lw_at lw_m1 46 rfl) rfl
theorem q121 : (Jvm.Cond.code ({ cls := "DepthSorter", name := "<init>", desc := "()V" } : Jvm.MethodName) prog_1_method_3_code (1 : Nat) (Option.none : Option Jvm.ClassFile.FieldType)) ∈ lw_all := lw_g (lw_at lw_m1 47 rfl) rfl
theorem q122 : (Jvm.Cond.methodLink "DepthSorter" (11 : Nat) ({ cls := "java/lang/Object", name := "<init>", desc := "()V" } : Jvm.MethodName)) ∈ lw_all := lw_g (lw_at lw_m1 48 rfl) rfl
theorem q125 : (Jvm.Cond.classLink "DepthSorter" (1 : Nat) "DepthSorter$Box") ∈ lw_all := lw_g (lw_at lw_m1 51 rfl) rfl
theorem q127 : (Jvm.Cond.classLink "DepthSorter" (22 : Nat) "DepthSorter$Space") ∈ lw_all := lw_g (lw_at lw_m1 53 rfl) rfl
theorem q129 : (Jvm.Cond.classLink "DepthSorter" (38 : Nat) "java/util/LinkedList") ∈ lw_all := lw_g (lw_at lw_m1 55 rfl) rfl
theorem q131 : (Jvm.Cond.methodLink "DepthSorter" (40 : Nat) ({ cls := "java/util/LinkedList", name := "<init>", desc := "()V" } : Jvm.MethodName)) ∈ lw_all := lw_g (lw_at lw_m1 57 rfl) rfl
theorem q166 : (Jvm.Cond.classLink "DepthSorter" (45 : Nat) "java/util/ArrayList") ∈ lw_all := lw_g (lw_at lw_m1 92 rfl) rfl
theorem q168 : (Jvm.Cond.methodLink "DepthSorter" (47 : Nat) ({ cls := "java/util/ArrayList", name := "<init>", desc := "()V" } : Jvm.MethodName)) ∈ lw_all := lw_g (lw_at lw_m1 94 rfl) rfl
theorem q184 : (Jvm.Cond.fieldLink "DepthSorter" (18 : Nat) "DepthSorter" "boxes" "[LDepthSorter$Box;") ∈ lw_all := lw_g (lw_at lw_m1 110 rfl) rfl
theorem q185 : (Jvm.Cond.fieldLink "DepthSorter" (24 : Nat) "DepthSorter" "past" "[LDepthSorter$Space;") ∈ lw_all := lw_g (lw_at lw_m1 111 rfl) rfl
theorem q186 : (Jvm.Cond.fieldLink "DepthSorter" (79 : Nat) "DepthSorter" "pastMany" "I") ∈ lw_all := lw_g (lw_at lw_m1 112 rfl) rfl
theorem q187 : (Jvm.Cond.fieldLink "DepthSorter" (28 : Nat) "DepthSorter" "saved" "[LDepthSorter$Space;") ∈ lw_all := lw_g (lw_at lw_m1 113 rfl) rfl
theorem q188 : (Jvm.Cond.fieldLink "DepthSorter" (72 : Nat) "DepthSorter" "isDrawn" "Z") ∈ lw_all := lw_g (lw_at lw_m1 114 rfl) rfl
theorem q189 : (Jvm.Cond.fieldLink "DepthSorter" (76 : Nat) "DepthSorter" "isSeen" "Z") ∈ lw_all := lw_g (lw_at lw_m1 115 rfl) rfl
theorem q190 : (Jvm.Cond.fieldLink "DepthSorter" (31 : Nat) "DepthSorter" "behinds" "[I") ∈ lw_all := lw_g (lw_at lw_m1 116 rfl) rfl
theorem q191 : (Jvm.Cond.fieldLink "DepthSorter" (35 : Nat) "DepthSorter" "stepsTo" "[I") ∈ lw_all := lw_g (lw_at lw_m1 117 rfl) rfl
theorem q192 : (Jvm.Cond.fieldLink "DepthSorter" (41 : Nat) "DepthSorter" "undrawn" "Ljava/util/LinkedList;") ∈ lw_all := lw_g (lw_at lw_m1 118 rfl) rfl
theorem q193 : (Jvm.Cond.fieldLink "DepthSorter" (48 : Nat) "DepthSorter" "drawn" "Ljava/util/List;") ∈ lw_all := lw_g (lw_at lw_m1 119 rfl) rfl
theorem q194 : (Jvm.Cond.fieldLink "DepthSorter" (297 : Nat) "DepthSorter" "cutMany" "I") ∈ lw_all := lw_g (lw_at lw_m1 120 rfl) rfl
theorem q195 : (Jvm.Cond.fieldLink "DepthSorter" (300 : Nat) "DepthSorter" "isOverfull" "Z") ∈ lw_all := lw_g (lw_at lw_m1 121 rfl) rfl
theorem q196 : (Jvm.Cond.fieldLink "DepthSorter" (52 : Nat) "DepthSorter" "met" "[I") ∈ lw_all := lw_g (lw_at lw_m1 122 rfl) rfl
theorem q197 : (Jvm.Cond.fieldLink "DepthSorter" (55 : Nat) "DepthSorter" "seen" "[I") ∈ lw_all := lw_g (lw_at lw_m1 123 rfl) rfl
theorem q198 : (Jvm.Cond.fieldLink "DepthSorter" (58 : Nat) "DepthSorter" "covering" "[I") ∈ lw_all := lw_g (lw_at lw_m1 124 rfl) rfl
theorem q199 : (Jvm.Cond.fieldLink "DepthSorter" (61 : Nat) "DepthSorter" "faces" "[I") ∈ lw_all := lw_g (lw_at lw_m1 125 rfl) rfl
theorem q201 : (Jvm.Cond.fieldLink "DepthSorter" (64 : Nat) "DepthSorter" "text" "[B") ∈ lw_all := lw_g (lw_at lw_m1 127 rfl) rfl
theorem q203 : (Jvm.Cond.fieldLink "DepthSorter" (356 : Nat) "DepthSorter" "length" "I") ∈ lw_all := lw_g (lw_at lw_m1 129 rfl) rfl
theorem q204 : (Jvm.Cond.lays "DepthSorter" "DepthSorter" "boxes" "[LDepthSorter$Box;") ∈ lw_all := lw_g (lw_at lw_m1 130 rfl) rfl
theorem q205 : (Jvm.Cond.soleField "DepthSorter" "boxes") ∈ lw_all := lw_g (lw_at lw_m1 131 rfl) rfl
theorem q206 : (Jvm.Cond.laysFinal "DepthSorter" "DepthSorter" "past" "[LDepthSorter$Space;") ∈ lw_all := lw_g (lw_at lw_m1 132 rfl) rfl
theorem q207 : (Jvm.Cond.soleField "DepthSorter" "past") ∈ lw_all := lw_g (lw_at lw_m1 133 rfl) rfl
theorem q208 : (Jvm.Cond.lays "DepthSorter" "DepthSorter" "pastMany" "I") ∈ lw_all := lw_g (lw_at lw_m1 134 rfl) rfl
theorem q209 : (Jvm.Cond.soleField "DepthSorter" "pastMany") ∈ lw_all := lw_g (lw_at lw_m1 135 rfl) rfl
theorem q210 : (Jvm.Cond.laysFinal "DepthSorter" "DepthSorter" "saved" "[LDepthSorter$Space;") ∈ lw_all := lw_g (lw_at lw_m1 136 rfl) rfl
theorem q211 : (Jvm.Cond.soleField "DepthSorter" "saved") ∈ lw_all := lw_g (lw_at lw_m1 137 rfl) rfl
theorem q212 : (Jvm.Cond.lays "DepthSorter" "DepthSorter" "isDrawn" "Z") ∈ lw_all := lw_g (lw_at lw_m1 138 rfl) rfl
theorem q213 : (Jvm.Cond.soleField "DepthSorter" "isDrawn") ∈ lw_all := lw_g (lw_at lw_m1 139 rfl) rfl
theorem q214 : (Jvm.Cond.lays "DepthSorter" "DepthSorter" "isSeen" "Z") ∈ lw_all := lw_g (lw_at lw_m1 140 rfl) rfl
theorem q215 : (Jvm.Cond.soleField "DepthSorter" "isSeen") ∈ lw_all := lw_g (lw_at lw_m1 141 rfl) rfl
theorem q216 : (Jvm.Cond.laysFinal "DepthSorter" "DepthSorter" "behinds" "[I") ∈ lw_all := lw_g (lw_at lw_m1 142 rfl) rfl
theorem q217 : (Jvm.Cond.soleField "DepthSorter" "behinds") ∈ lw_all := lw_g (lw_at lw_m1 143 rfl) rfl
theorem q218 : (Jvm.Cond.laysFinal "DepthSorter" "DepthSorter" "stepsTo" "[I") ∈ lw_all := lw_g (lw_at lw_m1 144 rfl) rfl
theorem q219 : (Jvm.Cond.soleField "DepthSorter" "stepsTo") ∈ lw_all := lw_g (lw_at lw_m1 145 rfl) rfl
theorem q220 : (Jvm.Cond.laysFinal "DepthSorter" "DepthSorter" "undrawn" "Ljava/util/LinkedList;") ∈ lw_all := lw_g (lw_at lw_m1 146 rfl) rfl
theorem q221 : (Jvm.Cond.soleField "DepthSorter" "undrawn") ∈ lw_all := lw_g (lw_at lw_m1 147 rfl) rfl
theorem q222 : (Jvm.Cond.laysFinal "DepthSorter" "DepthSorter" "drawn" "Ljava/util/List;") ∈ lw_all := lw_g (lw_at lw_m1 148 rfl) rfl
theorem q223 : (Jvm.Cond.soleField "DepthSorter" "drawn") ∈ lw_all := lw_g (lw_at lw_m1 149 rfl) rfl
theorem q224 : (Jvm.Cond.lays "DepthSorter" "DepthSorter" "cutMany" "I") ∈ lw_all := lw_g (lw_at lw_m1 150 rfl) rfl
theorem q225 : (Jvm.Cond.soleField "DepthSorter" "cutMany") ∈ lw_all := lw_g (lw_at lw_m1 151 rfl) rfl
theorem q226 : (Jvm.Cond.lays "DepthSorter" "DepthSorter" "isOverfull" "Z") ∈ lw_all := lw_g (lw_at lw_m1 152 rfl) rfl
theorem q227 : (Jvm.Cond.soleField "DepthSorter" "isOverfull") ∈ lw_all := lw_g (lw_at lw_m1 153 rfl) rfl
theorem q228 : (Jvm.Cond.laysFinal "DepthSorter" "DepthSorter" "met" "[I") ∈ lw_all := lw_g (lw_at lw_m1 154 rfl) rfl
theorem q229 : (Jvm.Cond.soleField "DepthSorter" "met") ∈ lw_all := lw_g (lw_at lw_m1 155 rfl) rfl
theorem q230 : (Jvm.Cond.laysFinal "DepthSorter" "DepthSorter" "seen" "[I") ∈ lw_all := lw_g (lw_at lw_m1 156 rfl) rfl
theorem q231 : (Jvm.Cond.soleField "DepthSorter" "seen") ∈ lw_all := lw_g (lw_at lw_m1 157 rfl) rfl
theorem q232 : (Jvm.Cond.laysFinal "DepthSorter" "DepthSorter" "covering" "[I") ∈ lw_all := lw_g (lw_at lw_m1 158 rfl) rfl
theorem q233 : (Jvm.Cond.soleField "DepthSorter" "covering") ∈ lw_all := lw_g (lw_at lw_m1 159 rfl) rfl
theorem q234 : (Jvm.Cond.laysFinal "DepthSorter" "DepthSorter" "faces" "[I") ∈ lw_all := lw_g (lw_at lw_m1 160 rfl) rfl
theorem q235 : (Jvm.Cond.soleField "DepthSorter" "faces") ∈ lw_all := lw_g (lw_at lw_m1 161 rfl) rfl
theorem q236 : (Jvm.Cond.laysFinal "DepthSorter" "DepthSorter" "text" "[B") ∈ lw_all := lw_g (lw_at lw_m1 162 rfl) rfl
theorem q237 : (Jvm.Cond.soleField "DepthSorter" "text") ∈ lw_all := lw_g (lw_at lw_m1 163 rfl) rfl
theorem q238 : (Jvm.Cond.lays "DepthSorter" "DepthSorter" "length" "I") ∈ lw_all := lw_g (lw_at lw_m1 164 rfl) rfl
theorem q239 : (Jvm.Cond.soleField "DepthSorter" "length") ∈ lw_all := lw_g (lw_at lw_m1 165 rfl) rfl
theorem q240 : (Jvm.Cond.superclass "DepthSorter" "java/lang/Object") ∈ lw_all := lw_g (lw_at lw_m1 166 rfl) rfl
theorem q243 : (Jvm.Cond.instanceMethod ({ cls := "DepthSorter", name := "add", desc := "(IIIIII)I" } : Jvm.MethodName)) ∈ lw_all := lw_g (lw_at lw_m1 169 rfl) rfl
theorem q244 : (Jvm.Cond.selects "DepthSorter" ({ cls := "DepthSorter", name := "add", desc := "(IIIIII)I" } : Jvm.MethodName) ({ cls := "DepthSorter", name := "add", desc := "(IIIIII)I" } : Jvm.MethodName)) ∈ lw_all := lw_g (lw_at lw_m1 170 rfl) rfl
theorem q245 : (Jvm.Cond.code ({ cls := "DepthSorter", name := "add", desc := "(IIIIII)I" } : Jvm.MethodName) prog_1_method_10_code (8 : Nat) (Option.some Jvm.ClassFile.FieldType.int)) ∈ lw_all := lw_g (lw_at lw_m1 171 rfl) rfl
theorem q246 : (Jvm.Cond.methodLink "DepthSorter" (107 : Nat) ({ cls := "DepthSorter", name := "isBox", desc := "([I)Z" } : Jvm.MethodName)) ∈ lw_all := lw_g (lw_at lw_m1 172 rfl) rfl
theorem q247 : (Jvm.Cond.static ({ cls := "DepthSorter", name := "isBox", desc := "([I)Z" } : Jvm.MethodName)) ∈ lw_all := lw_g (lw_at lw_m1 173 rfl) rfl
theorem q248 : (Jvm.Cond.code ({ cls := "DepthSorter", name := "isBox", desc := "([I)Z" } : Jvm.MethodName) prog_1_method_2_code (1 : Nat) (Option.some Jvm.ClassFile.FieldType.boolean)) ∈ lw_all := lw_g (lw_at lw_m1 174 rfl) rfl
theorem q250 : (Jvm.Cond.methodLink "DepthSorter" (3 : Nat) ({ cls := "DepthSorter$Box", name := "<init>", desc := "(I[I)V" } : Jvm.MethodName)) ∈ lw_all := lw_g (lw_at lw_m1 176 rfl) rfl
theorem q255 : (Jvm.Cond.fieldLinkNest "DepthSorter" (100 : Nat) "DepthSorter$Box" "number" "I" "DepthSorter") ∈ lw_tbl := lw_at lw_m1 181 rfl
theorem q257 : (Jvm.Cond.fieldLinkNest "DepthSorter" (276 : Nat) "DepthSorter$Box" "low" "[I" "DepthSorter") ∈ lw_tbl := lw_at lw_m1 183 rfl
theorem q259 : (Jvm.Cond.fieldLinkNest "DepthSorter" (279 : Nat) "DepthSorter$Box" "high" "[I" "DepthSorter") ∈ lw_tbl := lw_at lw_m1 185 rfl
theorem q267 : (Jvm.Cond.methodLink "DepthSorter" (7 : Nat) ({ cls := "DepthSorter$Box", name := "isPossible", desc := "()Z" } : Jvm.MethodName)) ∈ lw_all := lw_g (lw_at lw_m1 193 rfl) rfl
theorem q271 : (Jvm.Cond.methodLink "DepthSorter" (111 : Nat) ({ cls := "DepthSorter", name := "freeNumber", desc := "()I" } : Jvm.MethodName)) ∈ lw_all := lw_g (lw_at lw_m1 197 rfl) rfl
theorem q272 : (Jvm.Cond.privateMethod ({ cls := "DepthSorter", name := "freeNumber", desc := "()I" } : Jvm.MethodName)) ∈ lw_tbl := lw_at lw_m1 198 rfl
theorem q273 : (Jvm.Cond.instanceMethod ({ cls := "DepthSorter", name := "freeNumber", desc := "()I" } : Jvm.MethodName)) ∈ lw_all := lw_g (lw_at lw_m1 199 rfl) rfl
theorem q274 : (Jvm.Cond.code ({ cls := "DepthSorter", name := "freeNumber", desc := "()I" } : Jvm.MethodName) prog_1_method_8_code (2 : Nat) (Option.some Jvm.ClassFile.FieldType.int)) ∈ lw_all := lw_g (lw_at lw_m1 200 rfl) rfl
theorem q275 : (Jvm.Cond.methodLink "DepthSorter" (115 : Nat) ({ cls := "DepthSorter", name := "metBy", desc := "(LDepthSorter$Box;)I" } : Jvm.MethodName)) ∈ lw_all := lw_g (lw_at lw_m1 201 rfl) rfl
theorem q276 : (Jvm.Cond.privateMethod ({ cls := "DepthSorter", name := "metBy", desc := "(LDepthSorter$Box;)I" } : Jvm.MethodName)) ∈ lw_tbl := lw_at lw_m1 202 rfl
theorem q277 : (Jvm.Cond.instanceMethod ({ cls := "DepthSorter", name := "metBy", desc := "(LDepthSorter$Box;)I" } : Jvm.MethodName)) ∈ lw_all := lw_g (lw_at lw_m1 203 rfl) rfl
theorem q278 : (Jvm.Cond.code ({ cls := "DepthSorter", name := "metBy", desc := "(LDepthSorter$Box;)I" } : Jvm.MethodName) prog_1_method_9_code (6 : Nat) (Option.some Jvm.ClassFile.FieldType.int)) ∈ lw_all := lw_g (lw_at lw_m1 204 rfl) rfl
theorem q279 : (Jvm.Cond.methodLink "DepthSorter" (103 : Nat) ({ cls := "DepthSorter$Box", name := "meets", desc := "(LDepthSorter$Box;)Z" } : Jvm.MethodName)) ∈ lw_all := lw_g (lw_at lw_m1 205 rfl) rfl
theorem q287 : (Jvm.Cond.methodLink "DepthSorter" (119 : Nat) ({ cls := "DepthSorter", name := "remember", desc := "()V" } : Jvm.MethodName)) ∈ lw_all := lw_g (lw_at lw_m1 213 rfl) rfl
theorem q288 : (Jvm.Cond.privateMethod ({ cls := "DepthSorter", name := "remember", desc := "()V" } : Jvm.MethodName)) ∈ lw_tbl := lw_at lw_m1 214 rfl
theorem q289 : (Jvm.Cond.instanceMethod ({ cls := "DepthSorter", name := "remember", desc := "()V" } : Jvm.MethodName)) ∈ lw_all := lw_g (lw_at lw_m1 215 rfl) rfl
theorem q290 : (Jvm.Cond.code ({ cls := "DepthSorter", name := "remember", desc := "()V" } : Jvm.MethodName) prog_1_method_6_code (1 : Nat) (Option.none : Option Jvm.ClassFile.FieldType)) ∈ lw_all := lw_g (lw_at lw_m1 216 rfl) rfl
theorem q291 : (Jvm.Cond.methodLink "DepthSorter" (83 : Nat) ({ cls := "java/lang/System", name := "arraycopy", desc := "(Ljava/lang/Object;ILjava/lang/Object;II)V" } : Jvm.MethodName)) ∈ lw_all := lw_g (lw_at lw_m1 217 rfl) rfl
theorem q295 : (Jvm.Cond.methodLink "DepthSorter" (89 : Nat) ({ cls := "DepthSorter$Space", name := "<init>", desc := "([LDepthSorter$Box;)V" } : Jvm.MethodName)) ∈ lw_all := lw_g (lw_at lw_m1 221 rfl) rfl
theorem q300 : (Jvm.Cond.fieldLinkNest "DepthSorter" (157 : Nat) "DepthSorter$Space" "boxes" "[LDepthSorter$Box;" "DepthSorter") ∈ lw_tbl := lw_at lw_m1 226 rfl
theorem q304 : (Jvm.Cond.methodLink "DepthSorter" (92 : Nat) ({ cls := "[LDepthSorter$Box;", name := "clone", desc := "()Ljava/lang/Object;" } : Jvm.MethodName)) ∈ lw_all := lw_g (lw_at lw_m1 230 rfl) rfl
theorem q310 : (Jvm.Cond.classLink "DepthSorter" (93 : Nat) "[LDepthSorter$Box;") ∈ lw_all := lw_g (lw_at lw_m1 236 rfl) rfl
theorem q311 : (Jvm.Cond.methodLink "DepthSorter" (97 : Nat) ({ cls := "DepthSorter", name := "become", desc := "([LDepthSorter$Box;)V" } : Jvm.MethodName)) ∈ lw_all := lw_g (lw_at lw_m1 237 rfl) rfl
theorem q312 : (Jvm.Cond.privateMethod ({ cls := "DepthSorter", name := "become", desc := "([LDepthSorter$Box;)V" } : Jvm.MethodName)) ∈ lw_tbl := lw_at lw_m1 238 rfl
theorem q313 : (Jvm.Cond.instanceMethod ({ cls := "DepthSorter", name := "become", desc := "([LDepthSorter$Box;)V" } : Jvm.MethodName)) ∈ lw_all := lw_g (lw_at lw_m1 239 rfl) rfl
theorem q314 : (Jvm.Cond.code ({ cls := "DepthSorter", name := "become", desc := "([LDepthSorter$Box;)V" } : Jvm.MethodName) prog_1_method_5_code (2 : Nat) (Option.none : Option Jvm.ClassFile.FieldType)) ∈ lw_all := lw_g (lw_at lw_m2 0 rfl) rfl
theorem q316 : (Jvm.Cond.instanceMethod ({ cls := "DepthSorter", name := "remove", desc := "(I)I" } : Jvm.MethodName)) ∈ lw_all := lw_g (lw_at lw_m2 2 rfl) rfl
theorem q317 : (Jvm.Cond.selects "DepthSorter" ({ cls := "DepthSorter", name := "remove", desc := "(I)I" } : Jvm.MethodName) ({ cls := "DepthSorter", name := "remove", desc := "(I)I" } : Jvm.MethodName)) ∈ lw_all := lw_g (lw_at lw_m2 3 rfl) rfl
theorem q318 : (Jvm.Cond.code ({ cls := "DepthSorter", name := "remove", desc := "(I)I" } : Jvm.MethodName) prog_1_method_11_code (2 : Nat) (Option.some Jvm.ClassFile.FieldType.int)) ∈ lw_all := lw_g (lw_at lw_m2 4 rfl) rfl
theorem q319 : (Jvm.Cond.methodLink "DepthSorter" (122 : Nat) ({ cls := "DepthSorter", name := "isThere", desc := "(I)Z" } : Jvm.MethodName)) ∈ lw_all := lw_g (lw_at lw_m2 5 rfl) rfl
theorem q320 : (Jvm.Cond.privateMethod ({ cls := "DepthSorter", name := "isThere", desc := "(I)Z" } : Jvm.MethodName)) ∈ lw_tbl := lw_at lw_m2 6 rfl
theorem q321 : (Jvm.Cond.instanceMethod ({ cls := "DepthSorter", name := "isThere", desc := "(I)Z" } : Jvm.MethodName)) ∈ lw_all := lw_g (lw_at lw_m2 7 rfl) rfl
theorem q322 : (Jvm.Cond.code ({ cls := "DepthSorter", name := "isThere", desc := "(I)Z" } : Jvm.MethodName) prog_1_method_4_code (2 : Nat) (Option.some Jvm.ClassFile.FieldType.boolean)) ∈ lw_all := lw_g (lw_at lw_m2 8 rfl) rfl
theorem q323 : (Jvm.Cond.methodLink "DepthSorter" (68 : Nat) ({ cls := "DepthSorter", name := "isIn", desc := "(III)Z" } : Jvm.MethodName)) ∈ lw_all := lw_g (lw_at lw_m2 9 rfl) rfl
theorem q324 : (Jvm.Cond.static ({ cls := "DepthSorter", name := "isIn", desc := "(III)Z" } : Jvm.MethodName)) ∈ lw_all := lw_g (lw_at lw_m2 10 rfl) rfl
theorem q325 : (Jvm.Cond.code ({ cls := "DepthSorter", name := "isIn", desc := "(III)Z" } : Jvm.MethodName) prog_1_method_1_code (3 : Nat) (Option.some Jvm.ClassFile.FieldType.boolean)) ∈ lw_all := lw_g (lw_at lw_m2 11 rfl) rfl
theorem q326 : (Jvm.Cond.methodLink "DepthSorter" (126 : Nat) ({ cls := "DepthSorter", name := "many", desc := "()I" } : Jvm.MethodName)) ∈ lw_all := lw_g (lw_at lw_m2 12 rfl) rfl
theorem q327 : (Jvm.Cond.privateMethod ({ cls := "DepthSorter", name := "many", desc := "()I" } : Jvm.MethodName)) ∈ lw_tbl := lw_at lw_m2 13 rfl
theorem q328 : (Jvm.Cond.instanceMethod ({ cls := "DepthSorter", name := "many", desc := "()I" } : Jvm.MethodName)) ∈ lw_all := lw_g (lw_at lw_m2 14 rfl) rfl
theorem q329 : (Jvm.Cond.code ({ cls := "DepthSorter", name := "many", desc := "()I" } : Jvm.MethodName) prog_1_method_7_code (6 : Nat) (Option.some Jvm.ClassFile.FieldType.int)) ∈ lw_all := lw_g (lw_at lw_m2 15 rfl) rfl
theorem q331 : (Jvm.Cond.instanceMethod ({ cls := "DepthSorter", name := "move", desc := "(IIII)I" } : Jvm.MethodName)) ∈ lw_all := lw_g (lw_at lw_m2 17 rfl) rfl
theorem q332 : (Jvm.Cond.selects "DepthSorter" ({ cls := "DepthSorter", name := "move", desc := "(IIII)I" } : Jvm.MethodName) ({ cls := "DepthSorter", name := "move", desc := "(IIII)I" } : Jvm.MethodName)) ∈ lw_all := lw_g (lw_at lw_m2 18 rfl) rfl
theorem q333 : (Jvm.Cond.code ({ cls := "DepthSorter", name := "move", desc := "(IIII)I" } : Jvm.MethodName) prog_1_method_13_code (7 : Nat) (Option.some Jvm.ClassFile.FieldType.int)) ∈ lw_all := lw_g (lw_at lw_m2 19 rfl) rfl
theorem q334 : (Jvm.Cond.methodLink "DepthSorter" (129 : Nat) ({ cls := "DepthSorter", name := "isStep", desc := "(I)Z" } : Jvm.MethodName)) ∈ lw_all := lw_g (lw_at lw_m2 20 rfl) rfl
theorem q335 : (Jvm.Cond.static ({ cls := "DepthSorter", name := "isStep", desc := "(I)Z" } : Jvm.MethodName)) ∈ lw_all := lw_g (lw_at lw_m2 21 rfl) rfl
theorem q336 : (Jvm.Cond.code ({ cls := "DepthSorter", name := "isStep", desc := "(I)Z" } : Jvm.MethodName) prog_1_method_12_code (1 : Nat) (Option.some Jvm.ClassFile.FieldType.boolean)) ∈ lw_all := lw_g (lw_at lw_m2 22 rfl) rfl
theorem q337 : (Jvm.Cond.methodLink "DepthSorter" (132 : Nat) ({ cls := "DepthSorter$Box", name := "moved", desc := "(III)LDepthSorter$Box;" } : Jvm.MethodName)) ∈ lw_all := lw_g (lw_at lw_m2 23 rfl) rfl
theorem q343 : (Jvm.Cond.methodLink "DepthSorter" (136 : Nat) ({ cls := "DepthSorter", name := "pairs", desc := "()I" } : Jvm.MethodName)) ∈ lw_all := lw_g (lw_at lw_m2 29 rfl) rfl
theorem q344 : (Jvm.Cond.instanceMethod ({ cls := "DepthSorter", name := "pairs", desc := "()I" } : Jvm.MethodName)) ∈ lw_all := lw_g (lw_at lw_m2 30 rfl) rfl
theorem q345 : (Jvm.Cond.selects "DepthSorter" ({ cls := "DepthSorter", name := "pairs", desc := "()I" } : Jvm.MethodName) ({ cls := "DepthSorter", name := "pairs", desc := "()I" } : Jvm.MethodName)) ∈ lw_all := lw_g (lw_at lw_m2 31 rfl) rfl
theorem q346 : (Jvm.Cond.code ({ cls := "DepthSorter", name := "pairs", desc := "()I" } : Jvm.MethodName) prog_1_method_25_code (3 : Nat) (Option.some Jvm.ClassFile.FieldType.int)) ∈ lw_all := lw_g (lw_at lw_m2 32 rfl) rfl
theorem q347 : (Jvm.Cond.methodLink "DepthSorter" (167 : Nat) ({ cls := "DepthSorter", name := "behindSet", desc := "(I)I" } : Jvm.MethodName)) ∈ lw_all := lw_g (lw_at lw_m2 33 rfl) rfl
theorem q348 : (Jvm.Cond.privateMethod ({ cls := "DepthSorter", name := "behindSet", desc := "(I)I" } : Jvm.MethodName)) ∈ lw_tbl := lw_at lw_m2 34 rfl
theorem q349 : (Jvm.Cond.instanceMethod ({ cls := "DepthSorter", name := "behindSet", desc := "(I)I" } : Jvm.MethodName)) ∈ lw_all := lw_g (lw_at lw_m2 35 rfl) rfl
theorem q350 : (Jvm.Cond.code ({ cls := "DepthSorter", name := "behindSet", desc := "(I)I" } : Jvm.MethodName) prog_1_method_23_code (4 : Nat) (Option.some Jvm.ClassFile.FieldType.int)) ∈ lw_all := lw_g (lw_at lw_m2 36 rfl) rfl
theorem q351 : (Jvm.Cond.methodLink "DepthSorter" (165 : Nat) ({ cls := "DepthSorter", name := "isBehind", desc := "(II)Z" } : Jvm.MethodName)) ∈ lw_all := lw_g (lw_at lw_m2 37 rfl) rfl
theorem q352 : (Jvm.Cond.privateMethod ({ cls := "DepthSorter", name := "isBehind", desc := "(II)Z" } : Jvm.MethodName)) ∈ lw_tbl := lw_at lw_m2 38 rfl
theorem q353 : (Jvm.Cond.instanceMethod ({ cls := "DepthSorter", name := "isBehind", desc := "(II)Z" } : Jvm.MethodName)) ∈ lw_all := lw_g (lw_at lw_m2 39 rfl) rfl
theorem q354 : (Jvm.Cond.code ({ cls := "DepthSorter", name := "isBehind", desc := "(II)Z" } : Jvm.MethodName) prog_1_method_21_code (3 : Nat) (Option.some Jvm.ClassFile.FieldType.boolean)) ∈ lw_all := lw_g (lw_at lw_m2 40 rfl) rfl
theorem q355 : (Jvm.Cond.methodLink "DepthSorter" (162 : Nat) ({ cls := "DepthSorter$Box", name := "isBehind", desc := "(LDepthSorter$Box;)Z" } : Jvm.MethodName)) ∈ lw_all := lw_g (lw_at lw_m2 41 rfl) rfl
theorem q367 : (Jvm.Cond.methodLink "DepthSorter" (170 : Nat) ({ cls := "java/lang/Integer", name := "bitCount", desc := "(I)I" } : Jvm.MethodName)) ∈ lw_all := lw_g (lw_at lw_m2 53 rfl) rfl
theorem q374 : (Jvm.Cond.instanceMethod ({ cls := "DepthSorter", name := "push", desc := "(III)I" } : Jvm.MethodName)) ∈ lw_all := lw_g (lw_at lw_m2 60 rfl) rfl
theorem q375 : (Jvm.Cond.selects "DepthSorter" ({ cls := "DepthSorter", name := "push", desc := "(III)I" } : Jvm.MethodName) ({ cls := "DepthSorter", name := "push", desc := "(III)I" } : Jvm.MethodName)) ∈ lw_all := lw_g (lw_at lw_m2 61 rfl) rfl
theorem q376 : (Jvm.Cond.code ({ cls := "DepthSorter", name := "push", desc := "(III)I" } : Jvm.MethodName) prog_1_method_14_code (6 : Nat) (Option.some Jvm.ClassFile.FieldType.int)) ∈ lw_all := lw_g (lw_at lw_m2 62 rfl) rfl
theorem q377 : (Jvm.Cond.methodLink "DepthSorter" (139 : Nat) ({ cls := "DepthSorter$Box", name := "movedAlong", desc := "(II)LDepthSorter$Box;" } : Jvm.MethodName)) ∈ lw_all := lw_g (lw_at lw_m2 63 rfl) rfl
theorem q383 : (Jvm.Cond.instanceMethod ({ cls := "DepthSorter", name := "turn", desc := "()I" } : Jvm.MethodName)) ∈ lw_all := lw_g (lw_at lw_m2 69 rfl) rfl
theorem q384 : (Jvm.Cond.selects "DepthSorter" ({ cls := "DepthSorter", name := "turn", desc := "()I" } : Jvm.MethodName) ({ cls := "DepthSorter", name := "turn", desc := "()I" } : Jvm.MethodName)) ∈ lw_all := lw_g (lw_at lw_m2 70 rfl) rfl
theorem q385 : (Jvm.Cond.code ({ cls := "DepthSorter", name := "turn", desc := "()I" } : Jvm.MethodName) prog_1_method_15_code (2 : Nat) (Option.some Jvm.ClassFile.FieldType.int)) ∈ lw_all := lw_g (lw_at lw_m2 71 rfl) rfl
theorem q386 : (Jvm.Cond.methodLink "DepthSorter" (143 : Nat) ({ cls := "DepthSorter$Box", name := "turned", desc := "()LDepthSorter$Box;" } : Jvm.MethodName)) ∈ lw_all := lw_g (lw_at lw_m2 72 rfl) rfl
theorem q391 : (Jvm.Cond.instanceMethod ({ cls := "DepthSorter", name := "split", desc := "(III)I" } : Jvm.MethodName)) ∈ lw_all := lw_g (lw_at lw_m2 77 rfl) rfl
theorem q392 : (Jvm.Cond.selects "DepthSorter" ({ cls := "DepthSorter", name := "split", desc := "(III)I" } : Jvm.MethodName) ({ cls := "DepthSorter", name := "split", desc := "(III)I" } : Jvm.MethodName)) ∈ lw_all := lw_g (lw_at lw_m2 78 rfl) rfl
theorem q393 : (Jvm.Cond.code ({ cls := "DepthSorter", name := "split", desc := "(III)I" } : Jvm.MethodName) prog_1_method_16_code (6 : Nat) (Option.some Jvm.ClassFile.FieldType.int)) ∈ lw_all := lw_g (lw_at lw_m2 79 rfl) rfl
theorem q394 : (Jvm.Cond.methodLink "DepthSorter" (147 : Nat) ({ cls := "DepthSorter$Box", name := "isCutBy", desc := "(II)Z" } : Jvm.MethodName)) ∈ lw_all := lw_g (lw_at lw_m2 80 rfl) rfl
theorem q398 : (Jvm.Cond.methodLink "DepthSorter" (151 : Nat) ({ cls := "DepthSorter$Box", name := "lowerPart", desc := "(II)LDepthSorter$Box;" } : Jvm.MethodName)) ∈ lw_all := lw_g (lw_at lw_m2 84 rfl) rfl
theorem q410 : (Jvm.Cond.methodLink "DepthSorter" (154 : Nat) ({ cls := "DepthSorter$Box", name := "upperPart", desc := "(III)LDepthSorter$Box;" } : Jvm.MethodName)) ∈ lw_all := lw_g (lw_at lw_m2 96 rfl) rfl
theorem q415 : (Jvm.Cond.instanceMethod ({ cls := "DepthSorter", name := "undo", desc := "()I" } : Jvm.MethodName)) ∈ lw_all := lw_g (lw_at lw_m2 101 rfl) rfl
theorem q416 : (Jvm.Cond.selects "DepthSorter" ({ cls := "DepthSorter", name := "undo", desc := "()I" } : Jvm.MethodName) ({ cls := "DepthSorter", name := "undo", desc := "()I" } : Jvm.MethodName)) ∈ lw_all := lw_g (lw_at lw_m2 102 rfl) rfl
theorem q417 : (Jvm.Cond.code ({ cls := "DepthSorter", name := "undo", desc := "()I" } : Jvm.MethodName) prog_1_method_17_code (1 : Nat) (Option.some Jvm.ClassFile.FieldType.int)) ∈ lw_all := lw_g (lw_at lw_m2 103 rfl) rfl
theorem q419 : (Jvm.Cond.instanceMethod ({ cls := "DepthSorter", name := "boxes", desc := "()I" } : Jvm.MethodName)) ∈ lw_all := lw_g (lw_at lw_m2 105 rfl) rfl
theorem q420 : (Jvm.Cond.selects "DepthSorter" ({ cls := "DepthSorter", name := "boxes", desc := "()I" } : Jvm.MethodName) ({ cls := "DepthSorter", name := "boxes", desc := "()I" } : Jvm.MethodName)) ∈ lw_all := lw_g (lw_at lw_m2 106 rfl) rfl
theorem q421 : (Jvm.Cond.code ({ cls := "DepthSorter", name := "boxes", desc := "()I" } : Jvm.MethodName) prog_1_method_18_code (1 : Nat) (Option.some Jvm.ClassFile.FieldType.int)) ∈ lw_all := lw_g (lw_at lw_m2 107 rfl) rfl
theorem q423 : (Jvm.Cond.instanceMethod ({ cls := "DepthSorter", name := "coordinate", desc := "(II)I" } : Jvm.MethodName)) ∈ lw_all := lw_g (lw_at lw_m2 109 rfl) rfl
theorem q424 : (Jvm.Cond.selects "DepthSorter" ({ cls := "DepthSorter", name := "coordinate", desc := "(II)I" } : Jvm.MethodName) ({ cls := "DepthSorter", name := "coordinate", desc := "(II)I" } : Jvm.MethodName)) ∈ lw_all := lw_g (lw_at lw_m2 110 rfl) rfl
theorem q425 : (Jvm.Cond.code ({ cls := "DepthSorter", name := "coordinate", desc := "(II)I" } : Jvm.MethodName) prog_1_method_19_code (3 : Nat) (Option.some Jvm.ClassFile.FieldType.int)) ∈ lw_all := lw_g (lw_at lw_m2 111 rfl) rfl
theorem q426 : (Jvm.Cond.methodLink "DepthSorter" (158 : Nat) ({ cls := "DepthSorter$Box", name := "corner", desc := "(I)I" } : Jvm.MethodName)) ∈ lw_all := lw_g (lw_at lw_m2 112 rfl) rfl
theorem q431 : (Jvm.Cond.instanceMethod ({ cls := "DepthSorter", name := "met", desc := "(IIIIII)I" } : Jvm.MethodName)) ∈ lw_all := lw_g (lw_at lw_m2 117 rfl) rfl
theorem q432 : (Jvm.Cond.selects "DepthSorter" ({ cls := "DepthSorter", name := "met", desc := "(IIIIII)I" } : Jvm.MethodName) ({ cls := "DepthSorter", name := "met", desc := "(IIIIII)I" } : Jvm.MethodName)) ∈ lw_all := lw_g (lw_at lw_m2 118 rfl) rfl
theorem q433 : (Jvm.Cond.code ({ cls := "DepthSorter", name := "met", desc := "(IIIIII)I" } : Jvm.MethodName) prog_1_method_20_code (7 : Nat) (Option.some Jvm.ClassFile.FieldType.int)) ∈ lw_all := lw_g (lw_at lw_m2 119 rfl) rfl
theorem q435 : (Jvm.Cond.instanceMethod ({ cls := "DepthSorter", name := "compare", desc := "(II)I" } : Jvm.MethodName)) ∈ lw_all := lw_g (lw_at lw_m2 121 rfl) rfl
theorem q436 : (Jvm.Cond.selects "DepthSorter" ({ cls := "DepthSorter", name := "compare", desc := "(II)I" } : Jvm.MethodName) ({ cls := "DepthSorter", name := "compare", desc := "(II)I" } : Jvm.MethodName)) ∈ lw_all := lw_g (lw_at lw_m2 122 rfl) rfl
theorem q437 : (Jvm.Cond.code ({ cls := "DepthSorter", name := "compare", desc := "(II)I" } : Jvm.MethodName) prog_1_method_22_code (3 : Nat) (Option.some Jvm.ClassFile.FieldType.int)) ∈ lw_all := lw_g (lw_at lw_m2 123 rfl) rfl
theorem q439 : (Jvm.Cond.instanceMethod ({ cls := "DepthSorter", name := "behind", desc := "(I)I" } : Jvm.MethodName)) ∈ lw_all := lw_g (lw_at lw_m2 125 rfl) rfl
theorem q440 : (Jvm.Cond.selects "DepthSorter" ({ cls := "DepthSorter", name := "behind", desc := "(I)I" } : Jvm.MethodName) ({ cls := "DepthSorter", name := "behind", desc := "(I)I" } : Jvm.MethodName)) ∈ lw_all := lw_g (lw_at lw_m2 126 rfl) rfl
theorem q441 : (Jvm.Cond.code ({ cls := "DepthSorter", name := "behind", desc := "(I)I" } : Jvm.MethodName) prog_1_method_24_code (2 : Nat) (Option.some Jvm.ClassFile.FieldType.int)) ∈ lw_all := lw_g (lw_at lw_m2 127 rfl) rfl
theorem q444 : (Jvm.Cond.instanceMethod ({ cls := "DepthSorter", name := "touching", desc := "(II)I" } : Jvm.MethodName)) ∈ lw_all := lw_g (lw_at lw_m2 130 rfl) rfl
theorem q445 : (Jvm.Cond.selects "DepthSorter" ({ cls := "DepthSorter", name := "touching", desc := "(II)I" } : Jvm.MethodName) ({ cls := "DepthSorter", name := "touching", desc := "(II)I" } : Jvm.MethodName)) ∈ lw_all := lw_g (lw_at lw_m2 131 rfl) rfl
theorem q446 : (Jvm.Cond.code ({ cls := "DepthSorter", name := "touching", desc := "(II)I" } : Jvm.MethodName) prog_1_method_26_code (3 : Nat) (Option.some Jvm.ClassFile.FieldType.int)) ∈ lw_all := lw_g (lw_at lw_m2 132 rfl) rfl
theorem q447 : (Jvm.Cond.methodLink "DepthSorter" (175 : Nat) ({ cls := "DepthSorter$Box", name := "touchingAxis", desc := "(LDepthSorter$Box;)I" } : Jvm.MethodName)) ∈ lw_all := lw_g (lw_at lw_m2 133 rfl) rfl
theorem q452 : (Jvm.Cond.instanceMethod ({ cls := "DepthSorter", name := "cycle", desc := "(I)I" } : Jvm.MethodName)) ∈ lw_all := lw_g (lw_at lw_m2 138 rfl) rfl
theorem q453 : (Jvm.Cond.selects "DepthSorter" ({ cls := "DepthSorter", name := "cycle", desc := "(I)I" } : Jvm.MethodName) ({ cls := "DepthSorter", name := "cycle", desc := "(I)I" } : Jvm.MethodName)) ∈ lw_all := lw_g (lw_at lw_m2 139 rfl) rfl
theorem q454 : (Jvm.Cond.code ({ cls := "DepthSorter", name := "cycle", desc := "(I)I" } : Jvm.MethodName) prog_1_method_31_code (3 : Nat) (Option.some Jvm.ClassFile.FieldType.int)) ∈ lw_all := lw_g (lw_at lw_m2 140 rfl) rfl
theorem q455 : (Jvm.Cond.methodLink "DepthSorter" (211 : Nat) ({ cls := "DepthSorter", name := "shortestCycle", desc := "()Ljava/util/List;" } : Jvm.MethodName)) ∈ lw_all := lw_g (lw_at lw_m2 141 rfl) rfl
theorem q456 : (Jvm.Cond.privateMethod ({ cls := "DepthSorter", name := "shortestCycle", desc := "()Ljava/util/List;" } : Jvm.MethodName)) ∈ lw_tbl := lw_at lw_m2 142 rfl
theorem q457 : (Jvm.Cond.instanceMethod ({ cls := "DepthSorter", name := "shortestCycle", desc := "()Ljava/util/List;" } : Jvm.MethodName)) ∈ lw_all := lw_g (lw_at lw_m2 143 rfl) rfl
theorem q458 : (Jvm.Cond.code ({ cls := "DepthSorter", name := "shortestCycle", desc := "()Ljava/util/List;" } : Jvm.MethodName) prog_1_method_30_code (6 : Nat) (Option.some (Jvm.ClassFile.FieldType.object "java/util/List"))) ∈ lw_all := lw_g (lw_at lw_m2 144 rfl) rfl
theorem q459 : (Jvm.Cond.methodLink "DepthSorter" (198 : Nat) ({ cls := "DepthSorter", name := "layBehinds", desc := "()V" } : Jvm.MethodName)) ∈ lw_all := lw_g (lw_at lw_m2 145 rfl) rfl
theorem q460 : (Jvm.Cond.privateMethod ({ cls := "DepthSorter", name := "layBehinds", desc := "()V" } : Jvm.MethodName)) ∈ lw_tbl := lw_at lw_m2 146 rfl
theorem q461 : (Jvm.Cond.instanceMethod ({ cls := "DepthSorter", name := "layBehinds", desc := "()V" } : Jvm.MethodName)) ∈ lw_all := lw_g (lw_at lw_m2 147 rfl) rfl
theorem q462 : (Jvm.Cond.code ({ cls := "DepthSorter", name := "layBehinds", desc := "()V" } : Jvm.MethodName) prog_1_method_27_code (2 : Nat) (Option.none : Option Jvm.ClassFile.FieldType)) ∈ lw_all := lw_g (lw_at lw_m2 148 rfl) rfl
theorem q463 : (Jvm.Cond.methodLink "DepthSorter" (201 : Nat) ({ cls := "DepthSorter", name := "laySteps", desc := "(I)V" } : Jvm.MethodName)) ∈ lw_all := lw_g (lw_at lw_m2 149 rfl) rfl
theorem q464 : (Jvm.Cond.privateMethod ({ cls := "DepthSorter", name := "laySteps", desc := "(I)V" } : Jvm.MethodName)) ∈ lw_tbl := lw_at lw_m2 150 rfl
theorem q465 : (Jvm.Cond.instanceMethod ({ cls := "DepthSorter", name := "laySteps", desc := "(I)V" } : Jvm.MethodName)) ∈ lw_all := lw_g (lw_at lw_m2 151 rfl) rfl
theorem q466 : (Jvm.Cond.code ({ cls := "DepthSorter", name := "laySteps", desc := "(I)V" } : Jvm.MethodName) prog_1_method_28_code (5 : Nat) (Option.none : Option Jvm.ClassFile.FieldType)) ∈ lw_all := lw_g (lw_at lw_m2 152 rfl) rfl
theorem q467 : (Jvm.Cond.classLink "DepthSorter" (178 : Nat) "java/util/ArrayDeque") ∈ lw_all := lw_g (lw_at lw_m2 153 rfl) rfl
theorem q469 : (Jvm.Cond.methodLink "DepthSorter" (180 : Nat) ({ cls := "java/util/ArrayDeque", name := "<init>", desc := "()V" } : Jvm.MethodName)) ∈ lw_all := lw_g (lw_at lw_m2 155 rfl) rfl
theorem q487 : (Jvm.Cond.methodLink "DepthSorter" (181 : Nat) ({ cls := "java/lang/Integer", name := "valueOf", desc := "(I)Ljava/lang/Integer;" } : Jvm.MethodName)) ∈ lw_all := lw_g (lw_at lw_m2 173 rfl) rfl
theorem q507 : (Jvm.Cond.methodLink "DepthSorter" (185 : Nat) ({ cls := "java/util/ArrayDeque", name := "add", desc := "(Ljava/lang/Object;)Z" } : Jvm.MethodName)) ∈ lw_all := lw_g (lw_at lw_m2 193 rfl) rfl
theorem q534 : (Jvm.Cond.selects "DepthSorter" ({ cls := "java/lang/Object", name := "getClass", desc := "()Ljava/lang/Class;" } : Jvm.MethodName) ({ cls := "java/lang/Object", name := "getClass", desc := "()Ljava/lang/Class;" } : Jvm.MethodName)) ∈ lw_all := lw_g (lw_at lw_m2 220 rfl) rfl
theorem q567 : (Jvm.Cond.methodLink "DepthSorter" (189 : Nat) ({ cls := "java/util/ArrayDeque", name := "isEmpty", desc := "()Z" } : Jvm.MethodName)) ∈ lw_all := lw_g (lw_at lw_m3 13 rfl) rfl
theorem q571 : (Jvm.Cond.methodLink "DepthSorter" (192 : Nat) ({ cls := "java/util/ArrayDeque", name := "poll", desc := "()Ljava/lang/Object;" } : Jvm.MethodName)) ∈ lw_all := lw_g (lw_at lw_m3 17 rfl) rfl
theorem q582 : (Jvm.Cond.classLink "DepthSorter" (171 : Nat) "java/lang/Integer") ∈ lw_all := lw_g (lw_at lw_m3 28 rfl) rfl
theorem q583 : (Jvm.Cond.methodLink "DepthSorter" (195 : Nat) ({ cls := "java/lang/Integer", name := "intValue", desc := "()I" } : Jvm.MethodName)) ∈ lw_all := lw_g (lw_at lw_m3 29 rfl) rfl
theorem q587 : (Jvm.Cond.methodLink "DepthSorter" (205 : Nat) ({ cls := "DepthSorter", name := "stepFrom", desc := "(I)I" } : Jvm.MethodName)) ∈ lw_all := lw_g (lw_at lw_m3 33 rfl) rfl
theorem q588 : (Jvm.Cond.privateMethod ({ cls := "DepthSorter", name := "stepFrom", desc := "(I)I" } : Jvm.MethodName)) ∈ lw_tbl := lw_at lw_m3 34 rfl
theorem q589 : (Jvm.Cond.instanceMethod ({ cls := "DepthSorter", name := "stepFrom", desc := "(I)I" } : Jvm.MethodName)) ∈ lw_all := lw_g (lw_at lw_m3 35 rfl) rfl
theorem q590 : (Jvm.Cond.code ({ cls := "DepthSorter", name := "stepFrom", desc := "(I)I" } : Jvm.MethodName) prog_1_method_29_code (5 : Nat) (Option.some Jvm.ClassFile.FieldType.int)) ∈ lw_all := lw_g (lw_at lw_m3 36 rfl) rfl
theorem q591 : (Jvm.Cond.interfaceEntry "DepthSorter" (208 : Nat)) ∈ lw_tbl := lw_at lw_m3 37 rfl
theorem q592 : (Jvm.Cond.methodLink "DepthSorter" (208 : Nat) ({ cls := "java/util/List", name := "add", desc := "(Ljava/lang/Object;)Z" } : Jvm.MethodName)) ∈ lw_all := lw_g (lw_at lw_m3 38 rfl) rfl
theorem q657 : (Jvm.Cond.interfaceEntry "DepthSorter" (215 : Nat)) ∈ lw_tbl := lw_at lw_m3 103 rfl
theorem q658 : (Jvm.Cond.methodLink "DepthSorter" (215 : Nat) ({ cls := "java/util/List", name := "size", desc := "()I" } : Jvm.MethodName)) ∈ lw_all := lw_g (lw_at lw_m3 104 rfl) rfl
theorem q671 : (Jvm.Cond.interfaceEntry "DepthSorter" (218 : Nat)) ∈ lw_tbl := lw_at lw_m3 117 rfl
theorem q672 : (Jvm.Cond.methodLink "DepthSorter" (218 : Nat) ({ cls := "java/util/List", name := "get", desc := "(I)Ljava/lang/Object;" } : Jvm.MethodName)) ∈ lw_all := lw_g (lw_at lw_m3 118 rfl) rfl
theorem q708 : (Jvm.Cond.instanceMethod ({ cls := "DepthSorter", name := "level", desc := "(I)I" } : Jvm.MethodName)) ∈ lw_all := lw_g (lw_at lw_m3 154 rfl) rfl
theorem q709 : (Jvm.Cond.selects "DepthSorter" ({ cls := "DepthSorter", name := "level", desc := "(I)I" } : Jvm.MethodName) ({ cls := "DepthSorter", name := "level", desc := "(I)I" } : Jvm.MethodName)) ∈ lw_all := lw_g (lw_at lw_m3 155 rfl) rfl
theorem q710 : (Jvm.Cond.code ({ cls := "DepthSorter", name := "level", desc := "(I)I" } : Jvm.MethodName) prog_1_method_32_code (6 : Nat) (Option.some Jvm.ClassFile.FieldType.int)) ∈ lw_all := lw_g (lw_at lw_m3 156 rfl) rfl
theorem q711 : (Jvm.Cond.interfaceEntry "DepthSorter" (222 : Nat)) ∈ lw_tbl := lw_at lw_m3 157 rfl
theorem q712 : (Jvm.Cond.methodLink "DepthSorter" (222 : Nat) ({ cls := "java/util/List", name := "isEmpty", desc := "()Z" } : Jvm.MethodName)) ∈ lw_all := lw_g (lw_at lw_m3 158 rfl) rfl
theorem q736 : (Jvm.Cond.methodLink "DepthSorter" (223 : Nat) ({ cls := "java/lang/Math", name := "max", desc := "(II)I" } : Jvm.MethodName)) ∈ lw_all := lw_g (lw_at lw_m3 182 rfl) rfl
theorem q738 : (Jvm.Cond.instanceMethod ({ cls := "DepthSorter", name := "pieces", desc := "()I" } : Jvm.MethodName)) ∈ lw_all := lw_g (lw_at lw_m3 184 rfl) rfl
theorem q739 : (Jvm.Cond.selects "DepthSorter" ({ cls := "DepthSorter", name := "pieces", desc := "()I" } : Jvm.MethodName) ({ cls := "DepthSorter", name := "pieces", desc := "()I" } : Jvm.MethodName)) ∈ lw_all := lw_g (lw_at lw_m3 185 rfl) rfl
theorem q740 : (Jvm.Cond.code ({ cls := "DepthSorter", name := "pieces", desc := "()I" } : Jvm.MethodName) prog_1_method_40_code (1 : Nat) (Option.some Jvm.ClassFile.FieldType.int)) ∈ lw_all := lw_g (lw_at lw_m3 186 rfl) rfl
theorem q741 : (Jvm.Cond.methodLink "DepthSorter" (314 : Nat) ({ cls := "DepthSorter", name := "drawAll", desc := "()V" } : Jvm.MethodName)) ∈ lw_all := lw_g (lw_at lw_m3 187 rfl) rfl
theorem q742 : (Jvm.Cond.privateMethod ({ cls := "DepthSorter", name := "drawAll", desc := "()V" } : Jvm.MethodName)) ∈ lw_tbl := lw_at lw_m3 188 rfl
theorem q743 : (Jvm.Cond.instanceMethod ({ cls := "DepthSorter", name := "drawAll", desc := "()V" } : Jvm.MethodName)) ∈ lw_all := lw_g (lw_at lw_m3 189 rfl) rfl
theorem q744 : (Jvm.Cond.code ({ cls := "DepthSorter", name := "drawAll", desc := "()V" } : Jvm.MethodName) prog_1_method_39_code (5 : Nat) (Option.none : Option Jvm.ClassFile.FieldType)) ∈ lw_all := lw_g (lw_at lw_m3 190 rfl) rfl
theorem q745 : (Jvm.Cond.interfaceEntry "DepthSorter" (303 : Nat)) ∈ lw_tbl := lw_at lw_m3 191 rfl
theorem q746 : (Jvm.Cond.methodLink "DepthSorter" (303 : Nat) ({ cls := "java/util/List", name := "clear", desc := "()V" } : Jvm.MethodName)) ∈ lw_all := lw_g (lw_at lw_m3 192 rfl) rfl
theorem q759 : (Jvm.Cond.methodLink "DepthSorter" (306 : Nat) ({ cls := "java/util/LinkedList", name := "clear", desc := "()V" } : Jvm.MethodName)) ∈ lw_all := lw_g (lw_at lw_m3 205 rfl) rfl
theorem q760 : (Jvm.Cond.classLink "DepthSorter" (241 : Nat) "DepthSorter$Piece") ∈ lw_all := lw_g (lw_at lw_m3 206 rfl) rfl
theorem q762 : (Jvm.Cond.methodLink "DepthSorter" (289 : Nat) ({ cls := "java/util/LinkedList", name := "size", desc := "()I" } : Jvm.MethodName)) ∈ lw_all := lw_g (lw_at lw_m3 208 rfl) rfl
theorem q763 : (Jvm.Cond.methodLink "DepthSorter" (293 : Nat) ({ cls := "DepthSorter$Piece", name := "<init>", desc := "(IILDepthSorter$Box;)V" } : Jvm.MethodName)) ∈ lw_all := lw_g (lw_at lw_m3 209 rfl) rfl
theorem q768 : (Jvm.Cond.fieldLinkNest "DepthSorter" (260 : Nat) "DepthSorter$Piece" "number" "I" "DepthSorter") ∈ lw_tbl := lw_at lw_m3 214 rfl
theorem q770 : (Jvm.Cond.fieldLinkNest "DepthSorter" (290 : Nat) "DepthSorter$Piece" "box" "I" "DepthSorter") ∈ lw_tbl := lw_at lw_m3 216 rfl
theorem q772 : (Jvm.Cond.fieldLinkNest "DepthSorter" (243 : Nat) "DepthSorter$Piece" "part" "LDepthSorter$Box;" "DepthSorter") ∈ lw_tbl := lw_at lw_m3 218 rfl
theorem q780 : (Jvm.Cond.methodLink "DepthSorter" (296 : Nat) ({ cls := "java/util/LinkedList", name := "add", desc := "(Ljava/lang/Object;)Z" } : Jvm.MethodName)) ∈ lw_all := lw_g (lw_at lw_m3 226 rfl) rfl
theorem q781 : (Jvm.Cond.methodLink "DepthSorter" (307 : Nat) ({ cls := "java/util/LinkedList", name := "isEmpty", desc := "()Z" } : Jvm.MethodName)) ∈ lw_all := lw_g (lw_at lw_m3 227 rfl) rfl
theorem q785 : (Jvm.Cond.methodLink "DepthSorter" (308 : Nat) ({ cls := "DepthSorter", name := "drawsOne", desc := "()Z" } : Jvm.MethodName)) ∈ lw_all := lw_g (lw_at lw_m3 231 rfl) rfl
theorem q786 : (Jvm.Cond.privateMethod ({ cls := "DepthSorter", name := "drawsOne", desc := "()Z" } : Jvm.MethodName)) ∈ lw_tbl := lw_at lw_m3 232 rfl
theorem q787 : (Jvm.Cond.instanceMethod ({ cls := "DepthSorter", name := "drawsOne", desc := "()Z" } : Jvm.MethodName)) ∈ lw_all := lw_g (lw_at lw_m3 233 rfl) rfl
theorem q788 : (Jvm.Cond.code ({ cls := "DepthSorter", name := "drawsOne", desc := "()Z" } : Jvm.MethodName) prog_1_method_34_code (4 : Nat) (Option.some Jvm.ClassFile.FieldType.boolean)) ∈ lw_all := lw_g (lw_at lw_m3 234 rfl) rfl
theorem q789 : (Jvm.Cond.methodLink "DepthSorter" (229 : Nat) ({ cls := "java/util/LinkedList", name := "iterator", desc := "()Ljava/util/Iterator;" } : Jvm.MethodName)) ∈ lw_all := lw_g (lw_at lw_m3 235 rfl) rfl
theorem q873 : (Jvm.Cond.interfaceEntry "DepthSorter" (233 : Nat)) ∈ lw_tbl := lw_at lw_m4 79 rfl
theorem q874 : (Jvm.Cond.methodLink "DepthSorter" (233 : Nat) ({ cls := "java/util/Iterator", name := "hasNext", desc := "()Z" } : Jvm.MethodName)) ∈ lw_all := lw_g (lw_at lw_m4 80 rfl) rfl
theorem q905 : (Jvm.Cond.interfaceEntry "DepthSorter" (238 : Nat)) ∈ lw_tbl := lw_at lw_m4 111 rfl
theorem q906 : (Jvm.Cond.methodLink "DepthSorter" (238 : Nat) ({ cls := "java/util/Iterator", name := "next", desc := "()Ljava/lang/Object;" } : Jvm.MethodName)) ∈ lw_all := lw_g (lw_at lw_m4 112 rfl) rfl
theorem q1240 : (Jvm.Cond.methodLink "DepthSorter" (247 : Nat) ({ cls := "DepthSorter", name := "hasBehind", desc := "(LDepthSorter$Piece;)Z" } : Jvm.MethodName)) ∈ lw_all := lw_g (lw_at lw_m5 206 rfl) rfl
theorem q1241 : (Jvm.Cond.privateMethod ({ cls := "DepthSorter", name := "hasBehind", desc := "(LDepthSorter$Piece;)Z" } : Jvm.MethodName)) ∈ lw_tbl := lw_at lw_m5 207 rfl
theorem q1242 : (Jvm.Cond.instanceMethod ({ cls := "DepthSorter", name := "hasBehind", desc := "(LDepthSorter$Piece;)Z" } : Jvm.MethodName)) ∈ lw_all := lw_g (lw_at lw_m5 208 rfl) rfl
theorem q1243 : (Jvm.Cond.code ({ cls := "DepthSorter", name := "hasBehind", desc := "(LDepthSorter$Piece;)Z" } : Jvm.MethodName) prog_1_method_33_code (4 : Nat) (Option.some Jvm.ClassFile.FieldType.boolean)) ∈ lw_all := lw_g (lw_at lw_m5 209 rfl) rfl
theorem q1244 : (Jvm.Cond.interfaceEntry "DepthSorter" (251 : Nat)) ∈ lw_tbl := lw_at lw_m5 210 rfl
theorem q1245 : (Jvm.Cond.methodLink "DepthSorter" (251 : Nat) ({ cls := "java/util/Iterator", name := "remove", desc := "()V" } : Jvm.MethodName)) ∈ lw_all := lw_g (lw_at lw_m5 211 rfl) rfl
theorem q1339 : (Jvm.Cond.methodLink "DepthSorter" (311 : Nat) ({ cls := "DepthSorter", name := "cutCycle", desc := "()V" } : Jvm.MethodName)) ∈ lw_all := lw_g (lw_at lw_m6 65 rfl) rfl
theorem q1340 : (Jvm.Cond.privateMethod ({ cls := "DepthSorter", name := "cutCycle", desc := "()V" } : Jvm.MethodName)) ∈ lw_tbl := lw_at lw_m6 66 rfl
theorem q1341 : (Jvm.Cond.instanceMethod ({ cls := "DepthSorter", name := "cutCycle", desc := "()V" } : Jvm.MethodName)) ∈ lw_all := lw_g (lw_at lw_m6 67 rfl) rfl
theorem q1342 : (Jvm.Cond.code ({ cls := "DepthSorter", name := "cutCycle", desc := "()V" } : Jvm.MethodName) prog_1_method_38_code (6 : Nat) (Option.none : Option Jvm.ClassFile.FieldType)) ∈ lw_all := lw_g (lw_at lw_m6 68 rfl) rfl
theorem q1343 : (Jvm.Cond.methodLink "DepthSorter" (272 : Nat) ({ cls := "DepthSorter", name := "undrawnCycle", desc := "()Ljava/util/ArrayDeque;" } : Jvm.MethodName)) ∈ lw_all := lw_g (lw_at lw_m6 69 rfl) rfl
theorem q1344 : (Jvm.Cond.privateMethod ({ cls := "DepthSorter", name := "undrawnCycle", desc := "()Ljava/util/ArrayDeque;" } : Jvm.MethodName)) ∈ lw_tbl := lw_at lw_m6 70 rfl
theorem q1345 : (Jvm.Cond.instanceMethod ({ cls := "DepthSorter", name := "undrawnCycle", desc := "()Ljava/util/ArrayDeque;" } : Jvm.MethodName)) ∈ lw_all := lw_g (lw_at lw_m6 71 rfl) rfl
theorem q1346 : (Jvm.Cond.code ({ cls := "DepthSorter", name := "undrawnCycle", desc := "()Ljava/util/ArrayDeque;" } : Jvm.MethodName) prog_1_method_36_code (5 : Nat) (Option.some (Jvm.ClassFile.FieldType.object "java/util/ArrayDeque"))) ∈ lw_all := lw_g (lw_at lw_m6 72 rfl) rfl
theorem q1347 : (Jvm.Cond.classLink "DepthSorter" (254 : Nat) "java/util/BitSet") ∈ lw_all := lw_g (lw_at lw_m6 73 rfl) rfl
theorem q1349 : (Jvm.Cond.methodLink "DepthSorter" (256 : Nat) ({ cls := "java/util/BitSet", name := "<init>", desc := "()V" } : Jvm.MethodName)) ∈ lw_all := lw_g (lw_at lw_m6 75 rfl) rfl
theorem q1371 : (Jvm.Cond.methodLink "DepthSorter" (257 : Nat) ({ cls := "java/util/LinkedList", name := "getFirst", desc := "()Ljava/lang/Object;" } : Jvm.MethodName)) ∈ lw_all := lw_g (lw_at lw_m6 97 rfl) rfl
theorem q1375 : (Jvm.Cond.methodLink "DepthSorter" (261 : Nat) ({ cls := "java/util/BitSet", name := "get", desc := "(I)Z" } : Jvm.MethodName)) ∈ lw_all := lw_g (lw_at lw_m6 101 rfl) rfl
theorem q1385 : (Jvm.Cond.methodLink "DepthSorter" (263 : Nat) ({ cls := "java/util/BitSet", name := "set", desc := "(I)V" } : Jvm.MethodName)) ∈ lw_all := lw_g (lw_at lw_m6 111 rfl) rfl
theorem q1406 : (Jvm.Cond.methodLink "DepthSorter" (266 : Nat) ({ cls := "DepthSorter", name := "firstBehind", desc := "(LDepthSorter$Piece;)LDepthSorter$Piece;" } : Jvm.MethodName)) ∈ lw_all := lw_g (lw_at lw_m6 132 rfl) rfl
theorem q1407 : (Jvm.Cond.privateMethod ({ cls := "DepthSorter", name := "firstBehind", desc := "(LDepthSorter$Piece;)LDepthSorter$Piece;" } : Jvm.MethodName)) ∈ lw_tbl := lw_at lw_m6 133 rfl
theorem q1408 : (Jvm.Cond.instanceMethod ({ cls := "DepthSorter", name := "firstBehind", desc := "(LDepthSorter$Piece;)LDepthSorter$Piece;" } : Jvm.MethodName)) ∈ lw_all := lw_g (lw_at lw_m6 134 rfl) rfl
theorem q1409 : (Jvm.Cond.code ({ cls := "DepthSorter", name := "firstBehind", desc := "(LDepthSorter$Piece;)LDepthSorter$Piece;" } : Jvm.MethodName) prog_1_method_35_code (4 : Nat) (Option.some (Jvm.ClassFile.FieldType.object "DepthSorter$Piece"))) ∈ lw_all := lw_g (lw_at lw_m6 135 rfl) rfl
theorem q1410 : (Jvm.Cond.methodLink "DepthSorter" (270 : Nat) ({ cls := "java/util/ArrayDeque", name := "getFirst", desc := "()Ljava/lang/Object;" } : Jvm.MethodName)) ∈ lw_all := lw_g (lw_at lw_m6 136 rfl) rfl
theorem q1414 : (Jvm.Cond.methodLink "DepthSorter" (271 : Nat) ({ cls := "java/util/ArrayDeque", name := "iterator", desc := "()Ljava/util/Iterator;" } : Jvm.MethodName)) ∈ lw_all := lw_g (lw_at lw_m6 140 rfl) rfl
theorem q1438 : (Jvm.Cond.methodLink "DepthSorter" (282 : Nat) ({ cls := "java/util/BitSet", name := "nextSetBit", desc := "(I)I" } : Jvm.MethodName)) ∈ lw_all := lw_g (lw_at lw_m6 164 rfl) rfl
theorem q1450 : (Jvm.Cond.methodLink "DepthSorter" (285 : Nat) ({ cls := "DepthSorter", name := "lowestCut", desc := "(Ljava/util/ArrayDeque;II)LDepthSorter$Piece;" } : Jvm.MethodName)) ∈ lw_all := lw_g (lw_at lw_m6 176 rfl) rfl
theorem q1451 : (Jvm.Cond.static ({ cls := "DepthSorter", name := "lowestCut", desc := "(Ljava/util/ArrayDeque;II)LDepthSorter$Piece;" } : Jvm.MethodName)) ∈ lw_all := lw_g (lw_at lw_m6 177 rfl) rfl
theorem q1452 : (Jvm.Cond.code ({ cls := "DepthSorter", name := "lowestCut", desc := "(Ljava/util/ArrayDeque;II)LDepthSorter$Piece;" } : Jvm.MethodName) prog_1_method_37_code (6 : Nat) (Option.some (Jvm.ClassFile.FieldType.object "DepthSorter$Piece"))) ∈ lw_all := lw_g (lw_at lw_m6 178 rfl) rfl
theorem q1454 : (Jvm.Cond.instanceMethod ({ cls := "DepthSorter", name := "cuts", desc := "()I" } : Jvm.MethodName)) ∈ lw_all := lw_g (lw_at lw_m6 180 rfl) rfl
theorem q1455 : (Jvm.Cond.selects "DepthSorter" ({ cls := "DepthSorter", name := "cuts", desc := "()I" } : Jvm.MethodName) ({ cls := "DepthSorter", name := "cuts", desc := "()I" } : Jvm.MethodName)) ∈ lw_all := lw_g (lw_at lw_m6 181 rfl) rfl
theorem q1456 : (Jvm.Cond.code ({ cls := "DepthSorter", name := "cuts", desc := "()I" } : Jvm.MethodName) prog_1_method_41_code (1 : Nat) (Option.some Jvm.ClassFile.FieldType.int)) ∈ lw_all := lw_g (lw_at lw_m6 182 rfl) rfl
theorem q1458 : (Jvm.Cond.instanceMethod ({ cls := "DepthSorter", name := "piece", desc := "(II)I" } : Jvm.MethodName)) ∈ lw_all := lw_g (lw_at lw_m6 184 rfl) rfl
theorem q1459 : (Jvm.Cond.selects "DepthSorter" ({ cls := "DepthSorter", name := "piece", desc := "(II)I" } : Jvm.MethodName) ({ cls := "DepthSorter", name := "piece", desc := "(II)I" } : Jvm.MethodName)) ∈ lw_all := lw_g (lw_at lw_m6 185 rfl) rfl
theorem q1460 : (Jvm.Cond.code ({ cls := "DepthSorter", name := "piece", desc := "(II)I" } : Jvm.MethodName) prog_1_method_42_code (4 : Nat) (Option.some Jvm.ClassFile.FieldType.int)) ∈ lw_all := lw_g (lw_at lw_m6 186 rfl) rfl
theorem q1462 : (Jvm.Cond.instanceMethod ({ cls := "DepthSorter", name := "drawnLast", desc := "(III)I" } : Jvm.MethodName)) ∈ lw_all := lw_g (lw_at lw_m6 188 rfl) rfl
theorem q1463 : (Jvm.Cond.selects "DepthSorter" ({ cls := "DepthSorter", name := "drawnLast", desc := "(III)I" } : Jvm.MethodName) ({ cls := "DepthSorter", name := "drawnLast", desc := "(III)I" } : Jvm.MethodName)) ∈ lw_all := lw_g (lw_at lw_m6 189 rfl) rfl
theorem q1464 : (Jvm.Cond.code ({ cls := "DepthSorter", name := "drawnLast", desc := "(III)I" } : Jvm.MethodName) prog_1_method_44_code (6 : Nat) (Option.some Jvm.ClassFile.FieldType.int)) ∈ lw_all := lw_g (lw_at lw_m6 190 rfl) rfl
theorem q1465 : (Jvm.Cond.methodLink "DepthSorter" (317 : Nat) ({ cls := "DepthSorter", name := "isPoint", desc := "(III)Z" } : Jvm.MethodName)) ∈ lw_all := lw_g (lw_at lw_m6 191 rfl) rfl
theorem q1466 : (Jvm.Cond.static ({ cls := "DepthSorter", name := "isPoint", desc := "(III)Z" } : Jvm.MethodName)) ∈ lw_all := lw_g (lw_at lw_m6 192 rfl) rfl
theorem q1467 : (Jvm.Cond.code ({ cls := "DepthSorter", name := "isPoint", desc := "(III)Z" } : Jvm.MethodName) prog_1_method_43_code (3 : Nat) (Option.some Jvm.ClassFile.FieldType.boolean)) ∈ lw_all := lw_g (lw_at lw_m6 193 rfl) rfl
theorem q1468 : (Jvm.Cond.methodLink "DepthSorter" (320 : Nat) ({ cls := "DepthSorter$Box", name := "isMetBy", desc := "(III)Z" } : Jvm.MethodName)) ∈ lw_all := lw_g (lw_at lw_m6 194 rfl) rfl
theorem q1483 : (Jvm.Cond.instanceMethod ({ cls := "DepthSorter", name := "seen", desc := "(III)I" } : Jvm.MethodName)) ∈ lw_all := lw_g (lw_at lw_m6 209 rfl) rfl
theorem q1484 : (Jvm.Cond.selects "DepthSorter" ({ cls := "DepthSorter", name := "seen", desc := "(III)I" } : Jvm.MethodName) ({ cls := "DepthSorter", name := "seen", desc := "(III)I" } : Jvm.MethodName)) ∈ lw_all := lw_g (lw_at lw_m6 210 rfl) rfl
theorem q1485 : (Jvm.Cond.code ({ cls := "DepthSorter", name := "seen", desc := "(III)I" } : Jvm.MethodName) prog_1_method_46_code (4 : Nat) (Option.some Jvm.ClassFile.FieldType.int)) ∈ lw_all := lw_g (lw_at lw_m6 211 rfl) rfl
theorem q1486 : (Jvm.Cond.methodLink "DepthSorter" (327 : Nat) ({ cls := "DepthSorter", name := "seenAt", desc := "(III)I" } : Jvm.MethodName)) ∈ lw_all := lw_g (lw_at lw_m6 212 rfl) rfl
theorem q1487 : (Jvm.Cond.privateMethod ({ cls := "DepthSorter", name := "seenAt", desc := "(III)I" } : Jvm.MethodName)) ∈ lw_tbl := lw_at lw_m6 213 rfl
theorem q1488 : (Jvm.Cond.instanceMethod ({ cls := "DepthSorter", name := "seenAt", desc := "(III)I" } : Jvm.MethodName)) ∈ lw_all := lw_g (lw_at lw_m6 214 rfl) rfl
theorem q1489 : (Jvm.Cond.code ({ cls := "DepthSorter", name := "seenAt", desc := "(III)I" } : Jvm.MethodName) prog_1_method_45_code (8 : Nat) (Option.some Jvm.ClassFile.FieldType.int)) ∈ lw_all := lw_g (lw_at lw_m6 215 rfl) rfl
theorem q1490 : (Jvm.Cond.methodLink "DepthSorter" (323 : Nat) ({ cls := "DepthSorter$Box", name := "exit", desc := "(III)I" } : Jvm.MethodName)) ∈ lw_all := lw_g (lw_at lw_m6 216 rfl) rfl
theorem q1492 : (Jvm.Cond.instanceMethod ({ cls := "DepthSorter", name := "face", desc := "(III)I" } : Jvm.MethodName)) ∈ lw_all := lw_g (lw_at lw_m6 218 rfl) rfl
theorem q1493 : (Jvm.Cond.selects "DepthSorter" ({ cls := "DepthSorter", name := "face", desc := "(III)I" } : Jvm.MethodName) ({ cls := "DepthSorter", name := "face", desc := "(III)I" } : Jvm.MethodName)) ∈ lw_all := lw_g (lw_at lw_m6 219 rfl) rfl
theorem q1494 : (Jvm.Cond.code ({ cls := "DepthSorter", name := "face", desc := "(III)I" } : Jvm.MethodName) prog_1_method_48_code (4 : Nat) (Option.some Jvm.ClassFile.FieldType.int)) ∈ lw_all := lw_g (lw_at lw_m6 220 rfl) rfl
theorem q1495 : (Jvm.Cond.methodLink "DepthSorter" (333 : Nat) ({ cls := "DepthSorter", name := "faceAt", desc := "(III)I" } : Jvm.MethodName)) ∈ lw_all := lw_g (lw_at lw_m6 221 rfl) rfl
theorem q1496 : (Jvm.Cond.privateMethod ({ cls := "DepthSorter", name := "faceAt", desc := "(III)I" } : Jvm.MethodName)) ∈ lw_tbl := lw_at lw_m6 222 rfl
theorem q1497 : (Jvm.Cond.instanceMethod ({ cls := "DepthSorter", name := "faceAt", desc := "(III)I" } : Jvm.MethodName)) ∈ lw_all := lw_g (lw_at lw_m6 223 rfl) rfl
theorem q1498 : (Jvm.Cond.code ({ cls := "DepthSorter", name := "faceAt", desc := "(III)I" } : Jvm.MethodName) prog_1_method_47_code (5 : Nat) (Option.some Jvm.ClassFile.FieldType.int)) ∈ lw_all := lw_g (lw_at lw_m6 224 rfl) rfl
theorem q1499 : (Jvm.Cond.methodLink "DepthSorter" (330 : Nat) ({ cls := "DepthSorter$Box", name := "exitFace", desc := "(III)I" } : Jvm.MethodName)) ∈ lw_all := lw_g (lw_at lw_m6 225 rfl) rfl
theorem q1504 : (Jvm.Cond.instanceMethod ({ cls := "DepthSorter", name := "through", desc := "(IIII)I" } : Jvm.MethodName)) ∈ lw_all := lw_g (lw_at lw_m6 230 rfl) rfl
theorem q1505 : (Jvm.Cond.selects "DepthSorter" ({ cls := "DepthSorter", name := "through", desc := "(IIII)I" } : Jvm.MethodName) ({ cls := "DepthSorter", name := "through", desc := "(IIII)I" } : Jvm.MethodName)) ∈ lw_all := lw_g (lw_at lw_m6 231 rfl) rfl
theorem q1506 : (Jvm.Cond.code ({ cls := "DepthSorter", name := "through", desc := "(IIII)I" } : Jvm.MethodName) prog_1_method_49_code (13 : Nat) (Option.some Jvm.ClassFile.FieldType.int)) ∈ lw_all := lw_g (lw_at lw_m6 232 rfl) rfl
theorem q1507 : (Jvm.Cond.methodLink "DepthSorter" (336 : Nat) ({ cls := "java/util/LinkedList", name := "add", desc := "(ILjava/lang/Object;)V" } : Jvm.MethodName)) ∈ lw_all := lw_g (lw_at lw_m6 233 rfl) rfl
theorem q1515 : (Jvm.Cond.methodLink "DepthSorter" (339 : Nat) ({ cls := "java/util/LinkedList", name := "get", desc := "(I)Ljava/lang/Object;" } : Jvm.MethodName)) ∈ lw_all := lw_g (lw_at lw_m7 1 rfl) rfl
theorem q1517 : (Jvm.Cond.instanceMethod ({ cls := "DepthSorter", name := "area", desc := "(I)I" } : Jvm.MethodName)) ∈ lw_all := lw_g (lw_at lw_m7 3 rfl) rfl
theorem q1518 : (Jvm.Cond.selects "DepthSorter" ({ cls := "DepthSorter", name := "area", desc := "(I)I" } : Jvm.MethodName) ({ cls := "DepthSorter", name := "area", desc := "(I)I" } : Jvm.MethodName)) ∈ lw_all := lw_g (lw_at lw_m7 4 rfl) rfl
theorem q1519 : (Jvm.Cond.code ({ cls := "DepthSorter", name := "area", desc := "(I)I" } : Jvm.MethodName) prog_1_method_53_code (2 : Nat) (Option.some Jvm.ClassFile.FieldType.int)) ∈ lw_all := lw_g (lw_at lw_m7 5 rfl) rfl
theorem q1520 : (Jvm.Cond.methodLink "DepthSorter" (353 : Nat) ({ cls := "DepthSorter", name := "lookAll", desc := "()V" } : Jvm.MethodName)) ∈ lw_all := lw_g (lw_at lw_m7 6 rfl) rfl
theorem q1521 : (Jvm.Cond.privateMethod ({ cls := "DepthSorter", name := "lookAll", desc := "()V" } : Jvm.MethodName)) ∈ lw_tbl := lw_at lw_m7 7 rfl
theorem q1522 : (Jvm.Cond.instanceMethod ({ cls := "DepthSorter", name := "lookAll", desc := "()V" } : Jvm.MethodName)) ∈ lw_all := lw_g (lw_at lw_m7 8 rfl) rfl
theorem q1523 : (Jvm.Cond.code ({ cls := "DepthSorter", name := "lookAll", desc := "()V" } : Jvm.MethodName) prog_1_method_52_code (2 : Nat) (Option.none : Option Jvm.ClassFile.FieldType)) ∈ lw_all := lw_g (lw_at lw_m7 9 rfl) rfl
theorem q1524 : (Jvm.Cond.privateMethod ({ cls := "DepthSorter", name := "countPoint", desc := "(III)V" } : Jvm.MethodName)) ∈ lw_tbl := lw_at lw_m7 10 rfl
theorem q1525 : (Jvm.Cond.instanceMethod ({ cls := "DepthSorter", name := "countPoint", desc := "(III)V" } : Jvm.MethodName)) ∈ lw_all := lw_g (lw_at lw_m7 11 rfl) rfl
theorem q1526 : (Jvm.Cond.code ({ cls := "DepthSorter", name := "countPoint", desc := "(III)V" } : Jvm.MethodName) prog_1_method_51_code (6 : Nat) (Option.none : Option Jvm.ClassFile.FieldType)) ∈ lw_all := lw_g (lw_at lw_m7 12 rfl) rfl
theorem q1527 : (Jvm.Cond.methodLink "DepthSorter" (349 : Nat) ({ cls := "DepthSorter", name := "visitAll", desc := "(LDepthSorter$Visitor;)V" } : Jvm.MethodName)) ∈ lw_all := lw_g (lw_at lw_m7 13 rfl) rfl
theorem q1528 : (Jvm.Cond.privateMethod ({ cls := "DepthSorter", name := "visitAll", desc := "(LDepthSorter$Visitor;)V" } : Jvm.MethodName)) ∈ lw_tbl := lw_at lw_m7 14 rfl
theorem q1529 : (Jvm.Cond.instanceMethod ({ cls := "DepthSorter", name := "visitAll", desc := "(LDepthSorter$Visitor;)V" } : Jvm.MethodName)) ∈ lw_all := lw_g (lw_at lw_m7 15 rfl) rfl
theorem q1530 : (Jvm.Cond.code ({ cls := "DepthSorter", name := "visitAll", desc := "(LDepthSorter$Visitor;)V" } : Jvm.MethodName) prog_1_method_50_code (4 : Nat) (Option.none : Option Jvm.ClassFile.FieldType)) ∈ lw_all := lw_g (lw_at lw_m7 16 rfl) rfl
theorem q1531 : (Jvm.Cond.interfaceEntry "DepthSorter" (340 : Nat)) ∈ lw_tbl := lw_at lw_m7 17 rfl
theorem q1532 : (Jvm.Cond.methodLink "DepthSorter" (340 : Nat) ({ cls := "DepthSorter$Visitor", name := "visits", desc := "(III)V" } : Jvm.MethodName)) ∈ lw_all := lw_g (lw_at lw_m7 18 rfl) rfl
theorem q1536 : (Jvm.Cond.instanceMethod ({ cls := "DepthSorter", name := "seenArea", desc := "(I)I" } : Jvm.MethodName)) ∈ lw_all := lw_g (lw_at lw_m7 22 rfl) rfl
theorem q1537 : (Jvm.Cond.selects "DepthSorter" ({ cls := "DepthSorter", name := "seenArea", desc := "(I)I" } : Jvm.MethodName) ({ cls := "DepthSorter", name := "seenArea", desc := "(I)I" } : Jvm.MethodName)) ∈ lw_all := lw_g (lw_at lw_m7 23 rfl) rfl
theorem q1538 : (Jvm.Cond.code ({ cls := "DepthSorter", name := "seenArea", desc := "(I)I" } : Jvm.MethodName) prog_1_method_54_code (2 : Nat) (Option.some Jvm.ClassFile.FieldType.int)) ∈ lw_all := lw_g (lw_at lw_m7 24 rfl) rfl
theorem q1540 : (Jvm.Cond.instanceMethod ({ cls := "DepthSorter", name := "faceArea", desc := "(I)I" } : Jvm.MethodName)) ∈ lw_all := lw_g (lw_at lw_m7 26 rfl) rfl
theorem q1541 : (Jvm.Cond.selects "DepthSorter" ({ cls := "DepthSorter", name := "faceArea", desc := "(I)I" } : Jvm.MethodName) ({ cls := "DepthSorter", name := "faceArea", desc := "(I)I" } : Jvm.MethodName)) ∈ lw_all := lw_g (lw_at lw_m7 27 rfl) rfl
theorem q1542 : (Jvm.Cond.code ({ cls := "DepthSorter", name := "faceArea", desc := "(I)I" } : Jvm.MethodName) prog_1_method_55_code (2 : Nat) (Option.some Jvm.ClassFile.FieldType.int)) ∈ lw_all := lw_g (lw_at lw_m7 28 rfl) rfl
theorem q1544 : (Jvm.Cond.instanceMethod ({ cls := "DepthSorter", name := "pictureArea", desc := "()I" } : Jvm.MethodName)) ∈ lw_all := lw_g (lw_at lw_m7 30 rfl) rfl
theorem q1545 : (Jvm.Cond.selects "DepthSorter" ({ cls := "DepthSorter", name := "pictureArea", desc := "()I" } : Jvm.MethodName) ({ cls := "DepthSorter", name := "pictureArea", desc := "()I" } : Jvm.MethodName)) ∈ lw_all := lw_g (lw_at lw_m7 31 rfl) rfl
theorem q1546 : (Jvm.Cond.code ({ cls := "DepthSorter", name := "pictureArea", desc := "()I" } : Jvm.MethodName) prog_1_method_56_code (1 : Nat) (Option.some Jvm.ClassFile.FieldType.int)) ∈ lw_all := lw_g (lw_at lw_m7 32 rfl) rfl
theorem q1548 : (Jvm.Cond.instanceMethod ({ cls := "DepthSorter", name := "hiddenBoxes", desc := "()I" } : Jvm.MethodName)) ∈ lw_all := lw_g (lw_at lw_m7 34 rfl) rfl
theorem q1549 : (Jvm.Cond.selects "DepthSorter" ({ cls := "DepthSorter", name := "hiddenBoxes", desc := "()I" } : Jvm.MethodName) ({ cls := "DepthSorter", name := "hiddenBoxes", desc := "()I" } : Jvm.MethodName)) ∈ lw_all := lw_g (lw_at lw_m7 35 rfl) rfl
theorem q1550 : (Jvm.Cond.code ({ cls := "DepthSorter", name := "hiddenBoxes", desc := "()I" } : Jvm.MethodName) prog_1_method_57_code (3 : Nat) (Option.some Jvm.ClassFile.FieldType.int)) ∈ lw_all := lw_g (lw_at lw_m7 36 rfl) rfl
theorem q1552 : (Jvm.Cond.instanceMethod ({ cls := "DepthSorter", name := "greatestCover", desc := "(I)I" } : Jvm.MethodName)) ∈ lw_all := lw_g (lw_at lw_m7 38 rfl) rfl
theorem q1553 : (Jvm.Cond.selects "DepthSorter" ({ cls := "DepthSorter", name := "greatestCover", desc := "(I)I" } : Jvm.MethodName) ({ cls := "DepthSorter", name := "greatestCover", desc := "(I)I" } : Jvm.MethodName)) ∈ lw_all := lw_g (lw_at lw_m7 39 rfl) rfl
theorem q1554 : (Jvm.Cond.code ({ cls := "DepthSorter", name := "greatestCover", desc := "(I)I" } : Jvm.MethodName) prog_1_method_58_code (4 : Nat) (Option.some Jvm.ClassFile.FieldType.int)) ∈ lw_all := lw_g (lw_at lw_m7 40 rfl) rfl
theorem q1556 : (Jvm.Cond.instanceMethod ({ cls := "DepthSorter", name := "write", desc := "(I)I" } : Jvm.MethodName)) ∈ lw_all := lw_g (lw_at lw_m7 42 rfl) rfl
theorem q1557 : (Jvm.Cond.selects "DepthSorter" ({ cls := "DepthSorter", name := "write", desc := "(I)I" } : Jvm.MethodName) ({ cls := "DepthSorter", name := "write", desc := "(I)I" } : Jvm.MethodName)) ∈ lw_all := lw_g (lw_at lw_m7 43 rfl) rfl
theorem q1558 : (Jvm.Cond.code ({ cls := "DepthSorter", name := "write", desc := "(I)I" } : Jvm.MethodName) prog_1_method_59_code (2 : Nat) (Option.some Jvm.ClassFile.FieldType.int)) ∈ lw_all := lw_g (lw_at lw_m7 44 rfl) rfl
theorem q1560 : (Jvm.Cond.instanceMethod ({ cls := "DepthSorter", name := "wipe", desc := "()I" } : Jvm.MethodName)) ∈ lw_all := lw_g (lw_at lw_m7 46 rfl) rfl
theorem q1561 : (Jvm.Cond.selects "DepthSorter" ({ cls := "DepthSorter", name := "wipe", desc := "()I" } : Jvm.MethodName) ({ cls := "DepthSorter", name := "wipe", desc := "()I" } : Jvm.MethodName)) ∈ lw_all := lw_g (lw_at lw_m7 47 rfl) rfl
theorem q1562 : (Jvm.Cond.code ({ cls := "DepthSorter", name := "wipe", desc := "()I" } : Jvm.MethodName) prog_1_method_60_code (2 : Nat) (Option.some Jvm.ClassFile.FieldType.int)) ∈ lw_all := lw_g (lw_at lw_m7 48 rfl) rfl
theorem q1564 : (Jvm.Cond.instanceMethod ({ cls := "DepthSorter", name := "fault", desc := "()I" } : Jvm.MethodName)) ∈ lw_all := lw_g (lw_at lw_m7 50 rfl) rfl
theorem q1565 : (Jvm.Cond.selects "DepthSorter" ({ cls := "DepthSorter", name := "fault", desc := "()I" } : Jvm.MethodName) ({ cls := "DepthSorter", name := "fault", desc := "()I" } : Jvm.MethodName)) ∈ lw_all := lw_g (lw_at lw_m7 51 rfl) rfl
theorem q1566 : (Jvm.Cond.codeWith ({ cls := "DepthSorter", name := "fault", desc := "()I" } : Jvm.MethodName) prog_1_method_61_code (2 : Nat) (Option.some Jvm.ClassFile.FieldType.int) [((0 : Nat), (14 : Nat), (15 : Nat), (368 : Nat))]) ∈ lw_all := lw_g (lw_at lw_m7 52 rfl) rfl
theorem q1567 : (Jvm.Cond.classLink "DepthSorter" (368 : Nat) "DepthSorter$Fault") ∈ lw_all := lw_g (lw_at lw_m7 53 rfl) rfl
theorem q1568 : (Jvm.Cond.classLink "DepthSorter" (359 : Nat) "DepthSorter$Reader") ∈ lw_all := lw_g (lw_at lw_m7 54 rfl) rfl
theorem q1570 : (Jvm.Cond.methodLinkNest "DepthSorter" (361 : Nat) ({ cls := "DepthSorter$Reader", name := "<init>", desc := "(LDepthSorter;)V" } : Jvm.MethodName) "DepthSorter") ∈ lw_tbl := lw_at lw_m7 56 rfl
theorem q1591 : (Jvm.Cond.methodLink "DepthSorter" (364 : Nat) ({ cls := "DepthSorter$Reader", name := "readAll", desc := "()[LDepthSorter$Box;" } : Jvm.MethodName)) ∈ lw_all := lw_g (lw_at lw_m7 77 rfl) rfl
theorem q1619 : (Jvm.Cond.fieldLinkNest "DepthSorter" (370 : Nat) "DepthSorter$Fault" "place" "I" "DepthSorter") ∈ lw_tbl := lw_at lw_m7 105 rfl
theorem q1644 : (Jvm.Cond.instanceMethod ({ cls := "DepthSorter", name := "load", desc := "()I" } : Jvm.MethodName)) ∈ lw_all := lw_g (lw_at lw_m7 130 rfl) rfl
theorem q1645 : (Jvm.Cond.selects "DepthSorter" ({ cls := "DepthSorter", name := "load", desc := "()I" } : Jvm.MethodName) ({ cls := "DepthSorter", name := "load", desc := "()I" } : Jvm.MethodName)) ∈ lw_all := lw_g (lw_at lw_m7 131 rfl) rfl
theorem q1646 : (Jvm.Cond.codeWith ({ cls := "DepthSorter", name := "load", desc := "()I" } : Jvm.MethodName) prog_1_method_62_code (3 : Nat) (Option.some Jvm.ClassFile.FieldType.int) [((0 : Nat), (12 : Nat), (15 : Nat), (368 : Nat))]) ∈ lw_all := lw_g (lw_at lw_m7 132 rfl) rfl
theorem q1648 : (Jvm.Cond.instanceMethod ({ cls := "DepthSorter", name := "save", desc := "(I)I" } : Jvm.MethodName)) ∈ lw_all := lw_g (lw_at lw_m7 134 rfl) rfl
theorem q1649 : (Jvm.Cond.selects "DepthSorter" ({ cls := "DepthSorter", name := "save", desc := "(I)I" } : Jvm.MethodName) ({ cls := "DepthSorter", name := "save", desc := "(I)I" } : Jvm.MethodName)) ∈ lw_all := lw_g (lw_at lw_m7 135 rfl) rfl
theorem q1650 : (Jvm.Cond.code ({ cls := "DepthSorter", name := "save", desc := "(I)I" } : Jvm.MethodName) prog_1_method_63_code (2 : Nat) (Option.some Jvm.ClassFile.FieldType.int)) ∈ lw_all := lw_g (lw_at lw_m7 136 rfl) rfl
theorem q1652 : (Jvm.Cond.instanceMethod ({ cls := "DepthSorter", name := "restore", desc := "(I)I" } : Jvm.MethodName)) ∈ lw_all := lw_g (lw_at lw_m7 138 rfl) rfl
theorem q1653 : (Jvm.Cond.selects "DepthSorter" ({ cls := "DepthSorter", name := "restore", desc := "(I)I" } : Jvm.MethodName) ({ cls := "DepthSorter", name := "restore", desc := "(I)I" } : Jvm.MethodName)) ∈ lw_all := lw_g (lw_at lw_m7 139 rfl) rfl
theorem q1654 : (Jvm.Cond.code ({ cls := "DepthSorter", name := "restore", desc := "(I)I" } : Jvm.MethodName) prog_1_method_64_code (2 : Nat) (Option.some Jvm.ClassFile.FieldType.int)) ∈ lw_all := lw_g (lw_at lw_m7 140 rfl) rfl
theorem q2038 : (Jvm.Cond.castable "DepthSorter" "java/lang/Object") ∈ lw_tbl := lw_at lw_m9 44 rfl
theorem in_X0 : ∀ w ∈ wsX00, w ∈ lw_all := lw_in wsX00 [204, 206, 208, 210, 212, 214, 216, 218, 220, 222, 224, 226, 228, 230, 232, 234, 236, 238] (by decide +kernel) (by decide +kernel)
/-! DepthSorter$Box -/
set_option maxRecDepth 100000
def RX2 : String := "DepthSorter$Box"
def TX2 : u_T := fun k => match k with
  | 0 => ("DepthSorter$Box", "number", "I", true)
  | 1 => ("DepthSorter$Box", "low", "[I", true)
  | _ => ("DepthSorter$Box", "high", "[I", true)
def tyX2 : Nat → FieldType := fun k => match k with
  | 0 => .int
  | 1 => .array .int
  | _ => .array .int
abbrev wsX20 : List Cond := u_ws RX2 TX2 3
theorem nmX2 : ∀ a, a < 3 → ∀ b, b < 3 → a ≠ b → (TX2 a).2.1 ≠ (TX2 b).2.1 := by decide +kernel
theorem tyX2_ok : ∀ k, k < 3 → parseFieldDescriptor (TX2 k).2.2.1 = some (tyX2 k) := by decide +kernel
abbrev cX2_init : ByteArray := prog_2_method_1_code
def yX2_init : MethodName := ⟨RX2, "<init>", "(I[I)V"⟩
def dkwX2_init_2 : List UInt8 := [46, 79, 89, 5, 44, 8, 46, 79, 181, 0, 19, 177]
abbrev dktX2_init_2 : List UInt8 := dkwX2_init_2 ++ []
def dkwX2_init_1 : List UInt8 := [79, 89, 5, 44, 5, 46, 79, 181, 0, 15, 42, 6, 188, 10, 89, 3, 44, 6, 46, 79, 89, 4, 44, 7]
abbrev dktX2_init_1 : List UInt8 := dkwX2_init_1 ++ dktX2_init_2
def dkwX2_init_0 : List UInt8 := [42, 183, 0, 3, 42, 27, 181, 0, 9, 42, 6, 188, 10, 89, 3, 44, 3, 46, 79, 89, 4, 44, 4, 46]
abbrev dktX2_init_0 : List UInt8 := dkwX2_init_0 ++ dktX2_init_1
theorem dksX2_init_0 : cX2_init.data.toList.drop 0 = dktX2_init_0 := by decide +kernel
theorem dksX2_init_1 : cX2_init.data.toList.drop 24 = dktX2_init_1 := dk_seg dksX2_init_0 24 rfl rfl
theorem dksX2_init_2 : cX2_init.data.toList.drop 48 = dktX2_init_2 := dk_seg dksX2_init_1 24 rfl rfl
theorem dX2_init_0 : decode cX2_init 0 = .ok (.aload_n 0, 1) := dk_42 (dk_at dksX2_init_0 0 rfl rfl)
theorem dX2_init_1 : decode cX2_init 1 = .ok (.invokespecial 3, 3) := dk_183 0 3 (dk_at dksX2_init_0 1 rfl rfl)
theorem dX2_init_4 : decode cX2_init 4 = .ok (.aload_n 0, 1) := dk_42 (dk_at dksX2_init_0 4 rfl rfl)
theorem dX2_init_5 : decode cX2_init 5 = .ok (.iload_n 1, 1) := dk_27 (dk_at dksX2_init_0 5 rfl rfl)
theorem dX2_init_6 : decode cX2_init 6 = .ok (.putfield 9, 3) := dk_181 0 9 (dk_at dksX2_init_0 6 rfl rfl)
theorem dX2_init_9 : decode cX2_init 9 = .ok (.aload_n 0, 1) := dk_42 (dk_at dksX2_init_0 9 rfl rfl)
theorem dX2_init_10 : decode cX2_init 10 = .ok (.iconst 3, 1) := dk_6 (dk_at dksX2_init_0 10 rfl rfl)
theorem dX2_init_11 : decode cX2_init 11 = .ok (.newarray .int, 2) := dk_188_10 (dk_at dksX2_init_0 11 rfl rfl)
theorem dX2_init_13 : decode cX2_init 13 = .ok (.dup, 1) := dk_89 (dk_at dksX2_init_0 13 rfl rfl)
theorem dX2_init_14 : decode cX2_init 14 = .ok (.iconst 0, 1) := dk_3 (dk_at dksX2_init_0 14 rfl rfl)
theorem dX2_init_15 : decode cX2_init 15 = .ok (.aload_n 2, 1) := dk_44 (dk_at dksX2_init_0 15 rfl rfl)
theorem dX2_init_16 : decode cX2_init 16 = .ok (.iconst 0, 1) := dk_3 (dk_at dksX2_init_0 16 rfl rfl)
theorem dX2_init_17 : decode cX2_init 17 = .ok (.iaload, 1) := dk_46 (dk_at dksX2_init_0 17 rfl rfl)
theorem dX2_init_18 : decode cX2_init 18 = .ok (.iastore, 1) := dk_79 (dk_at dksX2_init_0 18 rfl rfl)
theorem dX2_init_19 : decode cX2_init 19 = .ok (.dup, 1) := dk_89 (dk_at dksX2_init_0 19 rfl rfl)
theorem dX2_init_20 : decode cX2_init 20 = .ok (.iconst 1, 1) := dk_4 (dk_at dksX2_init_0 20 rfl rfl)
theorem dX2_init_21 : decode cX2_init 21 = .ok (.aload_n 2, 1) := dk_44 (dk_at dksX2_init_0 21 rfl rfl)
theorem dX2_init_22 : decode cX2_init 22 = .ok (.iconst 1, 1) := dk_4 (dk_at dksX2_init_0 22 rfl rfl)
theorem dX2_init_23 : decode cX2_init 23 = .ok (.iaload, 1) := dk_46 (dk_at dksX2_init_0 23 rfl rfl)
theorem dX2_init_24 : decode cX2_init 24 = .ok (.iastore, 1) := dk_79 (dk_at dksX2_init_1 0 rfl rfl)
theorem dX2_init_25 : decode cX2_init 25 = .ok (.dup, 1) := dk_89 (dk_at dksX2_init_1 1 rfl rfl)
theorem dX2_init_26 : decode cX2_init 26 = .ok (.iconst 2, 1) := dk_5 (dk_at dksX2_init_1 2 rfl rfl)
theorem dX2_init_27 : decode cX2_init 27 = .ok (.aload_n 2, 1) := dk_44 (dk_at dksX2_init_1 3 rfl rfl)
theorem dX2_init_28 : decode cX2_init 28 = .ok (.iconst 2, 1) := dk_5 (dk_at dksX2_init_1 4 rfl rfl)
theorem dX2_init_29 : decode cX2_init 29 = .ok (.iaload, 1) := dk_46 (dk_at dksX2_init_1 5 rfl rfl)
theorem dX2_init_30 : decode cX2_init 30 = .ok (.iastore, 1) := dk_79 (dk_at dksX2_init_1 6 rfl rfl)
theorem dX2_init_31 : decode cX2_init 31 = .ok (.putfield 15, 3) := dk_181 0 15 (dk_at dksX2_init_1 7 rfl rfl)
theorem dX2_init_34 : decode cX2_init 34 = .ok (.aload_n 0, 1) := dk_42 (dk_at dksX2_init_1 10 rfl rfl)
theorem dX2_init_35 : decode cX2_init 35 = .ok (.iconst 3, 1) := dk_6 (dk_at dksX2_init_1 11 rfl rfl)
theorem dX2_init_36 : decode cX2_init 36 = .ok (.newarray .int, 2) := dk_188_10 (dk_at dksX2_init_1 12 rfl rfl)
theorem dX2_init_38 : decode cX2_init 38 = .ok (.dup, 1) := dk_89 (dk_at dksX2_init_1 14 rfl rfl)
theorem dX2_init_39 : decode cX2_init 39 = .ok (.iconst 0, 1) := dk_3 (dk_at dksX2_init_1 15 rfl rfl)
theorem dX2_init_40 : decode cX2_init 40 = .ok (.aload_n 2, 1) := dk_44 (dk_at dksX2_init_1 16 rfl rfl)
theorem dX2_init_41 : decode cX2_init 41 = .ok (.iconst 3, 1) := dk_6 (dk_at dksX2_init_1 17 rfl rfl)
theorem dX2_init_42 : decode cX2_init 42 = .ok (.iaload, 1) := dk_46 (dk_at dksX2_init_1 18 rfl rfl)
theorem dX2_init_43 : decode cX2_init 43 = .ok (.iastore, 1) := dk_79 (dk_at dksX2_init_1 19 rfl rfl)
theorem dX2_init_44 : decode cX2_init 44 = .ok (.dup, 1) := dk_89 (dk_at dksX2_init_1 20 rfl rfl)
theorem dX2_init_45 : decode cX2_init 45 = .ok (.iconst 1, 1) := dk_4 (dk_at dksX2_init_1 21 rfl rfl)
theorem dX2_init_46 : decode cX2_init 46 = .ok (.aload_n 2, 1) := dk_44 (dk_at dksX2_init_1 22 rfl rfl)
theorem dX2_init_47 : decode cX2_init 47 = .ok (.iconst 4, 1) := dk_7 (dk_at dksX2_init_1 23 rfl rfl)
theorem dX2_init_48 : decode cX2_init 48 = .ok (.iaload, 1) := dk_46 (dk_at dksX2_init_2 0 rfl rfl)
theorem dX2_init_49 : decode cX2_init 49 = .ok (.iastore, 1) := dk_79 (dk_at dksX2_init_2 1 rfl rfl)
theorem dX2_init_50 : decode cX2_init 50 = .ok (.dup, 1) := dk_89 (dk_at dksX2_init_2 2 rfl rfl)
theorem dX2_init_51 : decode cX2_init 51 = .ok (.iconst 2, 1) := dk_5 (dk_at dksX2_init_2 3 rfl rfl)
theorem dX2_init_52 : decode cX2_init 52 = .ok (.aload_n 2, 1) := dk_44 (dk_at dksX2_init_2 4 rfl rfl)
theorem dX2_init_53 : decode cX2_init 53 = .ok (.iconst 5, 1) := dk_8 (dk_at dksX2_init_2 5 rfl rfl)
theorem dX2_init_54 : decode cX2_init 54 = .ok (.iaload, 1) := dk_46 (dk_at dksX2_init_2 6 rfl rfl)
theorem dX2_init_55 : decode cX2_init 55 = .ok (.iastore, 1) := dk_79 (dk_at dksX2_init_2 7 rfl rfl)
theorem dX2_init_56 : decode cX2_init 56 = .ok (.putfield 19, 3) := dk_181 0 19 (dk_at dksX2_init_2 8 rfl rfl)
theorem dX2_init_59 : decode cX2_init 59 = .ok (.return_, 1) := dk_177 (dk_at dksX2_init_2 11 rfl rfl)
abbrev cX2_isPossible : ByteArray := prog_2_method_3_code
def yX2_isPossible : MethodName := ⟨RX2, "isPossible", "()Z"⟩
def dkwX2_isPossible_2 : List UInt8 := [167, 255, 211, 4, 172]
abbrev dktX2_isPossible_2 : List UInt8 := dkwX2_isPossible_2 ++ []
def dkwX2_isPossible_1 : List UInt8 := [163, 0, 18, 42, 180, 0, 15, 27, 46, 42, 180, 0, 19, 27, 46, 161, 0, 5, 3, 172, 132, 1, 1]
abbrev dktX2_isPossible_1 : List UInt8 := dkwX2_isPossible_1 ++ dktX2_isPossible_2
def dkwX2_isPossible_0 : List UInt8 := [3, 60, 27, 6, 162, 0, 46, 42, 180, 0, 15, 27, 46, 155, 0, 29, 42, 180, 0, 19, 27, 46, 16, 32]
abbrev dktX2_isPossible_0 : List UInt8 := dkwX2_isPossible_0 ++ dktX2_isPossible_1
theorem dksX2_isPossible_0 : cX2_isPossible.data.toList.drop 0 = dktX2_isPossible_0 := by decide +kernel
theorem dksX2_isPossible_1 : cX2_isPossible.data.toList.drop 24 = dktX2_isPossible_1 := dk_seg dksX2_isPossible_0 24 rfl rfl
theorem dksX2_isPossible_2 : cX2_isPossible.data.toList.drop 47 = dktX2_isPossible_2 := dk_seg dksX2_isPossible_1 23 rfl rfl
theorem dX2_isPossible_0 : decode cX2_isPossible 0 = .ok (.iconst 0, 1) := dk_3 (dk_at dksX2_isPossible_0 0 rfl rfl)
theorem dX2_isPossible_1 : decode cX2_isPossible 1 = .ok (.istore_n 1, 1) := dk_60 (dk_at dksX2_isPossible_0 1 rfl rfl)
theorem dX2_isPossible_2 : decode cX2_isPossible 2 = .ok (.iload_n 1, 1) := dk_27 (dk_at dksX2_isPossible_0 2 rfl rfl)
theorem dX2_isPossible_3 : decode cX2_isPossible 3 = .ok (.iconst 3, 1) := dk_6 (dk_at dksX2_isPossible_0 3 rfl rfl)
theorem dX2_isPossible_4 : decode cX2_isPossible 4 = .ok (.if_icmp .ge 46, 3) := dk_162 0 46 (dk_at dksX2_isPossible_0 4 rfl rfl)
theorem dX2_isPossible_7 : decode cX2_isPossible 7 = .ok (.aload_n 0, 1) := dk_42 (dk_at dksX2_isPossible_0 7 rfl rfl)
theorem dX2_isPossible_8 : decode cX2_isPossible 8 = .ok (.getfield 15, 3) := dk_180 0 15 (dk_at dksX2_isPossible_0 8 rfl rfl)
theorem dX2_isPossible_11 : decode cX2_isPossible 11 = .ok (.iload_n 1, 1) := dk_27 (dk_at dksX2_isPossible_0 11 rfl rfl)
theorem dX2_isPossible_12 : decode cX2_isPossible 12 = .ok (.iaload, 1) := dk_46 (dk_at dksX2_isPossible_0 12 rfl rfl)
theorem dX2_isPossible_13 : decode cX2_isPossible 13 = .ok (.ifCond .lt 29, 3) := dk_155 0 29 (dk_at dksX2_isPossible_0 13 rfl rfl)
theorem dX2_isPossible_16 : decode cX2_isPossible 16 = .ok (.aload_n 0, 1) := dk_42 (dk_at dksX2_isPossible_0 16 rfl rfl)
theorem dX2_isPossible_17 : decode cX2_isPossible 17 = .ok (.getfield 19, 3) := dk_180 0 19 (dk_at dksX2_isPossible_0 17 rfl rfl)
theorem dX2_isPossible_20 : decode cX2_isPossible 20 = .ok (.iload_n 1, 1) := dk_27 (dk_at dksX2_isPossible_0 20 rfl rfl)
theorem dX2_isPossible_21 : decode cX2_isPossible 21 = .ok (.iaload, 1) := dk_46 (dk_at dksX2_isPossible_0 21 rfl rfl)
theorem dX2_isPossible_22 : decode cX2_isPossible 22 = .ok (.bipush 32, 2) := dk_16 32 (dk_at dksX2_isPossible_0 22 rfl rfl)
theorem dX2_isPossible_24 : decode cX2_isPossible 24 = .ok (.if_icmp .gt 18, 3) := dk_163 0 18 (dk_at dksX2_isPossible_1 0 rfl rfl)
theorem dX2_isPossible_27 : decode cX2_isPossible 27 = .ok (.aload_n 0, 1) := dk_42 (dk_at dksX2_isPossible_1 3 rfl rfl)
theorem dX2_isPossible_28 : decode cX2_isPossible 28 = .ok (.getfield 15, 3) := dk_180 0 15 (dk_at dksX2_isPossible_1 4 rfl rfl)
theorem dX2_isPossible_31 : decode cX2_isPossible 31 = .ok (.iload_n 1, 1) := dk_27 (dk_at dksX2_isPossible_1 7 rfl rfl)
theorem dX2_isPossible_32 : decode cX2_isPossible 32 = .ok (.iaload, 1) := dk_46 (dk_at dksX2_isPossible_1 8 rfl rfl)
theorem dX2_isPossible_33 : decode cX2_isPossible 33 = .ok (.aload_n 0, 1) := dk_42 (dk_at dksX2_isPossible_1 9 rfl rfl)
theorem dX2_isPossible_34 : decode cX2_isPossible 34 = .ok (.getfield 19, 3) := dk_180 0 19 (dk_at dksX2_isPossible_1 10 rfl rfl)
theorem dX2_isPossible_37 : decode cX2_isPossible 37 = .ok (.iload_n 1, 1) := dk_27 (dk_at dksX2_isPossible_1 13 rfl rfl)
theorem dX2_isPossible_38 : decode cX2_isPossible 38 = .ok (.iaload, 1) := dk_46 (dk_at dksX2_isPossible_1 14 rfl rfl)
theorem dX2_isPossible_39 : decode cX2_isPossible 39 = .ok (.if_icmp .lt 5, 3) := dk_161 0 5 (dk_at dksX2_isPossible_1 15 rfl rfl)
theorem dX2_isPossible_42 : decode cX2_isPossible 42 = .ok (.iconst 0, 1) := dk_3 (dk_at dksX2_isPossible_1 18 rfl rfl)
theorem dX2_isPossible_43 : decode cX2_isPossible 43 = .ok (.ireturn, 1) := dk_172 (dk_at dksX2_isPossible_1 19 rfl rfl)
theorem dX2_isPossible_44 : decode cX2_isPossible 44 = .ok (.iinc 1 1, 3) := dk_132 1 1 (dk_at dksX2_isPossible_1 20 rfl rfl)
theorem dX2_isPossible_47 : decode cX2_isPossible 47 = .ok (.goto (-45), 3) := dk_167 255 211 (dk_at dksX2_isPossible_2 0 rfl rfl)
theorem dX2_isPossible_50 : decode cX2_isPossible 50 = .ok (.iconst 1, 1) := dk_4 (dk_at dksX2_isPossible_2 3 rfl rfl)
theorem dX2_isPossible_51 : decode cX2_isPossible 51 = .ok (.ireturn, 1) := dk_172 (dk_at dksX2_isPossible_2 4 rfl rfl)
abbrev cX2_meets : ByteArray := prog_2_method_5_code
def yX2_meets : MethodName := ⟨RX2, "meets", "(LDepthSorter$Box;)Z"⟩
def dkwX2_meets_1 : List UInt8 := [153, 0, 7, 4, 167, 0, 4, 3, 172]
abbrev dktX2_meets_1 : List UInt8 := dkwX2_meets_1 ++ []
def dkwX2_meets_0 : List UInt8 := [42, 43, 3, 182, 0, 22, 153, 0, 25, 42, 43, 4, 182, 0, 22, 153, 0, 16, 42, 43, 5, 182, 0, 22]
abbrev dktX2_meets_0 : List UInt8 := dkwX2_meets_0 ++ dktX2_meets_1
theorem dksX2_meets_0 : cX2_meets.data.toList.drop 0 = dktX2_meets_0 := by decide +kernel
theorem dksX2_meets_1 : cX2_meets.data.toList.drop 24 = dktX2_meets_1 := dk_seg dksX2_meets_0 24 rfl rfl
theorem dX2_meets_0 : decode cX2_meets 0 = .ok (.aload_n 0, 1) := dk_42 (dk_at dksX2_meets_0 0 rfl rfl)
theorem dX2_meets_1 : decode cX2_meets 1 = .ok (.aload_n 1, 1) := dk_43 (dk_at dksX2_meets_0 1 rfl rfl)
theorem dX2_meets_2 : decode cX2_meets 2 = .ok (.iconst 0, 1) := dk_3 (dk_at dksX2_meets_0 2 rfl rfl)
theorem dX2_meets_3 : decode cX2_meets 3 = .ok (.invokevirtual 22, 3) := dk_182 0 22 (dk_at dksX2_meets_0 3 rfl rfl)
theorem dX2_meets_6 : decode cX2_meets 6 = .ok (.ifCond .eq 25, 3) := dk_153 0 25 (dk_at dksX2_meets_0 6 rfl rfl)
theorem dX2_meets_9 : decode cX2_meets 9 = .ok (.aload_n 0, 1) := dk_42 (dk_at dksX2_meets_0 9 rfl rfl)
theorem dX2_meets_10 : decode cX2_meets 10 = .ok (.aload_n 1, 1) := dk_43 (dk_at dksX2_meets_0 10 rfl rfl)
theorem dX2_meets_11 : decode cX2_meets 11 = .ok (.iconst 1, 1) := dk_4 (dk_at dksX2_meets_0 11 rfl rfl)
theorem dX2_meets_12 : decode cX2_meets 12 = .ok (.invokevirtual 22, 3) := dk_182 0 22 (dk_at dksX2_meets_0 12 rfl rfl)
theorem dX2_meets_15 : decode cX2_meets 15 = .ok (.ifCond .eq 16, 3) := dk_153 0 16 (dk_at dksX2_meets_0 15 rfl rfl)
theorem dX2_meets_18 : decode cX2_meets 18 = .ok (.aload_n 0, 1) := dk_42 (dk_at dksX2_meets_0 18 rfl rfl)
theorem dX2_meets_19 : decode cX2_meets 19 = .ok (.aload_n 1, 1) := dk_43 (dk_at dksX2_meets_0 19 rfl rfl)
theorem dX2_meets_20 : decode cX2_meets 20 = .ok (.iconst 2, 1) := dk_5 (dk_at dksX2_meets_0 20 rfl rfl)
theorem dX2_meets_21 : decode cX2_meets 21 = .ok (.invokevirtual 22, 3) := dk_182 0 22 (dk_at dksX2_meets_0 21 rfl rfl)
theorem dX2_meets_24 : decode cX2_meets 24 = .ok (.ifCond .eq 7, 3) := dk_153 0 7 (dk_at dksX2_meets_1 0 rfl rfl)
theorem dX2_meets_27 : decode cX2_meets 27 = .ok (.iconst 1, 1) := dk_4 (dk_at dksX2_meets_1 3 rfl rfl)
theorem dX2_meets_28 : decode cX2_meets 28 = .ok (.goto 4, 3) := dk_167 0 4 (dk_at dksX2_meets_1 4 rfl rfl)
theorem dX2_meets_31 : decode cX2_meets 31 = .ok (.iconst 0, 1) := dk_3 (dk_at dksX2_meets_1 7 rfl rfl)
theorem dX2_meets_32 : decode cX2_meets 32 = .ok (.ireturn, 1) := dk_172 (dk_at dksX2_meets_1 8 rfl rfl)
abbrev cX2_overlapsOn : ByteArray := prog_2_method_4_code
def yX2_overlapsOn : MethodName := ⟨RX2, "overlapsOn", "(LDepthSorter$Box;I)Z"⟩
def dkwX2_overlapsOn_1 : List UInt8 := [180, 0, 19, 28, 46, 162, 0, 7, 4, 167, 0, 4, 3, 172]
abbrev dktX2_overlapsOn_1 : List UInt8 := dkwX2_overlapsOn_1 ++ []
def dkwX2_overlapsOn_0 : List UInt8 := [42, 180, 0, 15, 28, 46, 43, 180, 0, 19, 28, 46, 162, 0, 22, 43, 180, 0, 15, 28, 46, 42]
abbrev dktX2_overlapsOn_0 : List UInt8 := dkwX2_overlapsOn_0 ++ dktX2_overlapsOn_1
theorem dksX2_overlapsOn_0 : cX2_overlapsOn.data.toList.drop 0 = dktX2_overlapsOn_0 := by decide +kernel
theorem dksX2_overlapsOn_1 : cX2_overlapsOn.data.toList.drop 22 = dktX2_overlapsOn_1 := dk_seg dksX2_overlapsOn_0 22 rfl rfl
theorem dX2_overlapsOn_0 : decode cX2_overlapsOn 0 = .ok (.aload_n 0, 1) := dk_42 (dk_at dksX2_overlapsOn_0 0 rfl rfl)
theorem dX2_overlapsOn_1 : decode cX2_overlapsOn 1 = .ok (.getfield 15, 3) := dk_180 0 15 (dk_at dksX2_overlapsOn_0 1 rfl rfl)
theorem dX2_overlapsOn_4 : decode cX2_overlapsOn 4 = .ok (.iload_n 2, 1) := dk_28 (dk_at dksX2_overlapsOn_0 4 rfl rfl)
theorem dX2_overlapsOn_5 : decode cX2_overlapsOn 5 = .ok (.iaload, 1) := dk_46 (dk_at dksX2_overlapsOn_0 5 rfl rfl)
theorem dX2_overlapsOn_6 : decode cX2_overlapsOn 6 = .ok (.aload_n 1, 1) := dk_43 (dk_at dksX2_overlapsOn_0 6 rfl rfl)
theorem dX2_overlapsOn_7 : decode cX2_overlapsOn 7 = .ok (.getfield 19, 3) := dk_180 0 19 (dk_at dksX2_overlapsOn_0 7 rfl rfl)
theorem dX2_overlapsOn_10 : decode cX2_overlapsOn 10 = .ok (.iload_n 2, 1) := dk_28 (dk_at dksX2_overlapsOn_0 10 rfl rfl)
theorem dX2_overlapsOn_11 : decode cX2_overlapsOn 11 = .ok (.iaload, 1) := dk_46 (dk_at dksX2_overlapsOn_0 11 rfl rfl)
theorem dX2_overlapsOn_12 : decode cX2_overlapsOn 12 = .ok (.if_icmp .ge 22, 3) := dk_162 0 22 (dk_at dksX2_overlapsOn_0 12 rfl rfl)
theorem dX2_overlapsOn_15 : decode cX2_overlapsOn 15 = .ok (.aload_n 1, 1) := dk_43 (dk_at dksX2_overlapsOn_0 15 rfl rfl)
theorem dX2_overlapsOn_16 : decode cX2_overlapsOn 16 = .ok (.getfield 15, 3) := dk_180 0 15 (dk_at dksX2_overlapsOn_0 16 rfl rfl)
theorem dX2_overlapsOn_19 : decode cX2_overlapsOn 19 = .ok (.iload_n 2, 1) := dk_28 (dk_at dksX2_overlapsOn_0 19 rfl rfl)
theorem dX2_overlapsOn_20 : decode cX2_overlapsOn 20 = .ok (.iaload, 1) := dk_46 (dk_at dksX2_overlapsOn_0 20 rfl rfl)
theorem dX2_overlapsOn_21 : decode cX2_overlapsOn 21 = .ok (.aload_n 0, 1) := dk_42 (dk_at dksX2_overlapsOn_0 21 rfl rfl)
theorem dX2_overlapsOn_22 : decode cX2_overlapsOn 22 = .ok (.getfield 19, 3) := dk_180 0 19 (dk_at dksX2_overlapsOn_1 0 rfl rfl)
theorem dX2_overlapsOn_25 : decode cX2_overlapsOn 25 = .ok (.iload_n 2, 1) := dk_28 (dk_at dksX2_overlapsOn_1 3 rfl rfl)
theorem dX2_overlapsOn_26 : decode cX2_overlapsOn 26 = .ok (.iaload, 1) := dk_46 (dk_at dksX2_overlapsOn_1 4 rfl rfl)
theorem dX2_overlapsOn_27 : decode cX2_overlapsOn 27 = .ok (.if_icmp .ge 7, 3) := dk_162 0 7 (dk_at dksX2_overlapsOn_1 5 rfl rfl)
theorem dX2_overlapsOn_30 : decode cX2_overlapsOn 30 = .ok (.iconst 1, 1) := dk_4 (dk_at dksX2_overlapsOn_1 8 rfl rfl)
theorem dX2_overlapsOn_31 : decode cX2_overlapsOn 31 = .ok (.goto 4, 3) := dk_167 0 4 (dk_at dksX2_overlapsOn_1 9 rfl rfl)
theorem dX2_overlapsOn_34 : decode cX2_overlapsOn 34 = .ok (.iconst 0, 1) := dk_3 (dk_at dksX2_overlapsOn_1 12 rfl rfl)
theorem dX2_overlapsOn_35 : decode cX2_overlapsOn 35 = .ok (.ireturn, 1) := dk_172 (dk_at dksX2_overlapsOn_1 13 rfl rfl)
abbrev cX2_moved : ByteArray := prog_2_method_11_code
def yX2_moved : MethodName := ⟨RX2, "moved", "(III)LDepthSorter$Box;"⟩
def dkwX2_moved_3 : List UInt8 := [180, 0, 19, 5, 46, 29, 96, 79, 183, 0, 34, 176]
abbrev dktX2_moved_3 : List UInt8 := dkwX2_moved_3 ++ []
def dkwX2_moved_2 : List UInt8 := [180, 0, 19, 3, 46, 27, 96, 79, 89, 7, 42, 180, 0, 19, 4, 46, 28, 96, 79, 89, 8, 42]
abbrev dktX2_moved_2 : List UInt8 := dkwX2_moved_2 ++ dktX2_moved_3
def dkwX2_moved_1 : List UInt8 := [4, 42, 180, 0, 15, 4, 46, 28, 96, 79, 89, 5, 42, 180, 0, 15, 5, 46, 29, 96, 79, 89, 6, 42]
abbrev dktX2_moved_1 : List UInt8 := dkwX2_moved_1 ++ dktX2_moved_2
def dkwX2_moved_0 : List UInt8 := [187, 0, 10, 89, 42, 180, 0, 9, 16, 6, 188, 10, 89, 3, 42, 180, 0, 15, 3, 46, 27, 96, 79, 89]
abbrev dktX2_moved_0 : List UInt8 := dkwX2_moved_0 ++ dktX2_moved_1
theorem dksX2_moved_0 : cX2_moved.data.toList.drop 0 = dktX2_moved_0 := by decide +kernel
theorem dksX2_moved_1 : cX2_moved.data.toList.drop 24 = dktX2_moved_1 := dk_seg dksX2_moved_0 24 rfl rfl
theorem dksX2_moved_2 : cX2_moved.data.toList.drop 48 = dktX2_moved_2 := dk_seg dksX2_moved_1 24 rfl rfl
theorem dksX2_moved_3 : cX2_moved.data.toList.drop 70 = dktX2_moved_3 := dk_seg dksX2_moved_2 22 rfl rfl
theorem dX2_moved_0 : decode cX2_moved 0 = .ok (.new 10, 3) := dk_187 0 10 (dk_at dksX2_moved_0 0 rfl rfl)
theorem dX2_moved_3 : decode cX2_moved 3 = .ok (.dup, 1) := dk_89 (dk_at dksX2_moved_0 3 rfl rfl)
theorem dX2_moved_4 : decode cX2_moved 4 = .ok (.aload_n 0, 1) := dk_42 (dk_at dksX2_moved_0 4 rfl rfl)
theorem dX2_moved_5 : decode cX2_moved 5 = .ok (.getfield 9, 3) := dk_180 0 9 (dk_at dksX2_moved_0 5 rfl rfl)
theorem dX2_moved_8 : decode cX2_moved 8 = .ok (.bipush 6, 2) := dk_16 6 (dk_at dksX2_moved_0 8 rfl rfl)
theorem dX2_moved_10 : decode cX2_moved 10 = .ok (.newarray .int, 2) := dk_188_10 (dk_at dksX2_moved_0 10 rfl rfl)
theorem dX2_moved_12 : decode cX2_moved 12 = .ok (.dup, 1) := dk_89 (dk_at dksX2_moved_0 12 rfl rfl)
theorem dX2_moved_13 : decode cX2_moved 13 = .ok (.iconst 0, 1) := dk_3 (dk_at dksX2_moved_0 13 rfl rfl)
theorem dX2_moved_14 : decode cX2_moved 14 = .ok (.aload_n 0, 1) := dk_42 (dk_at dksX2_moved_0 14 rfl rfl)
theorem dX2_moved_15 : decode cX2_moved 15 = .ok (.getfield 15, 3) := dk_180 0 15 (dk_at dksX2_moved_0 15 rfl rfl)
theorem dX2_moved_18 : decode cX2_moved 18 = .ok (.iconst 0, 1) := dk_3 (dk_at dksX2_moved_0 18 rfl rfl)
theorem dX2_moved_19 : decode cX2_moved 19 = .ok (.iaload, 1) := dk_46 (dk_at dksX2_moved_0 19 rfl rfl)
theorem dX2_moved_20 : decode cX2_moved 20 = .ok (.iload_n 1, 1) := dk_27 (dk_at dksX2_moved_0 20 rfl rfl)
theorem dX2_moved_21 : decode cX2_moved 21 = .ok (.iadd, 1) := dk_96 (dk_at dksX2_moved_0 21 rfl rfl)
theorem dX2_moved_22 : decode cX2_moved 22 = .ok (.iastore, 1) := dk_79 (dk_at dksX2_moved_0 22 rfl rfl)
theorem dX2_moved_23 : decode cX2_moved 23 = .ok (.dup, 1) := dk_89 (dk_at dksX2_moved_0 23 rfl rfl)
theorem dX2_moved_24 : decode cX2_moved 24 = .ok (.iconst 1, 1) := dk_4 (dk_at dksX2_moved_1 0 rfl rfl)
theorem dX2_moved_25 : decode cX2_moved 25 = .ok (.aload_n 0, 1) := dk_42 (dk_at dksX2_moved_1 1 rfl rfl)
theorem dX2_moved_26 : decode cX2_moved 26 = .ok (.getfield 15, 3) := dk_180 0 15 (dk_at dksX2_moved_1 2 rfl rfl)
theorem dX2_moved_29 : decode cX2_moved 29 = .ok (.iconst 1, 1) := dk_4 (dk_at dksX2_moved_1 5 rfl rfl)
theorem dX2_moved_30 : decode cX2_moved 30 = .ok (.iaload, 1) := dk_46 (dk_at dksX2_moved_1 6 rfl rfl)
theorem dX2_moved_31 : decode cX2_moved 31 = .ok (.iload_n 2, 1) := dk_28 (dk_at dksX2_moved_1 7 rfl rfl)
theorem dX2_moved_32 : decode cX2_moved 32 = .ok (.iadd, 1) := dk_96 (dk_at dksX2_moved_1 8 rfl rfl)
theorem dX2_moved_33 : decode cX2_moved 33 = .ok (.iastore, 1) := dk_79 (dk_at dksX2_moved_1 9 rfl rfl)
theorem dX2_moved_34 : decode cX2_moved 34 = .ok (.dup, 1) := dk_89 (dk_at dksX2_moved_1 10 rfl rfl)
theorem dX2_moved_35 : decode cX2_moved 35 = .ok (.iconst 2, 1) := dk_5 (dk_at dksX2_moved_1 11 rfl rfl)
theorem dX2_moved_36 : decode cX2_moved 36 = .ok (.aload_n 0, 1) := dk_42 (dk_at dksX2_moved_1 12 rfl rfl)
theorem dX2_moved_37 : decode cX2_moved 37 = .ok (.getfield 15, 3) := dk_180 0 15 (dk_at dksX2_moved_1 13 rfl rfl)
theorem dX2_moved_40 : decode cX2_moved 40 = .ok (.iconst 2, 1) := dk_5 (dk_at dksX2_moved_1 16 rfl rfl)
theorem dX2_moved_41 : decode cX2_moved 41 = .ok (.iaload, 1) := dk_46 (dk_at dksX2_moved_1 17 rfl rfl)
theorem dX2_moved_42 : decode cX2_moved 42 = .ok (.iload_n 3, 1) := dk_29 (dk_at dksX2_moved_1 18 rfl rfl)
theorem dX2_moved_43 : decode cX2_moved 43 = .ok (.iadd, 1) := dk_96 (dk_at dksX2_moved_1 19 rfl rfl)
theorem dX2_moved_44 : decode cX2_moved 44 = .ok (.iastore, 1) := dk_79 (dk_at dksX2_moved_1 20 rfl rfl)
theorem dX2_moved_45 : decode cX2_moved 45 = .ok (.dup, 1) := dk_89 (dk_at dksX2_moved_1 21 rfl rfl)
theorem dX2_moved_46 : decode cX2_moved 46 = .ok (.iconst 3, 1) := dk_6 (dk_at dksX2_moved_1 22 rfl rfl)
theorem dX2_moved_47 : decode cX2_moved 47 = .ok (.aload_n 0, 1) := dk_42 (dk_at dksX2_moved_1 23 rfl rfl)
theorem dX2_moved_48 : decode cX2_moved 48 = .ok (.getfield 19, 3) := dk_180 0 19 (dk_at dksX2_moved_2 0 rfl rfl)
theorem dX2_moved_51 : decode cX2_moved 51 = .ok (.iconst 0, 1) := dk_3 (dk_at dksX2_moved_2 3 rfl rfl)
theorem dX2_moved_52 : decode cX2_moved 52 = .ok (.iaload, 1) := dk_46 (dk_at dksX2_moved_2 4 rfl rfl)
theorem dX2_moved_53 : decode cX2_moved 53 = .ok (.iload_n 1, 1) := dk_27 (dk_at dksX2_moved_2 5 rfl rfl)
theorem dX2_moved_54 : decode cX2_moved 54 = .ok (.iadd, 1) := dk_96 (dk_at dksX2_moved_2 6 rfl rfl)
theorem dX2_moved_55 : decode cX2_moved 55 = .ok (.iastore, 1) := dk_79 (dk_at dksX2_moved_2 7 rfl rfl)
theorem dX2_moved_56 : decode cX2_moved 56 = .ok (.dup, 1) := dk_89 (dk_at dksX2_moved_2 8 rfl rfl)
theorem dX2_moved_57 : decode cX2_moved 57 = .ok (.iconst 4, 1) := dk_7 (dk_at dksX2_moved_2 9 rfl rfl)
theorem dX2_moved_58 : decode cX2_moved 58 = .ok (.aload_n 0, 1) := dk_42 (dk_at dksX2_moved_2 10 rfl rfl)
theorem dX2_moved_59 : decode cX2_moved 59 = .ok (.getfield 19, 3) := dk_180 0 19 (dk_at dksX2_moved_2 11 rfl rfl)
theorem dX2_moved_62 : decode cX2_moved 62 = .ok (.iconst 1, 1) := dk_4 (dk_at dksX2_moved_2 14 rfl rfl)
theorem dX2_moved_63 : decode cX2_moved 63 = .ok (.iaload, 1) := dk_46 (dk_at dksX2_moved_2 15 rfl rfl)
theorem dX2_moved_64 : decode cX2_moved 64 = .ok (.iload_n 2, 1) := dk_28 (dk_at dksX2_moved_2 16 rfl rfl)
theorem dX2_moved_65 : decode cX2_moved 65 = .ok (.iadd, 1) := dk_96 (dk_at dksX2_moved_2 17 rfl rfl)
theorem dX2_moved_66 : decode cX2_moved 66 = .ok (.iastore, 1) := dk_79 (dk_at dksX2_moved_2 18 rfl rfl)
theorem dX2_moved_67 : decode cX2_moved 67 = .ok (.dup, 1) := dk_89 (dk_at dksX2_moved_2 19 rfl rfl)
theorem dX2_moved_68 : decode cX2_moved 68 = .ok (.iconst 5, 1) := dk_8 (dk_at dksX2_moved_2 20 rfl rfl)
theorem dX2_moved_69 : decode cX2_moved 69 = .ok (.aload_n 0, 1) := dk_42 (dk_at dksX2_moved_2 21 rfl rfl)
theorem dX2_moved_70 : decode cX2_moved 70 = .ok (.getfield 19, 3) := dk_180 0 19 (dk_at dksX2_moved_3 0 rfl rfl)
theorem dX2_moved_73 : decode cX2_moved 73 = .ok (.iconst 2, 1) := dk_5 (dk_at dksX2_moved_3 3 rfl rfl)
theorem dX2_moved_74 : decode cX2_moved 74 = .ok (.iaload, 1) := dk_46 (dk_at dksX2_moved_3 4 rfl rfl)
theorem dX2_moved_75 : decode cX2_moved 75 = .ok (.iload_n 3, 1) := dk_29 (dk_at dksX2_moved_3 5 rfl rfl)
theorem dX2_moved_76 : decode cX2_moved 76 = .ok (.iadd, 1) := dk_96 (dk_at dksX2_moved_3 6 rfl rfl)
theorem dX2_moved_77 : decode cX2_moved 77 = .ok (.iastore, 1) := dk_79 (dk_at dksX2_moved_3 7 rfl rfl)
theorem dX2_moved_78 : decode cX2_moved 78 = .ok (.invokespecial 34, 3) := dk_183 0 34 (dk_at dksX2_moved_3 8 rfl rfl)
theorem dX2_moved_81 : decode cX2_moved 81 = .ok (.areturn, 1) := dk_176 (dk_at dksX2_moved_3 11 rfl rfl)
abbrev cX2_isBehind : ByteArray := prog_2_method_8_code
def yX2_isBehind : MethodName := ⟨RX2, "isBehind", "(LDepthSorter$Box;)Z"⟩
def dkwX2_isBehind_2 : List UInt8 := [5, 46, 163, 0, 7, 4, 167, 0, 4, 3, 172]
abbrev dktX2_isBehind_2 : List UInt8 := dkwX2_isBehind_2 ++ []
def dkwX2_isBehind_1 : List UInt8 := [180, 0, 19, 4, 46, 43, 180, 0, 15, 4, 46, 164, 0, 18, 42, 180, 0, 19, 5, 46, 43, 180, 0, 15]
abbrev dktX2_isBehind_1 : List UInt8 := dkwX2_isBehind_1 ++ dktX2_isBehind_2
def dkwX2_isBehind_0 : List UInt8 := [42, 43, 182, 0, 30, 153, 0, 52, 42, 180, 0, 19, 3, 46, 43, 180, 0, 15, 3, 46, 164, 0, 33, 42]
abbrev dktX2_isBehind_0 : List UInt8 := dkwX2_isBehind_0 ++ dktX2_isBehind_1
theorem dksX2_isBehind_0 : cX2_isBehind.data.toList.drop 0 = dktX2_isBehind_0 := by decide +kernel
theorem dksX2_isBehind_1 : cX2_isBehind.data.toList.drop 24 = dktX2_isBehind_1 := dk_seg dksX2_isBehind_0 24 rfl rfl
theorem dksX2_isBehind_2 : cX2_isBehind.data.toList.drop 48 = dktX2_isBehind_2 := dk_seg dksX2_isBehind_1 24 rfl rfl
theorem dX2_isBehind_0 : decode cX2_isBehind 0 = .ok (.aload_n 0, 1) := dk_42 (dk_at dksX2_isBehind_0 0 rfl rfl)
theorem dX2_isBehind_1 : decode cX2_isBehind 1 = .ok (.aload_n 1, 1) := dk_43 (dk_at dksX2_isBehind_0 1 rfl rfl)
theorem dX2_isBehind_2 : decode cX2_isBehind 2 = .ok (.invokevirtual 30, 3) := dk_182 0 30 (dk_at dksX2_isBehind_0 2 rfl rfl)
theorem dX2_isBehind_5 : decode cX2_isBehind 5 = .ok (.ifCond .eq 52, 3) := dk_153 0 52 (dk_at dksX2_isBehind_0 5 rfl rfl)
theorem dX2_isBehind_8 : decode cX2_isBehind 8 = .ok (.aload_n 0, 1) := dk_42 (dk_at dksX2_isBehind_0 8 rfl rfl)
theorem dX2_isBehind_9 : decode cX2_isBehind 9 = .ok (.getfield 19, 3) := dk_180 0 19 (dk_at dksX2_isBehind_0 9 rfl rfl)
theorem dX2_isBehind_12 : decode cX2_isBehind 12 = .ok (.iconst 0, 1) := dk_3 (dk_at dksX2_isBehind_0 12 rfl rfl)
theorem dX2_isBehind_13 : decode cX2_isBehind 13 = .ok (.iaload, 1) := dk_46 (dk_at dksX2_isBehind_0 13 rfl rfl)
theorem dX2_isBehind_14 : decode cX2_isBehind 14 = .ok (.aload_n 1, 1) := dk_43 (dk_at dksX2_isBehind_0 14 rfl rfl)
theorem dX2_isBehind_15 : decode cX2_isBehind 15 = .ok (.getfield 15, 3) := dk_180 0 15 (dk_at dksX2_isBehind_0 15 rfl rfl)
theorem dX2_isBehind_18 : decode cX2_isBehind 18 = .ok (.iconst 0, 1) := dk_3 (dk_at dksX2_isBehind_0 18 rfl rfl)
theorem dX2_isBehind_19 : decode cX2_isBehind 19 = .ok (.iaload, 1) := dk_46 (dk_at dksX2_isBehind_0 19 rfl rfl)
theorem dX2_isBehind_20 : decode cX2_isBehind 20 = .ok (.if_icmp .le 33, 3) := dk_164 0 33 (dk_at dksX2_isBehind_0 20 rfl rfl)
theorem dX2_isBehind_23 : decode cX2_isBehind 23 = .ok (.aload_n 0, 1) := dk_42 (dk_at dksX2_isBehind_0 23 rfl rfl)
theorem dX2_isBehind_24 : decode cX2_isBehind 24 = .ok (.getfield 19, 3) := dk_180 0 19 (dk_at dksX2_isBehind_1 0 rfl rfl)
theorem dX2_isBehind_27 : decode cX2_isBehind 27 = .ok (.iconst 1, 1) := dk_4 (dk_at dksX2_isBehind_1 3 rfl rfl)
theorem dX2_isBehind_28 : decode cX2_isBehind 28 = .ok (.iaload, 1) := dk_46 (dk_at dksX2_isBehind_1 4 rfl rfl)
theorem dX2_isBehind_29 : decode cX2_isBehind 29 = .ok (.aload_n 1, 1) := dk_43 (dk_at dksX2_isBehind_1 5 rfl rfl)
theorem dX2_isBehind_30 : decode cX2_isBehind 30 = .ok (.getfield 15, 3) := dk_180 0 15 (dk_at dksX2_isBehind_1 6 rfl rfl)
theorem dX2_isBehind_33 : decode cX2_isBehind 33 = .ok (.iconst 1, 1) := dk_4 (dk_at dksX2_isBehind_1 9 rfl rfl)
theorem dX2_isBehind_34 : decode cX2_isBehind 34 = .ok (.iaload, 1) := dk_46 (dk_at dksX2_isBehind_1 10 rfl rfl)
theorem dX2_isBehind_35 : decode cX2_isBehind 35 = .ok (.if_icmp .le 18, 3) := dk_164 0 18 (dk_at dksX2_isBehind_1 11 rfl rfl)
theorem dX2_isBehind_38 : decode cX2_isBehind 38 = .ok (.aload_n 0, 1) := dk_42 (dk_at dksX2_isBehind_1 14 rfl rfl)
theorem dX2_isBehind_39 : decode cX2_isBehind 39 = .ok (.getfield 19, 3) := dk_180 0 19 (dk_at dksX2_isBehind_1 15 rfl rfl)
theorem dX2_isBehind_42 : decode cX2_isBehind 42 = .ok (.iconst 2, 1) := dk_5 (dk_at dksX2_isBehind_1 18 rfl rfl)
theorem dX2_isBehind_43 : decode cX2_isBehind 43 = .ok (.iaload, 1) := dk_46 (dk_at dksX2_isBehind_1 19 rfl rfl)
theorem dX2_isBehind_44 : decode cX2_isBehind 44 = .ok (.aload_n 1, 1) := dk_43 (dk_at dksX2_isBehind_1 20 rfl rfl)
theorem dX2_isBehind_45 : decode cX2_isBehind 45 = .ok (.getfield 15, 3) := dk_180 0 15 (dk_at dksX2_isBehind_1 21 rfl rfl)
theorem dX2_isBehind_48 : decode cX2_isBehind 48 = .ok (.iconst 2, 1) := dk_5 (dk_at dksX2_isBehind_2 0 rfl rfl)
theorem dX2_isBehind_49 : decode cX2_isBehind 49 = .ok (.iaload, 1) := dk_46 (dk_at dksX2_isBehind_2 1 rfl rfl)
theorem dX2_isBehind_50 : decode cX2_isBehind 50 = .ok (.if_icmp .gt 7, 3) := dk_163 0 7 (dk_at dksX2_isBehind_2 2 rfl rfl)
theorem dX2_isBehind_53 : decode cX2_isBehind 53 = .ok (.iconst 1, 1) := dk_4 (dk_at dksX2_isBehind_2 5 rfl rfl)
theorem dX2_isBehind_54 : decode cX2_isBehind 54 = .ok (.goto 4, 3) := dk_167 0 4 (dk_at dksX2_isBehind_2 6 rfl rfl)
theorem dX2_isBehind_57 : decode cX2_isBehind 57 = .ok (.iconst 0, 1) := dk_3 (dk_at dksX2_isBehind_2 9 rfl rfl)
theorem dX2_isBehind_58 : decode cX2_isBehind 58 = .ok (.ireturn, 1) := dk_172 (dk_at dksX2_isBehind_2 10 rfl rfl)
abbrev cX2_overlapsInPicture : ByteArray := prog_2_method_7_code
def yX2_overlapsInPicture : MethodName := ⟨RX2, "overlapsInPicture", "(LDepthSorter$Box;)Z"⟩
def dkwX2_overlapsInPicture_1 : List UInt8 := [182, 0, 26, 153, 0, 7, 4, 167, 0, 4, 3, 172]
abbrev dktX2_overlapsInPicture_1 : List UInt8 := dkwX2_overlapsInPicture_1 ++ []
def dkwX2_overlapsInPicture_0 : List UInt8 := [42, 43, 3, 4, 182, 0, 26, 153, 0, 27, 42, 43, 4, 5, 182, 0, 26, 153, 0, 17, 42, 43, 5, 3]
abbrev dktX2_overlapsInPicture_0 : List UInt8 := dkwX2_overlapsInPicture_0 ++ dktX2_overlapsInPicture_1
theorem dksX2_overlapsInPicture_0 : cX2_overlapsInPicture.data.toList.drop 0 = dktX2_overlapsInPicture_0 := by decide +kernel
theorem dksX2_overlapsInPicture_1 : cX2_overlapsInPicture.data.toList.drop 24 = dktX2_overlapsInPicture_1 := dk_seg dksX2_overlapsInPicture_0 24 rfl rfl
theorem dX2_overlapsInPicture_0 : decode cX2_overlapsInPicture 0 = .ok (.aload_n 0, 1) := dk_42 (dk_at dksX2_overlapsInPicture_0 0 rfl rfl)
theorem dX2_overlapsInPicture_1 : decode cX2_overlapsInPicture 1 = .ok (.aload_n 1, 1) := dk_43 (dk_at dksX2_overlapsInPicture_0 1 rfl rfl)
theorem dX2_overlapsInPicture_2 : decode cX2_overlapsInPicture 2 = .ok (.iconst 0, 1) := dk_3 (dk_at dksX2_overlapsInPicture_0 2 rfl rfl)
theorem dX2_overlapsInPicture_3 : decode cX2_overlapsInPicture 3 = .ok (.iconst 1, 1) := dk_4 (dk_at dksX2_overlapsInPicture_0 3 rfl rfl)
theorem dX2_overlapsInPicture_4 : decode cX2_overlapsInPicture 4 = .ok (.invokevirtual 26, 3) := dk_182 0 26 (dk_at dksX2_overlapsInPicture_0 4 rfl rfl)
theorem dX2_overlapsInPicture_7 : decode cX2_overlapsInPicture 7 = .ok (.ifCond .eq 27, 3) := dk_153 0 27 (dk_at dksX2_overlapsInPicture_0 7 rfl rfl)
theorem dX2_overlapsInPicture_10 : decode cX2_overlapsInPicture 10 = .ok (.aload_n 0, 1) := dk_42 (dk_at dksX2_overlapsInPicture_0 10 rfl rfl)
theorem dX2_overlapsInPicture_11 : decode cX2_overlapsInPicture 11 = .ok (.aload_n 1, 1) := dk_43 (dk_at dksX2_overlapsInPicture_0 11 rfl rfl)
theorem dX2_overlapsInPicture_12 : decode cX2_overlapsInPicture 12 = .ok (.iconst 1, 1) := dk_4 (dk_at dksX2_overlapsInPicture_0 12 rfl rfl)
theorem dX2_overlapsInPicture_13 : decode cX2_overlapsInPicture 13 = .ok (.iconst 2, 1) := dk_5 (dk_at dksX2_overlapsInPicture_0 13 rfl rfl)
theorem dX2_overlapsInPicture_14 : decode cX2_overlapsInPicture 14 = .ok (.invokevirtual 26, 3) := dk_182 0 26 (dk_at dksX2_overlapsInPicture_0 14 rfl rfl)
theorem dX2_overlapsInPicture_17 : decode cX2_overlapsInPicture 17 = .ok (.ifCond .eq 17, 3) := dk_153 0 17 (dk_at dksX2_overlapsInPicture_0 17 rfl rfl)
theorem dX2_overlapsInPicture_20 : decode cX2_overlapsInPicture 20 = .ok (.aload_n 0, 1) := dk_42 (dk_at dksX2_overlapsInPicture_0 20 rfl rfl)
theorem dX2_overlapsInPicture_21 : decode cX2_overlapsInPicture 21 = .ok (.aload_n 1, 1) := dk_43 (dk_at dksX2_overlapsInPicture_0 21 rfl rfl)
theorem dX2_overlapsInPicture_22 : decode cX2_overlapsInPicture 22 = .ok (.iconst 2, 1) := dk_5 (dk_at dksX2_overlapsInPicture_0 22 rfl rfl)
theorem dX2_overlapsInPicture_23 : decode cX2_overlapsInPicture 23 = .ok (.iconst 0, 1) := dk_3 (dk_at dksX2_overlapsInPicture_0 23 rfl rfl)
theorem dX2_overlapsInPicture_24 : decode cX2_overlapsInPicture 24 = .ok (.invokevirtual 26, 3) := dk_182 0 26 (dk_at dksX2_overlapsInPicture_1 0 rfl rfl)
theorem dX2_overlapsInPicture_27 : decode cX2_overlapsInPicture 27 = .ok (.ifCond .eq 7, 3) := dk_153 0 7 (dk_at dksX2_overlapsInPicture_1 3 rfl rfl)
theorem dX2_overlapsInPicture_30 : decode cX2_overlapsInPicture 30 = .ok (.iconst 1, 1) := dk_4 (dk_at dksX2_overlapsInPicture_1 6 rfl rfl)
theorem dX2_overlapsInPicture_31 : decode cX2_overlapsInPicture 31 = .ok (.goto 4, 3) := dk_167 0 4 (dk_at dksX2_overlapsInPicture_1 7 rfl rfl)
theorem dX2_overlapsInPicture_34 : decode cX2_overlapsInPicture 34 = .ok (.iconst 0, 1) := dk_3 (dk_at dksX2_overlapsInPicture_1 10 rfl rfl)
theorem dX2_overlapsInPicture_35 : decode cX2_overlapsInPicture 35 = .ok (.ireturn, 1) := dk_172 (dk_at dksX2_overlapsInPicture_1 11 rfl rfl)
abbrev cX2_overlapsAcross : ByteArray := prog_2_method_6_code
def yX2_overlapsAcross : MethodName := ⟨RX2, "overlapsAcross", "(LDepthSorter$Box;II)Z"⟩
def dkwX2_overlapsAcross_2 : List UInt8 := [42, 180, 0, 15, 29, 46, 100, 162, 0, 7, 4, 167, 0, 4, 3, 172]
abbrev dktX2_overlapsAcross_2 : List UInt8 := dkwX2_overlapsAcross_2 ++ []
def dkwX2_overlapsAcross_1 : List UInt8 := [46, 100, 162, 0, 36, 43, 180, 0, 15, 28, 46, 43, 180, 0, 19, 29, 46, 100, 42, 180, 0, 19, 28, 46]
abbrev dktX2_overlapsAcross_1 : List UInt8 := dkwX2_overlapsAcross_1 ++ dktX2_overlapsAcross_2
def dkwX2_overlapsAcross_0 : List UInt8 := [42, 180, 0, 15, 28, 46, 42, 180, 0, 19, 29, 46, 100, 43, 180, 0, 19, 28, 46, 43, 180, 0, 15, 29]
abbrev dktX2_overlapsAcross_0 : List UInt8 := dkwX2_overlapsAcross_0 ++ dktX2_overlapsAcross_1
theorem dksX2_overlapsAcross_0 : cX2_overlapsAcross.data.toList.drop 0 = dktX2_overlapsAcross_0 := by decide +kernel
theorem dksX2_overlapsAcross_1 : cX2_overlapsAcross.data.toList.drop 24 = dktX2_overlapsAcross_1 := dk_seg dksX2_overlapsAcross_0 24 rfl rfl
theorem dksX2_overlapsAcross_2 : cX2_overlapsAcross.data.toList.drop 48 = dktX2_overlapsAcross_2 := dk_seg dksX2_overlapsAcross_1 24 rfl rfl
theorem dX2_overlapsAcross_0 : decode cX2_overlapsAcross 0 = .ok (.aload_n 0, 1) := dk_42 (dk_at dksX2_overlapsAcross_0 0 rfl rfl)
theorem dX2_overlapsAcross_1 : decode cX2_overlapsAcross 1 = .ok (.getfield 15, 3) := dk_180 0 15 (dk_at dksX2_overlapsAcross_0 1 rfl rfl)
theorem dX2_overlapsAcross_4 : decode cX2_overlapsAcross 4 = .ok (.iload_n 2, 1) := dk_28 (dk_at dksX2_overlapsAcross_0 4 rfl rfl)
theorem dX2_overlapsAcross_5 : decode cX2_overlapsAcross 5 = .ok (.iaload, 1) := dk_46 (dk_at dksX2_overlapsAcross_0 5 rfl rfl)
theorem dX2_overlapsAcross_6 : decode cX2_overlapsAcross 6 = .ok (.aload_n 0, 1) := dk_42 (dk_at dksX2_overlapsAcross_0 6 rfl rfl)
theorem dX2_overlapsAcross_7 : decode cX2_overlapsAcross 7 = .ok (.getfield 19, 3) := dk_180 0 19 (dk_at dksX2_overlapsAcross_0 7 rfl rfl)
theorem dX2_overlapsAcross_10 : decode cX2_overlapsAcross 10 = .ok (.iload_n 3, 1) := dk_29 (dk_at dksX2_overlapsAcross_0 10 rfl rfl)
theorem dX2_overlapsAcross_11 : decode cX2_overlapsAcross 11 = .ok (.iaload, 1) := dk_46 (dk_at dksX2_overlapsAcross_0 11 rfl rfl)
theorem dX2_overlapsAcross_12 : decode cX2_overlapsAcross 12 = .ok (.isub, 1) := dk_100 (dk_at dksX2_overlapsAcross_0 12 rfl rfl)
theorem dX2_overlapsAcross_13 : decode cX2_overlapsAcross 13 = .ok (.aload_n 1, 1) := dk_43 (dk_at dksX2_overlapsAcross_0 13 rfl rfl)
theorem dX2_overlapsAcross_14 : decode cX2_overlapsAcross 14 = .ok (.getfield 19, 3) := dk_180 0 19 (dk_at dksX2_overlapsAcross_0 14 rfl rfl)
theorem dX2_overlapsAcross_17 : decode cX2_overlapsAcross 17 = .ok (.iload_n 2, 1) := dk_28 (dk_at dksX2_overlapsAcross_0 17 rfl rfl)
theorem dX2_overlapsAcross_18 : decode cX2_overlapsAcross 18 = .ok (.iaload, 1) := dk_46 (dk_at dksX2_overlapsAcross_0 18 rfl rfl)
theorem dX2_overlapsAcross_19 : decode cX2_overlapsAcross 19 = .ok (.aload_n 1, 1) := dk_43 (dk_at dksX2_overlapsAcross_0 19 rfl rfl)
theorem dX2_overlapsAcross_20 : decode cX2_overlapsAcross 20 = .ok (.getfield 15, 3) := dk_180 0 15 (dk_at dksX2_overlapsAcross_0 20 rfl rfl)
theorem dX2_overlapsAcross_23 : decode cX2_overlapsAcross 23 = .ok (.iload_n 3, 1) := dk_29 (dk_at dksX2_overlapsAcross_0 23 rfl rfl)
theorem dX2_overlapsAcross_24 : decode cX2_overlapsAcross 24 = .ok (.iaload, 1) := dk_46 (dk_at dksX2_overlapsAcross_1 0 rfl rfl)
theorem dX2_overlapsAcross_25 : decode cX2_overlapsAcross 25 = .ok (.isub, 1) := dk_100 (dk_at dksX2_overlapsAcross_1 1 rfl rfl)
theorem dX2_overlapsAcross_26 : decode cX2_overlapsAcross 26 = .ok (.if_icmp .ge 36, 3) := dk_162 0 36 (dk_at dksX2_overlapsAcross_1 2 rfl rfl)
theorem dX2_overlapsAcross_29 : decode cX2_overlapsAcross 29 = .ok (.aload_n 1, 1) := dk_43 (dk_at dksX2_overlapsAcross_1 5 rfl rfl)
theorem dX2_overlapsAcross_30 : decode cX2_overlapsAcross 30 = .ok (.getfield 15, 3) := dk_180 0 15 (dk_at dksX2_overlapsAcross_1 6 rfl rfl)
theorem dX2_overlapsAcross_33 : decode cX2_overlapsAcross 33 = .ok (.iload_n 2, 1) := dk_28 (dk_at dksX2_overlapsAcross_1 9 rfl rfl)
theorem dX2_overlapsAcross_34 : decode cX2_overlapsAcross 34 = .ok (.iaload, 1) := dk_46 (dk_at dksX2_overlapsAcross_1 10 rfl rfl)
theorem dX2_overlapsAcross_35 : decode cX2_overlapsAcross 35 = .ok (.aload_n 1, 1) := dk_43 (dk_at dksX2_overlapsAcross_1 11 rfl rfl)
theorem dX2_overlapsAcross_36 : decode cX2_overlapsAcross 36 = .ok (.getfield 19, 3) := dk_180 0 19 (dk_at dksX2_overlapsAcross_1 12 rfl rfl)
theorem dX2_overlapsAcross_39 : decode cX2_overlapsAcross 39 = .ok (.iload_n 3, 1) := dk_29 (dk_at dksX2_overlapsAcross_1 15 rfl rfl)
theorem dX2_overlapsAcross_40 : decode cX2_overlapsAcross 40 = .ok (.iaload, 1) := dk_46 (dk_at dksX2_overlapsAcross_1 16 rfl rfl)
theorem dX2_overlapsAcross_41 : decode cX2_overlapsAcross 41 = .ok (.isub, 1) := dk_100 (dk_at dksX2_overlapsAcross_1 17 rfl rfl)
theorem dX2_overlapsAcross_42 : decode cX2_overlapsAcross 42 = .ok (.aload_n 0, 1) := dk_42 (dk_at dksX2_overlapsAcross_1 18 rfl rfl)
theorem dX2_overlapsAcross_43 : decode cX2_overlapsAcross 43 = .ok (.getfield 19, 3) := dk_180 0 19 (dk_at dksX2_overlapsAcross_1 19 rfl rfl)
theorem dX2_overlapsAcross_46 : decode cX2_overlapsAcross 46 = .ok (.iload_n 2, 1) := dk_28 (dk_at dksX2_overlapsAcross_1 22 rfl rfl)
theorem dX2_overlapsAcross_47 : decode cX2_overlapsAcross 47 = .ok (.iaload, 1) := dk_46 (dk_at dksX2_overlapsAcross_1 23 rfl rfl)
theorem dX2_overlapsAcross_48 : decode cX2_overlapsAcross 48 = .ok (.aload_n 0, 1) := dk_42 (dk_at dksX2_overlapsAcross_2 0 rfl rfl)
theorem dX2_overlapsAcross_49 : decode cX2_overlapsAcross 49 = .ok (.getfield 15, 3) := dk_180 0 15 (dk_at dksX2_overlapsAcross_2 1 rfl rfl)
theorem dX2_overlapsAcross_52 : decode cX2_overlapsAcross 52 = .ok (.iload_n 3, 1) := dk_29 (dk_at dksX2_overlapsAcross_2 4 rfl rfl)
theorem dX2_overlapsAcross_53 : decode cX2_overlapsAcross 53 = .ok (.iaload, 1) := dk_46 (dk_at dksX2_overlapsAcross_2 5 rfl rfl)
theorem dX2_overlapsAcross_54 : decode cX2_overlapsAcross 54 = .ok (.isub, 1) := dk_100 (dk_at dksX2_overlapsAcross_2 6 rfl rfl)
theorem dX2_overlapsAcross_55 : decode cX2_overlapsAcross 55 = .ok (.if_icmp .ge 7, 3) := dk_162 0 7 (dk_at dksX2_overlapsAcross_2 7 rfl rfl)
theorem dX2_overlapsAcross_58 : decode cX2_overlapsAcross 58 = .ok (.iconst 1, 1) := dk_4 (dk_at dksX2_overlapsAcross_2 10 rfl rfl)
theorem dX2_overlapsAcross_59 : decode cX2_overlapsAcross 59 = .ok (.goto 4, 3) := dk_167 0 4 (dk_at dksX2_overlapsAcross_2 11 rfl rfl)
theorem dX2_overlapsAcross_62 : decode cX2_overlapsAcross 62 = .ok (.iconst 0, 1) := dk_3 (dk_at dksX2_overlapsAcross_2 14 rfl rfl)
theorem dX2_overlapsAcross_63 : decode cX2_overlapsAcross 63 = .ok (.ireturn, 1) := dk_172 (dk_at dksX2_overlapsAcross_2 15 rfl rfl)
abbrev cX2_movedAlong : ByteArray := prog_2_method_12_code
def yX2_movedAlong : MethodName := ⟨RX2, "movedAlong", "(II)LDepthSorter$Box;"⟩
def dkwX2_movedAlong_1 : List UInt8 := [160, 0, 7, 28, 167, 0, 4, 3, 182, 0, 37, 176]
abbrev dktX2_movedAlong_1 : List UInt8 := dkwX2_movedAlong_1 ++ []
def dkwX2_movedAlong_0 : List UInt8 := [42, 27, 154, 0, 7, 28, 167, 0, 4, 3, 27, 4, 160, 0, 7, 28, 167, 0, 4, 3, 27, 5]
abbrev dktX2_movedAlong_0 : List UInt8 := dkwX2_movedAlong_0 ++ dktX2_movedAlong_1
theorem dksX2_movedAlong_0 : cX2_movedAlong.data.toList.drop 0 = dktX2_movedAlong_0 := by decide +kernel
theorem dksX2_movedAlong_1 : cX2_movedAlong.data.toList.drop 22 = dktX2_movedAlong_1 := dk_seg dksX2_movedAlong_0 22 rfl rfl
theorem dX2_movedAlong_0 : decode cX2_movedAlong 0 = .ok (.aload_n 0, 1) := dk_42 (dk_at dksX2_movedAlong_0 0 rfl rfl)
theorem dX2_movedAlong_1 : decode cX2_movedAlong 1 = .ok (.iload_n 1, 1) := dk_27 (dk_at dksX2_movedAlong_0 1 rfl rfl)
theorem dX2_movedAlong_2 : decode cX2_movedAlong 2 = .ok (.ifCond .ne 7, 3) := dk_154 0 7 (dk_at dksX2_movedAlong_0 2 rfl rfl)
theorem dX2_movedAlong_5 : decode cX2_movedAlong 5 = .ok (.iload_n 2, 1) := dk_28 (dk_at dksX2_movedAlong_0 5 rfl rfl)
theorem dX2_movedAlong_6 : decode cX2_movedAlong 6 = .ok (.goto 4, 3) := dk_167 0 4 (dk_at dksX2_movedAlong_0 6 rfl rfl)
theorem dX2_movedAlong_9 : decode cX2_movedAlong 9 = .ok (.iconst 0, 1) := dk_3 (dk_at dksX2_movedAlong_0 9 rfl rfl)
theorem dX2_movedAlong_10 : decode cX2_movedAlong 10 = .ok (.iload_n 1, 1) := dk_27 (dk_at dksX2_movedAlong_0 10 rfl rfl)
theorem dX2_movedAlong_11 : decode cX2_movedAlong 11 = .ok (.iconst 1, 1) := dk_4 (dk_at dksX2_movedAlong_0 11 rfl rfl)
theorem dX2_movedAlong_12 : decode cX2_movedAlong 12 = .ok (.if_icmp .ne 7, 3) := dk_160 0 7 (dk_at dksX2_movedAlong_0 12 rfl rfl)
theorem dX2_movedAlong_15 : decode cX2_movedAlong 15 = .ok (.iload_n 2, 1) := dk_28 (dk_at dksX2_movedAlong_0 15 rfl rfl)
theorem dX2_movedAlong_16 : decode cX2_movedAlong 16 = .ok (.goto 4, 3) := dk_167 0 4 (dk_at dksX2_movedAlong_0 16 rfl rfl)
theorem dX2_movedAlong_19 : decode cX2_movedAlong 19 = .ok (.iconst 0, 1) := dk_3 (dk_at dksX2_movedAlong_0 19 rfl rfl)
theorem dX2_movedAlong_20 : decode cX2_movedAlong 20 = .ok (.iload_n 1, 1) := dk_27 (dk_at dksX2_movedAlong_0 20 rfl rfl)
theorem dX2_movedAlong_21 : decode cX2_movedAlong 21 = .ok (.iconst 2, 1) := dk_5 (dk_at dksX2_movedAlong_0 21 rfl rfl)
theorem dX2_movedAlong_22 : decode cX2_movedAlong 22 = .ok (.if_icmp .ne 7, 3) := dk_160 0 7 (dk_at dksX2_movedAlong_1 0 rfl rfl)
theorem dX2_movedAlong_25 : decode cX2_movedAlong 25 = .ok (.iload_n 2, 1) := dk_28 (dk_at dksX2_movedAlong_1 3 rfl rfl)
theorem dX2_movedAlong_26 : decode cX2_movedAlong 26 = .ok (.goto 4, 3) := dk_167 0 4 (dk_at dksX2_movedAlong_1 4 rfl rfl)
theorem dX2_movedAlong_29 : decode cX2_movedAlong 29 = .ok (.iconst 0, 1) := dk_3 (dk_at dksX2_movedAlong_1 7 rfl rfl)
theorem dX2_movedAlong_30 : decode cX2_movedAlong 30 = .ok (.invokevirtual 37, 3) := dk_182 0 37 (dk_at dksX2_movedAlong_1 8 rfl rfl)
theorem dX2_movedAlong_33 : decode cX2_movedAlong 33 = .ok (.areturn, 1) := dk_176 (dk_at dksX2_movedAlong_1 11 rfl rfl)
abbrev cX2_turned : ByteArray := prog_2_method_13_code
def yX2_turned : MethodName := ⟨RX2, "turned", "()LDepthSorter$Box;"⟩
def dkwX2_turned_3 : List UInt8 := [79, 183, 0, 34, 176]
abbrev dktX2_turned_3 : List UInt8 := dkwX2_turned_3 ++ []
def dkwX2_turned_2 : List UInt8 := [180, 0, 15, 4, 46, 100, 79, 89, 7, 42, 180, 0, 19, 3, 46, 79, 89, 8, 42, 180, 0, 19, 5, 46]
abbrev dktX2_turned_2 : List UInt8 := dkwX2_turned_2 ++ dktX2_turned_3
def dkwX2_turned_1 : List UInt8 := [89, 4, 42, 180, 0, 15, 3, 46, 79, 89, 5, 42, 180, 0, 15, 5, 46, 79, 89, 6, 16, 32, 42]
abbrev dktX2_turned_1 : List UInt8 := dkwX2_turned_1 ++ dktX2_turned_2
def dkwX2_turned_0 : List UInt8 := [187, 0, 10, 89, 42, 180, 0, 9, 16, 6, 188, 10, 89, 3, 16, 32, 42, 180, 0, 19, 4, 46, 100, 79]
abbrev dktX2_turned_0 : List UInt8 := dkwX2_turned_0 ++ dktX2_turned_1
theorem dksX2_turned_0 : cX2_turned.data.toList.drop 0 = dktX2_turned_0 := by decide +kernel
theorem dksX2_turned_1 : cX2_turned.data.toList.drop 24 = dktX2_turned_1 := dk_seg dksX2_turned_0 24 rfl rfl
theorem dksX2_turned_2 : cX2_turned.data.toList.drop 47 = dktX2_turned_2 := dk_seg dksX2_turned_1 23 rfl rfl
theorem dksX2_turned_3 : cX2_turned.data.toList.drop 71 = dktX2_turned_3 := dk_seg dksX2_turned_2 24 rfl rfl
theorem dX2_turned_0 : decode cX2_turned 0 = .ok (.new 10, 3) := dk_187 0 10 (dk_at dksX2_turned_0 0 rfl rfl)
theorem dX2_turned_3 : decode cX2_turned 3 = .ok (.dup, 1) := dk_89 (dk_at dksX2_turned_0 3 rfl rfl)
theorem dX2_turned_4 : decode cX2_turned 4 = .ok (.aload_n 0, 1) := dk_42 (dk_at dksX2_turned_0 4 rfl rfl)
theorem dX2_turned_5 : decode cX2_turned 5 = .ok (.getfield 9, 3) := dk_180 0 9 (dk_at dksX2_turned_0 5 rfl rfl)
theorem dX2_turned_8 : decode cX2_turned 8 = .ok (.bipush 6, 2) := dk_16 6 (dk_at dksX2_turned_0 8 rfl rfl)
theorem dX2_turned_10 : decode cX2_turned 10 = .ok (.newarray .int, 2) := dk_188_10 (dk_at dksX2_turned_0 10 rfl rfl)
theorem dX2_turned_12 : decode cX2_turned 12 = .ok (.dup, 1) := dk_89 (dk_at dksX2_turned_0 12 rfl rfl)
theorem dX2_turned_13 : decode cX2_turned 13 = .ok (.iconst 0, 1) := dk_3 (dk_at dksX2_turned_0 13 rfl rfl)
theorem dX2_turned_14 : decode cX2_turned 14 = .ok (.bipush 32, 2) := dk_16 32 (dk_at dksX2_turned_0 14 rfl rfl)
theorem dX2_turned_16 : decode cX2_turned 16 = .ok (.aload_n 0, 1) := dk_42 (dk_at dksX2_turned_0 16 rfl rfl)
theorem dX2_turned_17 : decode cX2_turned 17 = .ok (.getfield 19, 3) := dk_180 0 19 (dk_at dksX2_turned_0 17 rfl rfl)
theorem dX2_turned_20 : decode cX2_turned 20 = .ok (.iconst 1, 1) := dk_4 (dk_at dksX2_turned_0 20 rfl rfl)
theorem dX2_turned_21 : decode cX2_turned 21 = .ok (.iaload, 1) := dk_46 (dk_at dksX2_turned_0 21 rfl rfl)
theorem dX2_turned_22 : decode cX2_turned 22 = .ok (.isub, 1) := dk_100 (dk_at dksX2_turned_0 22 rfl rfl)
theorem dX2_turned_23 : decode cX2_turned 23 = .ok (.iastore, 1) := dk_79 (dk_at dksX2_turned_0 23 rfl rfl)
theorem dX2_turned_24 : decode cX2_turned 24 = .ok (.dup, 1) := dk_89 (dk_at dksX2_turned_1 0 rfl rfl)
theorem dX2_turned_25 : decode cX2_turned 25 = .ok (.iconst 1, 1) := dk_4 (dk_at dksX2_turned_1 1 rfl rfl)
theorem dX2_turned_26 : decode cX2_turned 26 = .ok (.aload_n 0, 1) := dk_42 (dk_at dksX2_turned_1 2 rfl rfl)
theorem dX2_turned_27 : decode cX2_turned 27 = .ok (.getfield 15, 3) := dk_180 0 15 (dk_at dksX2_turned_1 3 rfl rfl)
theorem dX2_turned_30 : decode cX2_turned 30 = .ok (.iconst 0, 1) := dk_3 (dk_at dksX2_turned_1 6 rfl rfl)
theorem dX2_turned_31 : decode cX2_turned 31 = .ok (.iaload, 1) := dk_46 (dk_at dksX2_turned_1 7 rfl rfl)
theorem dX2_turned_32 : decode cX2_turned 32 = .ok (.iastore, 1) := dk_79 (dk_at dksX2_turned_1 8 rfl rfl)
theorem dX2_turned_33 : decode cX2_turned 33 = .ok (.dup, 1) := dk_89 (dk_at dksX2_turned_1 9 rfl rfl)
theorem dX2_turned_34 : decode cX2_turned 34 = .ok (.iconst 2, 1) := dk_5 (dk_at dksX2_turned_1 10 rfl rfl)
theorem dX2_turned_35 : decode cX2_turned 35 = .ok (.aload_n 0, 1) := dk_42 (dk_at dksX2_turned_1 11 rfl rfl)
theorem dX2_turned_36 : decode cX2_turned 36 = .ok (.getfield 15, 3) := dk_180 0 15 (dk_at dksX2_turned_1 12 rfl rfl)
theorem dX2_turned_39 : decode cX2_turned 39 = .ok (.iconst 2, 1) := dk_5 (dk_at dksX2_turned_1 15 rfl rfl)
theorem dX2_turned_40 : decode cX2_turned 40 = .ok (.iaload, 1) := dk_46 (dk_at dksX2_turned_1 16 rfl rfl)
theorem dX2_turned_41 : decode cX2_turned 41 = .ok (.iastore, 1) := dk_79 (dk_at dksX2_turned_1 17 rfl rfl)
theorem dX2_turned_42 : decode cX2_turned 42 = .ok (.dup, 1) := dk_89 (dk_at dksX2_turned_1 18 rfl rfl)
theorem dX2_turned_43 : decode cX2_turned 43 = .ok (.iconst 3, 1) := dk_6 (dk_at dksX2_turned_1 19 rfl rfl)
theorem dX2_turned_44 : decode cX2_turned 44 = .ok (.bipush 32, 2) := dk_16 32 (dk_at dksX2_turned_1 20 rfl rfl)
theorem dX2_turned_46 : decode cX2_turned 46 = .ok (.aload_n 0, 1) := dk_42 (dk_at dksX2_turned_1 22 rfl rfl)
theorem dX2_turned_47 : decode cX2_turned 47 = .ok (.getfield 15, 3) := dk_180 0 15 (dk_at dksX2_turned_2 0 rfl rfl)
theorem dX2_turned_50 : decode cX2_turned 50 = .ok (.iconst 1, 1) := dk_4 (dk_at dksX2_turned_2 3 rfl rfl)
theorem dX2_turned_51 : decode cX2_turned 51 = .ok (.iaload, 1) := dk_46 (dk_at dksX2_turned_2 4 rfl rfl)
theorem dX2_turned_52 : decode cX2_turned 52 = .ok (.isub, 1) := dk_100 (dk_at dksX2_turned_2 5 rfl rfl)
theorem dX2_turned_53 : decode cX2_turned 53 = .ok (.iastore, 1) := dk_79 (dk_at dksX2_turned_2 6 rfl rfl)
theorem dX2_turned_54 : decode cX2_turned 54 = .ok (.dup, 1) := dk_89 (dk_at dksX2_turned_2 7 rfl rfl)
theorem dX2_turned_55 : decode cX2_turned 55 = .ok (.iconst 4, 1) := dk_7 (dk_at dksX2_turned_2 8 rfl rfl)
theorem dX2_turned_56 : decode cX2_turned 56 = .ok (.aload_n 0, 1) := dk_42 (dk_at dksX2_turned_2 9 rfl rfl)
theorem dX2_turned_57 : decode cX2_turned 57 = .ok (.getfield 19, 3) := dk_180 0 19 (dk_at dksX2_turned_2 10 rfl rfl)
theorem dX2_turned_60 : decode cX2_turned 60 = .ok (.iconst 0, 1) := dk_3 (dk_at dksX2_turned_2 13 rfl rfl)
theorem dX2_turned_61 : decode cX2_turned 61 = .ok (.iaload, 1) := dk_46 (dk_at dksX2_turned_2 14 rfl rfl)
theorem dX2_turned_62 : decode cX2_turned 62 = .ok (.iastore, 1) := dk_79 (dk_at dksX2_turned_2 15 rfl rfl)
theorem dX2_turned_63 : decode cX2_turned 63 = .ok (.dup, 1) := dk_89 (dk_at dksX2_turned_2 16 rfl rfl)
theorem dX2_turned_64 : decode cX2_turned 64 = .ok (.iconst 5, 1) := dk_8 (dk_at dksX2_turned_2 17 rfl rfl)
theorem dX2_turned_65 : decode cX2_turned 65 = .ok (.aload_n 0, 1) := dk_42 (dk_at dksX2_turned_2 18 rfl rfl)
theorem dX2_turned_66 : decode cX2_turned 66 = .ok (.getfield 19, 3) := dk_180 0 19 (dk_at dksX2_turned_2 19 rfl rfl)
theorem dX2_turned_69 : decode cX2_turned 69 = .ok (.iconst 2, 1) := dk_5 (dk_at dksX2_turned_2 22 rfl rfl)
theorem dX2_turned_70 : decode cX2_turned 70 = .ok (.iaload, 1) := dk_46 (dk_at dksX2_turned_2 23 rfl rfl)
theorem dX2_turned_71 : decode cX2_turned 71 = .ok (.iastore, 1) := dk_79 (dk_at dksX2_turned_3 0 rfl rfl)
theorem dX2_turned_72 : decode cX2_turned 72 = .ok (.invokespecial 34, 3) := dk_183 0 34 (dk_at dksX2_turned_3 1 rfl rfl)
theorem dX2_turned_75 : decode cX2_turned 75 = .ok (.areturn, 1) := dk_176 (dk_at dksX2_turned_3 4 rfl rfl)
abbrev cX2_isCutBy : ByteArray := prog_2_method_10_code
def yX2_isCutBy : MethodName := ⟨RX2, "isCutBy", "(II)Z"⟩
def dkwX2_isCutBy_1 : List UInt8 := [3, 172]
abbrev dktX2_isCutBy_1 : List UInt8 := dkwX2_isCutBy_1 ++ []
def dkwX2_isCutBy_0 : List UInt8 := [42, 180, 0, 15, 27, 46, 28, 162, 0, 17, 28, 42, 180, 0, 19, 27, 46, 162, 0, 7, 4, 167, 0, 4]
abbrev dktX2_isCutBy_0 : List UInt8 := dkwX2_isCutBy_0 ++ dktX2_isCutBy_1
theorem dksX2_isCutBy_0 : cX2_isCutBy.data.toList.drop 0 = dktX2_isCutBy_0 := by decide +kernel
theorem dksX2_isCutBy_1 : cX2_isCutBy.data.toList.drop 24 = dktX2_isCutBy_1 := dk_seg dksX2_isCutBy_0 24 rfl rfl
theorem dX2_isCutBy_0 : decode cX2_isCutBy 0 = .ok (.aload_n 0, 1) := dk_42 (dk_at dksX2_isCutBy_0 0 rfl rfl)
theorem dX2_isCutBy_1 : decode cX2_isCutBy 1 = .ok (.getfield 15, 3) := dk_180 0 15 (dk_at dksX2_isCutBy_0 1 rfl rfl)
theorem dX2_isCutBy_4 : decode cX2_isCutBy 4 = .ok (.iload_n 1, 1) := dk_27 (dk_at dksX2_isCutBy_0 4 rfl rfl)
theorem dX2_isCutBy_5 : decode cX2_isCutBy 5 = .ok (.iaload, 1) := dk_46 (dk_at dksX2_isCutBy_0 5 rfl rfl)
theorem dX2_isCutBy_6 : decode cX2_isCutBy 6 = .ok (.iload_n 2, 1) := dk_28 (dk_at dksX2_isCutBy_0 6 rfl rfl)
theorem dX2_isCutBy_7 : decode cX2_isCutBy 7 = .ok (.if_icmp .ge 17, 3) := dk_162 0 17 (dk_at dksX2_isCutBy_0 7 rfl rfl)
theorem dX2_isCutBy_10 : decode cX2_isCutBy 10 = .ok (.iload_n 2, 1) := dk_28 (dk_at dksX2_isCutBy_0 10 rfl rfl)
theorem dX2_isCutBy_11 : decode cX2_isCutBy 11 = .ok (.aload_n 0, 1) := dk_42 (dk_at dksX2_isCutBy_0 11 rfl rfl)
theorem dX2_isCutBy_12 : decode cX2_isCutBy 12 = .ok (.getfield 19, 3) := dk_180 0 19 (dk_at dksX2_isCutBy_0 12 rfl rfl)
theorem dX2_isCutBy_15 : decode cX2_isCutBy 15 = .ok (.iload_n 1, 1) := dk_27 (dk_at dksX2_isCutBy_0 15 rfl rfl)
theorem dX2_isCutBy_16 : decode cX2_isCutBy 16 = .ok (.iaload, 1) := dk_46 (dk_at dksX2_isCutBy_0 16 rfl rfl)
theorem dX2_isCutBy_17 : decode cX2_isCutBy 17 = .ok (.if_icmp .ge 7, 3) := dk_162 0 7 (dk_at dksX2_isCutBy_0 17 rfl rfl)
theorem dX2_isCutBy_20 : decode cX2_isCutBy 20 = .ok (.iconst 1, 1) := dk_4 (dk_at dksX2_isCutBy_0 20 rfl rfl)
theorem dX2_isCutBy_21 : decode cX2_isCutBy 21 = .ok (.goto 4, 3) := dk_167 0 4 (dk_at dksX2_isCutBy_0 21 rfl rfl)
theorem dX2_isCutBy_24 : decode cX2_isCutBy 24 = .ok (.iconst 0, 1) := dk_3 (dk_at dksX2_isCutBy_1 0 rfl rfl)
theorem dX2_isCutBy_25 : decode cX2_isCutBy 25 = .ok (.ireturn, 1) := dk_172 (dk_at dksX2_isCutBy_1 1 rfl rfl)
abbrev cX2_lowerPart : ByteArray := prog_2_method_14_code
def yX2_lowerPart : MethodName := ⟨RX2, "lowerPart", "(II)LDepthSorter$Box;"⟩
def dkwX2_lowerPart_1 : List UInt8 := [180, 0, 15, 45, 183, 0, 46, 176]
abbrev dktX2_lowerPart_1 : List UInt8 := dkwX2_lowerPart_1 ++ []
def dkwX2_lowerPart_0 : List UInt8 := [42, 180, 0, 19, 182, 0, 41, 192, 0, 42, 78, 45, 27, 28, 79, 187, 0, 10, 89, 42, 180, 0, 9, 42]
abbrev dktX2_lowerPart_0 : List UInt8 := dkwX2_lowerPart_0 ++ dktX2_lowerPart_1
theorem dksX2_lowerPart_0 : cX2_lowerPart.data.toList.drop 0 = dktX2_lowerPart_0 := by decide +kernel
theorem dksX2_lowerPart_1 : cX2_lowerPart.data.toList.drop 24 = dktX2_lowerPart_1 := dk_seg dksX2_lowerPart_0 24 rfl rfl
theorem dX2_lowerPart_0 : decode cX2_lowerPart 0 = .ok (.aload_n 0, 1) := dk_42 (dk_at dksX2_lowerPart_0 0 rfl rfl)
theorem dX2_lowerPart_1 : decode cX2_lowerPart 1 = .ok (.getfield 19, 3) := dk_180 0 19 (dk_at dksX2_lowerPart_0 1 rfl rfl)
theorem dX2_lowerPart_4 : decode cX2_lowerPart 4 = .ok (.invokevirtual 41, 3) := dk_182 0 41 (dk_at dksX2_lowerPart_0 4 rfl rfl)
theorem dX2_lowerPart_7 : decode cX2_lowerPart 7 = .ok (.checkcast 42, 3) := dk_192 0 42 (dk_at dksX2_lowerPart_0 7 rfl rfl)
theorem dX2_lowerPart_10 : decode cX2_lowerPart 10 = .ok (.astore_n 3, 1) := dk_78 (dk_at dksX2_lowerPart_0 10 rfl rfl)
theorem dX2_lowerPart_11 : decode cX2_lowerPart 11 = .ok (.aload_n 3, 1) := dk_45 (dk_at dksX2_lowerPart_0 11 rfl rfl)
theorem dX2_lowerPart_12 : decode cX2_lowerPart 12 = .ok (.iload_n 1, 1) := dk_27 (dk_at dksX2_lowerPart_0 12 rfl rfl)
theorem dX2_lowerPart_13 : decode cX2_lowerPart 13 = .ok (.iload_n 2, 1) := dk_28 (dk_at dksX2_lowerPart_0 13 rfl rfl)
theorem dX2_lowerPart_14 : decode cX2_lowerPart 14 = .ok (.iastore, 1) := dk_79 (dk_at dksX2_lowerPart_0 14 rfl rfl)
theorem dX2_lowerPart_15 : decode cX2_lowerPart 15 = .ok (.new 10, 3) := dk_187 0 10 (dk_at dksX2_lowerPart_0 15 rfl rfl)
theorem dX2_lowerPart_18 : decode cX2_lowerPart 18 = .ok (.dup, 1) := dk_89 (dk_at dksX2_lowerPart_0 18 rfl rfl)
theorem dX2_lowerPart_19 : decode cX2_lowerPart 19 = .ok (.aload_n 0, 1) := dk_42 (dk_at dksX2_lowerPart_0 19 rfl rfl)
theorem dX2_lowerPart_20 : decode cX2_lowerPart 20 = .ok (.getfield 9, 3) := dk_180 0 9 (dk_at dksX2_lowerPart_0 20 rfl rfl)
theorem dX2_lowerPart_23 : decode cX2_lowerPart 23 = .ok (.aload_n 0, 1) := dk_42 (dk_at dksX2_lowerPart_0 23 rfl rfl)
theorem dX2_lowerPart_24 : decode cX2_lowerPart 24 = .ok (.getfield 15, 3) := dk_180 0 15 (dk_at dksX2_lowerPart_1 0 rfl rfl)
theorem dX2_lowerPart_27 : decode cX2_lowerPart 27 = .ok (.aload_n 3, 1) := dk_45 (dk_at dksX2_lowerPart_1 3 rfl rfl)
theorem dX2_lowerPart_28 : decode cX2_lowerPart 28 = .ok (.invokespecial 46, 3) := dk_183 0 46 (dk_at dksX2_lowerPart_1 4 rfl rfl)
theorem dX2_lowerPart_31 : decode cX2_lowerPart 31 = .ok (.areturn, 1) := dk_176 (dk_at dksX2_lowerPart_1 7 rfl rfl)
abbrev cX2_init_2 : ByteArray := prog_2_method_2_code
def yX2_init_2 : MethodName := ⟨RX2, "<init>", "(I[I[I)V"⟩
def dkwX2_init_2_0 : List UInt8 := [42, 183, 0, 3, 42, 27, 181, 0, 9, 42, 44, 181, 0, 15, 42, 45, 181, 0, 19, 177]
abbrev dktX2_init_2_0 : List UInt8 := dkwX2_init_2_0 ++ []
theorem dksX2_init_2_0 : cX2_init_2.data.toList.drop 0 = dktX2_init_2_0 := by decide +kernel
theorem dX2_init_2_0 : decode cX2_init_2 0 = .ok (.aload_n 0, 1) := dk_42 (dk_at dksX2_init_2_0 0 rfl rfl)
theorem dX2_init_2_1 : decode cX2_init_2 1 = .ok (.invokespecial 3, 3) := dk_183 0 3 (dk_at dksX2_init_2_0 1 rfl rfl)
theorem dX2_init_2_4 : decode cX2_init_2 4 = .ok (.aload_n 0, 1) := dk_42 (dk_at dksX2_init_2_0 4 rfl rfl)
theorem dX2_init_2_5 : decode cX2_init_2 5 = .ok (.iload_n 1, 1) := dk_27 (dk_at dksX2_init_2_0 5 rfl rfl)
theorem dX2_init_2_6 : decode cX2_init_2 6 = .ok (.putfield 9, 3) := dk_181 0 9 (dk_at dksX2_init_2_0 6 rfl rfl)
theorem dX2_init_2_9 : decode cX2_init_2 9 = .ok (.aload_n 0, 1) := dk_42 (dk_at dksX2_init_2_0 9 rfl rfl)
theorem dX2_init_2_10 : decode cX2_init_2 10 = .ok (.aload_n 2, 1) := dk_44 (dk_at dksX2_init_2_0 10 rfl rfl)
theorem dX2_init_2_11 : decode cX2_init_2 11 = .ok (.putfield 15, 3) := dk_181 0 15 (dk_at dksX2_init_2_0 11 rfl rfl)
theorem dX2_init_2_14 : decode cX2_init_2 14 = .ok (.aload_n 0, 1) := dk_42 (dk_at dksX2_init_2_0 14 rfl rfl)
theorem dX2_init_2_15 : decode cX2_init_2 15 = .ok (.aload_n 3, 1) := dk_45 (dk_at dksX2_init_2_0 15 rfl rfl)
theorem dX2_init_2_16 : decode cX2_init_2 16 = .ok (.putfield 19, 3) := dk_181 0 19 (dk_at dksX2_init_2_0 16 rfl rfl)
theorem dX2_init_2_19 : decode cX2_init_2 19 = .ok (.return_, 1) := dk_177 (dk_at dksX2_init_2_0 19 rfl rfl)
abbrev cX2_upperPart : ByteArray := prog_2_method_15_code
def yX2_upperPart : MethodName := ⟨RX2, "upperPart", "(III)LDepthSorter$Box;"⟩
def dkwX2_upperPart_1 : List UInt8 := [42, 180, 0, 19, 183, 0, 46, 176]
abbrev dktX2_upperPart_1 : List UInt8 := dkwX2_upperPart_1 ++ []
def dkwX2_upperPart_0 : List UInt8 := [42, 180, 0, 15, 182, 0, 41, 192, 0, 42, 58, 4, 25, 4, 28, 29, 79, 187, 0, 10, 89, 27, 25, 4]
abbrev dktX2_upperPart_0 : List UInt8 := dkwX2_upperPart_0 ++ dktX2_upperPart_1
theorem dksX2_upperPart_0 : cX2_upperPart.data.toList.drop 0 = dktX2_upperPart_0 := by decide +kernel
theorem dksX2_upperPart_1 : cX2_upperPart.data.toList.drop 24 = dktX2_upperPart_1 := dk_seg dksX2_upperPart_0 24 rfl rfl
theorem dX2_upperPart_0 : decode cX2_upperPart 0 = .ok (.aload_n 0, 1) := dk_42 (dk_at dksX2_upperPart_0 0 rfl rfl)
theorem dX2_upperPart_1 : decode cX2_upperPart 1 = .ok (.getfield 15, 3) := dk_180 0 15 (dk_at dksX2_upperPart_0 1 rfl rfl)
theorem dX2_upperPart_4 : decode cX2_upperPart 4 = .ok (.invokevirtual 41, 3) := dk_182 0 41 (dk_at dksX2_upperPart_0 4 rfl rfl)
theorem dX2_upperPart_7 : decode cX2_upperPart 7 = .ok (.checkcast 42, 3) := dk_192 0 42 (dk_at dksX2_upperPart_0 7 rfl rfl)
theorem dX2_upperPart_10 : decode cX2_upperPart 10 = .ok (.astore 4, 2) := dk_58 4 (dk_at dksX2_upperPart_0 10 rfl rfl)
theorem dX2_upperPart_12 : decode cX2_upperPart 12 = .ok (.aload 4, 2) := dk_25 4 (dk_at dksX2_upperPart_0 12 rfl rfl)
theorem dX2_upperPart_14 : decode cX2_upperPart 14 = .ok (.iload_n 2, 1) := dk_28 (dk_at dksX2_upperPart_0 14 rfl rfl)
theorem dX2_upperPart_15 : decode cX2_upperPart 15 = .ok (.iload_n 3, 1) := dk_29 (dk_at dksX2_upperPart_0 15 rfl rfl)
theorem dX2_upperPart_16 : decode cX2_upperPart 16 = .ok (.iastore, 1) := dk_79 (dk_at dksX2_upperPart_0 16 rfl rfl)
theorem dX2_upperPart_17 : decode cX2_upperPart 17 = .ok (.new 10, 3) := dk_187 0 10 (dk_at dksX2_upperPart_0 17 rfl rfl)
theorem dX2_upperPart_20 : decode cX2_upperPart 20 = .ok (.dup, 1) := dk_89 (dk_at dksX2_upperPart_0 20 rfl rfl)
theorem dX2_upperPart_21 : decode cX2_upperPart 21 = .ok (.iload_n 1, 1) := dk_27 (dk_at dksX2_upperPart_0 21 rfl rfl)
theorem dX2_upperPart_22 : decode cX2_upperPart 22 = .ok (.aload 4, 2) := dk_25 4 (dk_at dksX2_upperPart_0 22 rfl rfl)
theorem dX2_upperPart_24 : decode cX2_upperPart 24 = .ok (.aload_n 0, 1) := dk_42 (dk_at dksX2_upperPart_1 0 rfl rfl)
theorem dX2_upperPart_25 : decode cX2_upperPart 25 = .ok (.getfield 19, 3) := dk_180 0 19 (dk_at dksX2_upperPart_1 1 rfl rfl)
theorem dX2_upperPart_28 : decode cX2_upperPart 28 = .ok (.invokespecial 46, 3) := dk_183 0 46 (dk_at dksX2_upperPart_1 4 rfl rfl)
theorem dX2_upperPart_31 : decode cX2_upperPart 31 = .ok (.areturn, 1) := dk_176 (dk_at dksX2_upperPart_1 7 rfl rfl)
abbrev cX2_corner : ByteArray := prog_2_method_20_code
def yX2_corner : MethodName := ⟨RX2, "corner", "(I)I"⟩
def dkwX2_corner_0 : List UInt8 := [27, 6, 162, 0, 12, 42, 180, 0, 15, 27, 46, 167, 0, 11, 42, 180, 0, 19, 27, 6, 100, 46, 172]
abbrev dktX2_corner_0 : List UInt8 := dkwX2_corner_0 ++ []
theorem dksX2_corner_0 : cX2_corner.data.toList.drop 0 = dktX2_corner_0 := by decide +kernel
theorem dX2_corner_0 : decode cX2_corner 0 = .ok (.iload_n 1, 1) := dk_27 (dk_at dksX2_corner_0 0 rfl rfl)
theorem dX2_corner_1 : decode cX2_corner 1 = .ok (.iconst 3, 1) := dk_6 (dk_at dksX2_corner_0 1 rfl rfl)
theorem dX2_corner_2 : decode cX2_corner 2 = .ok (.if_icmp .ge 12, 3) := dk_162 0 12 (dk_at dksX2_corner_0 2 rfl rfl)
theorem dX2_corner_5 : decode cX2_corner 5 = .ok (.aload_n 0, 1) := dk_42 (dk_at dksX2_corner_0 5 rfl rfl)
theorem dX2_corner_6 : decode cX2_corner 6 = .ok (.getfield 15, 3) := dk_180 0 15 (dk_at dksX2_corner_0 6 rfl rfl)
theorem dX2_corner_9 : decode cX2_corner 9 = .ok (.iload_n 1, 1) := dk_27 (dk_at dksX2_corner_0 9 rfl rfl)
theorem dX2_corner_10 : decode cX2_corner 10 = .ok (.iaload, 1) := dk_46 (dk_at dksX2_corner_0 10 rfl rfl)
theorem dX2_corner_11 : decode cX2_corner 11 = .ok (.goto 11, 3) := dk_167 0 11 (dk_at dksX2_corner_0 11 rfl rfl)
theorem dX2_corner_14 : decode cX2_corner 14 = .ok (.aload_n 0, 1) := dk_42 (dk_at dksX2_corner_0 14 rfl rfl)
theorem dX2_corner_15 : decode cX2_corner 15 = .ok (.getfield 19, 3) := dk_180 0 19 (dk_at dksX2_corner_0 15 rfl rfl)
theorem dX2_corner_18 : decode cX2_corner 18 = .ok (.iload_n 1, 1) := dk_27 (dk_at dksX2_corner_0 18 rfl rfl)
theorem dX2_corner_19 : decode cX2_corner 19 = .ok (.iconst 3, 1) := dk_6 (dk_at dksX2_corner_0 19 rfl rfl)
theorem dX2_corner_20 : decode cX2_corner 20 = .ok (.isub, 1) := dk_100 (dk_at dksX2_corner_0 20 rfl rfl)
theorem dX2_corner_21 : decode cX2_corner 21 = .ok (.iaload, 1) := dk_46 (dk_at dksX2_corner_0 21 rfl rfl)
theorem dX2_corner_22 : decode cX2_corner 22 = .ok (.ireturn, 1) := dk_172 (dk_at dksX2_corner_0 22 rfl rfl)
abbrev cX2_touchingAxis : ByteArray := prog_2_method_9_code
def yX2_touchingAxis : MethodName := ⟨RX2, "touchingAxis", "(LDepthSorter$Box;)I"⟩
def dkwX2_touchingAxis_3 : List UInt8 := [153, 0, 5, 28, 172, 132, 2, 1, 167, 255, 180, 16, 150, 172]
abbrev dktX2_touchingAxis_3 : List UInt8 := dkwX2_touchingAxis_3 ++ []
def dkwX2_touchingAxis_2 : List UInt8 := [42, 43, 28, 4, 96, 6, 112, 182, 0, 22, 153, 0, 18, 42, 43, 28, 5, 96, 6, 112, 182, 0, 22]
abbrev dktX2_touchingAxis_2 : List UInt8 := dkwX2_touchingAxis_2 ++ dktX2_touchingAxis_3
def dkwX2_touchingAxis_1 : List UInt8 := [180, 0, 19, 28, 46, 42, 180, 0, 15, 28, 46, 160, 0, 7, 4, 167, 0, 4, 3, 62, 29, 153, 0, 31]
abbrev dktX2_touchingAxis_1 : List UInt8 := dkwX2_touchingAxis_1 ++ dktX2_touchingAxis_2
def dkwX2_touchingAxis_0 : List UInt8 := [3, 61, 28, 6, 162, 0, 77, 42, 180, 0, 19, 28, 46, 43, 180, 0, 15, 28, 46, 159, 0, 18, 43]
abbrev dktX2_touchingAxis_0 : List UInt8 := dkwX2_touchingAxis_0 ++ dktX2_touchingAxis_1
theorem dksX2_touchingAxis_0 : cX2_touchingAxis.data.toList.drop 0 = dktX2_touchingAxis_0 := by decide +kernel
theorem dksX2_touchingAxis_1 : cX2_touchingAxis.data.toList.drop 23 = dktX2_touchingAxis_1 := dk_seg dksX2_touchingAxis_0 23 rfl rfl
theorem dksX2_touchingAxis_2 : cX2_touchingAxis.data.toList.drop 47 = dktX2_touchingAxis_2 := dk_seg dksX2_touchingAxis_1 24 rfl rfl
theorem dksX2_touchingAxis_3 : cX2_touchingAxis.data.toList.drop 70 = dktX2_touchingAxis_3 := dk_seg dksX2_touchingAxis_2 23 rfl rfl
theorem dX2_touchingAxis_0 : decode cX2_touchingAxis 0 = .ok (.iconst 0, 1) := dk_3 (dk_at dksX2_touchingAxis_0 0 rfl rfl)
theorem dX2_touchingAxis_1 : decode cX2_touchingAxis 1 = .ok (.istore_n 2, 1) := dk_61 (dk_at dksX2_touchingAxis_0 1 rfl rfl)
theorem dX2_touchingAxis_2 : decode cX2_touchingAxis 2 = .ok (.iload_n 2, 1) := dk_28 (dk_at dksX2_touchingAxis_0 2 rfl rfl)
theorem dX2_touchingAxis_3 : decode cX2_touchingAxis 3 = .ok (.iconst 3, 1) := dk_6 (dk_at dksX2_touchingAxis_0 3 rfl rfl)
theorem dX2_touchingAxis_4 : decode cX2_touchingAxis 4 = .ok (.if_icmp .ge 77, 3) := dk_162 0 77 (dk_at dksX2_touchingAxis_0 4 rfl rfl)
theorem dX2_touchingAxis_7 : decode cX2_touchingAxis 7 = .ok (.aload_n 0, 1) := dk_42 (dk_at dksX2_touchingAxis_0 7 rfl rfl)
theorem dX2_touchingAxis_8 : decode cX2_touchingAxis 8 = .ok (.getfield 19, 3) := dk_180 0 19 (dk_at dksX2_touchingAxis_0 8 rfl rfl)
theorem dX2_touchingAxis_11 : decode cX2_touchingAxis 11 = .ok (.iload_n 2, 1) := dk_28 (dk_at dksX2_touchingAxis_0 11 rfl rfl)
theorem dX2_touchingAxis_12 : decode cX2_touchingAxis 12 = .ok (.iaload, 1) := dk_46 (dk_at dksX2_touchingAxis_0 12 rfl rfl)
theorem dX2_touchingAxis_13 : decode cX2_touchingAxis 13 = .ok (.aload_n 1, 1) := dk_43 (dk_at dksX2_touchingAxis_0 13 rfl rfl)
theorem dX2_touchingAxis_14 : decode cX2_touchingAxis 14 = .ok (.getfield 15, 3) := dk_180 0 15 (dk_at dksX2_touchingAxis_0 14 rfl rfl)
theorem dX2_touchingAxis_17 : decode cX2_touchingAxis 17 = .ok (.iload_n 2, 1) := dk_28 (dk_at dksX2_touchingAxis_0 17 rfl rfl)
theorem dX2_touchingAxis_18 : decode cX2_touchingAxis 18 = .ok (.iaload, 1) := dk_46 (dk_at dksX2_touchingAxis_0 18 rfl rfl)
theorem dX2_touchingAxis_19 : decode cX2_touchingAxis 19 = .ok (.if_icmp .eq 18, 3) := dk_159 0 18 (dk_at dksX2_touchingAxis_0 19 rfl rfl)
theorem dX2_touchingAxis_22 : decode cX2_touchingAxis 22 = .ok (.aload_n 1, 1) := dk_43 (dk_at dksX2_touchingAxis_0 22 rfl rfl)
theorem dX2_touchingAxis_23 : decode cX2_touchingAxis 23 = .ok (.getfield 19, 3) := dk_180 0 19 (dk_at dksX2_touchingAxis_1 0 rfl rfl)
theorem dX2_touchingAxis_26 : decode cX2_touchingAxis 26 = .ok (.iload_n 2, 1) := dk_28 (dk_at dksX2_touchingAxis_1 3 rfl rfl)
theorem dX2_touchingAxis_27 : decode cX2_touchingAxis 27 = .ok (.iaload, 1) := dk_46 (dk_at dksX2_touchingAxis_1 4 rfl rfl)
theorem dX2_touchingAxis_28 : decode cX2_touchingAxis 28 = .ok (.aload_n 0, 1) := dk_42 (dk_at dksX2_touchingAxis_1 5 rfl rfl)
theorem dX2_touchingAxis_29 : decode cX2_touchingAxis 29 = .ok (.getfield 15, 3) := dk_180 0 15 (dk_at dksX2_touchingAxis_1 6 rfl rfl)
theorem dX2_touchingAxis_32 : decode cX2_touchingAxis 32 = .ok (.iload_n 2, 1) := dk_28 (dk_at dksX2_touchingAxis_1 9 rfl rfl)
theorem dX2_touchingAxis_33 : decode cX2_touchingAxis 33 = .ok (.iaload, 1) := dk_46 (dk_at dksX2_touchingAxis_1 10 rfl rfl)
theorem dX2_touchingAxis_34 : decode cX2_touchingAxis 34 = .ok (.if_icmp .ne 7, 3) := dk_160 0 7 (dk_at dksX2_touchingAxis_1 11 rfl rfl)
theorem dX2_touchingAxis_37 : decode cX2_touchingAxis 37 = .ok (.iconst 1, 1) := dk_4 (dk_at dksX2_touchingAxis_1 14 rfl rfl)
theorem dX2_touchingAxis_38 : decode cX2_touchingAxis 38 = .ok (.goto 4, 3) := dk_167 0 4 (dk_at dksX2_touchingAxis_1 15 rfl rfl)
theorem dX2_touchingAxis_41 : decode cX2_touchingAxis 41 = .ok (.iconst 0, 1) := dk_3 (dk_at dksX2_touchingAxis_1 18 rfl rfl)
theorem dX2_touchingAxis_42 : decode cX2_touchingAxis 42 = .ok (.istore_n 3, 1) := dk_62 (dk_at dksX2_touchingAxis_1 19 rfl rfl)
theorem dX2_touchingAxis_43 : decode cX2_touchingAxis 43 = .ok (.iload_n 3, 1) := dk_29 (dk_at dksX2_touchingAxis_1 20 rfl rfl)
theorem dX2_touchingAxis_44 : decode cX2_touchingAxis 44 = .ok (.ifCond .eq 31, 3) := dk_153 0 31 (dk_at dksX2_touchingAxis_1 21 rfl rfl)
theorem dX2_touchingAxis_47 : decode cX2_touchingAxis 47 = .ok (.aload_n 0, 1) := dk_42 (dk_at dksX2_touchingAxis_2 0 rfl rfl)
theorem dX2_touchingAxis_48 : decode cX2_touchingAxis 48 = .ok (.aload_n 1, 1) := dk_43 (dk_at dksX2_touchingAxis_2 1 rfl rfl)
theorem dX2_touchingAxis_49 : decode cX2_touchingAxis 49 = .ok (.iload_n 2, 1) := dk_28 (dk_at dksX2_touchingAxis_2 2 rfl rfl)
theorem dX2_touchingAxis_50 : decode cX2_touchingAxis 50 = .ok (.iconst 1, 1) := dk_4 (dk_at dksX2_touchingAxis_2 3 rfl rfl)
theorem dX2_touchingAxis_51 : decode cX2_touchingAxis 51 = .ok (.iadd, 1) := dk_96 (dk_at dksX2_touchingAxis_2 4 rfl rfl)
theorem dX2_touchingAxis_52 : decode cX2_touchingAxis 52 = .ok (.iconst 3, 1) := dk_6 (dk_at dksX2_touchingAxis_2 5 rfl rfl)
theorem dX2_touchingAxis_53 : decode cX2_touchingAxis 53 = .ok (.irem, 1) := dk_112 (dk_at dksX2_touchingAxis_2 6 rfl rfl)
theorem dX2_touchingAxis_54 : decode cX2_touchingAxis 54 = .ok (.invokevirtual 22, 3) := dk_182 0 22 (dk_at dksX2_touchingAxis_2 7 rfl rfl)
theorem dX2_touchingAxis_57 : decode cX2_touchingAxis 57 = .ok (.ifCond .eq 18, 3) := dk_153 0 18 (dk_at dksX2_touchingAxis_2 10 rfl rfl)
theorem dX2_touchingAxis_60 : decode cX2_touchingAxis 60 = .ok (.aload_n 0, 1) := dk_42 (dk_at dksX2_touchingAxis_2 13 rfl rfl)
theorem dX2_touchingAxis_61 : decode cX2_touchingAxis 61 = .ok (.aload_n 1, 1) := dk_43 (dk_at dksX2_touchingAxis_2 14 rfl rfl)
theorem dX2_touchingAxis_62 : decode cX2_touchingAxis 62 = .ok (.iload_n 2, 1) := dk_28 (dk_at dksX2_touchingAxis_2 15 rfl rfl)
theorem dX2_touchingAxis_63 : decode cX2_touchingAxis 63 = .ok (.iconst 2, 1) := dk_5 (dk_at dksX2_touchingAxis_2 16 rfl rfl)
theorem dX2_touchingAxis_64 : decode cX2_touchingAxis 64 = .ok (.iadd, 1) := dk_96 (dk_at dksX2_touchingAxis_2 17 rfl rfl)
theorem dX2_touchingAxis_65 : decode cX2_touchingAxis 65 = .ok (.iconst 3, 1) := dk_6 (dk_at dksX2_touchingAxis_2 18 rfl rfl)
theorem dX2_touchingAxis_66 : decode cX2_touchingAxis 66 = .ok (.irem, 1) := dk_112 (dk_at dksX2_touchingAxis_2 19 rfl rfl)
theorem dX2_touchingAxis_67 : decode cX2_touchingAxis 67 = .ok (.invokevirtual 22, 3) := dk_182 0 22 (dk_at dksX2_touchingAxis_2 20 rfl rfl)
theorem dX2_touchingAxis_70 : decode cX2_touchingAxis 70 = .ok (.ifCond .eq 5, 3) := dk_153 0 5 (dk_at dksX2_touchingAxis_3 0 rfl rfl)
theorem dX2_touchingAxis_73 : decode cX2_touchingAxis 73 = .ok (.iload_n 2, 1) := dk_28 (dk_at dksX2_touchingAxis_3 3 rfl rfl)
theorem dX2_touchingAxis_74 : decode cX2_touchingAxis 74 = .ok (.ireturn, 1) := dk_172 (dk_at dksX2_touchingAxis_3 4 rfl rfl)
theorem dX2_touchingAxis_75 : decode cX2_touchingAxis 75 = .ok (.iinc 2 1, 3) := dk_132 2 1 (dk_at dksX2_touchingAxis_3 5 rfl rfl)
theorem dX2_touchingAxis_78 : decode cX2_touchingAxis 78 = .ok (.goto (-76), 3) := dk_167 255 180 (dk_at dksX2_touchingAxis_3 8 rfl rfl)
theorem dX2_touchingAxis_81 : decode cX2_touchingAxis 81 = .ok (.bipush (-106), 2) := dk_16 150 (dk_at dksX2_touchingAxis_3 11 rfl rfl)
theorem dX2_touchingAxis_83 : decode cX2_touchingAxis 83 = .ok (.ireturn, 1) := dk_172 (dk_at dksX2_touchingAxis_3 13 rfl rfl)
abbrev cX2_isMetBy : ByteArray := prog_2_method_18_code
def yX2_isMetBy : MethodName := ⟨RX2, "isMetBy", "(III)Z"⟩
def dkwX2_isMetBy_0 : List UInt8 := [42, 27, 28, 29, 182, 0, 58, 42, 27, 28, 29, 182, 0, 62, 162, 0, 7, 4, 167, 0, 4, 3, 172]
abbrev dktX2_isMetBy_0 : List UInt8 := dkwX2_isMetBy_0 ++ []
theorem dksX2_isMetBy_0 : cX2_isMetBy.data.toList.drop 0 = dktX2_isMetBy_0 := by decide +kernel
theorem dX2_isMetBy_0 : decode cX2_isMetBy 0 = .ok (.aload_n 0, 1) := dk_42 (dk_at dksX2_isMetBy_0 0 rfl rfl)
theorem dX2_isMetBy_1 : decode cX2_isMetBy 1 = .ok (.iload_n 1, 1) := dk_27 (dk_at dksX2_isMetBy_0 1 rfl rfl)
theorem dX2_isMetBy_2 : decode cX2_isMetBy 2 = .ok (.iload_n 2, 1) := dk_28 (dk_at dksX2_isMetBy_0 2 rfl rfl)
theorem dX2_isMetBy_3 : decode cX2_isMetBy 3 = .ok (.iload_n 3, 1) := dk_29 (dk_at dksX2_isMetBy_0 3 rfl rfl)
theorem dX2_isMetBy_4 : decode cX2_isMetBy 4 = .ok (.invokevirtual 58, 3) := dk_182 0 58 (dk_at dksX2_isMetBy_0 4 rfl rfl)
theorem dX2_isMetBy_7 : decode cX2_isMetBy 7 = .ok (.aload_n 0, 1) := dk_42 (dk_at dksX2_isMetBy_0 7 rfl rfl)
theorem dX2_isMetBy_8 : decode cX2_isMetBy 8 = .ok (.iload_n 1, 1) := dk_27 (dk_at dksX2_isMetBy_0 8 rfl rfl)
theorem dX2_isMetBy_9 : decode cX2_isMetBy 9 = .ok (.iload_n 2, 1) := dk_28 (dk_at dksX2_isMetBy_0 9 rfl rfl)
theorem dX2_isMetBy_10 : decode cX2_isMetBy 10 = .ok (.iload_n 3, 1) := dk_29 (dk_at dksX2_isMetBy_0 10 rfl rfl)
theorem dX2_isMetBy_11 : decode cX2_isMetBy 11 = .ok (.invokevirtual 62, 3) := dk_182 0 62 (dk_at dksX2_isMetBy_0 11 rfl rfl)
theorem dX2_isMetBy_14 : decode cX2_isMetBy 14 = .ok (.if_icmp .ge 7, 3) := dk_162 0 7 (dk_at dksX2_isMetBy_0 14 rfl rfl)
theorem dX2_isMetBy_17 : decode cX2_isMetBy 17 = .ok (.iconst 1, 1) := dk_4 (dk_at dksX2_isMetBy_0 17 rfl rfl)
theorem dX2_isMetBy_18 : decode cX2_isMetBy 18 = .ok (.goto 4, 3) := dk_167 0 4 (dk_at dksX2_isMetBy_0 18 rfl rfl)
theorem dX2_isMetBy_21 : decode cX2_isMetBy 21 = .ok (.iconst 0, 1) := dk_3 (dk_at dksX2_isMetBy_0 21 rfl rfl)
theorem dX2_isMetBy_22 : decode cX2_isMetBy 22 = .ok (.ireturn, 1) := dk_172 (dk_at dksX2_isMetBy_0 22 rfl rfl)
abbrev cX2_entry : ByteArray := prog_2_method_16_code
def yX2_entry : MethodName := ⟨RX2, "entry", "(III)I"⟩
def dkwX2_entry_1 : List UInt8 := [5, 100, 29, 96, 184, 0, 49, 6, 42, 180, 0, 15, 5, 46, 104, 184, 0, 49, 172]
abbrev dktX2_entry_1 : List UInt8 := dkwX2_entry_1 ++ []
def dkwX2_entry_0 : List UInt8 := [6, 42, 180, 0, 15, 3, 46, 27, 100, 104, 4, 100, 29, 100, 6, 42, 180, 0, 15, 4, 46, 28, 100, 104]
abbrev dktX2_entry_0 : List UInt8 := dkwX2_entry_0 ++ dktX2_entry_1
theorem dksX2_entry_0 : cX2_entry.data.toList.drop 0 = dktX2_entry_0 := by decide +kernel
theorem dksX2_entry_1 : cX2_entry.data.toList.drop 24 = dktX2_entry_1 := dk_seg dksX2_entry_0 24 rfl rfl
theorem dX2_entry_0 : decode cX2_entry 0 = .ok (.iconst 3, 1) := dk_6 (dk_at dksX2_entry_0 0 rfl rfl)
theorem dX2_entry_1 : decode cX2_entry 1 = .ok (.aload_n 0, 1) := dk_42 (dk_at dksX2_entry_0 1 rfl rfl)
theorem dX2_entry_2 : decode cX2_entry 2 = .ok (.getfield 15, 3) := dk_180 0 15 (dk_at dksX2_entry_0 2 rfl rfl)
theorem dX2_entry_5 : decode cX2_entry 5 = .ok (.iconst 0, 1) := dk_3 (dk_at dksX2_entry_0 5 rfl rfl)
theorem dX2_entry_6 : decode cX2_entry 6 = .ok (.iaload, 1) := dk_46 (dk_at dksX2_entry_0 6 rfl rfl)
theorem dX2_entry_7 : decode cX2_entry 7 = .ok (.iload_n 1, 1) := dk_27 (dk_at dksX2_entry_0 7 rfl rfl)
theorem dX2_entry_8 : decode cX2_entry 8 = .ok (.isub, 1) := dk_100 (dk_at dksX2_entry_0 8 rfl rfl)
theorem dX2_entry_9 : decode cX2_entry 9 = .ok (.imul, 1) := dk_104 (dk_at dksX2_entry_0 9 rfl rfl)
theorem dX2_entry_10 : decode cX2_entry 10 = .ok (.iconst 1, 1) := dk_4 (dk_at dksX2_entry_0 10 rfl rfl)
theorem dX2_entry_11 : decode cX2_entry 11 = .ok (.isub, 1) := dk_100 (dk_at dksX2_entry_0 11 rfl rfl)
theorem dX2_entry_12 : decode cX2_entry 12 = .ok (.iload_n 3, 1) := dk_29 (dk_at dksX2_entry_0 12 rfl rfl)
theorem dX2_entry_13 : decode cX2_entry 13 = .ok (.isub, 1) := dk_100 (dk_at dksX2_entry_0 13 rfl rfl)
theorem dX2_entry_14 : decode cX2_entry 14 = .ok (.iconst 3, 1) := dk_6 (dk_at dksX2_entry_0 14 rfl rfl)
theorem dX2_entry_15 : decode cX2_entry 15 = .ok (.aload_n 0, 1) := dk_42 (dk_at dksX2_entry_0 15 rfl rfl)
theorem dX2_entry_16 : decode cX2_entry 16 = .ok (.getfield 15, 3) := dk_180 0 15 (dk_at dksX2_entry_0 16 rfl rfl)
theorem dX2_entry_19 : decode cX2_entry 19 = .ok (.iconst 1, 1) := dk_4 (dk_at dksX2_entry_0 19 rfl rfl)
theorem dX2_entry_20 : decode cX2_entry 20 = .ok (.iaload, 1) := dk_46 (dk_at dksX2_entry_0 20 rfl rfl)
theorem dX2_entry_21 : decode cX2_entry 21 = .ok (.iload_n 2, 1) := dk_28 (dk_at dksX2_entry_0 21 rfl rfl)
theorem dX2_entry_22 : decode cX2_entry 22 = .ok (.isub, 1) := dk_100 (dk_at dksX2_entry_0 22 rfl rfl)
theorem dX2_entry_23 : decode cX2_entry 23 = .ok (.imul, 1) := dk_104 (dk_at dksX2_entry_0 23 rfl rfl)
theorem dX2_entry_24 : decode cX2_entry 24 = .ok (.iconst 2, 1) := dk_5 (dk_at dksX2_entry_1 0 rfl rfl)
theorem dX2_entry_25 : decode cX2_entry 25 = .ok (.isub, 1) := dk_100 (dk_at dksX2_entry_1 1 rfl rfl)
theorem dX2_entry_26 : decode cX2_entry 26 = .ok (.iload_n 3, 1) := dk_29 (dk_at dksX2_entry_1 2 rfl rfl)
theorem dX2_entry_27 : decode cX2_entry 27 = .ok (.iadd, 1) := dk_96 (dk_at dksX2_entry_1 3 rfl rfl)
theorem dX2_entry_28 : decode cX2_entry 28 = .ok (.invokestatic 49, 3) := dk_184 0 49 (dk_at dksX2_entry_1 4 rfl rfl)
theorem dX2_entry_31 : decode cX2_entry 31 = .ok (.iconst 3, 1) := dk_6 (dk_at dksX2_entry_1 7 rfl rfl)
theorem dX2_entry_32 : decode cX2_entry 32 = .ok (.aload_n 0, 1) := dk_42 (dk_at dksX2_entry_1 8 rfl rfl)
theorem dX2_entry_33 : decode cX2_entry 33 = .ok (.getfield 15, 3) := dk_180 0 15 (dk_at dksX2_entry_1 9 rfl rfl)
theorem dX2_entry_36 : decode cX2_entry 36 = .ok (.iconst 2, 1) := dk_5 (dk_at dksX2_entry_1 12 rfl rfl)
theorem dX2_entry_37 : decode cX2_entry 37 = .ok (.iaload, 1) := dk_46 (dk_at dksX2_entry_1 13 rfl rfl)
theorem dX2_entry_38 : decode cX2_entry 38 = .ok (.imul, 1) := dk_104 (dk_at dksX2_entry_1 14 rfl rfl)
theorem dX2_entry_39 : decode cX2_entry 39 = .ok (.invokestatic 49, 3) := dk_184 0 49 (dk_at dksX2_entry_1 15 rfl rfl)
theorem dX2_entry_42 : decode cX2_entry 42 = .ok (.ireturn, 1) := dk_172 (dk_at dksX2_entry_1 18 rfl rfl)
abbrev cX2_exit : ByteArray := prog_2_method_17_code
def yX2_exit : MethodName := ⟨RX2, "exit", "(III)I"⟩
def dkwX2_exit_1 : List UInt8 := [5, 100, 29, 96, 184, 0, 55, 6, 42, 180, 0, 19, 5, 46, 104, 184, 0, 55, 172]
abbrev dktX2_exit_1 : List UInt8 := dkwX2_exit_1 ++ []
def dkwX2_exit_0 : List UInt8 := [6, 42, 180, 0, 19, 3, 46, 27, 100, 104, 4, 100, 29, 100, 6, 42, 180, 0, 19, 4, 46, 28, 100, 104]
abbrev dktX2_exit_0 : List UInt8 := dkwX2_exit_0 ++ dktX2_exit_1
theorem dksX2_exit_0 : cX2_exit.data.toList.drop 0 = dktX2_exit_0 := by decide +kernel
theorem dksX2_exit_1 : cX2_exit.data.toList.drop 24 = dktX2_exit_1 := dk_seg dksX2_exit_0 24 rfl rfl
theorem dX2_exit_0 : decode cX2_exit 0 = .ok (.iconst 3, 1) := dk_6 (dk_at dksX2_exit_0 0 rfl rfl)
theorem dX2_exit_1 : decode cX2_exit 1 = .ok (.aload_n 0, 1) := dk_42 (dk_at dksX2_exit_0 1 rfl rfl)
theorem dX2_exit_2 : decode cX2_exit 2 = .ok (.getfield 19, 3) := dk_180 0 19 (dk_at dksX2_exit_0 2 rfl rfl)
theorem dX2_exit_5 : decode cX2_exit 5 = .ok (.iconst 0, 1) := dk_3 (dk_at dksX2_exit_0 5 rfl rfl)
theorem dX2_exit_6 : decode cX2_exit 6 = .ok (.iaload, 1) := dk_46 (dk_at dksX2_exit_0 6 rfl rfl)
theorem dX2_exit_7 : decode cX2_exit 7 = .ok (.iload_n 1, 1) := dk_27 (dk_at dksX2_exit_0 7 rfl rfl)
theorem dX2_exit_8 : decode cX2_exit 8 = .ok (.isub, 1) := dk_100 (dk_at dksX2_exit_0 8 rfl rfl)
theorem dX2_exit_9 : decode cX2_exit 9 = .ok (.imul, 1) := dk_104 (dk_at dksX2_exit_0 9 rfl rfl)
theorem dX2_exit_10 : decode cX2_exit 10 = .ok (.iconst 1, 1) := dk_4 (dk_at dksX2_exit_0 10 rfl rfl)
theorem dX2_exit_11 : decode cX2_exit 11 = .ok (.isub, 1) := dk_100 (dk_at dksX2_exit_0 11 rfl rfl)
theorem dX2_exit_12 : decode cX2_exit 12 = .ok (.iload_n 3, 1) := dk_29 (dk_at dksX2_exit_0 12 rfl rfl)
theorem dX2_exit_13 : decode cX2_exit 13 = .ok (.isub, 1) := dk_100 (dk_at dksX2_exit_0 13 rfl rfl)
theorem dX2_exit_14 : decode cX2_exit 14 = .ok (.iconst 3, 1) := dk_6 (dk_at dksX2_exit_0 14 rfl rfl)
theorem dX2_exit_15 : decode cX2_exit 15 = .ok (.aload_n 0, 1) := dk_42 (dk_at dksX2_exit_0 15 rfl rfl)
theorem dX2_exit_16 : decode cX2_exit 16 = .ok (.getfield 19, 3) := dk_180 0 19 (dk_at dksX2_exit_0 16 rfl rfl)
theorem dX2_exit_19 : decode cX2_exit 19 = .ok (.iconst 1, 1) := dk_4 (dk_at dksX2_exit_0 19 rfl rfl)
theorem dX2_exit_20 : decode cX2_exit 20 = .ok (.iaload, 1) := dk_46 (dk_at dksX2_exit_0 20 rfl rfl)
theorem dX2_exit_21 : decode cX2_exit 21 = .ok (.iload_n 2, 1) := dk_28 (dk_at dksX2_exit_0 21 rfl rfl)
theorem dX2_exit_22 : decode cX2_exit 22 = .ok (.isub, 1) := dk_100 (dk_at dksX2_exit_0 22 rfl rfl)
theorem dX2_exit_23 : decode cX2_exit 23 = .ok (.imul, 1) := dk_104 (dk_at dksX2_exit_0 23 rfl rfl)
theorem dX2_exit_24 : decode cX2_exit 24 = .ok (.iconst 2, 1) := dk_5 (dk_at dksX2_exit_1 0 rfl rfl)
theorem dX2_exit_25 : decode cX2_exit 25 = .ok (.isub, 1) := dk_100 (dk_at dksX2_exit_1 1 rfl rfl)
theorem dX2_exit_26 : decode cX2_exit 26 = .ok (.iload_n 3, 1) := dk_29 (dk_at dksX2_exit_1 2 rfl rfl)
theorem dX2_exit_27 : decode cX2_exit 27 = .ok (.iadd, 1) := dk_96 (dk_at dksX2_exit_1 3 rfl rfl)
theorem dX2_exit_28 : decode cX2_exit 28 = .ok (.invokestatic 55, 3) := dk_184 0 55 (dk_at dksX2_exit_1 4 rfl rfl)
theorem dX2_exit_31 : decode cX2_exit 31 = .ok (.iconst 3, 1) := dk_6 (dk_at dksX2_exit_1 7 rfl rfl)
theorem dX2_exit_32 : decode cX2_exit 32 = .ok (.aload_n 0, 1) := dk_42 (dk_at dksX2_exit_1 8 rfl rfl)
theorem dX2_exit_33 : decode cX2_exit 33 = .ok (.getfield 19, 3) := dk_180 0 19 (dk_at dksX2_exit_1 9 rfl rfl)
theorem dX2_exit_36 : decode cX2_exit 36 = .ok (.iconst 2, 1) := dk_5 (dk_at dksX2_exit_1 12 rfl rfl)
theorem dX2_exit_37 : decode cX2_exit 37 = .ok (.iaload, 1) := dk_46 (dk_at dksX2_exit_1 13 rfl rfl)
theorem dX2_exit_38 : decode cX2_exit 38 = .ok (.imul, 1) := dk_104 (dk_at dksX2_exit_1 14 rfl rfl)
theorem dX2_exit_39 : decode cX2_exit 39 = .ok (.invokestatic 55, 3) := dk_184 0 55 (dk_at dksX2_exit_1 15 rfl rfl)
theorem dX2_exit_42 : decode cX2_exit 42 = .ok (.ireturn, 1) := dk_172 (dk_at dksX2_exit_1 18 rfl rfl)
abbrev cX2_exitFace : ByteArray := prog_2_method_19_code
def yX2_exitFace : MethodName := ⟨RX2, "exitFace", "(III)I"⟩
def dkwX2_exitFace_2 : List UInt8 := [167, 0, 4, 4, 172]
abbrev dktX2_exitFace_2 : List UInt8 := dkwX2_exitFace_2 ++ []
def dkwX2_exitFace_1 : List UInt8 := [167, 0, 27, 21, 4, 6, 42, 180, 0, 19, 3, 46, 27, 100, 104, 4, 100, 29, 100, 160, 0, 7, 3]
abbrev dktX2_exitFace_1 : List UInt8 := dkwX2_exitFace_1 ++ dktX2_exitFace_2
def dkwX2_exitFace_0 : List UInt8 := [42, 27, 28, 29, 182, 0, 62, 54, 4, 21, 4, 6, 42, 180, 0, 19, 5, 46, 104, 160, 0, 7, 5]
abbrev dktX2_exitFace_0 : List UInt8 := dkwX2_exitFace_0 ++ dktX2_exitFace_1
theorem dksX2_exitFace_0 : cX2_exitFace.data.toList.drop 0 = dktX2_exitFace_0 := by decide +kernel
theorem dksX2_exitFace_1 : cX2_exitFace.data.toList.drop 23 = dktX2_exitFace_1 := dk_seg dksX2_exitFace_0 23 rfl rfl
theorem dksX2_exitFace_2 : cX2_exitFace.data.toList.drop 46 = dktX2_exitFace_2 := dk_seg dksX2_exitFace_1 23 rfl rfl
theorem dX2_exitFace_0 : decode cX2_exitFace 0 = .ok (.aload_n 0, 1) := dk_42 (dk_at dksX2_exitFace_0 0 rfl rfl)
theorem dX2_exitFace_1 : decode cX2_exitFace 1 = .ok (.iload_n 1, 1) := dk_27 (dk_at dksX2_exitFace_0 1 rfl rfl)
theorem dX2_exitFace_2 : decode cX2_exitFace 2 = .ok (.iload_n 2, 1) := dk_28 (dk_at dksX2_exitFace_0 2 rfl rfl)
theorem dX2_exitFace_3 : decode cX2_exitFace 3 = .ok (.iload_n 3, 1) := dk_29 (dk_at dksX2_exitFace_0 3 rfl rfl)
theorem dX2_exitFace_4 : decode cX2_exitFace 4 = .ok (.invokevirtual 62, 3) := dk_182 0 62 (dk_at dksX2_exitFace_0 4 rfl rfl)
theorem dX2_exitFace_7 : decode cX2_exitFace 7 = .ok (.istore 4, 2) := dk_54 4 (dk_at dksX2_exitFace_0 7 rfl rfl)
theorem dX2_exitFace_9 : decode cX2_exitFace 9 = .ok (.iload 4, 2) := dk_21 4 (dk_at dksX2_exitFace_0 9 rfl rfl)
theorem dX2_exitFace_11 : decode cX2_exitFace 11 = .ok (.iconst 3, 1) := dk_6 (dk_at dksX2_exitFace_0 11 rfl rfl)
theorem dX2_exitFace_12 : decode cX2_exitFace 12 = .ok (.aload_n 0, 1) := dk_42 (dk_at dksX2_exitFace_0 12 rfl rfl)
theorem dX2_exitFace_13 : decode cX2_exitFace 13 = .ok (.getfield 19, 3) := dk_180 0 19 (dk_at dksX2_exitFace_0 13 rfl rfl)
theorem dX2_exitFace_16 : decode cX2_exitFace 16 = .ok (.iconst 2, 1) := dk_5 (dk_at dksX2_exitFace_0 16 rfl rfl)
theorem dX2_exitFace_17 : decode cX2_exitFace 17 = .ok (.iaload, 1) := dk_46 (dk_at dksX2_exitFace_0 17 rfl rfl)
theorem dX2_exitFace_18 : decode cX2_exitFace 18 = .ok (.imul, 1) := dk_104 (dk_at dksX2_exitFace_0 18 rfl rfl)
theorem dX2_exitFace_19 : decode cX2_exitFace 19 = .ok (.if_icmp .ne 7, 3) := dk_160 0 7 (dk_at dksX2_exitFace_0 19 rfl rfl)
theorem dX2_exitFace_22 : decode cX2_exitFace 22 = .ok (.iconst 2, 1) := dk_5 (dk_at dksX2_exitFace_0 22 rfl rfl)
theorem dX2_exitFace_23 : decode cX2_exitFace 23 = .ok (.goto 27, 3) := dk_167 0 27 (dk_at dksX2_exitFace_1 0 rfl rfl)
theorem dX2_exitFace_26 : decode cX2_exitFace 26 = .ok (.iload 4, 2) := dk_21 4 (dk_at dksX2_exitFace_1 3 rfl rfl)
theorem dX2_exitFace_28 : decode cX2_exitFace 28 = .ok (.iconst 3, 1) := dk_6 (dk_at dksX2_exitFace_1 5 rfl rfl)
theorem dX2_exitFace_29 : decode cX2_exitFace 29 = .ok (.aload_n 0, 1) := dk_42 (dk_at dksX2_exitFace_1 6 rfl rfl)
theorem dX2_exitFace_30 : decode cX2_exitFace 30 = .ok (.getfield 19, 3) := dk_180 0 19 (dk_at dksX2_exitFace_1 7 rfl rfl)
theorem dX2_exitFace_33 : decode cX2_exitFace 33 = .ok (.iconst 0, 1) := dk_3 (dk_at dksX2_exitFace_1 10 rfl rfl)
theorem dX2_exitFace_34 : decode cX2_exitFace 34 = .ok (.iaload, 1) := dk_46 (dk_at dksX2_exitFace_1 11 rfl rfl)
theorem dX2_exitFace_35 : decode cX2_exitFace 35 = .ok (.iload_n 1, 1) := dk_27 (dk_at dksX2_exitFace_1 12 rfl rfl)
theorem dX2_exitFace_36 : decode cX2_exitFace 36 = .ok (.isub, 1) := dk_100 (dk_at dksX2_exitFace_1 13 rfl rfl)
theorem dX2_exitFace_37 : decode cX2_exitFace 37 = .ok (.imul, 1) := dk_104 (dk_at dksX2_exitFace_1 14 rfl rfl)
theorem dX2_exitFace_38 : decode cX2_exitFace 38 = .ok (.iconst 1, 1) := dk_4 (dk_at dksX2_exitFace_1 15 rfl rfl)
theorem dX2_exitFace_39 : decode cX2_exitFace 39 = .ok (.isub, 1) := dk_100 (dk_at dksX2_exitFace_1 16 rfl rfl)
theorem dX2_exitFace_40 : decode cX2_exitFace 40 = .ok (.iload_n 3, 1) := dk_29 (dk_at dksX2_exitFace_1 17 rfl rfl)
theorem dX2_exitFace_41 : decode cX2_exitFace 41 = .ok (.isub, 1) := dk_100 (dk_at dksX2_exitFace_1 18 rfl rfl)
theorem dX2_exitFace_42 : decode cX2_exitFace 42 = .ok (.if_icmp .ne 7, 3) := dk_160 0 7 (dk_at dksX2_exitFace_1 19 rfl rfl)
theorem dX2_exitFace_45 : decode cX2_exitFace 45 = .ok (.iconst 0, 1) := dk_3 (dk_at dksX2_exitFace_1 22 rfl rfl)
theorem dX2_exitFace_46 : decode cX2_exitFace 46 = .ok (.goto 4, 3) := dk_167 0 4 (dk_at dksX2_exitFace_2 0 rfl rfl)
theorem dX2_exitFace_49 : decode cX2_exitFace 49 = .ok (.iconst 1, 1) := dk_4 (dk_at dksX2_exitFace_2 3 rfl rfl)
theorem dX2_exitFace_50 : decode cX2_exitFace 50 = .ok (.ireturn, 1) := dk_172 (dk_at dksX2_exitFace_2 4 rfl rfl)
theorem q82 : (Jvm.Cond.initialized "DepthSorter$Box") ∈ lw_all := lw_g (lw_at lw_m1 8 rfl) rfl
theorem q249 : (Jvm.Cond.instantiable "DepthSorter$Box" (3 : Nat)) ∈ lw_all := lw_g (lw_at lw_m1 175 rfl) rfl
theorem q251 : (Jvm.Cond.instanceMethod ({ cls := "DepthSorter$Box", name := "<init>", desc := "(I[I)V" } : Jvm.MethodName)) ∈ lw_all := lw_g (lw_at lw_m1 177 rfl) rfl
theorem q252 : (Jvm.Cond.code ({ cls := "DepthSorter$Box", name := "<init>", desc := "(I[I)V" } : Jvm.MethodName) prog_2_method_1_code (3 : Nat) (Option.none : Option Jvm.ClassFile.FieldType)) ∈ lw_all := lw_g (lw_at lw_m1 178 rfl) rfl
theorem q253 : (Jvm.Cond.methodLink "DepthSorter$Box" (3 : Nat) ({ cls := "java/lang/Object", name := "<init>", desc := "()V" } : Jvm.MethodName)) ∈ lw_all := lw_g (lw_at lw_m1 179 rfl) rfl
theorem q254 : (Jvm.Cond.fieldLink "DepthSorter$Box" (9 : Nat) "DepthSorter$Box" "number" "I") ∈ lw_all := lw_g (lw_at lw_m1 180 rfl) rfl
theorem q256 : (Jvm.Cond.fieldLink "DepthSorter$Box" (15 : Nat) "DepthSorter$Box" "low" "[I") ∈ lw_all := lw_g (lw_at lw_m1 182 rfl) rfl
theorem q258 : (Jvm.Cond.fieldLink "DepthSorter$Box" (19 : Nat) "DepthSorter$Box" "high" "[I") ∈ lw_all := lw_g (lw_at lw_m1 184 rfl) rfl
theorem q260 : (Jvm.Cond.laysFinal "DepthSorter$Box" "DepthSorter$Box" "number" "I") ∈ lw_all := lw_g (lw_at lw_m1 186 rfl) rfl
theorem q261 : (Jvm.Cond.soleField "DepthSorter$Box" "number") ∈ lw_all := lw_g (lw_at lw_m1 187 rfl) rfl
theorem q262 : (Jvm.Cond.laysFinal "DepthSorter$Box" "DepthSorter$Box" "low" "[I") ∈ lw_all := lw_g (lw_at lw_m1 188 rfl) rfl
theorem q263 : (Jvm.Cond.soleField "DepthSorter$Box" "low") ∈ lw_all := lw_g (lw_at lw_m1 189 rfl) rfl
theorem q264 : (Jvm.Cond.laysFinal "DepthSorter$Box" "DepthSorter$Box" "high" "[I") ∈ lw_all := lw_g (lw_at lw_m1 190 rfl) rfl
theorem q265 : (Jvm.Cond.soleField "DepthSorter$Box" "high") ∈ lw_all := lw_g (lw_at lw_m1 191 rfl) rfl
theorem q266 : (Jvm.Cond.superclass "DepthSorter$Box" "java/lang/Object") ∈ lw_all := lw_g (lw_at lw_m1 192 rfl) rfl
theorem q268 : (Jvm.Cond.instanceMethod ({ cls := "DepthSorter$Box", name := "isPossible", desc := "()Z" } : Jvm.MethodName)) ∈ lw_all := lw_g (lw_at lw_m1 194 rfl) rfl
theorem q269 : (Jvm.Cond.selects "DepthSorter$Box" ({ cls := "DepthSorter$Box", name := "isPossible", desc := "()Z" } : Jvm.MethodName) ({ cls := "DepthSorter$Box", name := "isPossible", desc := "()Z" } : Jvm.MethodName)) ∈ lw_all := lw_g (lw_at lw_m1 195 rfl) rfl
theorem q270 : (Jvm.Cond.code ({ cls := "DepthSorter$Box", name := "isPossible", desc := "()Z" } : Jvm.MethodName) prog_2_method_3_code (2 : Nat) (Option.some Jvm.ClassFile.FieldType.boolean)) ∈ lw_all := lw_g (lw_at lw_m1 196 rfl) rfl
theorem q280 : (Jvm.Cond.instanceMethod ({ cls := "DepthSorter$Box", name := "meets", desc := "(LDepthSorter$Box;)Z" } : Jvm.MethodName)) ∈ lw_all := lw_g (lw_at lw_m1 206 rfl) rfl
theorem q281 : (Jvm.Cond.selects "DepthSorter$Box" ({ cls := "DepthSorter$Box", name := "meets", desc := "(LDepthSorter$Box;)Z" } : Jvm.MethodName) ({ cls := "DepthSorter$Box", name := "meets", desc := "(LDepthSorter$Box;)Z" } : Jvm.MethodName)) ∈ lw_all := lw_g (lw_at lw_m1 207 rfl) rfl
theorem q282 : (Jvm.Cond.code ({ cls := "DepthSorter$Box", name := "meets", desc := "(LDepthSorter$Box;)Z" } : Jvm.MethodName) prog_2_method_5_code (2 : Nat) (Option.some Jvm.ClassFile.FieldType.boolean)) ∈ lw_all := lw_g (lw_at lw_m1 208 rfl) rfl
theorem q283 : (Jvm.Cond.methodLink "DepthSorter$Box" (22 : Nat) ({ cls := "DepthSorter$Box", name := "overlapsOn", desc := "(LDepthSorter$Box;I)Z" } : Jvm.MethodName)) ∈ lw_all := lw_g (lw_at lw_m1 209 rfl) rfl
theorem q284 : (Jvm.Cond.privateMethod ({ cls := "DepthSorter$Box", name := "overlapsOn", desc := "(LDepthSorter$Box;I)Z" } : Jvm.MethodName)) ∈ lw_tbl := lw_at lw_m1 210 rfl
theorem q285 : (Jvm.Cond.instanceMethod ({ cls := "DepthSorter$Box", name := "overlapsOn", desc := "(LDepthSorter$Box;I)Z" } : Jvm.MethodName)) ∈ lw_all := lw_g (lw_at lw_m1 211 rfl) rfl
theorem q286 : (Jvm.Cond.code ({ cls := "DepthSorter$Box", name := "overlapsOn", desc := "(LDepthSorter$Box;I)Z" } : Jvm.MethodName) prog_2_method_4_code (3 : Nat) (Option.some Jvm.ClassFile.FieldType.boolean)) ∈ lw_all := lw_g (lw_at lw_m1 212 rfl) rfl
theorem q338 : (Jvm.Cond.instanceMethod ({ cls := "DepthSorter$Box", name := "moved", desc := "(III)LDepthSorter$Box;" } : Jvm.MethodName)) ∈ lw_all := lw_g (lw_at lw_m2 24 rfl) rfl
theorem q339 : (Jvm.Cond.selects "DepthSorter$Box" ({ cls := "DepthSorter$Box", name := "moved", desc := "(III)LDepthSorter$Box;" } : Jvm.MethodName) ({ cls := "DepthSorter$Box", name := "moved", desc := "(III)LDepthSorter$Box;" } : Jvm.MethodName)) ∈ lw_all := lw_g (lw_at lw_m2 25 rfl) rfl
theorem q340 : (Jvm.Cond.code ({ cls := "DepthSorter$Box", name := "moved", desc := "(III)LDepthSorter$Box;" } : Jvm.MethodName) prog_2_method_11_code (4 : Nat) (Option.some (Jvm.ClassFile.FieldType.object "DepthSorter$Box"))) ∈ lw_all := lw_g (lw_at lw_m2 26 rfl) rfl
theorem q341 : (Jvm.Cond.classLink "DepthSorter$Box" (10 : Nat) "DepthSorter$Box") ∈ lw_all := lw_g (lw_at lw_m2 27 rfl) rfl
theorem q342 : (Jvm.Cond.methodLink "DepthSorter$Box" (34 : Nat) ({ cls := "DepthSorter$Box", name := "<init>", desc := "(I[I)V" } : Jvm.MethodName)) ∈ lw_all := lw_g (lw_at lw_m2 28 rfl) rfl
theorem q356 : (Jvm.Cond.instanceMethod ({ cls := "DepthSorter$Box", name := "isBehind", desc := "(LDepthSorter$Box;)Z" } : Jvm.MethodName)) ∈ lw_all := lw_g (lw_at lw_m2 42 rfl) rfl
theorem q357 : (Jvm.Cond.selects "DepthSorter$Box" ({ cls := "DepthSorter$Box", name := "isBehind", desc := "(LDepthSorter$Box;)Z" } : Jvm.MethodName) ({ cls := "DepthSorter$Box", name := "isBehind", desc := "(LDepthSorter$Box;)Z" } : Jvm.MethodName)) ∈ lw_all := lw_g (lw_at lw_m2 43 rfl) rfl
theorem q358 : (Jvm.Cond.code ({ cls := "DepthSorter$Box", name := "isBehind", desc := "(LDepthSorter$Box;)Z" } : Jvm.MethodName) prog_2_method_8_code (2 : Nat) (Option.some Jvm.ClassFile.FieldType.boolean)) ∈ lw_all := lw_g (lw_at lw_m2 44 rfl) rfl
theorem q359 : (Jvm.Cond.methodLink "DepthSorter$Box" (30 : Nat) ({ cls := "DepthSorter$Box", name := "overlapsInPicture", desc := "(LDepthSorter$Box;)Z" } : Jvm.MethodName)) ∈ lw_all := lw_g (lw_at lw_m2 45 rfl) rfl
theorem q360 : (Jvm.Cond.instanceMethod ({ cls := "DepthSorter$Box", name := "overlapsInPicture", desc := "(LDepthSorter$Box;)Z" } : Jvm.MethodName)) ∈ lw_all := lw_g (lw_at lw_m2 46 rfl) rfl
theorem q361 : (Jvm.Cond.selects "DepthSorter$Box" ({ cls := "DepthSorter$Box", name := "overlapsInPicture", desc := "(LDepthSorter$Box;)Z" } : Jvm.MethodName) ({ cls := "DepthSorter$Box", name := "overlapsInPicture", desc := "(LDepthSorter$Box;)Z" } : Jvm.MethodName)) ∈ lw_all := lw_g (lw_at lw_m2 47 rfl) rfl
theorem q362 : (Jvm.Cond.code ({ cls := "DepthSorter$Box", name := "overlapsInPicture", desc := "(LDepthSorter$Box;)Z" } : Jvm.MethodName) prog_2_method_7_code (2 : Nat) (Option.some Jvm.ClassFile.FieldType.boolean)) ∈ lw_all := lw_g (lw_at lw_m2 48 rfl) rfl
theorem q363 : (Jvm.Cond.methodLink "DepthSorter$Box" (26 : Nat) ({ cls := "DepthSorter$Box", name := "overlapsAcross", desc := "(LDepthSorter$Box;II)Z" } : Jvm.MethodName)) ∈ lw_all := lw_g (lw_at lw_m2 49 rfl) rfl
theorem q364 : (Jvm.Cond.privateMethod ({ cls := "DepthSorter$Box", name := "overlapsAcross", desc := "(LDepthSorter$Box;II)Z" } : Jvm.MethodName)) ∈ lw_tbl := lw_at lw_m2 50 rfl
theorem q365 : (Jvm.Cond.instanceMethod ({ cls := "DepthSorter$Box", name := "overlapsAcross", desc := "(LDepthSorter$Box;II)Z" } : Jvm.MethodName)) ∈ lw_all := lw_g (lw_at lw_m2 51 rfl) rfl
theorem q366 : (Jvm.Cond.code ({ cls := "DepthSorter$Box", name := "overlapsAcross", desc := "(LDepthSorter$Box;II)Z" } : Jvm.MethodName) prog_2_method_6_code (4 : Nat) (Option.some Jvm.ClassFile.FieldType.boolean)) ∈ lw_all := lw_g (lw_at lw_m2 52 rfl) rfl
theorem q378 : (Jvm.Cond.instanceMethod ({ cls := "DepthSorter$Box", name := "movedAlong", desc := "(II)LDepthSorter$Box;" } : Jvm.MethodName)) ∈ lw_all := lw_g (lw_at lw_m2 64 rfl) rfl
theorem q379 : (Jvm.Cond.selects "DepthSorter$Box" ({ cls := "DepthSorter$Box", name := "movedAlong", desc := "(II)LDepthSorter$Box;" } : Jvm.MethodName) ({ cls := "DepthSorter$Box", name := "movedAlong", desc := "(II)LDepthSorter$Box;" } : Jvm.MethodName)) ∈ lw_all := lw_g (lw_at lw_m2 65 rfl) rfl
theorem q380 : (Jvm.Cond.code ({ cls := "DepthSorter$Box", name := "movedAlong", desc := "(II)LDepthSorter$Box;" } : Jvm.MethodName) prog_2_method_12_code (3 : Nat) (Option.some (Jvm.ClassFile.FieldType.object "DepthSorter$Box"))) ∈ lw_all := lw_g (lw_at lw_m2 66 rfl) rfl
theorem q381 : (Jvm.Cond.methodLink "DepthSorter$Box" (37 : Nat) ({ cls := "DepthSorter$Box", name := "moved", desc := "(III)LDepthSorter$Box;" } : Jvm.MethodName)) ∈ lw_all := lw_g (lw_at lw_m2 67 rfl) rfl
theorem q387 : (Jvm.Cond.instanceMethod ({ cls := "DepthSorter$Box", name := "turned", desc := "()LDepthSorter$Box;" } : Jvm.MethodName)) ∈ lw_all := lw_g (lw_at lw_m2 73 rfl) rfl
theorem q388 : (Jvm.Cond.selects "DepthSorter$Box" ({ cls := "DepthSorter$Box", name := "turned", desc := "()LDepthSorter$Box;" } : Jvm.MethodName) ({ cls := "DepthSorter$Box", name := "turned", desc := "()LDepthSorter$Box;" } : Jvm.MethodName)) ∈ lw_all := lw_g (lw_at lw_m2 74 rfl) rfl
theorem q389 : (Jvm.Cond.code ({ cls := "DepthSorter$Box", name := "turned", desc := "()LDepthSorter$Box;" } : Jvm.MethodName) prog_2_method_13_code (1 : Nat) (Option.some (Jvm.ClassFile.FieldType.object "DepthSorter$Box"))) ∈ lw_all := lw_g (lw_at lw_m2 75 rfl) rfl
theorem q395 : (Jvm.Cond.instanceMethod ({ cls := "DepthSorter$Box", name := "isCutBy", desc := "(II)Z" } : Jvm.MethodName)) ∈ lw_all := lw_g (lw_at lw_m2 81 rfl) rfl
theorem q396 : (Jvm.Cond.selects "DepthSorter$Box" ({ cls := "DepthSorter$Box", name := "isCutBy", desc := "(II)Z" } : Jvm.MethodName) ({ cls := "DepthSorter$Box", name := "isCutBy", desc := "(II)Z" } : Jvm.MethodName)) ∈ lw_all := lw_g (lw_at lw_m2 82 rfl) rfl
theorem q397 : (Jvm.Cond.code ({ cls := "DepthSorter$Box", name := "isCutBy", desc := "(II)Z" } : Jvm.MethodName) prog_2_method_10_code (3 : Nat) (Option.some Jvm.ClassFile.FieldType.boolean)) ∈ lw_all := lw_g (lw_at lw_m2 83 rfl) rfl
theorem q399 : (Jvm.Cond.instanceMethod ({ cls := "DepthSorter$Box", name := "lowerPart", desc := "(II)LDepthSorter$Box;" } : Jvm.MethodName)) ∈ lw_all := lw_g (lw_at lw_m2 85 rfl) rfl
theorem q400 : (Jvm.Cond.selects "DepthSorter$Box" ({ cls := "DepthSorter$Box", name := "lowerPart", desc := "(II)LDepthSorter$Box;" } : Jvm.MethodName) ({ cls := "DepthSorter$Box", name := "lowerPart", desc := "(II)LDepthSorter$Box;" } : Jvm.MethodName)) ∈ lw_all := lw_g (lw_at lw_m2 86 rfl) rfl
theorem q401 : (Jvm.Cond.code ({ cls := "DepthSorter$Box", name := "lowerPart", desc := "(II)LDepthSorter$Box;" } : Jvm.MethodName) prog_2_method_14_code (4 : Nat) (Option.some (Jvm.ClassFile.FieldType.object "DepthSorter$Box"))) ∈ lw_all := lw_g (lw_at lw_m2 87 rfl) rfl
theorem q402 : (Jvm.Cond.methodLink "DepthSorter$Box" (41 : Nat) ({ cls := "[I", name := "clone", desc := "()Ljava/lang/Object;" } : Jvm.MethodName)) ∈ lw_all := lw_g (lw_at lw_m2 88 rfl) rfl
theorem q406 : (Jvm.Cond.classLink "DepthSorter$Box" (42 : Nat) "[I") ∈ lw_all := lw_g (lw_at lw_m2 92 rfl) rfl
theorem q407 : (Jvm.Cond.methodLink "DepthSorter$Box" (46 : Nat) ({ cls := "DepthSorter$Box", name := "<init>", desc := "(I[I[I)V" } : Jvm.MethodName)) ∈ lw_all := lw_g (lw_at lw_m2 93 rfl) rfl
theorem q408 : (Jvm.Cond.instanceMethod ({ cls := "DepthSorter$Box", name := "<init>", desc := "(I[I[I)V" } : Jvm.MethodName)) ∈ lw_all := lw_g (lw_at lw_m2 94 rfl) rfl
theorem q409 : (Jvm.Cond.code ({ cls := "DepthSorter$Box", name := "<init>", desc := "(I[I[I)V" } : Jvm.MethodName) prog_2_method_2_code (4 : Nat) (Option.none : Option Jvm.ClassFile.FieldType)) ∈ lw_all := lw_g (lw_at lw_m2 95 rfl) rfl
theorem q411 : (Jvm.Cond.instanceMethod ({ cls := "DepthSorter$Box", name := "upperPart", desc := "(III)LDepthSorter$Box;" } : Jvm.MethodName)) ∈ lw_all := lw_g (lw_at lw_m2 97 rfl) rfl
theorem q412 : (Jvm.Cond.selects "DepthSorter$Box" ({ cls := "DepthSorter$Box", name := "upperPart", desc := "(III)LDepthSorter$Box;" } : Jvm.MethodName) ({ cls := "DepthSorter$Box", name := "upperPart", desc := "(III)LDepthSorter$Box;" } : Jvm.MethodName)) ∈ lw_all := lw_g (lw_at lw_m2 98 rfl) rfl
theorem q413 : (Jvm.Cond.code ({ cls := "DepthSorter$Box", name := "upperPart", desc := "(III)LDepthSorter$Box;" } : Jvm.MethodName) prog_2_method_15_code (5 : Nat) (Option.some (Jvm.ClassFile.FieldType.object "DepthSorter$Box"))) ∈ lw_all := lw_g (lw_at lw_m2 99 rfl) rfl
theorem q427 : (Jvm.Cond.instanceMethod ({ cls := "DepthSorter$Box", name := "corner", desc := "(I)I" } : Jvm.MethodName)) ∈ lw_all := lw_g (lw_at lw_m2 113 rfl) rfl
theorem q428 : (Jvm.Cond.selects "DepthSorter$Box" ({ cls := "DepthSorter$Box", name := "corner", desc := "(I)I" } : Jvm.MethodName) ({ cls := "DepthSorter$Box", name := "corner", desc := "(I)I" } : Jvm.MethodName)) ∈ lw_all := lw_g (lw_at lw_m2 114 rfl) rfl
theorem q429 : (Jvm.Cond.code ({ cls := "DepthSorter$Box", name := "corner", desc := "(I)I" } : Jvm.MethodName) prog_2_method_20_code (2 : Nat) (Option.some Jvm.ClassFile.FieldType.int)) ∈ lw_all := lw_g (lw_at lw_m2 115 rfl) rfl
theorem q448 : (Jvm.Cond.instanceMethod ({ cls := "DepthSorter$Box", name := "touchingAxis", desc := "(LDepthSorter$Box;)I" } : Jvm.MethodName)) ∈ lw_all := lw_g (lw_at lw_m2 134 rfl) rfl
theorem q449 : (Jvm.Cond.selects "DepthSorter$Box" ({ cls := "DepthSorter$Box", name := "touchingAxis", desc := "(LDepthSorter$Box;)I" } : Jvm.MethodName) ({ cls := "DepthSorter$Box", name := "touchingAxis", desc := "(LDepthSorter$Box;)I" } : Jvm.MethodName)) ∈ lw_all := lw_g (lw_at lw_m2 135 rfl) rfl
theorem q450 : (Jvm.Cond.code ({ cls := "DepthSorter$Box", name := "touchingAxis", desc := "(LDepthSorter$Box;)I" } : Jvm.MethodName) prog_2_method_9_code (4 : Nat) (Option.some Jvm.ClassFile.FieldType.int)) ∈ lw_all := lw_g (lw_at lw_m2 136 rfl) rfl
theorem q535 : (Jvm.Cond.selects "DepthSorter$Box" ({ cls := "java/lang/Object", name := "getClass", desc := "()Ljava/lang/Class;" } : Jvm.MethodName) ({ cls := "java/lang/Object", name := "getClass", desc := "()Ljava/lang/Class;" } : Jvm.MethodName)) ∈ lw_all := lw_g (lw_at lw_m2 221 rfl) rfl
theorem q1469 : (Jvm.Cond.instanceMethod ({ cls := "DepthSorter$Box", name := "isMetBy", desc := "(III)Z" } : Jvm.MethodName)) ∈ lw_all := lw_g (lw_at lw_m6 195 rfl) rfl
theorem q1470 : (Jvm.Cond.selects "DepthSorter$Box" ({ cls := "DepthSorter$Box", name := "isMetBy", desc := "(III)Z" } : Jvm.MethodName) ({ cls := "DepthSorter$Box", name := "isMetBy", desc := "(III)Z" } : Jvm.MethodName)) ∈ lw_all := lw_g (lw_at lw_m6 196 rfl) rfl
theorem q1471 : (Jvm.Cond.code ({ cls := "DepthSorter$Box", name := "isMetBy", desc := "(III)Z" } : Jvm.MethodName) prog_2_method_18_code (4 : Nat) (Option.some Jvm.ClassFile.FieldType.boolean)) ∈ lw_all := lw_g (lw_at lw_m6 197 rfl) rfl
theorem q1472 : (Jvm.Cond.methodLink "DepthSorter$Box" (58 : Nat) ({ cls := "DepthSorter$Box", name := "entry", desc := "(III)I" } : Jvm.MethodName)) ∈ lw_all := lw_g (lw_at lw_m6 198 rfl) rfl
theorem q1473 : (Jvm.Cond.instanceMethod ({ cls := "DepthSorter$Box", name := "entry", desc := "(III)I" } : Jvm.MethodName)) ∈ lw_all := lw_g (lw_at lw_m6 199 rfl) rfl
theorem q1474 : (Jvm.Cond.selects "DepthSorter$Box" ({ cls := "DepthSorter$Box", name := "entry", desc := "(III)I" } : Jvm.MethodName) ({ cls := "DepthSorter$Box", name := "entry", desc := "(III)I" } : Jvm.MethodName)) ∈ lw_all := lw_g (lw_at lw_m6 200 rfl) rfl
theorem q1475 : (Jvm.Cond.code ({ cls := "DepthSorter$Box", name := "entry", desc := "(III)I" } : Jvm.MethodName) prog_2_method_16_code (4 : Nat) (Option.some Jvm.ClassFile.FieldType.int)) ∈ lw_all := lw_g (lw_at lw_m6 201 rfl) rfl
theorem q1476 : (Jvm.Cond.methodLink "DepthSorter$Box" (49 : Nat) ({ cls := "java/lang/Math", name := "max", desc := "(II)I" } : Jvm.MethodName)) ∈ lw_all := lw_g (lw_at lw_m6 202 rfl) rfl
theorem q1477 : (Jvm.Cond.methodLink "DepthSorter$Box" (62 : Nat) ({ cls := "DepthSorter$Box", name := "exit", desc := "(III)I" } : Jvm.MethodName)) ∈ lw_all := lw_g (lw_at lw_m6 203 rfl) rfl
theorem q1478 : (Jvm.Cond.instanceMethod ({ cls := "DepthSorter$Box", name := "exit", desc := "(III)I" } : Jvm.MethodName)) ∈ lw_all := lw_g (lw_at lw_m6 204 rfl) rfl
theorem q1479 : (Jvm.Cond.selects "DepthSorter$Box" ({ cls := "DepthSorter$Box", name := "exit", desc := "(III)I" } : Jvm.MethodName) ({ cls := "DepthSorter$Box", name := "exit", desc := "(III)I" } : Jvm.MethodName)) ∈ lw_all := lw_g (lw_at lw_m6 205 rfl) rfl
theorem q1480 : (Jvm.Cond.code ({ cls := "DepthSorter$Box", name := "exit", desc := "(III)I" } : Jvm.MethodName) prog_2_method_17_code (4 : Nat) (Option.some Jvm.ClassFile.FieldType.int)) ∈ lw_all := lw_g (lw_at lw_m6 206 rfl) rfl
theorem q1481 : (Jvm.Cond.methodLink "DepthSorter$Box" (55 : Nat) ({ cls := "java/lang/Math", name := "min", desc := "(II)I" } : Jvm.MethodName)) ∈ lw_all := lw_g (lw_at lw_m6 207 rfl) rfl
theorem q1500 : (Jvm.Cond.instanceMethod ({ cls := "DepthSorter$Box", name := "exitFace", desc := "(III)I" } : Jvm.MethodName)) ∈ lw_all := lw_g (lw_at lw_m6 226 rfl) rfl
theorem q1501 : (Jvm.Cond.selects "DepthSorter$Box" ({ cls := "DepthSorter$Box", name := "exitFace", desc := "(III)I" } : Jvm.MethodName) ({ cls := "DepthSorter$Box", name := "exitFace", desc := "(III)I" } : Jvm.MethodName)) ∈ lw_all := lw_g (lw_at lw_m6 227 rfl) rfl
theorem q1502 : (Jvm.Cond.code ({ cls := "DepthSorter$Box", name := "exitFace", desc := "(III)I" } : Jvm.MethodName) prog_2_method_19_code (5 : Nat) (Option.some Jvm.ClassFile.FieldType.int)) ∈ lw_all := lw_g (lw_at lw_m6 228 rfl) rfl
theorem q2036 : (Jvm.Cond.castable "DepthSorter$Box" "java/lang/Object") ∈ lw_tbl := lw_at lw_m9 42 rfl
theorem in_X2 : ∀ w ∈ wsX20, w ∈ lw_all := lw_in wsX20 [260, 262, 264] (by decide +kernel) (by decide +kernel)
/-! DepthSorter$Space -/
set_option maxRecDepth 100000
def RX3 : String := "DepthSorter$Space"
def TX3 : u_T := fun k => match k with
  | _ => ("DepthSorter$Space", "boxes", "[LDepthSorter$Box;", true)
def tyX3 : Nat → FieldType := fun k => match k with
  | _ => .array (.object "DepthSorter$Box")
abbrev wsX30 : List Cond := u_ws RX3 TX3 1
theorem nmX3 : ∀ a, a < 1 → ∀ b, b < 1 → a ≠ b → (TX3 a).2.1 ≠ (TX3 b).2.1 := by decide +kernel
theorem tyX3_ok : ∀ k, k < 1 → parseFieldDescriptor (TX3 k).2.2.1 = some (tyX3 k) := by decide +kernel
abbrev cX3_init : ByteArray := prog_6_method_1_code
def yX3_init : MethodName := ⟨RX3, "<init>", "([LDepthSorter$Box;)V"⟩
def dkwX3_init_0 : List UInt8 := [42, 183, 0, 1, 42, 43, 181, 0, 7, 177]
abbrev dktX3_init_0 : List UInt8 := dkwX3_init_0 ++ []
theorem dksX3_init_0 : cX3_init.data.toList.drop 0 = dktX3_init_0 := by decide +kernel
theorem dX3_init_0 : decode cX3_init 0 = .ok (.aload_n 0, 1) := dk_42 (dk_at dksX3_init_0 0 rfl rfl)
theorem dX3_init_1 : decode cX3_init 1 = .ok (.invokespecial 1, 3) := dk_183 0 1 (dk_at dksX3_init_0 1 rfl rfl)
theorem dX3_init_4 : decode cX3_init 4 = .ok (.aload_n 0, 1) := dk_42 (dk_at dksX3_init_0 4 rfl rfl)
theorem dX3_init_5 : decode cX3_init 5 = .ok (.aload_n 1, 1) := dk_43 (dk_at dksX3_init_0 5 rfl rfl)
theorem dX3_init_6 : decode cX3_init 6 = .ok (.putfield 7, 3) := dk_181 0 7 (dk_at dksX3_init_0 6 rfl rfl)
theorem dX3_init_9 : decode cX3_init 9 = .ok (.return_, 1) := dk_177 (dk_at dksX3_init_0 9 rfl rfl)
theorem q84 : (Jvm.Cond.initialized "DepthSorter$Space") ∈ lw_all := lw_g (lw_at lw_m1 10 rfl) rfl
theorem q294 : (Jvm.Cond.instantiable "DepthSorter$Space" (1 : Nat)) ∈ lw_all := lw_g (lw_at lw_m1 220 rfl) rfl
theorem q296 : (Jvm.Cond.instanceMethod ({ cls := "DepthSorter$Space", name := "<init>", desc := "([LDepthSorter$Box;)V" } : Jvm.MethodName)) ∈ lw_all := lw_g (lw_at lw_m1 222 rfl) rfl
theorem q297 : (Jvm.Cond.code ({ cls := "DepthSorter$Space", name := "<init>", desc := "([LDepthSorter$Box;)V" } : Jvm.MethodName) prog_6_method_1_code (2 : Nat) (Option.none : Option Jvm.ClassFile.FieldType)) ∈ lw_all := lw_g (lw_at lw_m1 223 rfl) rfl
theorem q298 : (Jvm.Cond.methodLink "DepthSorter$Space" (1 : Nat) ({ cls := "java/lang/Object", name := "<init>", desc := "()V" } : Jvm.MethodName)) ∈ lw_all := lw_g (lw_at lw_m1 224 rfl) rfl
theorem q299 : (Jvm.Cond.fieldLink "DepthSorter$Space" (7 : Nat) "DepthSorter$Space" "boxes" "[LDepthSorter$Box;") ∈ lw_all := lw_g (lw_at lw_m1 225 rfl) rfl
theorem q301 : (Jvm.Cond.laysFinal "DepthSorter$Space" "DepthSorter$Space" "boxes" "[LDepthSorter$Box;") ∈ lw_all := lw_g (lw_at lw_m1 227 rfl) rfl
theorem q302 : (Jvm.Cond.soleField "DepthSorter$Space" "boxes") ∈ lw_all := lw_g (lw_at lw_m1 228 rfl) rfl
theorem q303 : (Jvm.Cond.superclass "DepthSorter$Space" "java/lang/Object") ∈ lw_all := lw_g (lw_at lw_m1 229 rfl) rfl
theorem q539 : (Jvm.Cond.selects "DepthSorter$Space" ({ cls := "java/lang/Object", name := "getClass", desc := "()Ljava/lang/Class;" } : Jvm.MethodName) ({ cls := "java/lang/Object", name := "getClass", desc := "()Ljava/lang/Class;" } : Jvm.MethodName)) ∈ lw_all := lw_g (lw_at lw_m2 225 rfl) rfl
theorem q2037 : (Jvm.Cond.castable "DepthSorter$Space" "java/lang/Object") ∈ lw_tbl := lw_at lw_m9 43 rfl
theorem in_X3 : ∀ w ∈ wsX30, w ∈ lw_all := lw_in wsX30 [301] (by decide +kernel) (by decide +kernel)
/-! DepthSorter$Piece -/
set_option maxRecDepth 100000
def RX4 : String := "DepthSorter$Piece"
def TX4 : u_T := fun k => match k with
  | 0 => ("DepthSorter$Piece", "number", "I", true)
  | 1 => ("DepthSorter$Piece", "box", "I", true)
  | _ => ("DepthSorter$Piece", "part", "LDepthSorter$Box;", false)
def tyX4 : Nat → FieldType := fun k => match k with
  | 0 => .int
  | 1 => .int
  | _ => .object "DepthSorter$Box"
abbrev wsX40 : List Cond := u_ws RX4 TX4 3
theorem nmX4 : ∀ a, a < 3 → ∀ b, b < 3 → a ≠ b → (TX4 a).2.1 ≠ (TX4 b).2.1 := by decide +kernel
theorem tyX4_ok : ∀ k, k < 3 → parseFieldDescriptor (TX4 k).2.2.1 = some (tyX4 k) := by decide +kernel
abbrev cX4_init : ByteArray := prog_4_method_1_code
def yX4_init : MethodName := ⟨RX4, "<init>", "(IILDepthSorter$Box;)V"⟩
def dkwX4_init_0 : List UInt8 := [42, 183, 0, 1, 42, 27, 181, 0, 7, 42, 28, 181, 0, 13, 42, 45, 181, 0, 16, 177]
abbrev dktX4_init_0 : List UInt8 := dkwX4_init_0 ++ []
theorem dksX4_init_0 : cX4_init.data.toList.drop 0 = dktX4_init_0 := by decide +kernel
theorem dX4_init_0 : decode cX4_init 0 = .ok (.aload_n 0, 1) := dk_42 (dk_at dksX4_init_0 0 rfl rfl)
theorem dX4_init_1 : decode cX4_init 1 = .ok (.invokespecial 1, 3) := dk_183 0 1 (dk_at dksX4_init_0 1 rfl rfl)
theorem dX4_init_4 : decode cX4_init 4 = .ok (.aload_n 0, 1) := dk_42 (dk_at dksX4_init_0 4 rfl rfl)
theorem dX4_init_5 : decode cX4_init 5 = .ok (.iload_n 1, 1) := dk_27 (dk_at dksX4_init_0 5 rfl rfl)
theorem dX4_init_6 : decode cX4_init 6 = .ok (.putfield 7, 3) := dk_181 0 7 (dk_at dksX4_init_0 6 rfl rfl)
theorem dX4_init_9 : decode cX4_init 9 = .ok (.aload_n 0, 1) := dk_42 (dk_at dksX4_init_0 9 rfl rfl)
theorem dX4_init_10 : decode cX4_init 10 = .ok (.iload_n 2, 1) := dk_28 (dk_at dksX4_init_0 10 rfl rfl)
theorem dX4_init_11 : decode cX4_init 11 = .ok (.putfield 13, 3) := dk_181 0 13 (dk_at dksX4_init_0 11 rfl rfl)
theorem dX4_init_14 : decode cX4_init 14 = .ok (.aload_n 0, 1) := dk_42 (dk_at dksX4_init_0 14 rfl rfl)
theorem dX4_init_15 : decode cX4_init 15 = .ok (.aload_n 3, 1) := dk_45 (dk_at dksX4_init_0 15 rfl rfl)
theorem dX4_init_16 : decode cX4_init 16 = .ok (.putfield 16, 3) := dk_181 0 16 (dk_at dksX4_init_0 16 rfl rfl)
theorem dX4_init_19 : decode cX4_init 19 = .ok (.return_, 1) := dk_177 (dk_at dksX4_init_0 19 rfl rfl)
theorem q95 : (Jvm.Cond.initialized "DepthSorter$Piece") ∈ lw_all := lw_g (lw_at lw_m1 21 rfl) rfl
theorem q537 : (Jvm.Cond.selects "DepthSorter$Piece" ({ cls := "java/lang/Object", name := "getClass", desc := "()Ljava/lang/Class;" } : Jvm.MethodName) ({ cls := "java/lang/Object", name := "getClass", desc := "()Ljava/lang/Class;" } : Jvm.MethodName)) ∈ lw_all := lw_g (lw_at lw_m2 223 rfl) rfl
theorem q761 : (Jvm.Cond.instantiable "DepthSorter$Piece" (3 : Nat)) ∈ lw_all := lw_g (lw_at lw_m3 207 rfl) rfl
theorem q764 : (Jvm.Cond.instanceMethod ({ cls := "DepthSorter$Piece", name := "<init>", desc := "(IILDepthSorter$Box;)V" } : Jvm.MethodName)) ∈ lw_all := lw_g (lw_at lw_m3 210 rfl) rfl
theorem q765 : (Jvm.Cond.code ({ cls := "DepthSorter$Piece", name := "<init>", desc := "(IILDepthSorter$Box;)V" } : Jvm.MethodName) prog_4_method_1_code (4 : Nat) (Option.none : Option Jvm.ClassFile.FieldType)) ∈ lw_all := lw_g (lw_at lw_m3 211 rfl) rfl
theorem q766 : (Jvm.Cond.methodLink "DepthSorter$Piece" (1 : Nat) ({ cls := "java/lang/Object", name := "<init>", desc := "()V" } : Jvm.MethodName)) ∈ lw_all := lw_g (lw_at lw_m3 212 rfl) rfl
theorem q767 : (Jvm.Cond.fieldLink "DepthSorter$Piece" (7 : Nat) "DepthSorter$Piece" "number" "I") ∈ lw_all := lw_g (lw_at lw_m3 213 rfl) rfl
theorem q769 : (Jvm.Cond.fieldLink "DepthSorter$Piece" (13 : Nat) "DepthSorter$Piece" "box" "I") ∈ lw_all := lw_g (lw_at lw_m3 215 rfl) rfl
theorem q771 : (Jvm.Cond.fieldLink "DepthSorter$Piece" (16 : Nat) "DepthSorter$Piece" "part" "LDepthSorter$Box;") ∈ lw_all := lw_g (lw_at lw_m3 217 rfl) rfl
theorem q773 : (Jvm.Cond.laysFinal "DepthSorter$Piece" "DepthSorter$Piece" "number" "I") ∈ lw_all := lw_g (lw_at lw_m3 219 rfl) rfl
theorem q774 : (Jvm.Cond.soleField "DepthSorter$Piece" "number") ∈ lw_all := lw_g (lw_at lw_m3 220 rfl) rfl
theorem q775 : (Jvm.Cond.laysFinal "DepthSorter$Piece" "DepthSorter$Piece" "box" "I") ∈ lw_all := lw_g (lw_at lw_m3 221 rfl) rfl
theorem q776 : (Jvm.Cond.soleField "DepthSorter$Piece" "box") ∈ lw_all := lw_g (lw_at lw_m3 222 rfl) rfl
theorem q777 : (Jvm.Cond.lays "DepthSorter$Piece" "DepthSorter$Piece" "part" "LDepthSorter$Box;") ∈ lw_all := lw_g (lw_at lw_m3 223 rfl) rfl
theorem q778 : (Jvm.Cond.soleField "DepthSorter$Piece" "part") ∈ lw_all := lw_g (lw_at lw_m3 224 rfl) rfl
theorem q779 : (Jvm.Cond.superclass "DepthSorter$Piece" "java/lang/Object") ∈ lw_all := lw_g (lw_at lw_m3 225 rfl) rfl
theorem q2045 : (Jvm.Cond.castable "DepthSorter$Piece" "java/lang/Object") ∈ lw_tbl := lw_at lw_m9 51 rfl
theorem in_X4 : ∀ w ∈ wsX40, w ∈ lw_all := lw_in wsX40 [773, 775, 777] (by decide +kernel) (by decide +kernel)
/-! DepthSorter$Reader -/
set_option maxRecDepth 100000
def RX5 : String := "DepthSorter$Reader"
def TX5 : u_T := fun k => match k with
  | 0 => ("DepthSorter$Reader", "made", "[LDepthSorter$Box;", true)
  | 1 => ("DepthSorter$Reader", "corners", "[I", true)
  | 2 => ("DepthSorter$Reader", "many", "I", false)
  | 3 => ("DepthSorter$Reader", "at", "I", false)
  | _ => ("DepthSorter$Reader", "this$0", "LDepthSorter;", true)
def tyX5 : Nat → FieldType := fun k => match k with
  | 0 => .array (.object "DepthSorter$Box")
  | 1 => .array .int
  | 2 => .int
  | 3 => .int
  | _ => .object "DepthSorter"
abbrev wsX50 : List Cond := u_ws RX5 TX5 5
theorem nmX5 : ∀ a, a < 5 → ∀ b, b < 5 → a ≠ b → (TX5 a).2.1 ≠ (TX5 b).2.1 := by decide +kernel
theorem tyX5_ok : ∀ k, k < 5 → parseFieldDescriptor (TX5 k).2.2.1 = some (tyX5 k) := by decide +kernel
abbrev cX5_init : ByteArray := prog_5_method_1_code
def yX5_init : MethodName := ⟨RX5, "<init>", "(LDepthSorter;)V"⟩
def dkwX5_init_1 : List UInt8 := [181, 0, 21, 177]
abbrev dktX5_init_1 : List UInt8 := dkwX5_init_1 ++ []
def dkwX5_init_0 : List UInt8 := [42, 43, 181, 0, 3, 42, 183, 0, 9, 42, 16, 12, 189, 0, 15, 181, 0, 17, 42, 16, 6, 188, 10]
abbrev dktX5_init_0 : List UInt8 := dkwX5_init_0 ++ dktX5_init_1
theorem dksX5_init_0 : cX5_init.data.toList.drop 0 = dktX5_init_0 := by decide +kernel
theorem dksX5_init_1 : cX5_init.data.toList.drop 23 = dktX5_init_1 := dk_seg dksX5_init_0 23 rfl rfl
theorem dX5_init_0 : decode cX5_init 0 = .ok (.aload_n 0, 1) := dk_42 (dk_at dksX5_init_0 0 rfl rfl)
theorem dX5_init_1 : decode cX5_init 1 = .ok (.aload_n 1, 1) := dk_43 (dk_at dksX5_init_0 1 rfl rfl)
theorem dX5_init_2 : decode cX5_init 2 = .ok (.putfield 3, 3) := dk_181 0 3 (dk_at dksX5_init_0 2 rfl rfl)
theorem dX5_init_5 : decode cX5_init 5 = .ok (.aload_n 0, 1) := dk_42 (dk_at dksX5_init_0 5 rfl rfl)
theorem dX5_init_6 : decode cX5_init 6 = .ok (.invokespecial 9, 3) := dk_183 0 9 (dk_at dksX5_init_0 6 rfl rfl)
theorem dX5_init_9 : decode cX5_init 9 = .ok (.aload_n 0, 1) := dk_42 (dk_at dksX5_init_0 9 rfl rfl)
theorem dX5_init_10 : decode cX5_init 10 = .ok (.bipush 12, 2) := dk_16 12 (dk_at dksX5_init_0 10 rfl rfl)
theorem dX5_init_12 : decode cX5_init 12 = .ok (.anewarray 15, 3) := dk_189 0 15 (dk_at dksX5_init_0 12 rfl rfl)
theorem dX5_init_15 : decode cX5_init 15 = .ok (.putfield 17, 3) := dk_181 0 17 (dk_at dksX5_init_0 15 rfl rfl)
theorem dX5_init_18 : decode cX5_init 18 = .ok (.aload_n 0, 1) := dk_42 (dk_at dksX5_init_0 18 rfl rfl)
theorem dX5_init_19 : decode cX5_init 19 = .ok (.bipush 6, 2) := dk_16 6 (dk_at dksX5_init_0 19 rfl rfl)
theorem dX5_init_21 : decode cX5_init 21 = .ok (.newarray .int, 2) := dk_188_10 (dk_at dksX5_init_0 21 rfl rfl)
theorem dX5_init_23 : decode cX5_init 23 = .ok (.putfield 21, 3) := dk_181 0 21 (dk_at dksX5_init_1 0 rfl rfl)
theorem dX5_init_26 : decode cX5_init 26 = .ok (.return_, 1) := dk_177 (dk_at dksX5_init_1 3 rfl rfl)
abbrev cX5_readAll : ByteArray := prog_5_method_7_code
def yX5_readAll : MethodName := ⟨RX5, "readAll", "()[LDepthSorter$Box;"⟩
def dkwX5_readAll_1 : List UInt8 := [180, 0, 17, 176]
abbrev dktX5_readAll_1 : List UInt8 := dkwX5_readAll_1 ++ []
def dkwX5_readAll_0 : List UInt8 := [42, 180, 0, 25, 42, 180, 0, 3, 180, 0, 29, 162, 0, 10, 42, 182, 0, 70, 167, 255, 238, 42]
abbrev dktX5_readAll_0 : List UInt8 := dkwX5_readAll_0 ++ dktX5_readAll_1
theorem dksX5_readAll_0 : cX5_readAll.data.toList.drop 0 = dktX5_readAll_0 := by decide +kernel
theorem dksX5_readAll_1 : cX5_readAll.data.toList.drop 22 = dktX5_readAll_1 := dk_seg dksX5_readAll_0 22 rfl rfl
theorem dX5_readAll_0 : decode cX5_readAll 0 = .ok (.aload_n 0, 1) := dk_42 (dk_at dksX5_readAll_0 0 rfl rfl)
theorem dX5_readAll_1 : decode cX5_readAll 1 = .ok (.getfield 25, 3) := dk_180 0 25 (dk_at dksX5_readAll_0 1 rfl rfl)
theorem dX5_readAll_4 : decode cX5_readAll 4 = .ok (.aload_n 0, 1) := dk_42 (dk_at dksX5_readAll_0 4 rfl rfl)
theorem dX5_readAll_5 : decode cX5_readAll 5 = .ok (.getfield 3, 3) := dk_180 0 3 (dk_at dksX5_readAll_0 5 rfl rfl)
theorem dX5_readAll_8 : decode cX5_readAll 8 = .ok (.getfield 29, 3) := dk_180 0 29 (dk_at dksX5_readAll_0 8 rfl rfl)
theorem dX5_readAll_11 : decode cX5_readAll 11 = .ok (.if_icmp .ge 10, 3) := dk_162 0 10 (dk_at dksX5_readAll_0 11 rfl rfl)
theorem dX5_readAll_14 : decode cX5_readAll 14 = .ok (.aload_n 0, 1) := dk_42 (dk_at dksX5_readAll_0 14 rfl rfl)
theorem dX5_readAll_15 : decode cX5_readAll 15 = .ok (.invokevirtual 70, 3) := dk_182 0 70 (dk_at dksX5_readAll_0 15 rfl rfl)
theorem dX5_readAll_18 : decode cX5_readAll 18 = .ok (.goto (-18), 3) := dk_167 255 238 (dk_at dksX5_readAll_0 18 rfl rfl)
theorem dX5_readAll_21 : decode cX5_readAll 21 = .ok (.aload_n 0, 1) := dk_42 (dk_at dksX5_readAll_0 21 rfl rfl)
theorem dX5_readAll_22 : decode cX5_readAll 22 = .ok (.getfield 17, 3) := dk_180 0 17 (dk_at dksX5_readAll_1 0 rfl rfl)
theorem dX5_readAll_25 : decode cX5_readAll 25 = .ok (.areturn, 1) := dk_176 (dk_at dksX5_readAll_1 3 rfl rfl)
abbrev cX5_readBox : ByteArray := prog_5_method_6_code
def yX5_readBox : MethodName := ⟨RX5, "readBox", "()V"⟩
def dkwX5_readBox_6 : List UInt8 := [180, 0, 53, 4, 96, 181, 0, 53, 177]
abbrev dktX5_readBox_6 : List UInt8 := dkwX5_readBox_6 ++ []
def dkwX5_readBox_5 : List UInt8 := [183, 0, 46, 191, 132, 2, 1, 167, 255, 218, 42, 180, 0, 17, 42, 180, 0, 53, 43, 83, 42, 89]
abbrev dktX5_readBox_5 : List UInt8 := dkwX5_readBox_5 ++ dktX5_readBox_6
def dkwX5_readBox_4 : List UInt8 := [180, 0, 17, 28, 50, 43, 182, 0, 66, 153, 0, 17, 187, 0, 44, 89, 42, 180, 0, 25, 4, 100]
abbrev dktX5_readBox_4 : List UInt8 := dkwX5_readBox_4 ++ dktX5_readBox_5
def dkwX5_readBox_3 : List UInt8 := [180, 0, 53, 42, 180, 0, 21, 183, 0, 63, 76, 3, 61, 28, 42, 180, 0, 53, 162, 0, 36, 42]
abbrev dktX5_readBox_3 : List UInt8 := dkwX5_readBox_3 ++ dktX5_readBox_4
def dkwX5_readBox_2 : List UInt8 := [160, 0, 8, 16, 59, 167, 0, 5, 16, 44, 182, 0, 59, 132, 1, 1, 167, 255, 216, 187, 0, 15, 89, 42]
abbrev dktX5_readBox_2 : List UInt8 := dkwX5_readBox_2 ++ dktX5_readBox_3
def dkwX5_readBox_1 : List UInt8 := [16, 6, 162, 0, 40, 42, 27, 182, 0, 56, 42, 27, 5, 160, 0, 8, 16, 58, 167, 0, 15, 27, 8]
abbrev dktX5_readBox_1 : List UInt8 := dkwX5_readBox_1 ++ dktX5_readBox_2
def dkwX5_readBox_0 : List UInt8 := [42, 180, 0, 53, 16, 12, 160, 0, 15, 187, 0, 44, 89, 42, 180, 0, 25, 183, 0, 46, 191, 3, 60, 27]
abbrev dktX5_readBox_0 : List UInt8 := dkwX5_readBox_0 ++ dktX5_readBox_1
theorem dksX5_readBox_0 : cX5_readBox.data.toList.drop 0 = dktX5_readBox_0 := by decide +kernel
theorem dksX5_readBox_1 : cX5_readBox.data.toList.drop 24 = dktX5_readBox_1 := dk_seg dksX5_readBox_0 24 rfl rfl
theorem dksX5_readBox_2 : cX5_readBox.data.toList.drop 47 = dktX5_readBox_2 := dk_seg dksX5_readBox_1 23 rfl rfl
theorem dksX5_readBox_3 : cX5_readBox.data.toList.drop 71 = dktX5_readBox_3 := dk_seg dksX5_readBox_2 24 rfl rfl
theorem dksX5_readBox_4 : cX5_readBox.data.toList.drop 93 = dktX5_readBox_4 := dk_seg dksX5_readBox_3 22 rfl rfl
theorem dksX5_readBox_5 : cX5_readBox.data.toList.drop 115 = dktX5_readBox_5 := dk_seg dksX5_readBox_4 22 rfl rfl
theorem dksX5_readBox_6 : cX5_readBox.data.toList.drop 137 = dktX5_readBox_6 := dk_seg dksX5_readBox_5 22 rfl rfl
theorem dX5_readBox_0 : decode cX5_readBox 0 = .ok (.aload_n 0, 1) := dk_42 (dk_at dksX5_readBox_0 0 rfl rfl)
theorem dX5_readBox_1 : decode cX5_readBox 1 = .ok (.getfield 53, 3) := dk_180 0 53 (dk_at dksX5_readBox_0 1 rfl rfl)
theorem dX5_readBox_4 : decode cX5_readBox 4 = .ok (.bipush 12, 2) := dk_16 12 (dk_at dksX5_readBox_0 4 rfl rfl)
theorem dX5_readBox_6 : decode cX5_readBox 6 = .ok (.if_icmp .ne 15, 3) := dk_160 0 15 (dk_at dksX5_readBox_0 6 rfl rfl)
theorem dX5_readBox_9 : decode cX5_readBox 9 = .ok (.new 44, 3) := dk_187 0 44 (dk_at dksX5_readBox_0 9 rfl rfl)
theorem dX5_readBox_12 : decode cX5_readBox 12 = .ok (.dup, 1) := dk_89 (dk_at dksX5_readBox_0 12 rfl rfl)
theorem dX5_readBox_13 : decode cX5_readBox 13 = .ok (.aload_n 0, 1) := dk_42 (dk_at dksX5_readBox_0 13 rfl rfl)
theorem dX5_readBox_14 : decode cX5_readBox 14 = .ok (.getfield 25, 3) := dk_180 0 25 (dk_at dksX5_readBox_0 14 rfl rfl)
theorem dX5_readBox_17 : decode cX5_readBox 17 = .ok (.invokespecial 46, 3) := dk_183 0 46 (dk_at dksX5_readBox_0 17 rfl rfl)
theorem dX5_readBox_20 : decode cX5_readBox 20 = .ok (.athrow, 1) := dk_191 (dk_at dksX5_readBox_0 20 rfl rfl)
theorem dX5_readBox_21 : decode cX5_readBox 21 = .ok (.iconst 0, 1) := dk_3 (dk_at dksX5_readBox_0 21 rfl rfl)
theorem dX5_readBox_22 : decode cX5_readBox 22 = .ok (.istore_n 1, 1) := dk_60 (dk_at dksX5_readBox_0 22 rfl rfl)
theorem dX5_readBox_23 : decode cX5_readBox 23 = .ok (.iload_n 1, 1) := dk_27 (dk_at dksX5_readBox_0 23 rfl rfl)
theorem dX5_readBox_24 : decode cX5_readBox 24 = .ok (.bipush 6, 2) := dk_16 6 (dk_at dksX5_readBox_1 0 rfl rfl)
theorem dX5_readBox_26 : decode cX5_readBox 26 = .ok (.if_icmp .ge 40, 3) := dk_162 0 40 (dk_at dksX5_readBox_1 2 rfl rfl)
theorem dX5_readBox_29 : decode cX5_readBox 29 = .ok (.aload_n 0, 1) := dk_42 (dk_at dksX5_readBox_1 5 rfl rfl)
theorem dX5_readBox_30 : decode cX5_readBox 30 = .ok (.iload_n 1, 1) := dk_27 (dk_at dksX5_readBox_1 6 rfl rfl)
theorem dX5_readBox_31 : decode cX5_readBox 31 = .ok (.invokevirtual 56, 3) := dk_182 0 56 (dk_at dksX5_readBox_1 7 rfl rfl)
theorem dX5_readBox_34 : decode cX5_readBox 34 = .ok (.aload_n 0, 1) := dk_42 (dk_at dksX5_readBox_1 10 rfl rfl)
theorem dX5_readBox_35 : decode cX5_readBox 35 = .ok (.iload_n 1, 1) := dk_27 (dk_at dksX5_readBox_1 11 rfl rfl)
theorem dX5_readBox_36 : decode cX5_readBox 36 = .ok (.iconst 2, 1) := dk_5 (dk_at dksX5_readBox_1 12 rfl rfl)
theorem dX5_readBox_37 : decode cX5_readBox 37 = .ok (.if_icmp .ne 8, 3) := dk_160 0 8 (dk_at dksX5_readBox_1 13 rfl rfl)
theorem dX5_readBox_40 : decode cX5_readBox 40 = .ok (.bipush 58, 2) := dk_16 58 (dk_at dksX5_readBox_1 16 rfl rfl)
theorem dX5_readBox_42 : decode cX5_readBox 42 = .ok (.goto 15, 3) := dk_167 0 15 (dk_at dksX5_readBox_1 18 rfl rfl)
theorem dX5_readBox_45 : decode cX5_readBox 45 = .ok (.iload_n 1, 1) := dk_27 (dk_at dksX5_readBox_1 21 rfl rfl)
theorem dX5_readBox_46 : decode cX5_readBox 46 = .ok (.iconst 5, 1) := dk_8 (dk_at dksX5_readBox_1 22 rfl rfl)
theorem dX5_readBox_47 : decode cX5_readBox 47 = .ok (.if_icmp .ne 8, 3) := dk_160 0 8 (dk_at dksX5_readBox_2 0 rfl rfl)
theorem dX5_readBox_50 : decode cX5_readBox 50 = .ok (.bipush 59, 2) := dk_16 59 (dk_at dksX5_readBox_2 3 rfl rfl)
theorem dX5_readBox_52 : decode cX5_readBox 52 = .ok (.goto 5, 3) := dk_167 0 5 (dk_at dksX5_readBox_2 5 rfl rfl)
theorem dX5_readBox_55 : decode cX5_readBox 55 = .ok (.bipush 44, 2) := dk_16 44 (dk_at dksX5_readBox_2 8 rfl rfl)
theorem dX5_readBox_57 : decode cX5_readBox 57 = .ok (.invokevirtual 59, 3) := dk_182 0 59 (dk_at dksX5_readBox_2 10 rfl rfl)
theorem dX5_readBox_60 : decode cX5_readBox 60 = .ok (.iinc 1 1, 3) := dk_132 1 1 (dk_at dksX5_readBox_2 13 rfl rfl)
theorem dX5_readBox_63 : decode cX5_readBox 63 = .ok (.goto (-40), 3) := dk_167 255 216 (dk_at dksX5_readBox_2 16 rfl rfl)
theorem dX5_readBox_66 : decode cX5_readBox 66 = .ok (.new 15, 3) := dk_187 0 15 (dk_at dksX5_readBox_2 19 rfl rfl)
theorem dX5_readBox_69 : decode cX5_readBox 69 = .ok (.dup, 1) := dk_89 (dk_at dksX5_readBox_2 22 rfl rfl)
theorem dX5_readBox_70 : decode cX5_readBox 70 = .ok (.aload_n 0, 1) := dk_42 (dk_at dksX5_readBox_2 23 rfl rfl)
theorem dX5_readBox_71 : decode cX5_readBox 71 = .ok (.getfield 53, 3) := dk_180 0 53 (dk_at dksX5_readBox_3 0 rfl rfl)
theorem dX5_readBox_74 : decode cX5_readBox 74 = .ok (.aload_n 0, 1) := dk_42 (dk_at dksX5_readBox_3 3 rfl rfl)
theorem dX5_readBox_75 : decode cX5_readBox 75 = .ok (.getfield 21, 3) := dk_180 0 21 (dk_at dksX5_readBox_3 4 rfl rfl)
theorem dX5_readBox_78 : decode cX5_readBox 78 = .ok (.invokespecial 63, 3) := dk_183 0 63 (dk_at dksX5_readBox_3 7 rfl rfl)
theorem dX5_readBox_81 : decode cX5_readBox 81 = .ok (.astore_n 1, 1) := dk_76 (dk_at dksX5_readBox_3 10 rfl rfl)
theorem dX5_readBox_82 : decode cX5_readBox 82 = .ok (.iconst 0, 1) := dk_3 (dk_at dksX5_readBox_3 11 rfl rfl)
theorem dX5_readBox_83 : decode cX5_readBox 83 = .ok (.istore_n 2, 1) := dk_61 (dk_at dksX5_readBox_3 12 rfl rfl)
theorem dX5_readBox_84 : decode cX5_readBox 84 = .ok (.iload_n 2, 1) := dk_28 (dk_at dksX5_readBox_3 13 rfl rfl)
theorem dX5_readBox_85 : decode cX5_readBox 85 = .ok (.aload_n 0, 1) := dk_42 (dk_at dksX5_readBox_3 14 rfl rfl)
theorem dX5_readBox_86 : decode cX5_readBox 86 = .ok (.getfield 53, 3) := dk_180 0 53 (dk_at dksX5_readBox_3 15 rfl rfl)
theorem dX5_readBox_89 : decode cX5_readBox 89 = .ok (.if_icmp .ge 36, 3) := dk_162 0 36 (dk_at dksX5_readBox_3 18 rfl rfl)
theorem dX5_readBox_92 : decode cX5_readBox 92 = .ok (.aload_n 0, 1) := dk_42 (dk_at dksX5_readBox_3 21 rfl rfl)
theorem dX5_readBox_93 : decode cX5_readBox 93 = .ok (.getfield 17, 3) := dk_180 0 17 (dk_at dksX5_readBox_4 0 rfl rfl)
theorem dX5_readBox_96 : decode cX5_readBox 96 = .ok (.iload_n 2, 1) := dk_28 (dk_at dksX5_readBox_4 3 rfl rfl)
theorem dX5_readBox_97 : decode cX5_readBox 97 = .ok (.aaload, 1) := dk_50 (dk_at dksX5_readBox_4 4 rfl rfl)
theorem dX5_readBox_98 : decode cX5_readBox 98 = .ok (.aload_n 1, 1) := dk_43 (dk_at dksX5_readBox_4 5 rfl rfl)
theorem dX5_readBox_99 : decode cX5_readBox 99 = .ok (.invokevirtual 66, 3) := dk_182 0 66 (dk_at dksX5_readBox_4 6 rfl rfl)
theorem dX5_readBox_102 : decode cX5_readBox 102 = .ok (.ifCond .eq 17, 3) := dk_153 0 17 (dk_at dksX5_readBox_4 9 rfl rfl)
theorem dX5_readBox_105 : decode cX5_readBox 105 = .ok (.new 44, 3) := dk_187 0 44 (dk_at dksX5_readBox_4 12 rfl rfl)
theorem dX5_readBox_108 : decode cX5_readBox 108 = .ok (.dup, 1) := dk_89 (dk_at dksX5_readBox_4 15 rfl rfl)
theorem dX5_readBox_109 : decode cX5_readBox 109 = .ok (.aload_n 0, 1) := dk_42 (dk_at dksX5_readBox_4 16 rfl rfl)
theorem dX5_readBox_110 : decode cX5_readBox 110 = .ok (.getfield 25, 3) := dk_180 0 25 (dk_at dksX5_readBox_4 17 rfl rfl)
theorem dX5_readBox_113 : decode cX5_readBox 113 = .ok (.iconst 1, 1) := dk_4 (dk_at dksX5_readBox_4 20 rfl rfl)
theorem dX5_readBox_114 : decode cX5_readBox 114 = .ok (.isub, 1) := dk_100 (dk_at dksX5_readBox_4 21 rfl rfl)
theorem dX5_readBox_115 : decode cX5_readBox 115 = .ok (.invokespecial 46, 3) := dk_183 0 46 (dk_at dksX5_readBox_5 0 rfl rfl)
theorem dX5_readBox_118 : decode cX5_readBox 118 = .ok (.athrow, 1) := dk_191 (dk_at dksX5_readBox_5 3 rfl rfl)
theorem dX5_readBox_119 : decode cX5_readBox 119 = .ok (.iinc 2 1, 3) := dk_132 2 1 (dk_at dksX5_readBox_5 4 rfl rfl)
theorem dX5_readBox_122 : decode cX5_readBox 122 = .ok (.goto (-38), 3) := dk_167 255 218 (dk_at dksX5_readBox_5 7 rfl rfl)
theorem dX5_readBox_125 : decode cX5_readBox 125 = .ok (.aload_n 0, 1) := dk_42 (dk_at dksX5_readBox_5 10 rfl rfl)
theorem dX5_readBox_126 : decode cX5_readBox 126 = .ok (.getfield 17, 3) := dk_180 0 17 (dk_at dksX5_readBox_5 11 rfl rfl)
theorem dX5_readBox_129 : decode cX5_readBox 129 = .ok (.aload_n 0, 1) := dk_42 (dk_at dksX5_readBox_5 14 rfl rfl)
theorem dX5_readBox_130 : decode cX5_readBox 130 = .ok (.getfield 53, 3) := dk_180 0 53 (dk_at dksX5_readBox_5 15 rfl rfl)
theorem dX5_readBox_133 : decode cX5_readBox 133 = .ok (.aload_n 1, 1) := dk_43 (dk_at dksX5_readBox_5 18 rfl rfl)
theorem dX5_readBox_134 : decode cX5_readBox 134 = .ok (.aastore, 1) := dk_83 (dk_at dksX5_readBox_5 19 rfl rfl)
theorem dX5_readBox_135 : decode cX5_readBox 135 = .ok (.aload_n 0, 1) := dk_42 (dk_at dksX5_readBox_5 20 rfl rfl)
theorem dX5_readBox_136 : decode cX5_readBox 136 = .ok (.dup, 1) := dk_89 (dk_at dksX5_readBox_5 21 rfl rfl)
theorem dX5_readBox_137 : decode cX5_readBox 137 = .ok (.getfield 53, 3) := dk_180 0 53 (dk_at dksX5_readBox_6 0 rfl rfl)
theorem dX5_readBox_140 : decode cX5_readBox 140 = .ok (.iconst 1, 1) := dk_4 (dk_at dksX5_readBox_6 3 rfl rfl)
theorem dX5_readBox_141 : decode cX5_readBox 141 = .ok (.iadd, 1) := dk_96 (dk_at dksX5_readBox_6 4 rfl rfl)
theorem dX5_readBox_142 : decode cX5_readBox 142 = .ok (.putfield 53, 3) := dk_181 0 53 (dk_at dksX5_readBox_6 5 rfl rfl)
theorem dX5_readBox_145 : decode cX5_readBox 145 = .ok (.return_, 1) := dk_177 (dk_at dksX5_readBox_6 8 rfl rfl)
abbrev cX5_readCoordinate : ByteArray := prog_5_method_5_code
def yX5_readCoordinate : MethodName := ⟨RX5, "readCoordinate", "(I)V"⟩
def dkwX5_readCoordinate_3 : List UInt8 := [29, 79, 177]
abbrev dktX5_readCoordinate_3 : List UInt8 := dkwX5_readCoordinate_3 ++ []
def dkwX5_readCoordinate_2 : List UInt8 := [180, 0, 21, 27, 6, 100, 46, 163, 0, 12, 187, 0, 44, 89, 28, 183, 0, 46, 191, 42, 180, 0, 21, 27]
abbrev dktX5_readCoordinate_2 : List UInt8 := dkwX5_readCoordinate_2 ++ dktX5_readCoordinate_3
def dkwX5_readCoordinate_1 : List UInt8 := [182, 0, 49, 96, 167, 0, 4, 29, 62, 29, 16, 32, 163, 0, 20, 27, 6, 161, 0, 24, 29, 42]
abbrev dktX5_readCoordinate_1 : List UInt8 := dkwX5_readCoordinate_1 ++ dktX5_readCoordinate_2
def dkwX5_readCoordinate_0 : List UInt8 := [42, 180, 0, 25, 61, 42, 182, 0, 49, 62, 42, 182, 0, 40, 153, 0, 15, 16, 10, 29, 104, 42]
abbrev dktX5_readCoordinate_0 : List UInt8 := dkwX5_readCoordinate_0 ++ dktX5_readCoordinate_1
theorem dksX5_readCoordinate_0 : cX5_readCoordinate.data.toList.drop 0 = dktX5_readCoordinate_0 := by decide +kernel
theorem dksX5_readCoordinate_1 : cX5_readCoordinate.data.toList.drop 22 = dktX5_readCoordinate_1 := dk_seg dksX5_readCoordinate_0 22 rfl rfl
theorem dksX5_readCoordinate_2 : cX5_readCoordinate.data.toList.drop 44 = dktX5_readCoordinate_2 := dk_seg dksX5_readCoordinate_1 22 rfl rfl
theorem dksX5_readCoordinate_3 : cX5_readCoordinate.data.toList.drop 68 = dktX5_readCoordinate_3 := dk_seg dksX5_readCoordinate_2 24 rfl rfl
theorem dX5_readCoordinate_0 : decode cX5_readCoordinate 0 = .ok (.aload_n 0, 1) := dk_42 (dk_at dksX5_readCoordinate_0 0 rfl rfl)
theorem dX5_readCoordinate_1 : decode cX5_readCoordinate 1 = .ok (.getfield 25, 3) := dk_180 0 25 (dk_at dksX5_readCoordinate_0 1 rfl rfl)
theorem dX5_readCoordinate_4 : decode cX5_readCoordinate 4 = .ok (.istore_n 2, 1) := dk_61 (dk_at dksX5_readCoordinate_0 4 rfl rfl)
theorem dX5_readCoordinate_5 : decode cX5_readCoordinate 5 = .ok (.aload_n 0, 1) := dk_42 (dk_at dksX5_readCoordinate_0 5 rfl rfl)
theorem dX5_readCoordinate_6 : decode cX5_readCoordinate 6 = .ok (.invokevirtual 49, 3) := dk_182 0 49 (dk_at dksX5_readCoordinate_0 6 rfl rfl)
theorem dX5_readCoordinate_9 : decode cX5_readCoordinate 9 = .ok (.istore_n 3, 1) := dk_62 (dk_at dksX5_readCoordinate_0 9 rfl rfl)
theorem dX5_readCoordinate_10 : decode cX5_readCoordinate 10 = .ok (.aload_n 0, 1) := dk_42 (dk_at dksX5_readCoordinate_0 10 rfl rfl)
theorem dX5_readCoordinate_11 : decode cX5_readCoordinate 11 = .ok (.invokevirtual 40, 3) := dk_182 0 40 (dk_at dksX5_readCoordinate_0 11 rfl rfl)
theorem dX5_readCoordinate_14 : decode cX5_readCoordinate 14 = .ok (.ifCond .eq 15, 3) := dk_153 0 15 (dk_at dksX5_readCoordinate_0 14 rfl rfl)
theorem dX5_readCoordinate_17 : decode cX5_readCoordinate 17 = .ok (.bipush 10, 2) := dk_16 10 (dk_at dksX5_readCoordinate_0 17 rfl rfl)
theorem dX5_readCoordinate_19 : decode cX5_readCoordinate 19 = .ok (.iload_n 3, 1) := dk_29 (dk_at dksX5_readCoordinate_0 19 rfl rfl)
theorem dX5_readCoordinate_20 : decode cX5_readCoordinate 20 = .ok (.imul, 1) := dk_104 (dk_at dksX5_readCoordinate_0 20 rfl rfl)
theorem dX5_readCoordinate_21 : decode cX5_readCoordinate 21 = .ok (.aload_n 0, 1) := dk_42 (dk_at dksX5_readCoordinate_0 21 rfl rfl)
theorem dX5_readCoordinate_22 : decode cX5_readCoordinate 22 = .ok (.invokevirtual 49, 3) := dk_182 0 49 (dk_at dksX5_readCoordinate_1 0 rfl rfl)
theorem dX5_readCoordinate_25 : decode cX5_readCoordinate 25 = .ok (.iadd, 1) := dk_96 (dk_at dksX5_readCoordinate_1 3 rfl rfl)
theorem dX5_readCoordinate_26 : decode cX5_readCoordinate 26 = .ok (.goto 4, 3) := dk_167 0 4 (dk_at dksX5_readCoordinate_1 4 rfl rfl)
theorem dX5_readCoordinate_29 : decode cX5_readCoordinate 29 = .ok (.iload_n 3, 1) := dk_29 (dk_at dksX5_readCoordinate_1 7 rfl rfl)
theorem dX5_readCoordinate_30 : decode cX5_readCoordinate 30 = .ok (.istore_n 3, 1) := dk_62 (dk_at dksX5_readCoordinate_1 8 rfl rfl)
theorem dX5_readCoordinate_31 : decode cX5_readCoordinate 31 = .ok (.iload_n 3, 1) := dk_29 (dk_at dksX5_readCoordinate_1 9 rfl rfl)
theorem dX5_readCoordinate_32 : decode cX5_readCoordinate 32 = .ok (.bipush 32, 2) := dk_16 32 (dk_at dksX5_readCoordinate_1 10 rfl rfl)
theorem dX5_readCoordinate_34 : decode cX5_readCoordinate 34 = .ok (.if_icmp .gt 20, 3) := dk_163 0 20 (dk_at dksX5_readCoordinate_1 12 rfl rfl)
theorem dX5_readCoordinate_37 : decode cX5_readCoordinate 37 = .ok (.iload_n 1, 1) := dk_27 (dk_at dksX5_readCoordinate_1 15 rfl rfl)
theorem dX5_readCoordinate_38 : decode cX5_readCoordinate 38 = .ok (.iconst 3, 1) := dk_6 (dk_at dksX5_readCoordinate_1 16 rfl rfl)
theorem dX5_readCoordinate_39 : decode cX5_readCoordinate 39 = .ok (.if_icmp .lt 24, 3) := dk_161 0 24 (dk_at dksX5_readCoordinate_1 17 rfl rfl)
theorem dX5_readCoordinate_42 : decode cX5_readCoordinate 42 = .ok (.iload_n 3, 1) := dk_29 (dk_at dksX5_readCoordinate_1 20 rfl rfl)
theorem dX5_readCoordinate_43 : decode cX5_readCoordinate 43 = .ok (.aload_n 0, 1) := dk_42 (dk_at dksX5_readCoordinate_1 21 rfl rfl)
theorem dX5_readCoordinate_44 : decode cX5_readCoordinate 44 = .ok (.getfield 21, 3) := dk_180 0 21 (dk_at dksX5_readCoordinate_2 0 rfl rfl)
theorem dX5_readCoordinate_47 : decode cX5_readCoordinate 47 = .ok (.iload_n 1, 1) := dk_27 (dk_at dksX5_readCoordinate_2 3 rfl rfl)
theorem dX5_readCoordinate_48 : decode cX5_readCoordinate 48 = .ok (.iconst 3, 1) := dk_6 (dk_at dksX5_readCoordinate_2 4 rfl rfl)
theorem dX5_readCoordinate_49 : decode cX5_readCoordinate 49 = .ok (.isub, 1) := dk_100 (dk_at dksX5_readCoordinate_2 5 rfl rfl)
theorem dX5_readCoordinate_50 : decode cX5_readCoordinate 50 = .ok (.iaload, 1) := dk_46 (dk_at dksX5_readCoordinate_2 6 rfl rfl)
theorem dX5_readCoordinate_51 : decode cX5_readCoordinate 51 = .ok (.if_icmp .gt 12, 3) := dk_163 0 12 (dk_at dksX5_readCoordinate_2 7 rfl rfl)
theorem dX5_readCoordinate_54 : decode cX5_readCoordinate 54 = .ok (.new 44, 3) := dk_187 0 44 (dk_at dksX5_readCoordinate_2 10 rfl rfl)
theorem dX5_readCoordinate_57 : decode cX5_readCoordinate 57 = .ok (.dup, 1) := dk_89 (dk_at dksX5_readCoordinate_2 13 rfl rfl)
theorem dX5_readCoordinate_58 : decode cX5_readCoordinate 58 = .ok (.iload_n 2, 1) := dk_28 (dk_at dksX5_readCoordinate_2 14 rfl rfl)
theorem dX5_readCoordinate_59 : decode cX5_readCoordinate 59 = .ok (.invokespecial 46, 3) := dk_183 0 46 (dk_at dksX5_readCoordinate_2 15 rfl rfl)
theorem dX5_readCoordinate_62 : decode cX5_readCoordinate 62 = .ok (.athrow, 1) := dk_191 (dk_at dksX5_readCoordinate_2 18 rfl rfl)
theorem dX5_readCoordinate_63 : decode cX5_readCoordinate 63 = .ok (.aload_n 0, 1) := dk_42 (dk_at dksX5_readCoordinate_2 19 rfl rfl)
theorem dX5_readCoordinate_64 : decode cX5_readCoordinate 64 = .ok (.getfield 21, 3) := dk_180 0 21 (dk_at dksX5_readCoordinate_2 20 rfl rfl)
theorem dX5_readCoordinate_67 : decode cX5_readCoordinate 67 = .ok (.iload_n 1, 1) := dk_27 (dk_at dksX5_readCoordinate_2 23 rfl rfl)
theorem dX5_readCoordinate_68 : decode cX5_readCoordinate 68 = .ok (.iload_n 3, 1) := dk_29 (dk_at dksX5_readCoordinate_3 0 rfl rfl)
theorem dX5_readCoordinate_69 : decode cX5_readCoordinate 69 = .ok (.iastore, 1) := dk_79 (dk_at dksX5_readCoordinate_3 1 rfl rfl)
theorem dX5_readCoordinate_70 : decode cX5_readCoordinate 70 = .ok (.return_, 1) := dk_177 (dk_at dksX5_readCoordinate_3 2 rfl rfl)
abbrev cX5_readDigit : ByteArray := prog_5_method_3_code
def yX5_readDigit : MethodName := ⟨RX5, "readDigit", "()I"⟩
def dkwX5_readDigit_1 : List UInt8 := [4, 96, 181, 0, 25, 42, 180, 0, 3, 180, 0, 32, 42, 180, 0, 25, 4, 100, 51, 16, 48, 100, 172]
abbrev dktX5_readDigit_1 : List UInt8 := dkwX5_readDigit_1 ++ []
def dkwX5_readDigit_0 : List UInt8 := [42, 182, 0, 40, 154, 0, 15, 187, 0, 44, 89, 42, 180, 0, 25, 183, 0, 46, 191, 42, 89, 180, 0, 25]
abbrev dktX5_readDigit_0 : List UInt8 := dkwX5_readDigit_0 ++ dktX5_readDigit_1
theorem dksX5_readDigit_0 : cX5_readDigit.data.toList.drop 0 = dktX5_readDigit_0 := by decide +kernel
theorem dksX5_readDigit_1 : cX5_readDigit.data.toList.drop 24 = dktX5_readDigit_1 := dk_seg dksX5_readDigit_0 24 rfl rfl
theorem dX5_readDigit_0 : decode cX5_readDigit 0 = .ok (.aload_n 0, 1) := dk_42 (dk_at dksX5_readDigit_0 0 rfl rfl)
theorem dX5_readDigit_1 : decode cX5_readDigit 1 = .ok (.invokevirtual 40, 3) := dk_182 0 40 (dk_at dksX5_readDigit_0 1 rfl rfl)
theorem dX5_readDigit_4 : decode cX5_readDigit 4 = .ok (.ifCond .ne 15, 3) := dk_154 0 15 (dk_at dksX5_readDigit_0 4 rfl rfl)
theorem dX5_readDigit_7 : decode cX5_readDigit 7 = .ok (.new 44, 3) := dk_187 0 44 (dk_at dksX5_readDigit_0 7 rfl rfl)
theorem dX5_readDigit_10 : decode cX5_readDigit 10 = .ok (.dup, 1) := dk_89 (dk_at dksX5_readDigit_0 10 rfl rfl)
theorem dX5_readDigit_11 : decode cX5_readDigit 11 = .ok (.aload_n 0, 1) := dk_42 (dk_at dksX5_readDigit_0 11 rfl rfl)
theorem dX5_readDigit_12 : decode cX5_readDigit 12 = .ok (.getfield 25, 3) := dk_180 0 25 (dk_at dksX5_readDigit_0 12 rfl rfl)
theorem dX5_readDigit_15 : decode cX5_readDigit 15 = .ok (.invokespecial 46, 3) := dk_183 0 46 (dk_at dksX5_readDigit_0 15 rfl rfl)
theorem dX5_readDigit_18 : decode cX5_readDigit 18 = .ok (.athrow, 1) := dk_191 (dk_at dksX5_readDigit_0 18 rfl rfl)
theorem dX5_readDigit_19 : decode cX5_readDigit 19 = .ok (.aload_n 0, 1) := dk_42 (dk_at dksX5_readDigit_0 19 rfl rfl)
theorem dX5_readDigit_20 : decode cX5_readDigit 20 = .ok (.dup, 1) := dk_89 (dk_at dksX5_readDigit_0 20 rfl rfl)
theorem dX5_readDigit_21 : decode cX5_readDigit 21 = .ok (.getfield 25, 3) := dk_180 0 25 (dk_at dksX5_readDigit_0 21 rfl rfl)
theorem dX5_readDigit_24 : decode cX5_readDigit 24 = .ok (.iconst 1, 1) := dk_4 (dk_at dksX5_readDigit_1 0 rfl rfl)
theorem dX5_readDigit_25 : decode cX5_readDigit 25 = .ok (.iadd, 1) := dk_96 (dk_at dksX5_readDigit_1 1 rfl rfl)
theorem dX5_readDigit_26 : decode cX5_readDigit 26 = .ok (.putfield 25, 3) := dk_181 0 25 (dk_at dksX5_readDigit_1 2 rfl rfl)
theorem dX5_readDigit_29 : decode cX5_readDigit 29 = .ok (.aload_n 0, 1) := dk_42 (dk_at dksX5_readDigit_1 5 rfl rfl)
theorem dX5_readDigit_30 : decode cX5_readDigit 30 = .ok (.getfield 3, 3) := dk_180 0 3 (dk_at dksX5_readDigit_1 6 rfl rfl)
theorem dX5_readDigit_33 : decode cX5_readDigit 33 = .ok (.getfield 32, 3) := dk_180 0 32 (dk_at dksX5_readDigit_1 9 rfl rfl)
theorem dX5_readDigit_36 : decode cX5_readDigit 36 = .ok (.aload_n 0, 1) := dk_42 (dk_at dksX5_readDigit_1 12 rfl rfl)
theorem dX5_readDigit_37 : decode cX5_readDigit 37 = .ok (.getfield 25, 3) := dk_180 0 25 (dk_at dksX5_readDigit_1 13 rfl rfl)
theorem dX5_readDigit_40 : decode cX5_readDigit 40 = .ok (.iconst 1, 1) := dk_4 (dk_at dksX5_readDigit_1 16 rfl rfl)
theorem dX5_readDigit_41 : decode cX5_readDigit 41 = .ok (.isub, 1) := dk_100 (dk_at dksX5_readDigit_1 17 rfl rfl)
theorem dX5_readDigit_42 : decode cX5_readDigit 42 = .ok (.baload, 1) := dk_51 (dk_at dksX5_readDigit_1 18 rfl rfl)
theorem dX5_readDigit_43 : decode cX5_readDigit 43 = .ok (.bipush 48, 2) := dk_16 48 (dk_at dksX5_readDigit_1 19 rfl rfl)
theorem dX5_readDigit_45 : decode cX5_readDigit 45 = .ok (.isub, 1) := dk_100 (dk_at dksX5_readDigit_1 21 rfl rfl)
theorem dX5_readDigit_46 : decode cX5_readDigit 46 = .ok (.ireturn, 1) := dk_172 (dk_at dksX5_readDigit_1 22 rfl rfl)
abbrev cX5_isDigit : ByteArray := prog_5_method_2_code
def yX5_isDigit : MethodName := ⟨RX5, "isDigit", "()Z"⟩
def dkwX5_isDigit_1 : List UInt8 := [180, 0, 25, 51, 16, 48, 16, 57, 184, 0, 36, 153, 0, 7, 4, 167, 0, 4, 3, 172]
abbrev dktX5_isDigit_1 : List UInt8 := dkwX5_isDigit_1 ++ []
def dkwX5_isDigit_0 : List UInt8 := [42, 180, 0, 25, 42, 180, 0, 3, 180, 0, 29, 162, 0, 29, 42, 180, 0, 3, 180, 0, 32, 42]
abbrev dktX5_isDigit_0 : List UInt8 := dkwX5_isDigit_0 ++ dktX5_isDigit_1
theorem dksX5_isDigit_0 : cX5_isDigit.data.toList.drop 0 = dktX5_isDigit_0 := by decide +kernel
theorem dksX5_isDigit_1 : cX5_isDigit.data.toList.drop 22 = dktX5_isDigit_1 := dk_seg dksX5_isDigit_0 22 rfl rfl
theorem dX5_isDigit_0 : decode cX5_isDigit 0 = .ok (.aload_n 0, 1) := dk_42 (dk_at dksX5_isDigit_0 0 rfl rfl)
theorem dX5_isDigit_1 : decode cX5_isDigit 1 = .ok (.getfield 25, 3) := dk_180 0 25 (dk_at dksX5_isDigit_0 1 rfl rfl)
theorem dX5_isDigit_4 : decode cX5_isDigit 4 = .ok (.aload_n 0, 1) := dk_42 (dk_at dksX5_isDigit_0 4 rfl rfl)
theorem dX5_isDigit_5 : decode cX5_isDigit 5 = .ok (.getfield 3, 3) := dk_180 0 3 (dk_at dksX5_isDigit_0 5 rfl rfl)
theorem dX5_isDigit_8 : decode cX5_isDigit 8 = .ok (.getfield 29, 3) := dk_180 0 29 (dk_at dksX5_isDigit_0 8 rfl rfl)
theorem dX5_isDigit_11 : decode cX5_isDigit 11 = .ok (.if_icmp .ge 29, 3) := dk_162 0 29 (dk_at dksX5_isDigit_0 11 rfl rfl)
theorem dX5_isDigit_14 : decode cX5_isDigit 14 = .ok (.aload_n 0, 1) := dk_42 (dk_at dksX5_isDigit_0 14 rfl rfl)
theorem dX5_isDigit_15 : decode cX5_isDigit 15 = .ok (.getfield 3, 3) := dk_180 0 3 (dk_at dksX5_isDigit_0 15 rfl rfl)
theorem dX5_isDigit_18 : decode cX5_isDigit 18 = .ok (.getfield 32, 3) := dk_180 0 32 (dk_at dksX5_isDigit_0 18 rfl rfl)
theorem dX5_isDigit_21 : decode cX5_isDigit 21 = .ok (.aload_n 0, 1) := dk_42 (dk_at dksX5_isDigit_0 21 rfl rfl)
theorem dX5_isDigit_22 : decode cX5_isDigit 22 = .ok (.getfield 25, 3) := dk_180 0 25 (dk_at dksX5_isDigit_1 0 rfl rfl)
theorem dX5_isDigit_25 : decode cX5_isDigit 25 = .ok (.baload, 1) := dk_51 (dk_at dksX5_isDigit_1 3 rfl rfl)
theorem dX5_isDigit_26 : decode cX5_isDigit 26 = .ok (.bipush 48, 2) := dk_16 48 (dk_at dksX5_isDigit_1 4 rfl rfl)
theorem dX5_isDigit_28 : decode cX5_isDigit 28 = .ok (.bipush 57, 2) := dk_16 57 (dk_at dksX5_isDigit_1 6 rfl rfl)
theorem dX5_isDigit_30 : decode cX5_isDigit 30 = .ok (.invokestatic 36, 3) := dk_184 0 36 (dk_at dksX5_isDigit_1 8 rfl rfl)
theorem dX5_isDigit_33 : decode cX5_isDigit 33 = .ok (.ifCond .eq 7, 3) := dk_153 0 7 (dk_at dksX5_isDigit_1 11 rfl rfl)
theorem dX5_isDigit_36 : decode cX5_isDigit 36 = .ok (.iconst 1, 1) := dk_4 (dk_at dksX5_isDigit_1 14 rfl rfl)
theorem dX5_isDigit_37 : decode cX5_isDigit 37 = .ok (.goto 4, 3) := dk_167 0 4 (dk_at dksX5_isDigit_1 15 rfl rfl)
theorem dX5_isDigit_40 : decode cX5_isDigit 40 = .ok (.iconst 0, 1) := dk_3 (dk_at dksX5_isDigit_1 18 rfl rfl)
theorem dX5_isDigit_41 : decode cX5_isDigit 41 = .ok (.ireturn, 1) := dk_172 (dk_at dksX5_isDigit_1 19 rfl rfl)
abbrev cX5_expect : ByteArray := prog_5_method_4_code
def yX5_expect : MethodName := ⟨RX5, "expect", "(C)V"⟩
def dkwX5_expect_2 : List UInt8 := [180, 0, 25, 4, 96, 181, 0, 25, 177]
abbrev dktX5_expect_2 : List UInt8 := dkwX5_expect_2 ++ []
def dkwX5_expect_1 : List UInt8 := [180, 0, 25, 51, 27, 159, 0, 15, 187, 0, 44, 89, 42, 180, 0, 25, 183, 0, 46, 191, 42, 89]
abbrev dktX5_expect_1 : List UInt8 := dkwX5_expect_1 ++ dktX5_expect_2
def dkwX5_expect_0 : List UInt8 := [42, 180, 0, 25, 42, 180, 0, 3, 180, 0, 29, 159, 0, 19, 42, 180, 0, 3, 180, 0, 32, 42]
abbrev dktX5_expect_0 : List UInt8 := dkwX5_expect_0 ++ dktX5_expect_1
theorem dksX5_expect_0 : cX5_expect.data.toList.drop 0 = dktX5_expect_0 := by decide +kernel
theorem dksX5_expect_1 : cX5_expect.data.toList.drop 22 = dktX5_expect_1 := dk_seg dksX5_expect_0 22 rfl rfl
theorem dksX5_expect_2 : cX5_expect.data.toList.drop 44 = dktX5_expect_2 := dk_seg dksX5_expect_1 22 rfl rfl
theorem dX5_expect_0 : decode cX5_expect 0 = .ok (.aload_n 0, 1) := dk_42 (dk_at dksX5_expect_0 0 rfl rfl)
theorem dX5_expect_1 : decode cX5_expect 1 = .ok (.getfield 25, 3) := dk_180 0 25 (dk_at dksX5_expect_0 1 rfl rfl)
theorem dX5_expect_4 : decode cX5_expect 4 = .ok (.aload_n 0, 1) := dk_42 (dk_at dksX5_expect_0 4 rfl rfl)
theorem dX5_expect_5 : decode cX5_expect 5 = .ok (.getfield 3, 3) := dk_180 0 3 (dk_at dksX5_expect_0 5 rfl rfl)
theorem dX5_expect_8 : decode cX5_expect 8 = .ok (.getfield 29, 3) := dk_180 0 29 (dk_at dksX5_expect_0 8 rfl rfl)
theorem dX5_expect_11 : decode cX5_expect 11 = .ok (.if_icmp .eq 19, 3) := dk_159 0 19 (dk_at dksX5_expect_0 11 rfl rfl)
theorem dX5_expect_14 : decode cX5_expect 14 = .ok (.aload_n 0, 1) := dk_42 (dk_at dksX5_expect_0 14 rfl rfl)
theorem dX5_expect_15 : decode cX5_expect 15 = .ok (.getfield 3, 3) := dk_180 0 3 (dk_at dksX5_expect_0 15 rfl rfl)
theorem dX5_expect_18 : decode cX5_expect 18 = .ok (.getfield 32, 3) := dk_180 0 32 (dk_at dksX5_expect_0 18 rfl rfl)
theorem dX5_expect_21 : decode cX5_expect 21 = .ok (.aload_n 0, 1) := dk_42 (dk_at dksX5_expect_0 21 rfl rfl)
theorem dX5_expect_22 : decode cX5_expect 22 = .ok (.getfield 25, 3) := dk_180 0 25 (dk_at dksX5_expect_1 0 rfl rfl)
theorem dX5_expect_25 : decode cX5_expect 25 = .ok (.baload, 1) := dk_51 (dk_at dksX5_expect_1 3 rfl rfl)
theorem dX5_expect_26 : decode cX5_expect 26 = .ok (.iload_n 1, 1) := dk_27 (dk_at dksX5_expect_1 4 rfl rfl)
theorem dX5_expect_27 : decode cX5_expect 27 = .ok (.if_icmp .eq 15, 3) := dk_159 0 15 (dk_at dksX5_expect_1 5 rfl rfl)
theorem dX5_expect_30 : decode cX5_expect 30 = .ok (.new 44, 3) := dk_187 0 44 (dk_at dksX5_expect_1 8 rfl rfl)
theorem dX5_expect_33 : decode cX5_expect 33 = .ok (.dup, 1) := dk_89 (dk_at dksX5_expect_1 11 rfl rfl)
theorem dX5_expect_34 : decode cX5_expect 34 = .ok (.aload_n 0, 1) := dk_42 (dk_at dksX5_expect_1 12 rfl rfl)
theorem dX5_expect_35 : decode cX5_expect 35 = .ok (.getfield 25, 3) := dk_180 0 25 (dk_at dksX5_expect_1 13 rfl rfl)
theorem dX5_expect_38 : decode cX5_expect 38 = .ok (.invokespecial 46, 3) := dk_183 0 46 (dk_at dksX5_expect_1 16 rfl rfl)
theorem dX5_expect_41 : decode cX5_expect 41 = .ok (.athrow, 1) := dk_191 (dk_at dksX5_expect_1 19 rfl rfl)
theorem dX5_expect_42 : decode cX5_expect 42 = .ok (.aload_n 0, 1) := dk_42 (dk_at dksX5_expect_1 20 rfl rfl)
theorem dX5_expect_43 : decode cX5_expect 43 = .ok (.dup, 1) := dk_89 (dk_at dksX5_expect_1 21 rfl rfl)
theorem dX5_expect_44 : decode cX5_expect 44 = .ok (.getfield 25, 3) := dk_180 0 25 (dk_at dksX5_expect_2 0 rfl rfl)
theorem dX5_expect_47 : decode cX5_expect 47 = .ok (.iconst 1, 1) := dk_4 (dk_at dksX5_expect_2 3 rfl rfl)
theorem dX5_expect_48 : decode cX5_expect 48 = .ok (.iadd, 1) := dk_96 (dk_at dksX5_expect_2 4 rfl rfl)
theorem dX5_expect_49 : decode cX5_expect 49 = .ok (.putfield 25, 3) := dk_181 0 25 (dk_at dksX5_expect_2 5 rfl rfl)
theorem dX5_expect_52 : decode cX5_expect 52 = .ok (.return_, 1) := dk_177 (dk_at dksX5_expect_2 8 rfl rfl)
theorem q115 : (Jvm.Cond.initialized "DepthSorter$Reader") ∈ lw_all := lw_g (lw_at lw_m1 41 rfl) rfl
theorem q200 : (Jvm.Cond.fieldLinkNest "DepthSorter$Reader" (32 : Nat) "DepthSorter" "text" "[B" "DepthSorter") ∈ lw_tbl := lw_at lw_m1 126 rfl
theorem q202 : (Jvm.Cond.fieldLinkNest "DepthSorter$Reader" (29 : Nat) "DepthSorter" "length" "I" "DepthSorter") ∈ lw_tbl := lw_at lw_m1 128 rfl
theorem q538 : (Jvm.Cond.selects "DepthSorter$Reader" ({ cls := "java/lang/Object", name := "getClass", desc := "()Ljava/lang/Class;" } : Jvm.MethodName) ({ cls := "java/lang/Object", name := "getClass", desc := "()Ljava/lang/Class;" } : Jvm.MethodName)) ∈ lw_all := lw_g (lw_at lw_m2 224 rfl) rfl
theorem q1569 : (Jvm.Cond.instantiable "DepthSorter$Reader" (5 : Nat)) ∈ lw_all := lw_g (lw_at lw_m7 55 rfl) rfl
theorem q1571 : (Jvm.Cond.instanceMethod ({ cls := "DepthSorter$Reader", name := "<init>", desc := "(LDepthSorter;)V" } : Jvm.MethodName)) ∈ lw_all := lw_g (lw_at lw_m7 57 rfl) rfl
theorem q1572 : (Jvm.Cond.code ({ cls := "DepthSorter$Reader", name := "<init>", desc := "(LDepthSorter;)V" } : Jvm.MethodName) prog_5_method_1_code (2 : Nat) (Option.none : Option Jvm.ClassFile.FieldType)) ∈ lw_all := lw_g (lw_at lw_m7 58 rfl) rfl
theorem q1573 : (Jvm.Cond.methodLink "DepthSorter$Reader" (9 : Nat) ({ cls := "java/lang/Object", name := "<init>", desc := "()V" } : Jvm.MethodName)) ∈ lw_all := lw_g (lw_at lw_m7 59 rfl) rfl
theorem q1574 : (Jvm.Cond.classLink "DepthSorter$Reader" (15 : Nat) "DepthSorter$Box") ∈ lw_all := lw_g (lw_at lw_m7 60 rfl) rfl
theorem q1575 : (Jvm.Cond.fieldLink "DepthSorter$Reader" (17 : Nat) "DepthSorter$Reader" "made" "[LDepthSorter$Box;") ∈ lw_all := lw_g (lw_at lw_m7 61 rfl) rfl
theorem q1576 : (Jvm.Cond.fieldLink "DepthSorter$Reader" (21 : Nat) "DepthSorter$Reader" "corners" "[I") ∈ lw_all := lw_g (lw_at lw_m7 62 rfl) rfl
theorem q1577 : (Jvm.Cond.fieldLink "DepthSorter$Reader" (53 : Nat) "DepthSorter$Reader" "many" "I") ∈ lw_all := lw_g (lw_at lw_m7 63 rfl) rfl
theorem q1578 : (Jvm.Cond.fieldLink "DepthSorter$Reader" (25 : Nat) "DepthSorter$Reader" "at" "I") ∈ lw_all := lw_g (lw_at lw_m7 64 rfl) rfl
theorem q1579 : (Jvm.Cond.fieldLink "DepthSorter$Reader" (3 : Nat) "DepthSorter$Reader" "this$0" "LDepthSorter;") ∈ lw_all := lw_g (lw_at lw_m7 65 rfl) rfl
theorem q1580 : (Jvm.Cond.laysFinal "DepthSorter$Reader" "DepthSorter$Reader" "made" "[LDepthSorter$Box;") ∈ lw_all := lw_g (lw_at lw_m7 66 rfl) rfl
theorem q1581 : (Jvm.Cond.soleField "DepthSorter$Reader" "made") ∈ lw_all := lw_g (lw_at lw_m7 67 rfl) rfl
theorem q1582 : (Jvm.Cond.laysFinal "DepthSorter$Reader" "DepthSorter$Reader" "corners" "[I") ∈ lw_all := lw_g (lw_at lw_m7 68 rfl) rfl
theorem q1583 : (Jvm.Cond.soleField "DepthSorter$Reader" "corners") ∈ lw_all := lw_g (lw_at lw_m7 69 rfl) rfl
theorem q1584 : (Jvm.Cond.lays "DepthSorter$Reader" "DepthSorter$Reader" "many" "I") ∈ lw_all := lw_g (lw_at lw_m7 70 rfl) rfl
theorem q1585 : (Jvm.Cond.soleField "DepthSorter$Reader" "many") ∈ lw_all := lw_g (lw_at lw_m7 71 rfl) rfl
theorem q1586 : (Jvm.Cond.lays "DepthSorter$Reader" "DepthSorter$Reader" "at" "I") ∈ lw_all := lw_g (lw_at lw_m7 72 rfl) rfl
theorem q1587 : (Jvm.Cond.soleField "DepthSorter$Reader" "at") ∈ lw_all := lw_g (lw_at lw_m7 73 rfl) rfl
theorem q1588 : (Jvm.Cond.laysFinal "DepthSorter$Reader" "DepthSorter$Reader" "this$0" "LDepthSorter;") ∈ lw_all := lw_g (lw_at lw_m7 74 rfl) rfl
theorem q1589 : (Jvm.Cond.soleField "DepthSorter$Reader" "this$0") ∈ lw_all := lw_g (lw_at lw_m7 75 rfl) rfl
theorem q1590 : (Jvm.Cond.superclass "DepthSorter$Reader" "java/lang/Object") ∈ lw_all := lw_g (lw_at lw_m7 76 rfl) rfl
theorem q1592 : (Jvm.Cond.instanceMethod ({ cls := "DepthSorter$Reader", name := "readAll", desc := "()[LDepthSorter$Box;" } : Jvm.MethodName)) ∈ lw_all := lw_g (lw_at lw_m7 78 rfl) rfl
theorem q1593 : (Jvm.Cond.selects "DepthSorter$Reader" ({ cls := "DepthSorter$Reader", name := "readAll", desc := "()[LDepthSorter$Box;" } : Jvm.MethodName) ({ cls := "DepthSorter$Reader", name := "readAll", desc := "()[LDepthSorter$Box;" } : Jvm.MethodName)) ∈ lw_all := lw_g (lw_at lw_m7 79 rfl) rfl
theorem q1594 : (Jvm.Cond.code ({ cls := "DepthSorter$Reader", name := "readAll", desc := "()[LDepthSorter$Box;" } : Jvm.MethodName) prog_5_method_7_code (1 : Nat) (Option.some (Jvm.ClassFile.FieldType.array (Jvm.ClassFile.FieldType.object "DepthSorter$Box")))) ∈ lw_all := lw_g (lw_at lw_m7 80 rfl) rfl
theorem q1595 : (Jvm.Cond.methodLink "DepthSorter$Reader" (70 : Nat) ({ cls := "DepthSorter$Reader", name := "readBox", desc := "()V" } : Jvm.MethodName)) ∈ lw_all := lw_g (lw_at lw_m7 81 rfl) rfl
theorem q1596 : (Jvm.Cond.privateMethod ({ cls := "DepthSorter$Reader", name := "readBox", desc := "()V" } : Jvm.MethodName)) ∈ lw_tbl := lw_at lw_m7 82 rfl
theorem q1597 : (Jvm.Cond.instanceMethod ({ cls := "DepthSorter$Reader", name := "readBox", desc := "()V" } : Jvm.MethodName)) ∈ lw_all := lw_g (lw_at lw_m7 83 rfl) rfl
theorem q1598 : (Jvm.Cond.code ({ cls := "DepthSorter$Reader", name := "readBox", desc := "()V" } : Jvm.MethodName) prog_5_method_6_code (3 : Nat) (Option.none : Option Jvm.ClassFile.FieldType)) ∈ lw_all := lw_g (lw_at lw_m7 84 rfl) rfl
theorem q1599 : (Jvm.Cond.classLink "DepthSorter$Reader" (44 : Nat) "DepthSorter$Fault") ∈ lw_all := lw_g (lw_at lw_m7 85 rfl) rfl
theorem q1608 : (Jvm.Cond.methodLink "DepthSorter$Reader" (46 : Nat) ({ cls := "DepthSorter$Fault", name := "<init>", desc := "(I)V" } : Jvm.MethodName)) ∈ lw_all := lw_g (lw_at lw_m7 94 rfl) rfl
theorem q1624 : (Jvm.Cond.methodLink "DepthSorter$Reader" (56 : Nat) ({ cls := "DepthSorter$Reader", name := "readCoordinate", desc := "(I)V" } : Jvm.MethodName)) ∈ lw_all := lw_g (lw_at lw_m7 110 rfl) rfl
theorem q1625 : (Jvm.Cond.privateMethod ({ cls := "DepthSorter$Reader", name := "readCoordinate", desc := "(I)V" } : Jvm.MethodName)) ∈ lw_tbl := lw_at lw_m7 111 rfl
theorem q1626 : (Jvm.Cond.instanceMethod ({ cls := "DepthSorter$Reader", name := "readCoordinate", desc := "(I)V" } : Jvm.MethodName)) ∈ lw_all := lw_g (lw_at lw_m7 112 rfl) rfl
theorem q1627 : (Jvm.Cond.code ({ cls := "DepthSorter$Reader", name := "readCoordinate", desc := "(I)V" } : Jvm.MethodName) prog_5_method_5_code (4 : Nat) (Option.none : Option Jvm.ClassFile.FieldType)) ∈ lw_all := lw_g (lw_at lw_m7 113 rfl) rfl
theorem q1628 : (Jvm.Cond.methodLink "DepthSorter$Reader" (49 : Nat) ({ cls := "DepthSorter$Reader", name := "readDigit", desc := "()I" } : Jvm.MethodName)) ∈ lw_all := lw_g (lw_at lw_m7 114 rfl) rfl
theorem q1629 : (Jvm.Cond.privateMethod ({ cls := "DepthSorter$Reader", name := "readDigit", desc := "()I" } : Jvm.MethodName)) ∈ lw_tbl := lw_at lw_m7 115 rfl
theorem q1630 : (Jvm.Cond.instanceMethod ({ cls := "DepthSorter$Reader", name := "readDigit", desc := "()I" } : Jvm.MethodName)) ∈ lw_all := lw_g (lw_at lw_m7 116 rfl) rfl
theorem q1631 : (Jvm.Cond.code ({ cls := "DepthSorter$Reader", name := "readDigit", desc := "()I" } : Jvm.MethodName) prog_5_method_3_code (1 : Nat) (Option.some Jvm.ClassFile.FieldType.int)) ∈ lw_all := lw_g (lw_at lw_m7 117 rfl) rfl
theorem q1632 : (Jvm.Cond.methodLink "DepthSorter$Reader" (40 : Nat) ({ cls := "DepthSorter$Reader", name := "isDigit", desc := "()Z" } : Jvm.MethodName)) ∈ lw_all := lw_g (lw_at lw_m7 118 rfl) rfl
theorem q1633 : (Jvm.Cond.privateMethod ({ cls := "DepthSorter$Reader", name := "isDigit", desc := "()Z" } : Jvm.MethodName)) ∈ lw_tbl := lw_at lw_m7 119 rfl
theorem q1634 : (Jvm.Cond.instanceMethod ({ cls := "DepthSorter$Reader", name := "isDigit", desc := "()Z" } : Jvm.MethodName)) ∈ lw_all := lw_g (lw_at lw_m7 120 rfl) rfl
theorem q1635 : (Jvm.Cond.code ({ cls := "DepthSorter$Reader", name := "isDigit", desc := "()Z" } : Jvm.MethodName) prog_5_method_2_code (1 : Nat) (Option.some Jvm.ClassFile.FieldType.boolean)) ∈ lw_all := lw_g (lw_at lw_m7 121 rfl) rfl
theorem q1636 : (Jvm.Cond.methodLinkNest "DepthSorter$Reader" (36 : Nat) ({ cls := "DepthSorter", name := "isIn", desc := "(III)Z" } : Jvm.MethodName) "DepthSorter") ∈ lw_tbl := lw_at lw_m7 122 rfl
theorem q1637 : (Jvm.Cond.methodLink "DepthSorter$Reader" (59 : Nat) ({ cls := "DepthSorter$Reader", name := "expect", desc := "(C)V" } : Jvm.MethodName)) ∈ lw_all := lw_g (lw_at lw_m7 123 rfl) rfl
theorem q1638 : (Jvm.Cond.privateMethod ({ cls := "DepthSorter$Reader", name := "expect", desc := "(C)V" } : Jvm.MethodName)) ∈ lw_tbl := lw_at lw_m7 124 rfl
theorem q1639 : (Jvm.Cond.instanceMethod ({ cls := "DepthSorter$Reader", name := "expect", desc := "(C)V" } : Jvm.MethodName)) ∈ lw_all := lw_g (lw_at lw_m7 125 rfl) rfl
theorem q1640 : (Jvm.Cond.code ({ cls := "DepthSorter$Reader", name := "expect", desc := "(C)V" } : Jvm.MethodName) prog_5_method_4_code (2 : Nat) (Option.none : Option Jvm.ClassFile.FieldType)) ∈ lw_all := lw_g (lw_at lw_m7 126 rfl) rfl
theorem q1641 : (Jvm.Cond.methodLink "DepthSorter$Reader" (63 : Nat) ({ cls := "DepthSorter$Box", name := "<init>", desc := "(I[I)V" } : Jvm.MethodName)) ∈ lw_all := lw_g (lw_at lw_m7 127 rfl) rfl
theorem q1642 : (Jvm.Cond.methodLink "DepthSorter$Reader" (66 : Nat) ({ cls := "DepthSorter$Box", name := "meets", desc := "(LDepthSorter$Box;)Z" } : Jvm.MethodName)) ∈ lw_all := lw_g (lw_at lw_m7 128 rfl) rfl
theorem q2056 : (Jvm.Cond.castable "DepthSorter$Reader" "java/lang/Object") ∈ lw_tbl := lw_at lw_m9 62 rfl
theorem in_X5 : ∀ w ∈ wsX50, w ∈ lw_all := lw_in wsX50 [1580, 1582, 1584, 1586, 1588] (by decide +kernel) (by decide +kernel)
/-! DepthSorter$Fault -/
set_option maxRecDepth 100000
def RX6 : String := "DepthSorter$Fault"
def TX6 : u_T := fun k => match k with
  | 0 => ("java/lang/Throwable", "cause", "Ljava/lang/Throwable;", false)
  | 1 => ("java/lang/Throwable", "stackTrace", "[Ljava/lang/StackTraceElement;", false)
  | 2 => ("java/lang/Throwable", "suppressedExceptions", "Ljava/util/List;", false)
  | 3 => ("java/lang/Throwable", "detailMessage", "Ljava/lang/String;", false)
  | 4 => ("java/lang/Throwable", "backtrace", "Ljava/lang/Object;", false)
  | 5 => ("java/lang/Throwable", "depth", "I", false)
  | _ => ("DepthSorter$Fault", "place", "I", true)
def tyX6 : Nat → FieldType := fun k => match k with
  | 0 => .object "java/lang/Throwable"
  | 1 => .array (.object "java/lang/StackTraceElement")
  | 2 => .object "java/util/List"
  | 3 => .object "java/lang/String"
  | 4 => .object "java/lang/Object"
  | 5 => .int
  | _ => .int
abbrev wsX60 : List Cond := u_ws RX6 TX6 7
theorem nmX6 : ∀ a, a < 7 → ∀ b, b < 7 → a ≠ b → (TX6 a).2.1 ≠ (TX6 b).2.1 := by decide +kernel
theorem tyX6_ok : ∀ k, k < 7 → parseFieldDescriptor (TX6 k).2.2.1 = some (tyX6 k) := by decide +kernel
abbrev cX6_init : ByteArray := prog_3_method_1_code
def yX6_init : MethodName := ⟨RX6, "<init>", "(I)V"⟩
def dkwX6_init_0 : List UInt8 := [42, 18, 1, 183, 0, 3, 42, 27, 181, 0, 9, 177]
abbrev dktX6_init_0 : List UInt8 := dkwX6_init_0 ++ []
theorem dksX6_init_0 : cX6_init.data.toList.drop 0 = dktX6_init_0 := by decide +kernel
theorem dX6_init_0 : decode cX6_init 0 = .ok (.aload_n 0, 1) := dk_42 (dk_at dksX6_init_0 0 rfl rfl)
theorem dX6_init_1 : decode cX6_init 1 = .ok (.ldc 1, 2) := dk_18 1 (dk_at dksX6_init_0 1 rfl rfl)
theorem dX6_init_3 : decode cX6_init 3 = .ok (.invokespecial 3, 3) := dk_183 0 3 (dk_at dksX6_init_0 3 rfl rfl)
theorem dX6_init_6 : decode cX6_init 6 = .ok (.aload_n 0, 1) := dk_42 (dk_at dksX6_init_0 6 rfl rfl)
theorem dX6_init_7 : decode cX6_init 7 = .ok (.iload_n 1, 1) := dk_27 (dk_at dksX6_init_0 7 rfl rfl)
theorem dX6_init_8 : decode cX6_init 8 = .ok (.putfield 9, 3) := dk_181 0 9 (dk_at dksX6_init_0 8 rfl rfl)
theorem dX6_init_11 : decode cX6_init 11 = .ok (.return_, 1) := dk_177 (dk_at dksX6_init_0 11 rfl rfl)
theorem q116 : (Jvm.Cond.initialized "DepthSorter$Fault") ∈ lw_all := lw_g (lw_at lw_m1 42 rfl) rfl
theorem q536 : (Jvm.Cond.selects "DepthSorter$Fault" ({ cls := "java/lang/Object", name := "getClass", desc := "()Ljava/lang/Class;" } : Jvm.MethodName) ({ cls := "java/lang/Object", name := "getClass", desc := "()Ljava/lang/Class;" } : Jvm.MethodName)) ∈ lw_all := lw_g (lw_at lw_m2 222 rfl) rfl
theorem q957 : (Jvm.Cond.selects "DepthSorter$Fault" ({ cls := "java/lang/Throwable", name := "fillInStackTrace", desc := "()Ljava/lang/Throwable;" } : Jvm.MethodName) ({ cls := "java/lang/Throwable", name := "fillInStackTrace", desc := "()Ljava/lang/Throwable;" } : Jvm.MethodName)) ∈ lw_all := lw_g (lw_at lw_m4 163 rfl) rfl
theorem q981 : (Jvm.Cond.selects "DepthSorter$Fault" ({ cls := "java/lang/Throwable", name := "toString", desc := "()Ljava/lang/String;" } : Jvm.MethodName) ({ cls := "java/lang/Throwable", name := "toString", desc := "()Ljava/lang/String;" } : Jvm.MethodName)) ∈ lw_all := lw_g (lw_at lw_m4 187 rfl) rfl
theorem q990 : (Jvm.Cond.selects "DepthSorter$Fault" ({ cls := "java/lang/Throwable", name := "getLocalizedMessage", desc := "()Ljava/lang/String;" } : Jvm.MethodName) ({ cls := "java/lang/Throwable", name := "getLocalizedMessage", desc := "()Ljava/lang/String;" } : Jvm.MethodName)) ∈ lw_all := lw_g (lw_at lw_m4 196 rfl) rfl
theorem q998 : (Jvm.Cond.selects "DepthSorter$Fault" ({ cls := "java/lang/Throwable", name := "getMessage", desc := "()Ljava/lang/String;" } : Jvm.MethodName) ({ cls := "java/lang/Throwable", name := "getMessage", desc := "()Ljava/lang/String;" } : Jvm.MethodName)) ∈ lw_all := lw_g (lw_at lw_m4 204 rfl) rfl
theorem q1600 : (Jvm.Cond.instantiable "DepthSorter$Fault" (7 : Nat)) ∈ lw_all := lw_g (lw_at lw_m7 86 rfl) rfl
theorem q1601 : (Jvm.Cond.castable "DepthSorter$Fault" "DepthSorter$Fault") ∈ lw_tbl := lw_at lw_m7 87 rfl
theorem q1602 : (Jvm.Cond.selects "DepthSorter$Fault" ({ cls := "java/lang/Throwable", name := "fillInStackTrace", desc := "(I)Ljava/lang/Throwable;" } : Jvm.MethodName) ({ cls := "java/lang/Throwable", name := "fillInStackTrace", desc := "(I)Ljava/lang/Throwable;" } : Jvm.MethodName)) ∈ lw_all := lw_g (lw_at lw_m7 88 rfl) rfl
theorem q1603 : (Jvm.Cond.lays "DepthSorter$Fault" "java/lang/Throwable" "cause" "Ljava/lang/Throwable;") ∈ lw_all := lw_g (lw_at lw_m7 89 rfl) rfl
theorem q1604 : (Jvm.Cond.lays "DepthSorter$Fault" "java/lang/Throwable" "stackTrace" "[Ljava/lang/StackTraceElement;") ∈ lw_all := lw_g (lw_at lw_m7 90 rfl) rfl
theorem q1605 : (Jvm.Cond.lays "DepthSorter$Fault" "java/lang/Throwable" "suppressedExceptions" "Ljava/util/List;") ∈ lw_all := lw_g (lw_at lw_m7 91 rfl) rfl
theorem q1606 : (Jvm.Cond.lays "DepthSorter$Fault" "java/lang/Throwable" "detailMessage" "Ljava/lang/String;") ∈ lw_all := lw_g (lw_at lw_m7 92 rfl) rfl
theorem q1607 : (Jvm.Cond.lays "DepthSorter$Fault" "java/lang/Throwable" "backtrace" "Ljava/lang/Object;") ∈ lw_all := lw_g (lw_at lw_m7 93 rfl) rfl
theorem q1609 : (Jvm.Cond.instanceMethod ({ cls := "DepthSorter$Fault", name := "<init>", desc := "(I)V" } : Jvm.MethodName)) ∈ lw_all := lw_g (lw_at lw_m7 95 rfl) rfl
theorem q1610 : (Jvm.Cond.code ({ cls := "DepthSorter$Fault", name := "<init>", desc := "(I)V" } : Jvm.MethodName) prog_3_method_1_code (2 : Nat) (Option.none : Option Jvm.ClassFile.FieldType)) ∈ lw_all := lw_g (lw_at lw_m7 96 rfl) rfl
theorem q1611 : (Jvm.Cond.stringRef "DepthSorter$Fault" (1 : Nat) "fault of the text") ∈ lw_tbl := lw_at lw_m7 97 rfl
theorem q1612 : (Jvm.Cond.methodLink "DepthSorter$Fault" (3 : Nat) ({ cls := "java/lang/Exception", name := "<init>", desc := "(Ljava/lang/String;)V" } : Jvm.MethodName)) ∈ lw_all := lw_g (lw_at lw_m7 98 rfl) rfl
theorem q1618 : (Jvm.Cond.fieldLink "DepthSorter$Fault" (9 : Nat) "DepthSorter$Fault" "place" "I") ∈ lw_all := lw_g (lw_at lw_m7 104 rfl) rfl
theorem q1620 : (Jvm.Cond.laysFinal "DepthSorter$Fault" "DepthSorter$Fault" "place" "I") ∈ lw_all := lw_g (lw_at lw_m7 106 rfl) rfl
theorem q1621 : (Jvm.Cond.soleField "DepthSorter$Fault" "place") ∈ lw_all := lw_g (lw_at lw_m7 107 rfl) rfl
theorem q1622 : (Jvm.Cond.lays "DepthSorter$Fault" "java/lang/Throwable" "depth" "I") ∈ lw_all := lw_g (lw_at lw_m7 108 rfl) rfl
theorem q1623 : (Jvm.Cond.superclass "DepthSorter$Fault" "java/lang/Exception") ∈ lw_all := lw_g (lw_at lw_m7 109 rfl) rfl
theorem q2057 : (Jvm.Cond.castable "DepthSorter$Fault" "java/lang/Object") ∈ lw_tbl := lw_at lw_m9 63 rfl
theorem in_X6 : ∀ w ∈ wsX60, w ∈ lw_all := lw_in wsX60 [1603, 1604, 1605, 1606, 1607, 1622, 1620] (by decide +kernel) (by decide +kernel)
