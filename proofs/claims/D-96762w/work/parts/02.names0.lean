/-! DECODE ROWS BY BYTES: one lemma an opcode; a method's code is cut into short pieces once, and a row reads its own piece alone. -/
set_option maxRecDepth 100000
/-- the code has just these bytes from pc on -/
def DkAt (code : ByteArray) (pc : Nat) (bs : List UInt8) : Prop := ∀ (j : Nat) (b : UInt8), bs[j]? = some b → code.data.toList[pc + j]? = some b
/-- the piece W has the bytes bs from its place j on -/
def dkIn (W : List UInt8) (j : Nat) (bs : List UInt8) : Bool := decide ((W.drop j).take bs.length = bs)
theorem dk_seg {l W T : List UInt8} {o o2 : Nat} (h : l.drop o = W ++ T) (n : Nat) (hn : W.length = n) (ho : o + n = o2) : l.drop o2 = T := by
  subst ho
  rw [← List.drop_drop, h, List.drop_left' hn]
theorem dk_at {code : ByteArray} {W T bs : List UInt8} {o pc : Nat} (h : code.data.toList.drop o = W ++ T) (j : Nat) (hp : o + j = pc) (hw : dkIn W j bs = true) : DkAt code pc bs := by
  subst hp
  intro i b e
  have h1 := of_decide_eq_true hw
  have h2 : i < bs.length := (List.getElem?_eq_some_iff.mp e).1
  have h3 : W[j + i]? = some b := by
    rw [← h1, List.getElem?_take, if_pos h2, List.getElem?_drop] at e
    exact e
  have h4 : j + i < W.length := (List.getElem?_eq_some_iff.mp h3).1
  have h5 : (code.data.toList.drop o)[j + i]? = some b := by
    rw [h, List.getElem?_append_left h4]
    exact h3
  rw [List.getElem?_drop, ← Nat.add_assoc] at h5
  exact h5
theorem dk_u1 {A : ByteArray} {p : Nat} {b : UInt8} (h : A.data.toList[p]? = some b) : (Reader.u1 : Reader DecodeError Nat) A p = .ok (b.toNat, p + 1) := by
  obtain ⟨h1, h2⟩ := List.getElem?_eq_some_iff.mp h
  have h3 : p < A.size := by simpa using h1
  have h4 : A[p]'h3 = b := h2
  have e : (Reader.u1 : Reader DecodeError Nat) A p = (if h : p < A.size then .ok (A[p].toNat, p + 1) else .error (HasTruncated.truncated p)) := by
    show (do if h : p < A.size then do set (p + 1); Pure.pure A[p].toNat else MonadExcept.throw (HasTruncated.truncated p) : Reader DecodeError Nat) A p = _
    by_cases hi : p < A.size
    · rw [dif_pos hi, dif_pos hi]; rfl
    · rw [dif_neg hi, dif_neg hi]; rfl
  rw [e, dif_pos h3, h4]
theorem dk_bind {α β : Type} {r : Reader DecodeError α} {f : α → Reader DecodeError β} {A : ByteArray} {p s : Nat} {a : α} (h : r A p = .ok (a, s)) : (r >>= f) A p = f a A s := by
  show (do let (a, s) ← r A p; f a A s : Except DecodeError (β × Nat)) = _
  rw [h]
  rfl
theorem dk_map {α β : Type} {r : Reader DecodeError α} {g : α → β} {A : ByteArray} {p s : Nat} {a : α} (h : r A p = .ok (a, s)) : (g <$> r) A p = .ok (g a, s) := by
  show (do let (a, s) ← r A p; .ok (g a, s) : Except DecodeError (β × Nat)) = _
  rw [h]
  rfl
theorem dk_u2 {A : ByteArray} {p : Nat} {a b : UInt8} (h : A.data.toList[p]? = some a) (h2 : A.data.toList[p + 1]? = some b) : (Reader.u2 : Reader DecodeError Nat) A p = .ok (a.toNat * 256 + b.toNat, p + 2) := by
  show (Reader.u1 >>= fun hi => Reader.u1 >>= fun lo => Pure.pure (hi * 256 + lo) : Reader DecodeError Nat) A p = _
  rw [dk_bind (dk_u1 h), dk_bind (dk_u1 h2)]
  rfl
theorem dk_of {code : ByteArray} {pc n : Nat} {i : Instr} (h : Decoder.instr pc code pc = .ok (i, pc + n)) : decode code pc = .ok (i, n) := by
  have e : decode code pc = (match Decoder.instr pc code pc with | .error x => .error x | .ok (j, s) => .ok (j, s - pc)) := by
    show (do let (j, s) ← Decoder.instr pc code pc; Pure.pure (j, s - pc) : Except DecodeError (Instr × Nat)) = _
    cases Decoder.instr pc code pc <;> rfl
  rw [e, h]
  show Except.ok (i, pc + n - pc) = _
  rw [Nat.add_sub_cancel_left]
theorem dk_1 {code : ByteArray} {pc : Nat} (h : DkAt code pc [1]) : decode code pc = .ok (.aconst_null, 1) := dk_of ((dk_bind (dk_u1 (h 0 _ rfl))).trans rfl)
theorem dk_2 {code : ByteArray} {pc : Nat} (h : DkAt code pc [2]) : decode code pc = .ok (.iconst (-1), 1) := dk_of ((dk_bind (dk_u1 (h 0 _ rfl))).trans rfl)
theorem dk_3 {code : ByteArray} {pc : Nat} (h : DkAt code pc [3]) : decode code pc = .ok (.iconst 0, 1) := dk_of ((dk_bind (dk_u1 (h 0 _ rfl))).trans rfl)
theorem dk_4 {code : ByteArray} {pc : Nat} (h : DkAt code pc [4]) : decode code pc = .ok (.iconst 1, 1) := dk_of ((dk_bind (dk_u1 (h 0 _ rfl))).trans rfl)
theorem dk_5 {code : ByteArray} {pc : Nat} (h : DkAt code pc [5]) : decode code pc = .ok (.iconst 2, 1) := dk_of ((dk_bind (dk_u1 (h 0 _ rfl))).trans rfl)
theorem dk_6 {code : ByteArray} {pc : Nat} (h : DkAt code pc [6]) : decode code pc = .ok (.iconst 3, 1) := dk_of ((dk_bind (dk_u1 (h 0 _ rfl))).trans rfl)
theorem dk_7 {code : ByteArray} {pc : Nat} (h : DkAt code pc [7]) : decode code pc = .ok (.iconst 4, 1) := dk_of ((dk_bind (dk_u1 (h 0 _ rfl))).trans rfl)
theorem dk_8 {code : ByteArray} {pc : Nat} (h : DkAt code pc [8]) : decode code pc = .ok (.iconst 5, 1) := dk_of ((dk_bind (dk_u1 (h 0 _ rfl))).trans rfl)
theorem dk_9 {code : ByteArray} {pc : Nat} (h : DkAt code pc [9]) : decode code pc = .ok (.lconst 0, 1) := dk_of ((dk_bind (dk_u1 (h 0 _ rfl))).trans rfl)
theorem dk_10 {code : ByteArray} {pc : Nat} (h : DkAt code pc [10]) : decode code pc = .ok (.lconst 1, 1) := dk_of ((dk_bind (dk_u1 (h 0 _ rfl))).trans rfl)
theorem dk_16 {code : ByteArray} {pc : Nat} (a : UInt8) (h : DkAt code pc [16, a]) : decode code pc = .ok (.bipush (Reader.signed 8 a.toNat), 2) := dk_of ((dk_bind (dk_u1 (h 0 _ rfl))).trans ((dk_bind (dk_map (dk_u1 (h 1 _ rfl)))).trans rfl))
theorem dk_17 {code : ByteArray} {pc : Nat} (a b : UInt8) (h : DkAt code pc [17, a, b]) : decode code pc = .ok (.sipush (Reader.signed 16 (a.toNat * 256 + b.toNat)), 3) := dk_of ((dk_bind (dk_u1 (h 0 _ rfl))).trans ((dk_bind (dk_map (dk_u2 (h 1 _ rfl) (h 2 _ rfl)))).trans rfl))
theorem dk_18 {code : ByteArray} {pc : Nat} (a : UInt8) (h : DkAt code pc [18, a]) : decode code pc = .ok (.ldc a.toNat, 2) := dk_of ((dk_bind (dk_u1 (h 0 _ rfl))).trans ((dk_bind (dk_u1 (h 1 _ rfl))).trans rfl))
theorem dk_19 {code : ByteArray} {pc : Nat} (a b : UInt8) (h : DkAt code pc [19, a, b]) : decode code pc = .ok (.ldc_w (a.toNat * 256 + b.toNat), 3) := dk_of ((dk_bind (dk_u1 (h 0 _ rfl))).trans ((dk_bind (dk_u2 (h 1 _ rfl) (h 2 _ rfl))).trans rfl))
theorem dk_20 {code : ByteArray} {pc : Nat} (a b : UInt8) (h : DkAt code pc [20, a, b]) : decode code pc = .ok (.ldc2_w (a.toNat * 256 + b.toNat), 3) := dk_of ((dk_bind (dk_u1 (h 0 _ rfl))).trans ((dk_bind (dk_u2 (h 1 _ rfl) (h 2 _ rfl))).trans rfl))
theorem dk_21 {code : ByteArray} {pc : Nat} (a : UInt8) (h : DkAt code pc [21, a]) : decode code pc = .ok (.iload a.toNat, 2) := dk_of ((dk_bind (dk_u1 (h 0 _ rfl))).trans ((dk_bind (dk_u1 (h 1 _ rfl))).trans rfl))
theorem dk_22 {code : ByteArray} {pc : Nat} (a : UInt8) (h : DkAt code pc [22, a]) : decode code pc = .ok (.lload a.toNat, 2) := dk_of ((dk_bind (dk_u1 (h 0 _ rfl))).trans ((dk_bind (dk_u1 (h 1 _ rfl))).trans rfl))
theorem dk_25 {code : ByteArray} {pc : Nat} (a : UInt8) (h : DkAt code pc [25, a]) : decode code pc = .ok (.aload a.toNat, 2) := dk_of ((dk_bind (dk_u1 (h 0 _ rfl))).trans ((dk_bind (dk_u1 (h 1 _ rfl))).trans rfl))
theorem dk_26 {code : ByteArray} {pc : Nat} (h : DkAt code pc [26]) : decode code pc = .ok (.iload_n 0, 1) := dk_of ((dk_bind (dk_u1 (h 0 _ rfl))).trans rfl)
theorem dk_27 {code : ByteArray} {pc : Nat} (h : DkAt code pc [27]) : decode code pc = .ok (.iload_n 1, 1) := dk_of ((dk_bind (dk_u1 (h 0 _ rfl))).trans rfl)
theorem dk_28 {code : ByteArray} {pc : Nat} (h : DkAt code pc [28]) : decode code pc = .ok (.iload_n 2, 1) := dk_of ((dk_bind (dk_u1 (h 0 _ rfl))).trans rfl)
theorem dk_29 {code : ByteArray} {pc : Nat} (h : DkAt code pc [29]) : decode code pc = .ok (.iload_n 3, 1) := dk_of ((dk_bind (dk_u1 (h 0 _ rfl))).trans rfl)
theorem dk_30 {code : ByteArray} {pc : Nat} (h : DkAt code pc [30]) : decode code pc = .ok (.lload_n 0, 1) := dk_of ((dk_bind (dk_u1 (h 0 _ rfl))).trans rfl)
theorem dk_32 {code : ByteArray} {pc : Nat} (h : DkAt code pc [32]) : decode code pc = .ok (.lload_n 2, 1) := dk_of ((dk_bind (dk_u1 (h 0 _ rfl))).trans rfl)
theorem dk_42 {code : ByteArray} {pc : Nat} (h : DkAt code pc [42]) : decode code pc = .ok (.aload_n 0, 1) := dk_of ((dk_bind (dk_u1 (h 0 _ rfl))).trans rfl)
theorem dk_43 {code : ByteArray} {pc : Nat} (h : DkAt code pc [43]) : decode code pc = .ok (.aload_n 1, 1) := dk_of ((dk_bind (dk_u1 (h 0 _ rfl))).trans rfl)
theorem dk_44 {code : ByteArray} {pc : Nat} (h : DkAt code pc [44]) : decode code pc = .ok (.aload_n 2, 1) := dk_of ((dk_bind (dk_u1 (h 0 _ rfl))).trans rfl)
theorem dk_45 {code : ByteArray} {pc : Nat} (h : DkAt code pc [45]) : decode code pc = .ok (.aload_n 3, 1) := dk_of ((dk_bind (dk_u1 (h 0 _ rfl))).trans rfl)
theorem dk_46 {code : ByteArray} {pc : Nat} (h : DkAt code pc [46]) : decode code pc = .ok (.iaload, 1) := dk_of ((dk_bind (dk_u1 (h 0 _ rfl))).trans rfl)
theorem dk_50 {code : ByteArray} {pc : Nat} (h : DkAt code pc [50]) : decode code pc = .ok (.aaload, 1) := dk_of ((dk_bind (dk_u1 (h 0 _ rfl))).trans rfl)
theorem dk_51 {code : ByteArray} {pc : Nat} (h : DkAt code pc [51]) : decode code pc = .ok (.baload, 1) := dk_of ((dk_bind (dk_u1 (h 0 _ rfl))).trans rfl)
theorem dk_53 {code : ByteArray} {pc : Nat} (h : DkAt code pc [53]) : decode code pc = .ok (.saload, 1) := dk_of ((dk_bind (dk_u1 (h 0 _ rfl))).trans rfl)
theorem dk_54 {code : ByteArray} {pc : Nat} (a : UInt8) (h : DkAt code pc [54, a]) : decode code pc = .ok (.istore a.toNat, 2) := dk_of ((dk_bind (dk_u1 (h 0 _ rfl))).trans ((dk_bind (dk_u1 (h 1 _ rfl))).trans rfl))
theorem dk_55 {code : ByteArray} {pc : Nat} (a : UInt8) (h : DkAt code pc [55, a]) : decode code pc = .ok (.lstore a.toNat, 2) := dk_of ((dk_bind (dk_u1 (h 0 _ rfl))).trans ((dk_bind (dk_u1 (h 1 _ rfl))).trans rfl))
theorem dk_58 {code : ByteArray} {pc : Nat} (a : UInt8) (h : DkAt code pc [58, a]) : decode code pc = .ok (.astore a.toNat, 2) := dk_of ((dk_bind (dk_u1 (h 0 _ rfl))).trans ((dk_bind (dk_u1 (h 1 _ rfl))).trans rfl))
theorem dk_59 {code : ByteArray} {pc : Nat} (h : DkAt code pc [59]) : decode code pc = .ok (.istore_n 0, 1) := dk_of ((dk_bind (dk_u1 (h 0 _ rfl))).trans rfl)
theorem dk_60 {code : ByteArray} {pc : Nat} (h : DkAt code pc [60]) : decode code pc = .ok (.istore_n 1, 1) := dk_of ((dk_bind (dk_u1 (h 0 _ rfl))).trans rfl)
theorem dk_61 {code : ByteArray} {pc : Nat} (h : DkAt code pc [61]) : decode code pc = .ok (.istore_n 2, 1) := dk_of ((dk_bind (dk_u1 (h 0 _ rfl))).trans rfl)
theorem dk_62 {code : ByteArray} {pc : Nat} (h : DkAt code pc [62]) : decode code pc = .ok (.istore_n 3, 1) := dk_of ((dk_bind (dk_u1 (h 0 _ rfl))).trans rfl)
theorem dk_76 {code : ByteArray} {pc : Nat} (h : DkAt code pc [76]) : decode code pc = .ok (.astore_n 1, 1) := dk_of ((dk_bind (dk_u1 (h 0 _ rfl))).trans rfl)
theorem dk_77 {code : ByteArray} {pc : Nat} (h : DkAt code pc [77]) : decode code pc = .ok (.astore_n 2, 1) := dk_of ((dk_bind (dk_u1 (h 0 _ rfl))).trans rfl)
theorem dk_78 {code : ByteArray} {pc : Nat} (h : DkAt code pc [78]) : decode code pc = .ok (.astore_n 3, 1) := dk_of ((dk_bind (dk_u1 (h 0 _ rfl))).trans rfl)
theorem dk_79 {code : ByteArray} {pc : Nat} (h : DkAt code pc [79]) : decode code pc = .ok (.iastore, 1) := dk_of ((dk_bind (dk_u1 (h 0 _ rfl))).trans rfl)
theorem dk_83 {code : ByteArray} {pc : Nat} (h : DkAt code pc [83]) : decode code pc = .ok (.aastore, 1) := dk_of ((dk_bind (dk_u1 (h 0 _ rfl))).trans rfl)
theorem dk_84 {code : ByteArray} {pc : Nat} (h : DkAt code pc [84]) : decode code pc = .ok (.bastore, 1) := dk_of ((dk_bind (dk_u1 (h 0 _ rfl))).trans rfl)
theorem dk_86 {code : ByteArray} {pc : Nat} (h : DkAt code pc [86]) : decode code pc = .ok (.sastore, 1) := dk_of ((dk_bind (dk_u1 (h 0 _ rfl))).trans rfl)
theorem dk_87 {code : ByteArray} {pc : Nat} (h : DkAt code pc [87]) : decode code pc = .ok (.pop, 1) := dk_of ((dk_bind (dk_u1 (h 0 _ rfl))).trans rfl)
theorem dk_89 {code : ByteArray} {pc : Nat} (h : DkAt code pc [89]) : decode code pc = .ok (.dup, 1) := dk_of ((dk_bind (dk_u1 (h 0 _ rfl))).trans rfl)
theorem dk_92 {code : ByteArray} {pc : Nat} (h : DkAt code pc [92]) : decode code pc = .ok (.dup2, 1) := dk_of ((dk_bind (dk_u1 (h 0 _ rfl))).trans rfl)
theorem dk_96 {code : ByteArray} {pc : Nat} (h : DkAt code pc [96]) : decode code pc = .ok (.iadd, 1) := dk_of ((dk_bind (dk_u1 (h 0 _ rfl))).trans rfl)
theorem dk_97 {code : ByteArray} {pc : Nat} (h : DkAt code pc [97]) : decode code pc = .ok (.ladd, 1) := dk_of ((dk_bind (dk_u1 (h 0 _ rfl))).trans rfl)
theorem dk_100 {code : ByteArray} {pc : Nat} (h : DkAt code pc [100]) : decode code pc = .ok (.isub, 1) := dk_of ((dk_bind (dk_u1 (h 0 _ rfl))).trans rfl)
theorem dk_101 {code : ByteArray} {pc : Nat} (h : DkAt code pc [101]) : decode code pc = .ok (.lsub, 1) := dk_of ((dk_bind (dk_u1 (h 0 _ rfl))).trans rfl)
theorem dk_104 {code : ByteArray} {pc : Nat} (h : DkAt code pc [104]) : decode code pc = .ok (.imul, 1) := dk_of ((dk_bind (dk_u1 (h 0 _ rfl))).trans rfl)
theorem dk_105 {code : ByteArray} {pc : Nat} (h : DkAt code pc [105]) : decode code pc = .ok (.lmul, 1) := dk_of ((dk_bind (dk_u1 (h 0 _ rfl))).trans rfl)
theorem dk_108 {code : ByteArray} {pc : Nat} (h : DkAt code pc [108]) : decode code pc = .ok (.idiv, 1) := dk_of ((dk_bind (dk_u1 (h 0 _ rfl))).trans rfl)
theorem dk_109 {code : ByteArray} {pc : Nat} (h : DkAt code pc [109]) : decode code pc = .ok (.ldiv, 1) := dk_of ((dk_bind (dk_u1 (h 0 _ rfl))).trans rfl)
theorem dk_112 {code : ByteArray} {pc : Nat} (h : DkAt code pc [112]) : decode code pc = .ok (.irem, 1) := dk_of ((dk_bind (dk_u1 (h 0 _ rfl))).trans rfl)
theorem dk_113 {code : ByteArray} {pc : Nat} (h : DkAt code pc [113]) : decode code pc = .ok (.lrem, 1) := dk_of ((dk_bind (dk_u1 (h 0 _ rfl))).trans rfl)
theorem dk_116 {code : ByteArray} {pc : Nat} (h : DkAt code pc [116]) : decode code pc = .ok (.ineg, 1) := dk_of ((dk_bind (dk_u1 (h 0 _ rfl))).trans rfl)
theorem dk_120 {code : ByteArray} {pc : Nat} (h : DkAt code pc [120]) : decode code pc = .ok (.ishl, 1) := dk_of ((dk_bind (dk_u1 (h 0 _ rfl))).trans rfl)
theorem dk_122 {code : ByteArray} {pc : Nat} (h : DkAt code pc [122]) : decode code pc = .ok (.ishr, 1) := dk_of ((dk_bind (dk_u1 (h 0 _ rfl))).trans rfl)
theorem dk_124 {code : ByteArray} {pc : Nat} (h : DkAt code pc [124]) : decode code pc = .ok (.iushr, 1) := dk_of ((dk_bind (dk_u1 (h 0 _ rfl))).trans rfl)
theorem dk_126 {code : ByteArray} {pc : Nat} (h : DkAt code pc [126]) : decode code pc = .ok (.iand, 1) := dk_of ((dk_bind (dk_u1 (h 0 _ rfl))).trans rfl)
theorem dk_128 {code : ByteArray} {pc : Nat} (h : DkAt code pc [128]) : decode code pc = .ok (.ior, 1) := dk_of ((dk_bind (dk_u1 (h 0 _ rfl))).trans rfl)
theorem dk_130 {code : ByteArray} {pc : Nat} (h : DkAt code pc [130]) : decode code pc = .ok (.ixor, 1) := dk_of ((dk_bind (dk_u1 (h 0 _ rfl))).trans rfl)
theorem dk_132 {code : ByteArray} {pc : Nat} (a b : UInt8) (h : DkAt code pc [132, a, b]) : decode code pc = .ok (.iinc a.toNat (Reader.signed 8 b.toNat), 3) := dk_of ((dk_bind (dk_u1 (h 0 _ rfl))).trans ((dk_bind (dk_u1 (h 1 _ rfl))).trans ((dk_bind (dk_map (dk_u1 (h 2 _ rfl)))).trans rfl)))
theorem dk_133 {code : ByteArray} {pc : Nat} (h : DkAt code pc [133]) : decode code pc = .ok (.i2l, 1) := dk_of ((dk_bind (dk_u1 (h 0 _ rfl))).trans rfl)
theorem dk_136 {code : ByteArray} {pc : Nat} (h : DkAt code pc [136]) : decode code pc = .ok (.l2i, 1) := dk_of ((dk_bind (dk_u1 (h 0 _ rfl))).trans rfl)
theorem dk_145 {code : ByteArray} {pc : Nat} (h : DkAt code pc [145]) : decode code pc = .ok (.i2b, 1) := dk_of ((dk_bind (dk_u1 (h 0 _ rfl))).trans rfl)
theorem dk_146 {code : ByteArray} {pc : Nat} (h : DkAt code pc [146]) : decode code pc = .ok (.i2c, 1) := dk_of ((dk_bind (dk_u1 (h 0 _ rfl))).trans rfl)
theorem dk_147 {code : ByteArray} {pc : Nat} (h : DkAt code pc [147]) : decode code pc = .ok (.i2s, 1) := dk_of ((dk_bind (dk_u1 (h 0 _ rfl))).trans rfl)
theorem dk_148 {code : ByteArray} {pc : Nat} (h : DkAt code pc [148]) : decode code pc = .ok (.lcmp, 1) := dk_of ((dk_bind (dk_u1 (h 0 _ rfl))).trans rfl)
theorem dk_153 {code : ByteArray} {pc : Nat} (a b : UInt8) (h : DkAt code pc [153, a, b]) : decode code pc = .ok (.ifCond .eq (Reader.signed 16 (a.toNat * 256 + b.toNat)), 3) := dk_of ((dk_bind (dk_u1 (h 0 _ rfl))).trans ((dk_bind (dk_map (dk_u2 (h 1 _ rfl) (h 2 _ rfl)))).trans rfl))
theorem dk_154 {code : ByteArray} {pc : Nat} (a b : UInt8) (h : DkAt code pc [154, a, b]) : decode code pc = .ok (.ifCond .ne (Reader.signed 16 (a.toNat * 256 + b.toNat)), 3) := dk_of ((dk_bind (dk_u1 (h 0 _ rfl))).trans ((dk_bind (dk_map (dk_u2 (h 1 _ rfl) (h 2 _ rfl)))).trans rfl))
theorem dk_155 {code : ByteArray} {pc : Nat} (a b : UInt8) (h : DkAt code pc [155, a, b]) : decode code pc = .ok (.ifCond .lt (Reader.signed 16 (a.toNat * 256 + b.toNat)), 3) := dk_of ((dk_bind (dk_u1 (h 0 _ rfl))).trans ((dk_bind (dk_map (dk_u2 (h 1 _ rfl) (h 2 _ rfl)))).trans rfl))
theorem dk_156 {code : ByteArray} {pc : Nat} (a b : UInt8) (h : DkAt code pc [156, a, b]) : decode code pc = .ok (.ifCond .ge (Reader.signed 16 (a.toNat * 256 + b.toNat)), 3) := dk_of ((dk_bind (dk_u1 (h 0 _ rfl))).trans ((dk_bind (dk_map (dk_u2 (h 1 _ rfl) (h 2 _ rfl)))).trans rfl))
theorem dk_157 {code : ByteArray} {pc : Nat} (a b : UInt8) (h : DkAt code pc [157, a, b]) : decode code pc = .ok (.ifCond .gt (Reader.signed 16 (a.toNat * 256 + b.toNat)), 3) := dk_of ((dk_bind (dk_u1 (h 0 _ rfl))).trans ((dk_bind (dk_map (dk_u2 (h 1 _ rfl) (h 2 _ rfl)))).trans rfl))
theorem dk_158 {code : ByteArray} {pc : Nat} (a b : UInt8) (h : DkAt code pc [158, a, b]) : decode code pc = .ok (.ifCond .le (Reader.signed 16 (a.toNat * 256 + b.toNat)), 3) := dk_of ((dk_bind (dk_u1 (h 0 _ rfl))).trans ((dk_bind (dk_map (dk_u2 (h 1 _ rfl) (h 2 _ rfl)))).trans rfl))
theorem dk_159 {code : ByteArray} {pc : Nat} (a b : UInt8) (h : DkAt code pc [159, a, b]) : decode code pc = .ok (.if_icmp .eq (Reader.signed 16 (a.toNat * 256 + b.toNat)), 3) := dk_of ((dk_bind (dk_u1 (h 0 _ rfl))).trans ((dk_bind (dk_map (dk_u2 (h 1 _ rfl) (h 2 _ rfl)))).trans rfl))
theorem dk_160 {code : ByteArray} {pc : Nat} (a b : UInt8) (h : DkAt code pc [160, a, b]) : decode code pc = .ok (.if_icmp .ne (Reader.signed 16 (a.toNat * 256 + b.toNat)), 3) := dk_of ((dk_bind (dk_u1 (h 0 _ rfl))).trans ((dk_bind (dk_map (dk_u2 (h 1 _ rfl) (h 2 _ rfl)))).trans rfl))
theorem dk_161 {code : ByteArray} {pc : Nat} (a b : UInt8) (h : DkAt code pc [161, a, b]) : decode code pc = .ok (.if_icmp .lt (Reader.signed 16 (a.toNat * 256 + b.toNat)), 3) := dk_of ((dk_bind (dk_u1 (h 0 _ rfl))).trans ((dk_bind (dk_map (dk_u2 (h 1 _ rfl) (h 2 _ rfl)))).trans rfl))
theorem dk_162 {code : ByteArray} {pc : Nat} (a b : UInt8) (h : DkAt code pc [162, a, b]) : decode code pc = .ok (.if_icmp .ge (Reader.signed 16 (a.toNat * 256 + b.toNat)), 3) := dk_of ((dk_bind (dk_u1 (h 0 _ rfl))).trans ((dk_bind (dk_map (dk_u2 (h 1 _ rfl) (h 2 _ rfl)))).trans rfl))
theorem dk_163 {code : ByteArray} {pc : Nat} (a b : UInt8) (h : DkAt code pc [163, a, b]) : decode code pc = .ok (.if_icmp .gt (Reader.signed 16 (a.toNat * 256 + b.toNat)), 3) := dk_of ((dk_bind (dk_u1 (h 0 _ rfl))).trans ((dk_bind (dk_map (dk_u2 (h 1 _ rfl) (h 2 _ rfl)))).trans rfl))
theorem dk_164 {code : ByteArray} {pc : Nat} (a b : UInt8) (h : DkAt code pc [164, a, b]) : decode code pc = .ok (.if_icmp .le (Reader.signed 16 (a.toNat * 256 + b.toNat)), 3) := dk_of ((dk_bind (dk_u1 (h 0 _ rfl))).trans ((dk_bind (dk_map (dk_u2 (h 1 _ rfl) (h 2 _ rfl)))).trans rfl))
theorem dk_167 {code : ByteArray} {pc : Nat} (a b : UInt8) (h : DkAt code pc [167, a, b]) : decode code pc = .ok (.goto (Reader.signed 16 (a.toNat * 256 + b.toNat)), 3) := dk_of ((dk_bind (dk_u1 (h 0 _ rfl))).trans ((dk_bind (dk_map (dk_u2 (h 1 _ rfl) (h 2 _ rfl)))).trans rfl))
theorem dk_172 {code : ByteArray} {pc : Nat} (h : DkAt code pc [172]) : decode code pc = .ok (.ireturn, 1) := dk_of ((dk_bind (dk_u1 (h 0 _ rfl))).trans rfl)
theorem dk_173 {code : ByteArray} {pc : Nat} (h : DkAt code pc [173]) : decode code pc = .ok (.lreturn, 1) := dk_of ((dk_bind (dk_u1 (h 0 _ rfl))).trans rfl)
theorem dk_176 {code : ByteArray} {pc : Nat} (h : DkAt code pc [176]) : decode code pc = .ok (.areturn, 1) := dk_of ((dk_bind (dk_u1 (h 0 _ rfl))).trans rfl)
theorem dk_177 {code : ByteArray} {pc : Nat} (h : DkAt code pc [177]) : decode code pc = .ok (.return_, 1) := dk_of ((dk_bind (dk_u1 (h 0 _ rfl))).trans rfl)
theorem dk_178 {code : ByteArray} {pc : Nat} (a b : UInt8) (h : DkAt code pc [178, a, b]) : decode code pc = .ok (.getstatic (a.toNat * 256 + b.toNat), 3) := dk_of ((dk_bind (dk_u1 (h 0 _ rfl))).trans ((dk_bind (dk_u2 (h 1 _ rfl) (h 2 _ rfl))).trans rfl))
theorem dk_180 {code : ByteArray} {pc : Nat} (a b : UInt8) (h : DkAt code pc [180, a, b]) : decode code pc = .ok (.getfield (a.toNat * 256 + b.toNat), 3) := dk_of ((dk_bind (dk_u1 (h 0 _ rfl))).trans ((dk_bind (dk_u2 (h 1 _ rfl) (h 2 _ rfl))).trans rfl))
theorem dk_181 {code : ByteArray} {pc : Nat} (a b : UInt8) (h : DkAt code pc [181, a, b]) : decode code pc = .ok (.putfield (a.toNat * 256 + b.toNat), 3) := dk_of ((dk_bind (dk_u1 (h 0 _ rfl))).trans ((dk_bind (dk_u2 (h 1 _ rfl) (h 2 _ rfl))).trans rfl))
theorem dk_182 {code : ByteArray} {pc : Nat} (a b : UInt8) (h : DkAt code pc [182, a, b]) : decode code pc = .ok (.invokevirtual (a.toNat * 256 + b.toNat), 3) := dk_of ((dk_bind (dk_u1 (h 0 _ rfl))).trans ((dk_bind (dk_u2 (h 1 _ rfl) (h 2 _ rfl))).trans rfl))
theorem dk_183 {code : ByteArray} {pc : Nat} (a b : UInt8) (h : DkAt code pc [183, a, b]) : decode code pc = .ok (.invokespecial (a.toNat * 256 + b.toNat), 3) := dk_of ((dk_bind (dk_u1 (h 0 _ rfl))).trans ((dk_bind (dk_u2 (h 1 _ rfl) (h 2 _ rfl))).trans rfl))
theorem dk_184 {code : ByteArray} {pc : Nat} (a b : UInt8) (h : DkAt code pc [184, a, b]) : decode code pc = .ok (.invokestatic (a.toNat * 256 + b.toNat), 3) := dk_of ((dk_bind (dk_u1 (h 0 _ rfl))).trans ((dk_bind (dk_u2 (h 1 _ rfl) (h 2 _ rfl))).trans rfl))
theorem dk_187 {code : ByteArray} {pc : Nat} (a b : UInt8) (h : DkAt code pc [187, a, b]) : decode code pc = .ok (.new (a.toNat * 256 + b.toNat), 3) := dk_of ((dk_bind (dk_u1 (h 0 _ rfl))).trans ((dk_bind (dk_u2 (h 1 _ rfl) (h 2 _ rfl))).trans rfl))
theorem dk_188_4 {code : ByteArray} {pc : Nat} (h : DkAt code pc [188, 4]) : decode code pc = .ok (.newarray .boolean, 2) := dk_of ((dk_bind (dk_u1 (h 0 _ rfl))).trans ((dk_bind (dk_u1 (h 1 _ rfl))).trans rfl))
theorem dk_188_8 {code : ByteArray} {pc : Nat} (h : DkAt code pc [188, 8]) : decode code pc = .ok (.newarray .byte, 2) := dk_of ((dk_bind (dk_u1 (h 0 _ rfl))).trans ((dk_bind (dk_u1 (h 1 _ rfl))).trans rfl))
theorem dk_188_9 {code : ByteArray} {pc : Nat} (h : DkAt code pc [188, 9]) : decode code pc = .ok (.newarray .short, 2) := dk_of ((dk_bind (dk_u1 (h 0 _ rfl))).trans ((dk_bind (dk_u1 (h 1 _ rfl))).trans rfl))
theorem dk_188_10 {code : ByteArray} {pc : Nat} (h : DkAt code pc [188, 10]) : decode code pc = .ok (.newarray .int, 2) := dk_of ((dk_bind (dk_u1 (h 0 _ rfl))).trans ((dk_bind (dk_u1 (h 1 _ rfl))).trans rfl))
theorem dk_189 {code : ByteArray} {pc : Nat} (a b : UInt8) (h : DkAt code pc [189, a, b]) : decode code pc = .ok (.anewarray (a.toNat * 256 + b.toNat), 3) := dk_of ((dk_bind (dk_u1 (h 0 _ rfl))).trans ((dk_bind (dk_u2 (h 1 _ rfl) (h 2 _ rfl))).trans rfl))
theorem dk_190 {code : ByteArray} {pc : Nat} (h : DkAt code pc [190]) : decode code pc = .ok (.arraylength, 1) := dk_of ((dk_bind (dk_u1 (h 0 _ rfl))).trans rfl)
theorem dk_191 {code : ByteArray} {pc : Nat} (h : DkAt code pc [191]) : decode code pc = .ok (.athrow, 1) := dk_of ((dk_bind (dk_u1 (h 0 _ rfl))).trans rfl)
theorem dk_192 {code : ByteArray} {pc : Nat} (a b : UInt8) (h : DkAt code pc [192, a, b]) : decode code pc = .ok (.checkcast (a.toNat * 256 + b.toNat), 3) := dk_of ((dk_bind (dk_u1 (h 0 _ rfl))).trans ((dk_bind (dk_u2 (h 1 _ rfl) (h 2 _ rfl))).trans rfl))
theorem dk_193 {code : ByteArray} {pc : Nat} (a b : UInt8) (h : DkAt code pc [193, a, b]) : decode code pc = .ok (.instanceof (a.toNat * 256 + b.toNat), 3) := dk_of ((dk_bind (dk_u1 (h 0 _ rfl))).trans ((dk_bind (dk_u2 (h 1 _ rfl) (h 2 _ rfl))).trans rfl))
theorem dk_198 {code : ByteArray} {pc : Nat} (a b : UInt8) (h : DkAt code pc [198, a, b]) : decode code pc = .ok (.ifnull (Reader.signed 16 (a.toNat * 256 + b.toNat)), 3) := dk_of ((dk_bind (dk_u1 (h 0 _ rfl))).trans ((dk_bind (dk_map (dk_u2 (h 1 _ rfl) (h 2 _ rfl)))).trans rfl))
theorem dk_199 {code : ByteArray} {pc : Nat} (a b : UInt8) (h : DkAt code pc [199, a, b]) : decode code pc = .ok (.ifnonnull (Reader.signed 16 (a.toNat * 256 + b.toNat)), 3) := dk_of ((dk_bind (dk_u1 (h 0 _ rfl))).trans ((dk_bind (dk_map (dk_u2 (h 1 _ rfl) (h 2 _ rfl)))).trans rfl))

/-! LoserKeepsTheBoard$Player -/
set_option maxRecDepth 100000
def RX9 : String := "LoserKeepsTheBoard$Player"
def TX9 : u_T := fun k => match k with
  | 0 => ("LoserKeepsTheBoard$Player", "number", "I", false)
  | 1 => ("LoserKeepsTheBoard$Player", "strong", "I", false)
  | 2 => ("LoserKeepsTheBoard$Player", "won", "I", false)
  | _ => ("LoserKeepsTheBoard$Player", "has", "I", false)
def tyX9 : Nat → FieldType := fun k => match k with
  | 0 => .int
  | 1 => .int
  | 2 => .int
  | _ => .int
abbrev wsX90 : List Cond := u_ws RX9 TX9 4
theorem nmX9 : ∀ a, a < 4 → ∀ b, b < 4 → a ≠ b → (TX9 a).2.1 ≠ (TX9 b).2.1 := by decide +kernel
theorem tyX9_ok : ∀ k, k < 4 → parseFieldDescriptor (TX9 k).2.2.1 = some (tyX9 k) := by decide +kernel
abbrev cX9_init : ByteArray := prog_10_method_1_code
def yX9_init : MethodName := ⟨RX9, "<init>", "(I)V"⟩
def dkwX9_init_0 : List UInt8 := [42, 183, 0, 1, 42, 16, 50, 181, 0, 7, 42, 27, 181, 0, 13, 177]
abbrev dktX9_init_0 : List UInt8 := dkwX9_init_0 ++ []
theorem dksX9_init_0 : cX9_init.data.toList.drop 0 = dktX9_init_0 := by decide +kernel
theorem dX9_init_0 : decode cX9_init 0 = .ok (.aload_n 0, 1) := dk_42 (dk_at dksX9_init_0 0 rfl rfl)
theorem dX9_init_1 : decode cX9_init 1 = .ok (.invokespecial 1, 3) := dk_183 0 1 (dk_at dksX9_init_0 1 rfl rfl)
theorem dX9_init_4 : decode cX9_init 4 = .ok (.aload_n 0, 1) := dk_42 (dk_at dksX9_init_0 4 rfl rfl)
theorem dX9_init_5 : decode cX9_init 5 = .ok (.bipush 50, 2) := dk_16 50 (dk_at dksX9_init_0 5 rfl rfl)
theorem dX9_init_7 : decode cX9_init 7 = .ok (.putfield 7, 3) := dk_181 0 7 (dk_at dksX9_init_0 7 rfl rfl)
theorem dX9_init_10 : decode cX9_init 10 = .ok (.aload_n 0, 1) := dk_42 (dk_at dksX9_init_0 10 rfl rfl)
theorem dX9_init_11 : decode cX9_init 11 = .ok (.iload_n 1, 1) := dk_27 (dk_at dksX9_init_0 11 rfl rfl)
theorem dX9_init_12 : decode cX9_init 12 = .ok (.putfield 13, 3) := dk_181 0 13 (dk_at dksX9_init_0 12 rfl rfl)
theorem dX9_init_15 : decode cX9_init 15 = .ok (.return_, 1) := dk_177 (dk_at dksX9_init_0 15 rfl rfl)
abbrev cX9_kind : ByteArray := prog_10_method_2_code
def yX9_kind : MethodName := ⟨RX9, "kind", "()I"⟩
theorem dX9_kind_0 : decode cX9_kind 0 = .ok (.iconst 0, 1) := by decide +kernel
theorem dX9_kind_1 : decode cX9_kind 1 = .ok (.ireturn, 1) := by decide +kernel
abbrev cX9_hasMany : ByteArray := prog_10_method_6_code
def yX9_hasMany : MethodName := ⟨RX9, "hasMany", "()I"⟩
def dkwX9_hasMany_0 : List UInt8 := [42, 180, 0, 16, 184, 0, 19, 172]
abbrev dktX9_hasMany_0 : List UInt8 := dkwX9_hasMany_0 ++ []
theorem dksX9_hasMany_0 : cX9_hasMany.data.toList.drop 0 = dktX9_hasMany_0 := by decide +kernel
theorem dX9_hasMany_0 : decode cX9_hasMany 0 = .ok (.aload_n 0, 1) := dk_42 (dk_at dksX9_hasMany_0 0 rfl rfl)
theorem dX9_hasMany_1 : decode cX9_hasMany 1 = .ok (.getfield 16, 3) := dk_180 0 16 (dk_at dksX9_hasMany_0 1 rfl rfl)
theorem dX9_hasMany_4 : decode cX9_hasMany 4 = .ok (.invokestatic 19, 3) := dk_184 0 19 (dk_at dksX9_hasMany_0 4 rfl rfl)
theorem dX9_hasMany_7 : decode cX9_hasMany 7 = .ok (.ireturn, 1) := dk_172 (dk_at dksX9_hasMany_0 7 rfl rfl)
abbrev cX9_doesThrow : ByteArray := prog_10_method_4_code
def yX9_doesThrow : MethodName := ⟨RX9, "doesThrow", "(ZLLoserKeepsTheBoard$Player;)Z"⟩
theorem dX9_doesThrow_0 : decode cX9_doesThrow 0 = .ok (.iload_n 1, 1) := by decide +kernel
theorem dX9_doesThrow_1 : decode cX9_doesThrow 1 = .ok (.ireturn, 1) := by decide +kernel
abbrev cX9_plays : ByteArray := prog_10_method_3_code
def yX9_plays : MethodName := ⟨RX9, "plays", "(II)I"⟩
theorem dX9_plays_0 : decode cX9_plays 0 = .ok (.iload_n 1, 1) := by decide +kernel
theorem dX9_plays_1 : decode cX9_plays 1 = .ok (.ireturn, 1) := by decide +kernel
abbrev cX9_tires : ByteArray := prog_10_method_5_code
def yX9_tires : MethodName := ⟨RX9, "tires", "(IZ)I"⟩
theorem dX9_tires_0 : decode cX9_tires 0 = .ok (.iload_n 1, 1) := by decide +kernel
theorem dX9_tires_1 : decode cX9_tires 1 = .ok (.ireturn, 1) := by decide +kernel
abbrev cX9_like : ByteArray := prog_10_method_7_code
def yX9_like : MethodName := ⟨RX9, "like", "(LLoserKeepsTheBoard$Player;)LLoserKeepsTheBoard$Player;"⟩
def dkwX9_like_1 : List UInt8 := [42, 176]
abbrev dktX9_like_1 : List UInt8 := dkwX9_like_1 ++ []
def dkwX9_like_0 : List UInt8 := [42, 43, 180, 0, 7, 181, 0, 7, 42, 43, 180, 0, 25, 181, 0, 25, 42, 43, 180, 0, 16, 181, 0, 16]
abbrev dktX9_like_0 : List UInt8 := dkwX9_like_0 ++ dktX9_like_1
theorem dksX9_like_0 : cX9_like.data.toList.drop 0 = dktX9_like_0 := by decide +kernel
theorem dksX9_like_1 : cX9_like.data.toList.drop 24 = dktX9_like_1 := dk_seg dksX9_like_0 24 rfl rfl
theorem dX9_like_0 : decode cX9_like 0 = .ok (.aload_n 0, 1) := dk_42 (dk_at dksX9_like_0 0 rfl rfl)
theorem dX9_like_1 : decode cX9_like 1 = .ok (.aload_n 1, 1) := dk_43 (dk_at dksX9_like_0 1 rfl rfl)
theorem dX9_like_2 : decode cX9_like 2 = .ok (.getfield 7, 3) := dk_180 0 7 (dk_at dksX9_like_0 2 rfl rfl)
theorem dX9_like_5 : decode cX9_like 5 = .ok (.putfield 7, 3) := dk_181 0 7 (dk_at dksX9_like_0 5 rfl rfl)
theorem dX9_like_8 : decode cX9_like 8 = .ok (.aload_n 0, 1) := dk_42 (dk_at dksX9_like_0 8 rfl rfl)
theorem dX9_like_9 : decode cX9_like 9 = .ok (.aload_n 1, 1) := dk_43 (dk_at dksX9_like_0 9 rfl rfl)
theorem dX9_like_10 : decode cX9_like 10 = .ok (.getfield 25, 3) := dk_180 0 25 (dk_at dksX9_like_0 10 rfl rfl)
theorem dX9_like_13 : decode cX9_like 13 = .ok (.putfield 25, 3) := dk_181 0 25 (dk_at dksX9_like_0 13 rfl rfl)
theorem dX9_like_16 : decode cX9_like 16 = .ok (.aload_n 0, 1) := dk_42 (dk_at dksX9_like_0 16 rfl rfl)
theorem dX9_like_17 : decode cX9_like 17 = .ok (.aload_n 1, 1) := dk_43 (dk_at dksX9_like_0 17 rfl rfl)
theorem dX9_like_18 : decode cX9_like 18 = .ok (.getfield 16, 3) := dk_180 0 16 (dk_at dksX9_like_0 18 rfl rfl)
theorem dX9_like_21 : decode cX9_like 21 = .ok (.putfield 16, 3) := dk_181 0 16 (dk_at dksX9_like_0 21 rfl rfl)
theorem dX9_like_24 : decode cX9_like 24 = .ok (.aload_n 0, 1) := dk_42 (dk_at dksX9_like_1 0 rfl rfl)
theorem dX9_like_25 : decode cX9_like 25 = .ok (.areturn, 1) := dk_176 (dk_at dksX9_like_1 1 rfl rfl)
theorem q124 : (Jvm.Cond.initialized "LoserKeepsTheBoard$Player") ∈ lw_all := lw_g (lw_at lw_m1 20 rfl) rfl
theorem q154 : (Jvm.Cond.instanceMethod ({ cls := "LoserKeepsTheBoard$Player", name := "<init>", desc := "(I)V" } : Jvm.MethodName)) ∈ lw_all := lw_g (lw_at lw_m1 50 rfl) rfl
theorem q155 : (Jvm.Cond.code ({ cls := "LoserKeepsTheBoard$Player", name := "<init>", desc := "(I)V" } : Jvm.MethodName) prog_10_method_1_code (2 : Nat) (Option.none : Option Jvm.ClassFile.FieldType)) ∈ lw_all := lw_g (lw_at lw_m1 51 rfl) rfl
theorem q156 : (Jvm.Cond.methodLink "LoserKeepsTheBoard$Player" (1 : Nat) ({ cls := "java/lang/Object", name := "<init>", desc := "()V" } : Jvm.MethodName)) ∈ lw_all := lw_g (lw_at lw_m1 52 rfl) rfl
theorem q159 : (Jvm.Cond.fieldLink "LoserKeepsTheBoard$Player" (13 : Nat) "LoserKeepsTheBoard$Player" "number" "I") ∈ lw_all := lw_g (lw_at lw_m1 55 rfl) rfl
theorem q166 : (Jvm.Cond.fieldLink "LoserKeepsTheBoard$Player" (7 : Nat) "LoserKeepsTheBoard$Player" "strong" "I") ∈ lw_all := lw_g (lw_at lw_m1 62 rfl) rfl
theorem q169 : (Jvm.Cond.fieldLink "LoserKeepsTheBoard$Player" (25 : Nat) "LoserKeepsTheBoard$Player" "won" "I") ∈ lw_all := lw_g (lw_at lw_m1 65 rfl) rfl
theorem q174 : (Jvm.Cond.fieldLink "LoserKeepsTheBoard$Player" (16 : Nat) "LoserKeepsTheBoard$Player" "has" "I") ∈ lw_all := lw_g (lw_at lw_m1 70 rfl) rfl
theorem q177 : (Jvm.Cond.soleField "LoserKeepsTheBoard$Player" "number") ∈ lw_all := lw_g (lw_at lw_m1 73 rfl) rfl
theorem q179 : (Jvm.Cond.soleField "LoserKeepsTheBoard$Player" "strong") ∈ lw_all := lw_g (lw_at lw_m1 75 rfl) rfl
theorem q181 : (Jvm.Cond.soleField "LoserKeepsTheBoard$Player" "won") ∈ lw_all := lw_g (lw_at lw_m1 77 rfl) rfl
theorem q183 : (Jvm.Cond.soleField "LoserKeepsTheBoard$Player" "has") ∈ lw_all := lw_g (lw_at lw_m1 79 rfl) rfl
theorem q230 : (Jvm.Cond.instantiable "LoserKeepsTheBoard$Player" (4 : Nat)) ∈ lw_all := lw_g (lw_at lw_m1 126 rfl) rfl
theorem q232 : (Jvm.Cond.lays "LoserKeepsTheBoard$Player" "LoserKeepsTheBoard$Player" "number" "I") ∈ lw_all := lw_g (lw_at lw_m1 128 rfl) rfl
theorem q233 : (Jvm.Cond.lays "LoserKeepsTheBoard$Player" "LoserKeepsTheBoard$Player" "strong" "I") ∈ lw_all := lw_g (lw_at lw_m1 129 rfl) rfl
theorem q234 : (Jvm.Cond.lays "LoserKeepsTheBoard$Player" "LoserKeepsTheBoard$Player" "won" "I") ∈ lw_all := lw_g (lw_at lw_m1 130 rfl) rfl
theorem q235 : (Jvm.Cond.lays "LoserKeepsTheBoard$Player" "LoserKeepsTheBoard$Player" "has" "I") ∈ lw_all := lw_g (lw_at lw_m1 131 rfl) rfl
theorem q236 : (Jvm.Cond.superclass "LoserKeepsTheBoard$Player" "java/lang/Object") ∈ lw_all := lw_g (lw_at lw_m1 132 rfl) rfl
theorem q273 : (Jvm.Cond.instanceMethod ({ cls := "LoserKeepsTheBoard$Player", name := "kind", desc := "()I" } : Jvm.MethodName)) ∈ lw_all := lw_g (lw_at lw_m1 169 rfl) rfl
theorem q274 : (Jvm.Cond.selects "LoserKeepsTheBoard$Player" ({ cls := "LoserKeepsTheBoard$Player", name := "kind", desc := "()I" } : Jvm.MethodName) ({ cls := "LoserKeepsTheBoard$Player", name := "kind", desc := "()I" } : Jvm.MethodName)) ∈ lw_all := lw_g (lw_at lw_m1 170 rfl) rfl
theorem q275 : (Jvm.Cond.sameMethod "LoserKeepsTheBoard$Player" "LoserKeepsTheBoard$Player" "kind" "()I") ∈ lw_all := lw_g (lw_at lw_m1 171 rfl) rfl
theorem q280 : (Jvm.Cond.code ({ cls := "LoserKeepsTheBoard$Player", name := "kind", desc := "()I" } : Jvm.MethodName) prog_10_method_2_code (1 : Nat) (Option.some Jvm.ClassFile.FieldType.int)) ∈ lw_all := lw_g (lw_at lw_m1 176 rfl) rfl
theorem q298 : (Jvm.Cond.instanceMethod ({ cls := "LoserKeepsTheBoard$Player", name := "hasMany", desc := "()I" } : Jvm.MethodName)) ∈ lw_all := lw_g (lw_at lw_m1 194 rfl) rfl
theorem q299 : (Jvm.Cond.selects "LoserKeepsTheBoard$Player" ({ cls := "LoserKeepsTheBoard$Player", name := "hasMany", desc := "()I" } : Jvm.MethodName) ({ cls := "LoserKeepsTheBoard$Player", name := "hasMany", desc := "()I" } : Jvm.MethodName)) ∈ lw_all := lw_g (lw_at lw_m1 195 rfl) rfl
theorem q300 : (Jvm.Cond.sameMethod "LoserKeepsTheBoard$Player" "LoserKeepsTheBoard$Player" "hasMany" "()I") ∈ lw_all := lw_g (lw_at lw_m1 196 rfl) rfl
theorem q306 : (Jvm.Cond.code ({ cls := "LoserKeepsTheBoard$Player", name := "hasMany", desc := "()I" } : Jvm.MethodName) prog_10_method_6_code (1 : Nat) (Option.some Jvm.ClassFile.FieldType.int)) ∈ lw_all := lw_g (lw_at lw_m1 202 rfl) rfl
theorem q307 : (Jvm.Cond.methodLink "LoserKeepsTheBoard$Player" (19 : Nat) ({ cls := "java/lang/Integer", name := "bitCount", desc := "(I)I" } : Jvm.MethodName)) ∈ lw_all := lw_g (lw_at lw_m1 203 rfl) rfl
theorem q843 : (Jvm.Cond.instanceMethod ({ cls := "LoserKeepsTheBoard$Player", name := "doesThrow", desc := "(ZLLoserKeepsTheBoard$Player;)Z" } : Jvm.MethodName)) ∈ lw_all := lw_g (lw_at lw_m4 19 rfl) rfl
theorem q844 : (Jvm.Cond.selects "LoserKeepsTheBoard$Player" ({ cls := "LoserKeepsTheBoard$Player", name := "doesThrow", desc := "(ZLLoserKeepsTheBoard$Player;)Z" } : Jvm.MethodName) ({ cls := "LoserKeepsTheBoard$Player", name := "doesThrow", desc := "(ZLLoserKeepsTheBoard$Player;)Z" } : Jvm.MethodName)) ∈ lw_all := lw_g (lw_at lw_m4 20 rfl) rfl
theorem q845 : (Jvm.Cond.sameMethod "LoserKeepsTheBoard$Player" "LoserKeepsTheBoard$Player" "doesThrow" "(ZLLoserKeepsTheBoard$Player;)Z") ∈ lw_all := lw_g (lw_at lw_m4 21 rfl) rfl
theorem q857 : (Jvm.Cond.declares ({ cls := "LoserKeepsTheBoard$Player", name := "hasMany", desc := "()I" } : Jvm.MethodName)) ∈ lw_tbl := lw_at lw_m4 33 rfl
theorem q861 : (Jvm.Cond.code ({ cls := "LoserKeepsTheBoard$Player", name := "doesThrow", desc := "(ZLLoserKeepsTheBoard$Player;)Z" } : Jvm.MethodName) prog_10_method_4_code (3 : Nat) (Option.some Jvm.ClassFile.FieldType.boolean)) ∈ lw_all := lw_g (lw_at lw_m4 37 rfl) rfl
theorem q871 : (Jvm.Cond.instanceMethod ({ cls := "LoserKeepsTheBoard$Player", name := "plays", desc := "(II)I" } : Jvm.MethodName)) ∈ lw_all := lw_g (lw_at lw_m4 47 rfl) rfl
theorem q872 : (Jvm.Cond.selects "LoserKeepsTheBoard$Player" ({ cls := "LoserKeepsTheBoard$Player", name := "plays", desc := "(II)I" } : Jvm.MethodName) ({ cls := "LoserKeepsTheBoard$Player", name := "plays", desc := "(II)I" } : Jvm.MethodName)) ∈ lw_all := lw_g (lw_at lw_m4 48 rfl) rfl
theorem q873 : (Jvm.Cond.sameMethod "LoserKeepsTheBoard$Player" "LoserKeepsTheBoard$Player" "plays" "(II)I") ∈ lw_all := lw_g (lw_at lw_m4 49 rfl) rfl
theorem q878 : (Jvm.Cond.code ({ cls := "LoserKeepsTheBoard$Player", name := "plays", desc := "(II)I" } : Jvm.MethodName) prog_10_method_3_code (3 : Nat) (Option.some Jvm.ClassFile.FieldType.int)) ∈ lw_all := lw_g (lw_at lw_m4 54 rfl) rfl
theorem q899 : (Jvm.Cond.instanceMethod ({ cls := "LoserKeepsTheBoard$Player", name := "tires", desc := "(IZ)I" } : Jvm.MethodName)) ∈ lw_all := lw_g (lw_at lw_m4 75 rfl) rfl
theorem q900 : (Jvm.Cond.selects "LoserKeepsTheBoard$Player" ({ cls := "LoserKeepsTheBoard$Player", name := "tires", desc := "(IZ)I" } : Jvm.MethodName) ({ cls := "LoserKeepsTheBoard$Player", name := "tires", desc := "(IZ)I" } : Jvm.MethodName)) ∈ lw_all := lw_g (lw_at lw_m4 76 rfl) rfl
theorem q901 : (Jvm.Cond.sameMethod "LoserKeepsTheBoard$Player" "LoserKeepsTheBoard$Player" "tires" "(IZ)I") ∈ lw_all := lw_g (lw_at lw_m4 77 rfl) rfl
theorem q906 : (Jvm.Cond.code ({ cls := "LoserKeepsTheBoard$Player", name := "tires", desc := "(IZ)I" } : Jvm.MethodName) prog_10_method_5_code (3 : Nat) (Option.some Jvm.ClassFile.FieldType.int)) ∈ lw_all := lw_g (lw_at lw_m4 82 rfl) rfl
theorem q1079 : (Jvm.Cond.instanceMethod ({ cls := "LoserKeepsTheBoard$Player", name := "like", desc := "(LLoserKeepsTheBoard$Player;)LLoserKeepsTheBoard$Player;" } : Jvm.MethodName)) ∈ lw_all := lw_g (lw_at lw_m5 15 rfl) rfl
theorem q1080 : (Jvm.Cond.selects "LoserKeepsTheBoard$Player" ({ cls := "LoserKeepsTheBoard$Player", name := "like", desc := "(LLoserKeepsTheBoard$Player;)LLoserKeepsTheBoard$Player;" } : Jvm.MethodName) ({ cls := "LoserKeepsTheBoard$Player", name := "like", desc := "(LLoserKeepsTheBoard$Player;)LLoserKeepsTheBoard$Player;" } : Jvm.MethodName)) ∈ lw_all := lw_g (lw_at lw_m5 16 rfl) rfl
theorem q1081 : (Jvm.Cond.sameMethod "LoserKeepsTheBoard$Player" "LoserKeepsTheBoard$Player" "like" "(LLoserKeepsTheBoard$Player;)LLoserKeepsTheBoard$Player;") ∈ lw_all := lw_g (lw_at lw_m5 17 rfl) rfl
theorem q1087 : (Jvm.Cond.code ({ cls := "LoserKeepsTheBoard$Player", name := "like", desc := "(LLoserKeepsTheBoard$Player;)LLoserKeepsTheBoard$Player;" } : Jvm.MethodName) prog_10_method_7_code (2 : Nat) (Option.some (Jvm.ClassFile.FieldType.object "LoserKeepsTheBoard$Player"))) ∈ lw_all := lw_g (lw_at lw_m5 23 rfl) rfl
theorem in_X9 : ∀ w ∈ wsX90, w ∈ lw_all := lw_in wsX90 [232, 233, 234, 235] (by decide +kernel) (by decide +kernel)

/-! LoserKeepsTheBoard$Master -/
set_option maxRecDepth 100000
def RX10 : String := "LoserKeepsTheBoard$Master"
def TX10 : u_T := fun k => match k with
  | 0 => ("LoserKeepsTheBoard$Player", "number", "I", false)
  | 1 => ("LoserKeepsTheBoard$Player", "strong", "I", false)
  | 2 => ("LoserKeepsTheBoard$Player", "won", "I", false)
  | _ => ("LoserKeepsTheBoard$Player", "has", "I", false)
def tyX10 : Nat → FieldType := fun k => match k with
  | 0 => .int
  | 1 => .int
  | 2 => .int
  | _ => .int
abbrev wsX100 : List Cond := u_ws RX10 TX10 4
theorem nmX10 : ∀ a, a < 4 → ∀ b, b < 4 → a ≠ b → (TX10 a).2.1 ≠ (TX10 b).2.1 := by decide +kernel
theorem tyX10_ok : ∀ k, k < 4 → parseFieldDescriptor (TX10 k).2.2.1 = some (tyX10 k) := by decide +kernel
abbrev cX10_init : ByteArray := prog_6_method_1_code
def yX10_init : MethodName := ⟨RX10, "<init>", "(I)V"⟩
def dkwX10_init_0 : List UInt8 := [42, 27, 183, 0, 1, 177]
abbrev dktX10_init_0 : List UInt8 := dkwX10_init_0 ++ []
theorem dksX10_init_0 : cX10_init.data.toList.drop 0 = dktX10_init_0 := by decide +kernel
theorem dX10_init_0 : decode cX10_init 0 = .ok (.aload_n 0, 1) := dk_42 (dk_at dksX10_init_0 0 rfl rfl)
theorem dX10_init_1 : decode cX10_init 1 = .ok (.iload_n 1, 1) := dk_27 (dk_at dksX10_init_0 1 rfl rfl)
theorem dX10_init_2 : decode cX10_init 2 = .ok (.invokespecial 1, 3) := dk_183 0 1 (dk_at dksX10_init_0 2 rfl rfl)
theorem dX10_init_5 : decode cX10_init 5 = .ok (.return_, 1) := dk_177 (dk_at dksX10_init_0 5 rfl rfl)
abbrev cX10_kind : ByteArray := prog_6_method_2_code
def yX10_kind : MethodName := ⟨RX10, "kind", "()I"⟩
def dkwX10_kind_0 : List UInt8 := [42, 183, 0, 7, 4, 96, 172]
abbrev dktX10_kind_0 : List UInt8 := dkwX10_kind_0 ++ []
theorem dksX10_kind_0 : cX10_kind.data.toList.drop 0 = dktX10_kind_0 := by decide +kernel
theorem dX10_kind_0 : decode cX10_kind 0 = .ok (.aload_n 0, 1) := dk_42 (dk_at dksX10_kind_0 0 rfl rfl)
theorem dX10_kind_1 : decode cX10_kind 1 = .ok (.invokespecial 7, 3) := dk_183 0 7 (dk_at dksX10_kind_0 1 rfl rfl)
theorem dX10_kind_4 : decode cX10_kind 4 = .ok (.iconst 1, 1) := dk_4 (dk_at dksX10_kind_0 4 rfl rfl)
theorem dX10_kind_5 : decode cX10_kind 5 = .ok (.iadd, 1) := dk_96 (dk_at dksX10_kind_0 5 rfl rfl)
theorem dX10_kind_6 : decode cX10_kind 6 = .ok (.ireturn, 1) := dk_172 (dk_at dksX10_kind_0 6 rfl rfl)
abbrev cX10_doesThrow : ByteArray := prog_6_method_4_code
def yX10_doesThrow : MethodName := ⟨RX10, "doesThrow", "(ZLLoserKeepsTheBoard$Player;)Z"⟩
def dkwX10_doesThrow_0 : List UInt8 := [42, 182, 0, 15, 7, 162, 0, 16, 42, 27, 44, 183, 0, 20, 153, 0, 7, 4, 167, 0, 4, 3, 172]
abbrev dktX10_doesThrow_0 : List UInt8 := dkwX10_doesThrow_0 ++ []
theorem dksX10_doesThrow_0 : cX10_doesThrow.data.toList.drop 0 = dktX10_doesThrow_0 := by decide +kernel
theorem dX10_doesThrow_0 : decode cX10_doesThrow 0 = .ok (.aload_n 0, 1) := dk_42 (dk_at dksX10_doesThrow_0 0 rfl rfl)
theorem dX10_doesThrow_1 : decode cX10_doesThrow 1 = .ok (.invokevirtual 15, 3) := dk_182 0 15 (dk_at dksX10_doesThrow_0 1 rfl rfl)
theorem dX10_doesThrow_4 : decode cX10_doesThrow 4 = .ok (.iconst 4, 1) := dk_7 (dk_at dksX10_doesThrow_0 4 rfl rfl)
theorem dX10_doesThrow_5 : decode cX10_doesThrow 5 = .ok (.if_icmp .ge 16, 3) := dk_162 0 16 (dk_at dksX10_doesThrow_0 5 rfl rfl)
theorem dX10_doesThrow_8 : decode cX10_doesThrow 8 = .ok (.aload_n 0, 1) := dk_42 (dk_at dksX10_doesThrow_0 8 rfl rfl)
theorem dX10_doesThrow_9 : decode cX10_doesThrow 9 = .ok (.iload_n 1, 1) := dk_27 (dk_at dksX10_doesThrow_0 9 rfl rfl)
theorem dX10_doesThrow_10 : decode cX10_doesThrow 10 = .ok (.aload_n 2, 1) := dk_44 (dk_at dksX10_doesThrow_0 10 rfl rfl)
theorem dX10_doesThrow_11 : decode cX10_doesThrow 11 = .ok (.invokespecial 20, 3) := dk_183 0 20 (dk_at dksX10_doesThrow_0 11 rfl rfl)
theorem dX10_doesThrow_14 : decode cX10_doesThrow 14 = .ok (.ifCond .eq 7, 3) := dk_153 0 7 (dk_at dksX10_doesThrow_0 14 rfl rfl)
theorem dX10_doesThrow_17 : decode cX10_doesThrow 17 = .ok (.iconst 1, 1) := dk_4 (dk_at dksX10_doesThrow_0 17 rfl rfl)
theorem dX10_doesThrow_18 : decode cX10_doesThrow 18 = .ok (.goto 4, 3) := dk_167 0 4 (dk_at dksX10_doesThrow_0 18 rfl rfl)
theorem dX10_doesThrow_21 : decode cX10_doesThrow 21 = .ok (.iconst 0, 1) := dk_3 (dk_at dksX10_doesThrow_0 21 rfl rfl)
theorem dX10_doesThrow_22 : decode cX10_doesThrow 22 = .ok (.ireturn, 1) := dk_172 (dk_at dksX10_doesThrow_0 22 rfl rfl)
abbrev cX10_plays : ByteArray := prog_6_method_3_code
def yX10_plays : MethodName := ⟨RX10, "plays", "(II)I"⟩
def dkwX10_plays_0 : List UInt8 := [5, 42, 27, 28, 183, 0, 11, 104, 172]
abbrev dktX10_plays_0 : List UInt8 := dkwX10_plays_0 ++ []
theorem dksX10_plays_0 : cX10_plays.data.toList.drop 0 = dktX10_plays_0 := by decide +kernel
theorem dX10_plays_0 : decode cX10_plays 0 = .ok (.iconst 2, 1) := dk_5 (dk_at dksX10_plays_0 0 rfl rfl)
theorem dX10_plays_1 : decode cX10_plays 1 = .ok (.aload_n 0, 1) := dk_42 (dk_at dksX10_plays_0 1 rfl rfl)
theorem dX10_plays_2 : decode cX10_plays 2 = .ok (.iload_n 1, 1) := dk_27 (dk_at dksX10_plays_0 2 rfl rfl)
theorem dX10_plays_3 : decode cX10_plays 3 = .ok (.iload_n 2, 1) := dk_28 (dk_at dksX10_plays_0 3 rfl rfl)
theorem dX10_plays_4 : decode cX10_plays 4 = .ok (.invokespecial 11, 3) := dk_183 0 11 (dk_at dksX10_plays_0 4 rfl rfl)
theorem dX10_plays_7 : decode cX10_plays 7 = .ok (.imul, 1) := dk_104 (dk_at dksX10_plays_0 7 rfl rfl)
theorem dX10_plays_8 : decode cX10_plays 8 = .ok (.ireturn, 1) := dk_172 (dk_at dksX10_plays_0 8 rfl rfl)
abbrev cX10_tires : ByteArray := prog_6_method_5_code
def yX10_tires : MethodName := ⟨RX10, "tires", "(IZ)I"⟩
def dkwX10_tires_0 : List UInt8 := [28, 153, 0, 7, 3, 167, 0, 9, 42, 27, 28, 183, 0, 24, 172]
abbrev dktX10_tires_0 : List UInt8 := dkwX10_tires_0 ++ []
theorem dksX10_tires_0 : cX10_tires.data.toList.drop 0 = dktX10_tires_0 := by decide +kernel
theorem dX10_tires_0 : decode cX10_tires 0 = .ok (.iload_n 2, 1) := dk_28 (dk_at dksX10_tires_0 0 rfl rfl)
theorem dX10_tires_1 : decode cX10_tires 1 = .ok (.ifCond .eq 7, 3) := dk_153 0 7 (dk_at dksX10_tires_0 1 rfl rfl)
theorem dX10_tires_4 : decode cX10_tires 4 = .ok (.iconst 0, 1) := dk_3 (dk_at dksX10_tires_0 4 rfl rfl)
theorem dX10_tires_5 : decode cX10_tires 5 = .ok (.goto 9, 3) := dk_167 0 9 (dk_at dksX10_tires_0 5 rfl rfl)
theorem dX10_tires_8 : decode cX10_tires 8 = .ok (.aload_n 0, 1) := dk_42 (dk_at dksX10_tires_0 8 rfl rfl)
theorem dX10_tires_9 : decode cX10_tires 9 = .ok (.iload_n 1, 1) := dk_27 (dk_at dksX10_tires_0 9 rfl rfl)
theorem dX10_tires_10 : decode cX10_tires 10 = .ok (.iload_n 2, 1) := dk_28 (dk_at dksX10_tires_0 10 rfl rfl)
theorem dX10_tires_11 : decode cX10_tires 11 = .ok (.invokespecial 24, 3) := dk_183 0 24 (dk_at dksX10_tires_0 11 rfl rfl)
theorem dX10_tires_14 : decode cX10_tires 14 = .ok (.ireturn, 1) := dk_172 (dk_at dksX10_tires_0 14 rfl rfl)
theorem q125 : (Jvm.Cond.initialized "LoserKeepsTheBoard$Master") ∈ lw_all := lw_g (lw_at lw_m1 21 rfl) rfl
theorem q149 : (Jvm.Cond.instantiable "LoserKeepsTheBoard$Master" (4 : Nat)) ∈ lw_all := lw_g (lw_at lw_m1 45 rfl) rfl
theorem q151 : (Jvm.Cond.instanceMethod ({ cls := "LoserKeepsTheBoard$Master", name := "<init>", desc := "(I)V" } : Jvm.MethodName)) ∈ lw_all := lw_g (lw_at lw_m1 47 rfl) rfl
theorem q152 : (Jvm.Cond.code ({ cls := "LoserKeepsTheBoard$Master", name := "<init>", desc := "(I)V" } : Jvm.MethodName) prog_6_method_1_code (2 : Nat) (Option.none : Option Jvm.ClassFile.FieldType)) ∈ lw_all := lw_g (lw_at lw_m1 48 rfl) rfl
theorem q153 : (Jvm.Cond.methodLink "LoserKeepsTheBoard$Master" (1 : Nat) ({ cls := "LoserKeepsTheBoard$Player", name := "<init>", desc := "(I)V" } : Jvm.MethodName)) ∈ lw_all := lw_g (lw_at lw_m1 49 rfl) rfl
theorem q176 : (Jvm.Cond.lays "LoserKeepsTheBoard$Master" "LoserKeepsTheBoard$Player" "number" "I") ∈ lw_all := lw_g (lw_at lw_m1 72 rfl) rfl
theorem q178 : (Jvm.Cond.lays "LoserKeepsTheBoard$Master" "LoserKeepsTheBoard$Player" "strong" "I") ∈ lw_all := lw_g (lw_at lw_m1 74 rfl) rfl
theorem q180 : (Jvm.Cond.lays "LoserKeepsTheBoard$Master" "LoserKeepsTheBoard$Player" "won" "I") ∈ lw_all := lw_g (lw_at lw_m1 76 rfl) rfl
theorem q182 : (Jvm.Cond.lays "LoserKeepsTheBoard$Master" "LoserKeepsTheBoard$Player" "has" "I") ∈ lw_all := lw_g (lw_at lw_m1 78 rfl) rfl
theorem q184 : (Jvm.Cond.superclass "LoserKeepsTheBoard$Master" "LoserKeepsTheBoard$Player") ∈ lw_all := lw_g (lw_at lw_m1 80 rfl) rfl
theorem q285 : (Jvm.Cond.instanceMethod ({ cls := "LoserKeepsTheBoard$Master", name := "kind", desc := "()I" } : Jvm.MethodName)) ∈ lw_all := lw_g (lw_at lw_m1 181 rfl) rfl
theorem q286 : (Jvm.Cond.code ({ cls := "LoserKeepsTheBoard$Master", name := "kind", desc := "()I" } : Jvm.MethodName) prog_6_method_2_code (1 : Nat) (Option.some Jvm.ClassFile.FieldType.int)) ∈ lw_all := lw_g (lw_at lw_m1 182 rfl) rfl
theorem q287 : (Jvm.Cond.methodLink "LoserKeepsTheBoard$Master" (7 : Nat) ({ cls := "LoserKeepsTheBoard$Player", name := "kind", desc := "()I" } : Jvm.MethodName)) ∈ lw_all := lw_g (lw_at lw_m1 183 rfl) rfl
theorem q292 : (Jvm.Cond.selects "LoserKeepsTheBoard$Master" ({ cls := "LoserKeepsTheBoard$Player", name := "kind", desc := "()I" } : Jvm.MethodName) ({ cls := "LoserKeepsTheBoard$Master", name := "kind", desc := "()I" } : Jvm.MethodName)) ∈ lw_all := lw_g (lw_at lw_m1 188 rfl) rfl
theorem q304 : (Jvm.Cond.selects "LoserKeepsTheBoard$Master" ({ cls := "LoserKeepsTheBoard$Player", name := "hasMany", desc := "()I" } : Jvm.MethodName) ({ cls := "LoserKeepsTheBoard$Player", name := "hasMany", desc := "()I" } : Jvm.MethodName)) ∈ lw_all := lw_g (lw_at lw_m1 200 rfl) rfl
theorem q853 : (Jvm.Cond.instanceMethod ({ cls := "LoserKeepsTheBoard$Master", name := "doesThrow", desc := "(ZLLoserKeepsTheBoard$Player;)Z" } : Jvm.MethodName)) ∈ lw_all := lw_g (lw_at lw_m4 29 rfl) rfl
theorem q854 : (Jvm.Cond.code ({ cls := "LoserKeepsTheBoard$Master", name := "doesThrow", desc := "(ZLLoserKeepsTheBoard$Player;)Z" } : Jvm.MethodName) prog_6_method_4_code (3 : Nat) (Option.some Jvm.ClassFile.FieldType.boolean)) ∈ lw_all := lw_g (lw_at lw_m4 30 rfl) rfl
theorem q855 : (Jvm.Cond.methodLink "LoserKeepsTheBoard$Master" (15 : Nat) ({ cls := "LoserKeepsTheBoard$Master", name := "hasMany", desc := "()I" } : Jvm.MethodName)) ∈ lw_all := lw_g (lw_at lw_m4 31 rfl) rfl
theorem q856 : (Jvm.Cond.sameMethod "LoserKeepsTheBoard$Master" "LoserKeepsTheBoard$Player" "hasMany" "()I") ∈ lw_all := lw_g (lw_at lw_m4 32 rfl) rfl
theorem q859 : (Jvm.Cond.selects "LoserKeepsTheBoard$Master" ({ cls := "LoserKeepsTheBoard$Master", name := "hasMany", desc := "()I" } : Jvm.MethodName) ({ cls := "LoserKeepsTheBoard$Player", name := "hasMany", desc := "()I" } : Jvm.MethodName)) ∈ lw_all := lw_g (lw_at lw_m4 35 rfl) rfl
theorem q860 : (Jvm.Cond.methodLink "LoserKeepsTheBoard$Master" (20 : Nat) ({ cls := "LoserKeepsTheBoard$Player", name := "doesThrow", desc := "(ZLLoserKeepsTheBoard$Player;)Z" } : Jvm.MethodName)) ∈ lw_all := lw_g (lw_at lw_m4 36 rfl) rfl
theorem q863 : (Jvm.Cond.selects "LoserKeepsTheBoard$Master" ({ cls := "LoserKeepsTheBoard$Player", name := "doesThrow", desc := "(ZLLoserKeepsTheBoard$Player;)Z" } : Jvm.MethodName) ({ cls := "LoserKeepsTheBoard$Master", name := "doesThrow", desc := "(ZLLoserKeepsTheBoard$Player;)Z" } : Jvm.MethodName)) ∈ lw_all := lw_g (lw_at lw_m4 39 rfl) rfl
theorem q883 : (Jvm.Cond.instanceMethod ({ cls := "LoserKeepsTheBoard$Master", name := "plays", desc := "(II)I" } : Jvm.MethodName)) ∈ lw_all := lw_g (lw_at lw_m4 59 rfl) rfl
theorem q884 : (Jvm.Cond.code ({ cls := "LoserKeepsTheBoard$Master", name := "plays", desc := "(II)I" } : Jvm.MethodName) prog_6_method_3_code (3 : Nat) (Option.some Jvm.ClassFile.FieldType.int)) ∈ lw_all := lw_g (lw_at lw_m4 60 rfl) rfl
theorem q885 : (Jvm.Cond.methodLink "LoserKeepsTheBoard$Master" (11 : Nat) ({ cls := "LoserKeepsTheBoard$Player", name := "plays", desc := "(II)I" } : Jvm.MethodName)) ∈ lw_all := lw_g (lw_at lw_m4 61 rfl) rfl
theorem q890 : (Jvm.Cond.selects "LoserKeepsTheBoard$Master" ({ cls := "LoserKeepsTheBoard$Player", name := "plays", desc := "(II)I" } : Jvm.MethodName) ({ cls := "LoserKeepsTheBoard$Master", name := "plays", desc := "(II)I" } : Jvm.MethodName)) ∈ lw_all := lw_g (lw_at lw_m4 66 rfl) rfl
theorem q911 : (Jvm.Cond.instanceMethod ({ cls := "LoserKeepsTheBoard$Master", name := "tires", desc := "(IZ)I" } : Jvm.MethodName)) ∈ lw_all := lw_g (lw_at lw_m4 87 rfl) rfl
theorem q912 : (Jvm.Cond.code ({ cls := "LoserKeepsTheBoard$Master", name := "tires", desc := "(IZ)I" } : Jvm.MethodName) prog_6_method_5_code (3 : Nat) (Option.some Jvm.ClassFile.FieldType.int)) ∈ lw_all := lw_g (lw_at lw_m4 88 rfl) rfl
theorem q913 : (Jvm.Cond.methodLink "LoserKeepsTheBoard$Master" (24 : Nat) ({ cls := "LoserKeepsTheBoard$Player", name := "tires", desc := "(IZ)I" } : Jvm.MethodName)) ∈ lw_all := lw_g (lw_at lw_m4 89 rfl) rfl
theorem q918 : (Jvm.Cond.selects "LoserKeepsTheBoard$Master" ({ cls := "LoserKeepsTheBoard$Player", name := "tires", desc := "(IZ)I" } : Jvm.MethodName) ({ cls := "LoserKeepsTheBoard$Master", name := "tires", desc := "(IZ)I" } : Jvm.MethodName)) ∈ lw_all := lw_g (lw_at lw_m4 94 rfl) rfl
theorem q1085 : (Jvm.Cond.selects "LoserKeepsTheBoard$Master" ({ cls := "LoserKeepsTheBoard$Player", name := "like", desc := "(LLoserKeepsTheBoard$Player;)LLoserKeepsTheBoard$Player;" } : Jvm.MethodName) ({ cls := "LoserKeepsTheBoard$Player", name := "like", desc := "(LLoserKeepsTheBoard$Player;)LLoserKeepsTheBoard$Player;" } : Jvm.MethodName)) ∈ lw_all := lw_g (lw_at lw_m5 21 rfl) rfl
theorem q1732 : (Jvm.Cond.sameMethod "LoserKeepsTheBoard$Master" "LoserKeepsTheBoard$Master" "kind" "()I") ∈ lw_all := lw_g (lw_at lw_m7 188 rfl) rfl
theorem q1735 : (Jvm.Cond.sameMethod "LoserKeepsTheBoard$Master" "LoserKeepsTheBoard$Master" "doesThrow" "(ZLLoserKeepsTheBoard$Player;)Z") ∈ lw_all := lw_g (lw_at lw_m7 191 rfl) rfl
theorem q1736 : (Jvm.Cond.sameMethod "LoserKeepsTheBoard$Master" "LoserKeepsTheBoard$Master" "plays" "(II)I") ∈ lw_all := lw_g (lw_at lw_m7 192 rfl) rfl
theorem q1738 : (Jvm.Cond.sameMethod "LoserKeepsTheBoard$Master" "LoserKeepsTheBoard$Master" "tires" "(IZ)I") ∈ lw_all := lw_g (lw_at lw_m7 194 rfl) rfl
theorem q1747 : (Jvm.Cond.castable "LoserKeepsTheBoard$Master" "LoserKeepsTheBoard$Player") ∈ lw_tbl := lw_at lw_m7 203 rfl
theorem in_X10 : ∀ w ∈ wsX100, w ∈ lw_all := lw_in wsX100 [176, 178, 180, 182] (by decide +kernel) (by decide +kernel)

/-! LoserKeepsTheBoard$Boy -/
set_option maxRecDepth 100000
def RX11 : String := "LoserKeepsTheBoard$Boy"
def TX11 : u_T := fun k => match k with
  | 0 => ("LoserKeepsTheBoard$Player", "number", "I", false)
  | 1 => ("LoserKeepsTheBoard$Player", "strong", "I", false)
  | 2 => ("LoserKeepsTheBoard$Player", "won", "I", false)
  | _ => ("LoserKeepsTheBoard$Player", "has", "I", false)
def tyX11 : Nat → FieldType := fun k => match k with
  | 0 => .int
  | 1 => .int
  | 2 => .int
  | _ => .int
abbrev wsX110 : List Cond := u_ws RX11 TX11 4
theorem nmX11 : ∀ a, a < 4 → ∀ b, b < 4 → a ≠ b → (TX11 a).2.1 ≠ (TX11 b).2.1 := by decide +kernel
theorem tyX11_ok : ∀ k, k < 4 → parseFieldDescriptor (TX11 k).2.2.1 = some (tyX11 k) := by decide +kernel
abbrev cX11_init : ByteArray := prog_2_method_1_code
def yX11_init : MethodName := ⟨RX11, "<init>", "(I)V"⟩
def dkwX11_init_0 : List UInt8 := [42, 27, 183, 0, 1, 177]
abbrev dktX11_init_0 : List UInt8 := dkwX11_init_0 ++ []
theorem dksX11_init_0 : cX11_init.data.toList.drop 0 = dktX11_init_0 := by decide +kernel
theorem dX11_init_0 : decode cX11_init 0 = .ok (.aload_n 0, 1) := dk_42 (dk_at dksX11_init_0 0 rfl rfl)
theorem dX11_init_1 : decode cX11_init 1 = .ok (.iload_n 1, 1) := dk_27 (dk_at dksX11_init_0 1 rfl rfl)
theorem dX11_init_2 : decode cX11_init 2 = .ok (.invokespecial 1, 3) := dk_183 0 1 (dk_at dksX11_init_0 2 rfl rfl)
theorem dX11_init_5 : decode cX11_init 5 = .ok (.return_, 1) := dk_177 (dk_at dksX11_init_0 5 rfl rfl)
abbrev cX11_kind : ByteArray := prog_2_method_2_code
def yX11_kind : MethodName := ⟨RX11, "kind", "()I"⟩
def dkwX11_kind_0 : List UInt8 := [42, 183, 0, 7, 5, 96, 172]
abbrev dktX11_kind_0 : List UInt8 := dkwX11_kind_0 ++ []
theorem dksX11_kind_0 : cX11_kind.data.toList.drop 0 = dktX11_kind_0 := by decide +kernel
theorem dX11_kind_0 : decode cX11_kind 0 = .ok (.aload_n 0, 1) := dk_42 (dk_at dksX11_kind_0 0 rfl rfl)
theorem dX11_kind_1 : decode cX11_kind 1 = .ok (.invokespecial 7, 3) := dk_183 0 7 (dk_at dksX11_kind_0 1 rfl rfl)
theorem dX11_kind_4 : decode cX11_kind 4 = .ok (.iconst 2, 1) := dk_5 (dk_at dksX11_kind_0 4 rfl rfl)
theorem dX11_kind_5 : decode cX11_kind 5 = .ok (.iadd, 1) := dk_96 (dk_at dksX11_kind_0 5 rfl rfl)
theorem dX11_kind_6 : decode cX11_kind 6 = .ok (.ireturn, 1) := dk_172 (dk_at dksX11_kind_0 6 rfl rfl)
abbrev cX11_doesThrow : ByteArray := prog_2_method_4_code
def yX11_doesThrow : MethodName := ⟨RX11, "doesThrow", "(ZLLoserKeepsTheBoard$Player;)Z"⟩
theorem dX11_doesThrow_0 : decode cX11_doesThrow 0 = .ok (.iconst 0, 1) := by decide +kernel
theorem dX11_doesThrow_1 : decode cX11_doesThrow 1 = .ok (.ireturn, 1) := by decide +kernel
abbrev cX11_plays : ByteArray := prog_2_method_3_code
def yX11_plays : MethodName := ⟨RX11, "plays", "(II)I"⟩
def dkwX11_plays_0 : List UInt8 := [42, 27, 28, 183, 0, 11, 5, 108, 172]
abbrev dktX11_plays_0 : List UInt8 := dkwX11_plays_0 ++ []
theorem dksX11_plays_0 : cX11_plays.data.toList.drop 0 = dktX11_plays_0 := by decide +kernel
theorem dX11_plays_0 : decode cX11_plays 0 = .ok (.aload_n 0, 1) := dk_42 (dk_at dksX11_plays_0 0 rfl rfl)
theorem dX11_plays_1 : decode cX11_plays 1 = .ok (.iload_n 1, 1) := dk_27 (dk_at dksX11_plays_0 1 rfl rfl)
theorem dX11_plays_2 : decode cX11_plays 2 = .ok (.iload_n 2, 1) := dk_28 (dk_at dksX11_plays_0 2 rfl rfl)
theorem dX11_plays_3 : decode cX11_plays 3 = .ok (.invokespecial 11, 3) := dk_183 0 11 (dk_at dksX11_plays_0 3 rfl rfl)
theorem dX11_plays_6 : decode cX11_plays 6 = .ok (.iconst 2, 1) := dk_5 (dk_at dksX11_plays_0 6 rfl rfl)
theorem dX11_plays_7 : decode cX11_plays 7 = .ok (.idiv, 1) := dk_108 (dk_at dksX11_plays_0 7 rfl rfl)
theorem dX11_plays_8 : decode cX11_plays 8 = .ok (.ireturn, 1) := dk_172 (dk_at dksX11_plays_0 8 rfl rfl)
abbrev cX11_tires : ByteArray := prog_2_method_5_code
def yX11_tires : MethodName := ⟨RX11, "tires", "(IZ)I"⟩
def dkwX11_tires_0 : List UInt8 := [42, 27, 28, 183, 0, 15, 116, 172]
abbrev dktX11_tires_0 : List UInt8 := dkwX11_tires_0 ++ []
theorem dksX11_tires_0 : cX11_tires.data.toList.drop 0 = dktX11_tires_0 := by decide +kernel
theorem dX11_tires_0 : decode cX11_tires 0 = .ok (.aload_n 0, 1) := dk_42 (dk_at dksX11_tires_0 0 rfl rfl)
theorem dX11_tires_1 : decode cX11_tires 1 = .ok (.iload_n 1, 1) := dk_27 (dk_at dksX11_tires_0 1 rfl rfl)
theorem dX11_tires_2 : decode cX11_tires 2 = .ok (.iload_n 2, 1) := dk_28 (dk_at dksX11_tires_0 2 rfl rfl)
theorem dX11_tires_3 : decode cX11_tires 3 = .ok (.invokespecial 15, 3) := dk_183 0 15 (dk_at dksX11_tires_0 3 rfl rfl)
theorem dX11_tires_6 : decode cX11_tires 6 = .ok (.ineg, 1) := dk_116 (dk_at dksX11_tires_0 6 rfl rfl)
theorem dX11_tires_7 : decode cX11_tires 7 = .ok (.ireturn, 1) := dk_172 (dk_at dksX11_tires_0 7 rfl rfl)
theorem q126 : (Jvm.Cond.initialized "LoserKeepsTheBoard$Boy") ∈ lw_all := lw_g (lw_at lw_m1 22 rfl) rfl
theorem q186 : (Jvm.Cond.instantiable "LoserKeepsTheBoard$Boy" (4 : Nat)) ∈ lw_all := lw_g (lw_at lw_m1 82 rfl) rfl
theorem q188 : (Jvm.Cond.instanceMethod ({ cls := "LoserKeepsTheBoard$Boy", name := "<init>", desc := "(I)V" } : Jvm.MethodName)) ∈ lw_all := lw_g (lw_at lw_m1 84 rfl) rfl
theorem q189 : (Jvm.Cond.code ({ cls := "LoserKeepsTheBoard$Boy", name := "<init>", desc := "(I)V" } : Jvm.MethodName) prog_2_method_1_code (2 : Nat) (Option.none : Option Jvm.ClassFile.FieldType)) ∈ lw_all := lw_g (lw_at lw_m1 85 rfl) rfl
theorem q190 : (Jvm.Cond.methodLink "LoserKeepsTheBoard$Boy" (1 : Nat) ({ cls := "LoserKeepsTheBoard$Player", name := "<init>", desc := "(I)V" } : Jvm.MethodName)) ∈ lw_all := lw_g (lw_at lw_m1 86 rfl) rfl
theorem q191 : (Jvm.Cond.lays "LoserKeepsTheBoard$Boy" "LoserKeepsTheBoard$Player" "number" "I") ∈ lw_all := lw_g (lw_at lw_m1 87 rfl) rfl
theorem q192 : (Jvm.Cond.lays "LoserKeepsTheBoard$Boy" "LoserKeepsTheBoard$Player" "strong" "I") ∈ lw_all := lw_g (lw_at lw_m1 88 rfl) rfl
theorem q193 : (Jvm.Cond.lays "LoserKeepsTheBoard$Boy" "LoserKeepsTheBoard$Player" "won" "I") ∈ lw_all := lw_g (lw_at lw_m1 89 rfl) rfl
theorem q194 : (Jvm.Cond.lays "LoserKeepsTheBoard$Boy" "LoserKeepsTheBoard$Player" "has" "I") ∈ lw_all := lw_g (lw_at lw_m1 90 rfl) rfl
theorem q195 : (Jvm.Cond.superclass "LoserKeepsTheBoard$Boy" "LoserKeepsTheBoard$Player") ∈ lw_all := lw_g (lw_at lw_m1 91 rfl) rfl
theorem q276 : (Jvm.Cond.selects "LoserKeepsTheBoard$Boy" ({ cls := "LoserKeepsTheBoard$Player", name := "kind", desc := "()I" } : Jvm.MethodName) ({ cls := "LoserKeepsTheBoard$Boy", name := "kind", desc := "()I" } : Jvm.MethodName)) ∈ lw_all := lw_g (lw_at lw_m1 172 rfl) rfl
theorem q277 : (Jvm.Cond.instanceMethod ({ cls := "LoserKeepsTheBoard$Boy", name := "kind", desc := "()I" } : Jvm.MethodName)) ∈ lw_all := lw_g (lw_at lw_m1 173 rfl) rfl
theorem q278 : (Jvm.Cond.code ({ cls := "LoserKeepsTheBoard$Boy", name := "kind", desc := "()I" } : Jvm.MethodName) prog_2_method_2_code (1 : Nat) (Option.some Jvm.ClassFile.FieldType.int)) ∈ lw_all := lw_g (lw_at lw_m1 174 rfl) rfl
theorem q279 : (Jvm.Cond.methodLink "LoserKeepsTheBoard$Boy" (7 : Nat) ({ cls := "LoserKeepsTheBoard$Player", name := "kind", desc := "()I" } : Jvm.MethodName)) ∈ lw_all := lw_g (lw_at lw_m1 175 rfl) rfl
theorem q301 : (Jvm.Cond.selects "LoserKeepsTheBoard$Boy" ({ cls := "LoserKeepsTheBoard$Player", name := "hasMany", desc := "()I" } : Jvm.MethodName) ({ cls := "LoserKeepsTheBoard$Player", name := "hasMany", desc := "()I" } : Jvm.MethodName)) ∈ lw_all := lw_g (lw_at lw_m1 197 rfl) rfl
theorem q846 : (Jvm.Cond.selects "LoserKeepsTheBoard$Boy" ({ cls := "LoserKeepsTheBoard$Player", name := "doesThrow", desc := "(ZLLoserKeepsTheBoard$Player;)Z" } : Jvm.MethodName) ({ cls := "LoserKeepsTheBoard$Boy", name := "doesThrow", desc := "(ZLLoserKeepsTheBoard$Player;)Z" } : Jvm.MethodName)) ∈ lw_all := lw_g (lw_at lw_m4 22 rfl) rfl
theorem q847 : (Jvm.Cond.instanceMethod ({ cls := "LoserKeepsTheBoard$Boy", name := "doesThrow", desc := "(ZLLoserKeepsTheBoard$Player;)Z" } : Jvm.MethodName)) ∈ lw_all := lw_g (lw_at lw_m4 23 rfl) rfl
theorem q848 : (Jvm.Cond.code ({ cls := "LoserKeepsTheBoard$Boy", name := "doesThrow", desc := "(ZLLoserKeepsTheBoard$Player;)Z" } : Jvm.MethodName) prog_2_method_4_code (3 : Nat) (Option.some Jvm.ClassFile.FieldType.boolean)) ∈ lw_all := lw_g (lw_at lw_m4 24 rfl) rfl
theorem q874 : (Jvm.Cond.selects "LoserKeepsTheBoard$Boy" ({ cls := "LoserKeepsTheBoard$Player", name := "plays", desc := "(II)I" } : Jvm.MethodName) ({ cls := "LoserKeepsTheBoard$Boy", name := "plays", desc := "(II)I" } : Jvm.MethodName)) ∈ lw_all := lw_g (lw_at lw_m4 50 rfl) rfl
theorem q875 : (Jvm.Cond.instanceMethod ({ cls := "LoserKeepsTheBoard$Boy", name := "plays", desc := "(II)I" } : Jvm.MethodName)) ∈ lw_all := lw_g (lw_at lw_m4 51 rfl) rfl
theorem q876 : (Jvm.Cond.code ({ cls := "LoserKeepsTheBoard$Boy", name := "plays", desc := "(II)I" } : Jvm.MethodName) prog_2_method_3_code (3 : Nat) (Option.some Jvm.ClassFile.FieldType.int)) ∈ lw_all := lw_g (lw_at lw_m4 52 rfl) rfl
theorem q877 : (Jvm.Cond.methodLink "LoserKeepsTheBoard$Boy" (11 : Nat) ({ cls := "LoserKeepsTheBoard$Player", name := "plays", desc := "(II)I" } : Jvm.MethodName)) ∈ lw_all := lw_g (lw_at lw_m4 53 rfl) rfl
theorem q902 : (Jvm.Cond.selects "LoserKeepsTheBoard$Boy" ({ cls := "LoserKeepsTheBoard$Player", name := "tires", desc := "(IZ)I" } : Jvm.MethodName) ({ cls := "LoserKeepsTheBoard$Boy", name := "tires", desc := "(IZ)I" } : Jvm.MethodName)) ∈ lw_all := lw_g (lw_at lw_m4 78 rfl) rfl
theorem q903 : (Jvm.Cond.instanceMethod ({ cls := "LoserKeepsTheBoard$Boy", name := "tires", desc := "(IZ)I" } : Jvm.MethodName)) ∈ lw_all := lw_g (lw_at lw_m4 79 rfl) rfl
theorem q904 : (Jvm.Cond.code ({ cls := "LoserKeepsTheBoard$Boy", name := "tires", desc := "(IZ)I" } : Jvm.MethodName) prog_2_method_5_code (3 : Nat) (Option.some Jvm.ClassFile.FieldType.int)) ∈ lw_all := lw_g (lw_at lw_m4 80 rfl) rfl
theorem q905 : (Jvm.Cond.methodLink "LoserKeepsTheBoard$Boy" (15 : Nat) ({ cls := "LoserKeepsTheBoard$Player", name := "tires", desc := "(IZ)I" } : Jvm.MethodName)) ∈ lw_all := lw_g (lw_at lw_m4 81 rfl) rfl
theorem q1082 : (Jvm.Cond.selects "LoserKeepsTheBoard$Boy" ({ cls := "LoserKeepsTheBoard$Player", name := "like", desc := "(LLoserKeepsTheBoard$Player;)LLoserKeepsTheBoard$Player;" } : Jvm.MethodName) ({ cls := "LoserKeepsTheBoard$Player", name := "like", desc := "(LLoserKeepsTheBoard$Player;)LLoserKeepsTheBoard$Player;" } : Jvm.MethodName)) ∈ lw_all := lw_g (lw_at lw_m5 18 rfl) rfl
theorem q1733 : (Jvm.Cond.sameMethod "LoserKeepsTheBoard$Boy" "LoserKeepsTheBoard$Boy" "kind" "()I") ∈ lw_all := lw_g (lw_at lw_m7 189 rfl) rfl
theorem q1737 : (Jvm.Cond.sameMethod "LoserKeepsTheBoard$Boy" "LoserKeepsTheBoard$Boy" "plays" "(II)I") ∈ lw_all := lw_g (lw_at lw_m7 193 rfl) rfl
theorem q1739 : (Jvm.Cond.sameMethod "LoserKeepsTheBoard$Boy" "LoserKeepsTheBoard$Boy" "tires" "(IZ)I") ∈ lw_all := lw_g (lw_at lw_m7 195 rfl) rfl
theorem q1748 : (Jvm.Cond.castable "LoserKeepsTheBoard$Boy" "LoserKeepsTheBoard$Player") ∈ lw_tbl := lw_at lw_m7 204 rfl
theorem in_X11 : ∀ w ∈ wsX110, w ∈ lw_all := lw_in wsX110 [191, 192, 193, 194] (by decide +kernel) (by decide +kernel)

/-! LoserKeepsTheBoard$Champion -/
set_option maxRecDepth 100000
def RX12 : String := "LoserKeepsTheBoard$Champion"
def TX12 : u_T := fun k => match k with
  | 0 => ("LoserKeepsTheBoard$Player", "number", "I", false)
  | 1 => ("LoserKeepsTheBoard$Player", "strong", "I", false)
  | 2 => ("LoserKeepsTheBoard$Player", "won", "I", false)
  | _ => ("LoserKeepsTheBoard$Player", "has", "I", false)
def tyX12 : Nat → FieldType := fun k => match k with
  | 0 => .int
  | 1 => .int
  | 2 => .int
  | _ => .int
abbrev wsX120 : List Cond := u_ws RX12 TX12 4
theorem nmX12 : ∀ a, a < 4 → ∀ b, b < 4 → a ≠ b → (TX12 a).2.1 ≠ (TX12 b).2.1 := by decide +kernel
theorem tyX12_ok : ∀ k, k < 4 → parseFieldDescriptor (TX12 k).2.2.1 = some (tyX12 k) := by decide +kernel
abbrev cX12_init : ByteArray := prog_3_method_1_code
def yX12_init : MethodName := ⟨RX12, "<init>", "(I)V"⟩
def dkwX12_init_0 : List UInt8 := [42, 27, 183, 0, 1, 177]
abbrev dktX12_init_0 : List UInt8 := dkwX12_init_0 ++ []
theorem dksX12_init_0 : cX12_init.data.toList.drop 0 = dktX12_init_0 := by decide +kernel
theorem dX12_init_0 : decode cX12_init 0 = .ok (.aload_n 0, 1) := dk_42 (dk_at dksX12_init_0 0 rfl rfl)
theorem dX12_init_1 : decode cX12_init 1 = .ok (.iload_n 1, 1) := dk_27 (dk_at dksX12_init_0 1 rfl rfl)
theorem dX12_init_2 : decode cX12_init 2 = .ok (.invokespecial 1, 3) := dk_183 0 1 (dk_at dksX12_init_0 2 rfl rfl)
theorem dX12_init_5 : decode cX12_init 5 = .ok (.return_, 1) := dk_177 (dk_at dksX12_init_0 5 rfl rfl)
abbrev cX12_kind : ByteArray := prog_3_method_2_code
def yX12_kind : MethodName := ⟨RX12, "kind", "()I"⟩
def dkwX12_kind_0 : List UInt8 := [42, 183, 0, 7, 5, 96, 172]
abbrev dktX12_kind_0 : List UInt8 := dkwX12_kind_0 ++ []
theorem dksX12_kind_0 : cX12_kind.data.toList.drop 0 = dktX12_kind_0 := by decide +kernel
theorem dX12_kind_0 : decode cX12_kind 0 = .ok (.aload_n 0, 1) := dk_42 (dk_at dksX12_kind_0 0 rfl rfl)
theorem dX12_kind_1 : decode cX12_kind 1 = .ok (.invokespecial 7, 3) := dk_183 0 7 (dk_at dksX12_kind_0 1 rfl rfl)
theorem dX12_kind_4 : decode cX12_kind 4 = .ok (.iconst 2, 1) := dk_5 (dk_at dksX12_kind_0 4 rfl rfl)
theorem dX12_kind_5 : decode cX12_kind 5 = .ok (.iadd, 1) := dk_96 (dk_at dksX12_kind_0 5 rfl rfl)
theorem dX12_kind_6 : decode cX12_kind 6 = .ok (.ireturn, 1) := dk_172 (dk_at dksX12_kind_0 6 rfl rfl)
abbrev cX12_doesThrow : ByteArray := prog_3_method_4_code
def yX12_doesThrow : MethodName := ⟨RX12, "doesThrow", "(ZLLoserKeepsTheBoard$Player;)Z"⟩
def dkwX12_doesThrow_0 : List UInt8 := [44, 180, 0, 24, 154, 0, 12, 42, 27, 44, 183, 0, 27, 153, 0, 7, 4, 167, 0, 4, 3, 172]
abbrev dktX12_doesThrow_0 : List UInt8 := dkwX12_doesThrow_0 ++ []
theorem dksX12_doesThrow_0 : cX12_doesThrow.data.toList.drop 0 = dktX12_doesThrow_0 := by decide +kernel
theorem dX12_doesThrow_0 : decode cX12_doesThrow 0 = .ok (.aload_n 2, 1) := dk_44 (dk_at dksX12_doesThrow_0 0 rfl rfl)
theorem dX12_doesThrow_1 : decode cX12_doesThrow 1 = .ok (.getfield 24, 3) := dk_180 0 24 (dk_at dksX12_doesThrow_0 1 rfl rfl)
theorem dX12_doesThrow_4 : decode cX12_doesThrow 4 = .ok (.ifCond .ne 12, 3) := dk_154 0 12 (dk_at dksX12_doesThrow_0 4 rfl rfl)
theorem dX12_doesThrow_7 : decode cX12_doesThrow 7 = .ok (.aload_n 0, 1) := dk_42 (dk_at dksX12_doesThrow_0 7 rfl rfl)
theorem dX12_doesThrow_8 : decode cX12_doesThrow 8 = .ok (.iload_n 1, 1) := dk_27 (dk_at dksX12_doesThrow_0 8 rfl rfl)
theorem dX12_doesThrow_9 : decode cX12_doesThrow 9 = .ok (.aload_n 2, 1) := dk_44 (dk_at dksX12_doesThrow_0 9 rfl rfl)
theorem dX12_doesThrow_10 : decode cX12_doesThrow 10 = .ok (.invokespecial 27, 3) := dk_183 0 27 (dk_at dksX12_doesThrow_0 10 rfl rfl)
theorem dX12_doesThrow_13 : decode cX12_doesThrow 13 = .ok (.ifCond .eq 7, 3) := dk_153 0 7 (dk_at dksX12_doesThrow_0 13 rfl rfl)
theorem dX12_doesThrow_16 : decode cX12_doesThrow 16 = .ok (.iconst 1, 1) := dk_4 (dk_at dksX12_doesThrow_0 16 rfl rfl)
theorem dX12_doesThrow_17 : decode cX12_doesThrow 17 = .ok (.goto 4, 3) := dk_167 0 4 (dk_at dksX12_doesThrow_0 17 rfl rfl)
theorem dX12_doesThrow_20 : decode cX12_doesThrow 20 = .ok (.iconst 0, 1) := dk_3 (dk_at dksX12_doesThrow_0 20 rfl rfl)
theorem dX12_doesThrow_21 : decode cX12_doesThrow 21 = .ok (.ireturn, 1) := dk_172 (dk_at dksX12_doesThrow_0 21 rfl rfl)
abbrev cX12_plays : ByteArray := prog_3_method_3_code
def yX12_plays : MethodName := ⟨RX12, "plays", "(II)I"⟩
def dkwX12_plays_1 : List UInt8 := [183, 0, 17, 172]
abbrev dktX12_plays_1 : List UInt8 := dkwX12_plays_1 ++ []
def dkwX12_plays_0 : List UInt8 := [42, 180, 0, 11, 154, 0, 17, 42, 27, 28, 183, 0, 17, 42, 180, 0, 21, 96, 167, 0, 9, 42, 27, 28]
abbrev dktX12_plays_0 : List UInt8 := dkwX12_plays_0 ++ dktX12_plays_1
theorem dksX12_plays_0 : cX12_plays.data.toList.drop 0 = dktX12_plays_0 := by decide +kernel
theorem dksX12_plays_1 : cX12_plays.data.toList.drop 24 = dktX12_plays_1 := dk_seg dksX12_plays_0 24 rfl rfl
theorem dX12_plays_0 : decode cX12_plays 0 = .ok (.aload_n 0, 1) := dk_42 (dk_at dksX12_plays_0 0 rfl rfl)
theorem dX12_plays_1 : decode cX12_plays 1 = .ok (.getfield 11, 3) := dk_180 0 11 (dk_at dksX12_plays_0 1 rfl rfl)
theorem dX12_plays_4 : decode cX12_plays 4 = .ok (.ifCond .ne 17, 3) := dk_154 0 17 (dk_at dksX12_plays_0 4 rfl rfl)
theorem dX12_plays_7 : decode cX12_plays 7 = .ok (.aload_n 0, 1) := dk_42 (dk_at dksX12_plays_0 7 rfl rfl)
theorem dX12_plays_8 : decode cX12_plays 8 = .ok (.iload_n 1, 1) := dk_27 (dk_at dksX12_plays_0 8 rfl rfl)
theorem dX12_plays_9 : decode cX12_plays 9 = .ok (.iload_n 2, 1) := dk_28 (dk_at dksX12_plays_0 9 rfl rfl)
theorem dX12_plays_10 : decode cX12_plays 10 = .ok (.invokespecial 17, 3) := dk_183 0 17 (dk_at dksX12_plays_0 10 rfl rfl)
theorem dX12_plays_13 : decode cX12_plays 13 = .ok (.aload_n 0, 1) := dk_42 (dk_at dksX12_plays_0 13 rfl rfl)
theorem dX12_plays_14 : decode cX12_plays 14 = .ok (.getfield 21, 3) := dk_180 0 21 (dk_at dksX12_plays_0 14 rfl rfl)
theorem dX12_plays_17 : decode cX12_plays 17 = .ok (.iadd, 1) := dk_96 (dk_at dksX12_plays_0 17 rfl rfl)
theorem dX12_plays_18 : decode cX12_plays 18 = .ok (.goto 9, 3) := dk_167 0 9 (dk_at dksX12_plays_0 18 rfl rfl)
theorem dX12_plays_21 : decode cX12_plays 21 = .ok (.aload_n 0, 1) := dk_42 (dk_at dksX12_plays_0 21 rfl rfl)
theorem dX12_plays_22 : decode cX12_plays 22 = .ok (.iload_n 1, 1) := dk_27 (dk_at dksX12_plays_0 22 rfl rfl)
theorem dX12_plays_23 : decode cX12_plays 23 = .ok (.iload_n 2, 1) := dk_28 (dk_at dksX12_plays_0 23 rfl rfl)
theorem dX12_plays_24 : decode cX12_plays 24 = .ok (.invokespecial 17, 3) := dk_183 0 17 (dk_at dksX12_plays_1 0 rfl rfl)
theorem dX12_plays_27 : decode cX12_plays 27 = .ok (.ireturn, 1) := dk_172 (dk_at dksX12_plays_1 3 rfl rfl)
abbrev cX12_tires : ByteArray := prog_3_method_5_code
def yX12_tires : MethodName := ⟨RX12, "tires", "(IZ)I"⟩
def dkwX12_tires_0 : List UInt8 := [42, 27, 28, 183, 0, 31, 4, 96, 172]
abbrev dktX12_tires_0 : List UInt8 := dkwX12_tires_0 ++ []
theorem dksX12_tires_0 : cX12_tires.data.toList.drop 0 = dktX12_tires_0 := by decide +kernel
theorem dX12_tires_0 : decode cX12_tires 0 = .ok (.aload_n 0, 1) := dk_42 (dk_at dksX12_tires_0 0 rfl rfl)
theorem dX12_tires_1 : decode cX12_tires 1 = .ok (.iload_n 1, 1) := dk_27 (dk_at dksX12_tires_0 1 rfl rfl)
theorem dX12_tires_2 : decode cX12_tires 2 = .ok (.iload_n 2, 1) := dk_28 (dk_at dksX12_tires_0 2 rfl rfl)
theorem dX12_tires_3 : decode cX12_tires 3 = .ok (.invokespecial 31, 3) := dk_183 0 31 (dk_at dksX12_tires_0 3 rfl rfl)
theorem dX12_tires_6 : decode cX12_tires 6 = .ok (.iconst 1, 1) := dk_4 (dk_at dksX12_tires_0 6 rfl rfl)
theorem dX12_tires_7 : decode cX12_tires 7 = .ok (.iadd, 1) := dk_96 (dk_at dksX12_tires_0 7 rfl rfl)
theorem dX12_tires_8 : decode cX12_tires 8 = .ok (.ireturn, 1) := dk_172 (dk_at dksX12_tires_0 8 rfl rfl)
theorem q127 : (Jvm.Cond.initialized "LoserKeepsTheBoard$Champion") ∈ lw_all := lw_g (lw_at lw_m1 23 rfl) rfl
theorem q163 : (Jvm.Cond.fieldLink "LoserKeepsTheBoard$Champion" (21 : Nat) "LoserKeepsTheBoard$Champion" "number" "I") ∈ lw_all := lw_g (lw_at lw_m1 59 rfl) rfl
theorem q164 : (Jvm.Cond.sameField "LoserKeepsTheBoard$Champion" "LoserKeepsTheBoard$Player" "number" "I") ∈ lw_all := lw_g (lw_at lw_m1 60 rfl) rfl
theorem q171 : (Jvm.Cond.fieldLink "LoserKeepsTheBoard$Champion" (11 : Nat) "LoserKeepsTheBoard$Champion" "has" "I") ∈ lw_all := lw_g (lw_at lw_m1 67 rfl) rfl
theorem q172 : (Jvm.Cond.sameField "LoserKeepsTheBoard$Champion" "LoserKeepsTheBoard$Player" "has" "I") ∈ lw_all := lw_g (lw_at lw_m1 68 rfl) rfl
theorem q173 : (Jvm.Cond.fieldLink "LoserKeepsTheBoard$Champion" (24 : Nat) "LoserKeepsTheBoard$Player" "has" "I") ∈ lw_all := lw_g (lw_at lw_m1 69 rfl) rfl
theorem q197 : (Jvm.Cond.instantiable "LoserKeepsTheBoard$Champion" (4 : Nat)) ∈ lw_all := lw_g (lw_at lw_m1 93 rfl) rfl
theorem q199 : (Jvm.Cond.instanceMethod ({ cls := "LoserKeepsTheBoard$Champion", name := "<init>", desc := "(I)V" } : Jvm.MethodName)) ∈ lw_all := lw_g (lw_at lw_m1 95 rfl) rfl
theorem q200 : (Jvm.Cond.code ({ cls := "LoserKeepsTheBoard$Champion", name := "<init>", desc := "(I)V" } : Jvm.MethodName) prog_3_method_1_code (2 : Nat) (Option.none : Option Jvm.ClassFile.FieldType)) ∈ lw_all := lw_g (lw_at lw_m1 96 rfl) rfl
theorem q201 : (Jvm.Cond.methodLink "LoserKeepsTheBoard$Champion" (1 : Nat) ({ cls := "LoserKeepsTheBoard$Master", name := "<init>", desc := "(I)V" } : Jvm.MethodName)) ∈ lw_all := lw_g (lw_at lw_m1 97 rfl) rfl
theorem q202 : (Jvm.Cond.lays "LoserKeepsTheBoard$Champion" "LoserKeepsTheBoard$Player" "number" "I") ∈ lw_all := lw_g (lw_at lw_m1 98 rfl) rfl
theorem q203 : (Jvm.Cond.lays "LoserKeepsTheBoard$Champion" "LoserKeepsTheBoard$Player" "strong" "I") ∈ lw_all := lw_g (lw_at lw_m1 99 rfl) rfl
theorem q204 : (Jvm.Cond.lays "LoserKeepsTheBoard$Champion" "LoserKeepsTheBoard$Player" "won" "I") ∈ lw_all := lw_g (lw_at lw_m1 100 rfl) rfl
theorem q205 : (Jvm.Cond.lays "LoserKeepsTheBoard$Champion" "LoserKeepsTheBoard$Player" "has" "I") ∈ lw_all := lw_g (lw_at lw_m1 101 rfl) rfl
theorem q206 : (Jvm.Cond.superclass "LoserKeepsTheBoard$Champion" "LoserKeepsTheBoard$Master") ∈ lw_all := lw_g (lw_at lw_m1 102 rfl) rfl
theorem q281 : (Jvm.Cond.selects "LoserKeepsTheBoard$Champion" ({ cls := "LoserKeepsTheBoard$Player", name := "kind", desc := "()I" } : Jvm.MethodName) ({ cls := "LoserKeepsTheBoard$Champion", name := "kind", desc := "()I" } : Jvm.MethodName)) ∈ lw_all := lw_g (lw_at lw_m1 177 rfl) rfl
theorem q282 : (Jvm.Cond.instanceMethod ({ cls := "LoserKeepsTheBoard$Champion", name := "kind", desc := "()I" } : Jvm.MethodName)) ∈ lw_all := lw_g (lw_at lw_m1 178 rfl) rfl
theorem q283 : (Jvm.Cond.code ({ cls := "LoserKeepsTheBoard$Champion", name := "kind", desc := "()I" } : Jvm.MethodName) prog_3_method_2_code (1 : Nat) (Option.some Jvm.ClassFile.FieldType.int)) ∈ lw_all := lw_g (lw_at lw_m1 179 rfl) rfl
theorem q284 : (Jvm.Cond.methodLink "LoserKeepsTheBoard$Champion" (7 : Nat) ({ cls := "LoserKeepsTheBoard$Master", name := "kind", desc := "()I" } : Jvm.MethodName)) ∈ lw_all := lw_g (lw_at lw_m1 180 rfl) rfl
theorem q302 : (Jvm.Cond.selects "LoserKeepsTheBoard$Champion" ({ cls := "LoserKeepsTheBoard$Player", name := "hasMany", desc := "()I" } : Jvm.MethodName) ({ cls := "LoserKeepsTheBoard$Player", name := "hasMany", desc := "()I" } : Jvm.MethodName)) ∈ lw_all := lw_g (lw_at lw_m1 198 rfl) rfl
theorem q849 : (Jvm.Cond.selects "LoserKeepsTheBoard$Champion" ({ cls := "LoserKeepsTheBoard$Player", name := "doesThrow", desc := "(ZLLoserKeepsTheBoard$Player;)Z" } : Jvm.MethodName) ({ cls := "LoserKeepsTheBoard$Champion", name := "doesThrow", desc := "(ZLLoserKeepsTheBoard$Player;)Z" } : Jvm.MethodName)) ∈ lw_all := lw_g (lw_at lw_m4 25 rfl) rfl
theorem q850 : (Jvm.Cond.instanceMethod ({ cls := "LoserKeepsTheBoard$Champion", name := "doesThrow", desc := "(ZLLoserKeepsTheBoard$Player;)Z" } : Jvm.MethodName)) ∈ lw_all := lw_g (lw_at lw_m4 26 rfl) rfl
theorem q851 : (Jvm.Cond.code ({ cls := "LoserKeepsTheBoard$Champion", name := "doesThrow", desc := "(ZLLoserKeepsTheBoard$Player;)Z" } : Jvm.MethodName) prog_3_method_4_code (3 : Nat) (Option.some Jvm.ClassFile.FieldType.boolean)) ∈ lw_all := lw_g (lw_at lw_m4 27 rfl) rfl
theorem q852 : (Jvm.Cond.methodLink "LoserKeepsTheBoard$Champion" (27 : Nat) ({ cls := "LoserKeepsTheBoard$Master", name := "doesThrow", desc := "(ZLLoserKeepsTheBoard$Player;)Z" } : Jvm.MethodName)) ∈ lw_all := lw_g (lw_at lw_m4 28 rfl) rfl
theorem q858 : (Jvm.Cond.selects "LoserKeepsTheBoard$Champion" ({ cls := "LoserKeepsTheBoard$Master", name := "hasMany", desc := "()I" } : Jvm.MethodName) ({ cls := "LoserKeepsTheBoard$Player", name := "hasMany", desc := "()I" } : Jvm.MethodName)) ∈ lw_all := lw_g (lw_at lw_m4 34 rfl) rfl
theorem q879 : (Jvm.Cond.selects "LoserKeepsTheBoard$Champion" ({ cls := "LoserKeepsTheBoard$Player", name := "plays", desc := "(II)I" } : Jvm.MethodName) ({ cls := "LoserKeepsTheBoard$Champion", name := "plays", desc := "(II)I" } : Jvm.MethodName)) ∈ lw_all := lw_g (lw_at lw_m4 55 rfl) rfl
theorem q880 : (Jvm.Cond.instanceMethod ({ cls := "LoserKeepsTheBoard$Champion", name := "plays", desc := "(II)I" } : Jvm.MethodName)) ∈ lw_all := lw_g (lw_at lw_m4 56 rfl) rfl
theorem q881 : (Jvm.Cond.code ({ cls := "LoserKeepsTheBoard$Champion", name := "plays", desc := "(II)I" } : Jvm.MethodName) prog_3_method_3_code (3 : Nat) (Option.some Jvm.ClassFile.FieldType.int)) ∈ lw_all := lw_g (lw_at lw_m4 57 rfl) rfl
theorem q882 : (Jvm.Cond.methodLink "LoserKeepsTheBoard$Champion" (17 : Nat) ({ cls := "LoserKeepsTheBoard$Master", name := "plays", desc := "(II)I" } : Jvm.MethodName)) ∈ lw_all := lw_g (lw_at lw_m4 58 rfl) rfl
theorem q907 : (Jvm.Cond.selects "LoserKeepsTheBoard$Champion" ({ cls := "LoserKeepsTheBoard$Player", name := "tires", desc := "(IZ)I" } : Jvm.MethodName) ({ cls := "LoserKeepsTheBoard$Champion", name := "tires", desc := "(IZ)I" } : Jvm.MethodName)) ∈ lw_all := lw_g (lw_at lw_m4 83 rfl) rfl
theorem q908 : (Jvm.Cond.instanceMethod ({ cls := "LoserKeepsTheBoard$Champion", name := "tires", desc := "(IZ)I" } : Jvm.MethodName)) ∈ lw_all := lw_g (lw_at lw_m4 84 rfl) rfl
theorem q909 : (Jvm.Cond.code ({ cls := "LoserKeepsTheBoard$Champion", name := "tires", desc := "(IZ)I" } : Jvm.MethodName) prog_3_method_5_code (3 : Nat) (Option.some Jvm.ClassFile.FieldType.int)) ∈ lw_all := lw_g (lw_at lw_m4 85 rfl) rfl
theorem q910 : (Jvm.Cond.methodLink "LoserKeepsTheBoard$Champion" (31 : Nat) ({ cls := "LoserKeepsTheBoard$Master", name := "tires", desc := "(IZ)I" } : Jvm.MethodName)) ∈ lw_all := lw_g (lw_at lw_m4 86 rfl) rfl
theorem q1083 : (Jvm.Cond.selects "LoserKeepsTheBoard$Champion" ({ cls := "LoserKeepsTheBoard$Player", name := "like", desc := "(LLoserKeepsTheBoard$Player;)LLoserKeepsTheBoard$Player;" } : Jvm.MethodName) ({ cls := "LoserKeepsTheBoard$Player", name := "like", desc := "(LLoserKeepsTheBoard$Player;)LLoserKeepsTheBoard$Player;" } : Jvm.MethodName)) ∈ lw_all := lw_g (lw_at lw_m5 19 rfl) rfl
theorem q1741 : (Jvm.Cond.castable "LoserKeepsTheBoard$Champion" "LoserKeepsTheBoard$Master") ∈ lw_tbl := lw_at lw_m7 197 rfl
theorem q1749 : (Jvm.Cond.castable "LoserKeepsTheBoard$Champion" "LoserKeepsTheBoard$Player") ∈ lw_tbl := lw_at lw_m7 205 rfl
theorem in_X12 : ∀ w ∈ wsX120, w ∈ lw_all := lw_in wsX120 [202, 203, 204, 205] (by decide +kernel) (by decide +kernel)

/-! LoserKeepsTheBoard$Groom -/
set_option maxRecDepth 100000
def RX13 : String := "LoserKeepsTheBoard$Groom"
def TX13 : u_T := fun k => match k with
  | 0 => ("LoserKeepsTheBoard$Player", "number", "I", false)
  | 1 => ("LoserKeepsTheBoard$Player", "strong", "I", false)
  | 2 => ("LoserKeepsTheBoard$Player", "won", "I", false)
  | _ => ("LoserKeepsTheBoard$Player", "has", "I", false)
def tyX13 : Nat → FieldType := fun k => match k with
  | 0 => .int
  | 1 => .int
  | 2 => .int
  | _ => .int
abbrev wsX130 : List Cond := u_ws RX13 TX13 4
theorem nmX13 : ∀ a, a < 4 → ∀ b, b < 4 → a ≠ b → (TX13 a).2.1 ≠ (TX13 b).2.1 := by decide +kernel
theorem tyX13_ok : ∀ k, k < 4 → parseFieldDescriptor (TX13 k).2.2.1 = some (tyX13 k) := by decide +kernel
abbrev cX13_init : ByteArray := prog_5_method_1_code
def yX13_init : MethodName := ⟨RX13, "<init>", "(I)V"⟩
def dkwX13_init_0 : List UInt8 := [42, 27, 183, 0, 1, 177]
abbrev dktX13_init_0 : List UInt8 := dkwX13_init_0 ++ []
theorem dksX13_init_0 : cX13_init.data.toList.drop 0 = dktX13_init_0 := by decide +kernel
theorem dX13_init_0 : decode cX13_init 0 = .ok (.aload_n 0, 1) := dk_42 (dk_at dksX13_init_0 0 rfl rfl)
theorem dX13_init_1 : decode cX13_init 1 = .ok (.iload_n 1, 1) := dk_27 (dk_at dksX13_init_0 1 rfl rfl)
theorem dX13_init_2 : decode cX13_init 2 = .ok (.invokespecial 1, 3) := dk_183 0 1 (dk_at dksX13_init_0 2 rfl rfl)
theorem dX13_init_5 : decode cX13_init 5 = .ok (.return_, 1) := dk_177 (dk_at dksX13_init_0 5 rfl rfl)
abbrev cX13_kind : ByteArray := prog_5_method_2_code
def yX13_kind : MethodName := ⟨RX13, "kind", "()I"⟩
def dkwX13_kind_0 : List UInt8 := [42, 183, 0, 7, 5, 96, 172]
abbrev dktX13_kind_0 : List UInt8 := dkwX13_kind_0 ++ []
theorem dksX13_kind_0 : cX13_kind.data.toList.drop 0 = dktX13_kind_0 := by decide +kernel
theorem dX13_kind_0 : decode cX13_kind 0 = .ok (.aload_n 0, 1) := dk_42 (dk_at dksX13_kind_0 0 rfl rfl)
theorem dX13_kind_1 : decode cX13_kind 1 = .ok (.invokespecial 7, 3) := dk_183 0 7 (dk_at dksX13_kind_0 1 rfl rfl)
theorem dX13_kind_4 : decode cX13_kind 4 = .ok (.iconst 2, 1) := dk_5 (dk_at dksX13_kind_0 4 rfl rfl)
theorem dX13_kind_5 : decode cX13_kind 5 = .ok (.iadd, 1) := dk_96 (dk_at dksX13_kind_0 5 rfl rfl)
theorem dX13_kind_6 : decode cX13_kind 6 = .ok (.ireturn, 1) := dk_172 (dk_at dksX13_kind_0 6 rfl rfl)
abbrev cX13_plays : ByteArray := prog_5_method_3_code
def yX13_plays : MethodName := ⟨RX13, "plays", "(II)I"⟩
def dkwX13_plays_1 : List UInt8 := [172]
abbrev dktX13_plays_1 : List UInt8 := dkwX13_plays_1 ++ []
def dkwX13_plays_0 : List UInt8 := [42, 27, 28, 183, 0, 11, 28, 16, 10, 112, 42, 180, 0, 15, 160, 0, 8, 16, 50, 167, 0, 4, 3, 96]
abbrev dktX13_plays_0 : List UInt8 := dkwX13_plays_0 ++ dktX13_plays_1
theorem dksX13_plays_0 : cX13_plays.data.toList.drop 0 = dktX13_plays_0 := by decide +kernel
theorem dksX13_plays_1 : cX13_plays.data.toList.drop 24 = dktX13_plays_1 := dk_seg dksX13_plays_0 24 rfl rfl
theorem dX13_plays_0 : decode cX13_plays 0 = .ok (.aload_n 0, 1) := dk_42 (dk_at dksX13_plays_0 0 rfl rfl)
theorem dX13_plays_1 : decode cX13_plays 1 = .ok (.iload_n 1, 1) := dk_27 (dk_at dksX13_plays_0 1 rfl rfl)
theorem dX13_plays_2 : decode cX13_plays 2 = .ok (.iload_n 2, 1) := dk_28 (dk_at dksX13_plays_0 2 rfl rfl)
theorem dX13_plays_3 : decode cX13_plays 3 = .ok (.invokespecial 11, 3) := dk_183 0 11 (dk_at dksX13_plays_0 3 rfl rfl)
theorem dX13_plays_6 : decode cX13_plays 6 = .ok (.iload_n 2, 1) := dk_28 (dk_at dksX13_plays_0 6 rfl rfl)
theorem dX13_plays_7 : decode cX13_plays 7 = .ok (.bipush 10, 2) := dk_16 10 (dk_at dksX13_plays_0 7 rfl rfl)
theorem dX13_plays_9 : decode cX13_plays 9 = .ok (.irem, 1) := dk_112 (dk_at dksX13_plays_0 9 rfl rfl)
theorem dX13_plays_10 : decode cX13_plays 10 = .ok (.aload_n 0, 1) := dk_42 (dk_at dksX13_plays_0 10 rfl rfl)
theorem dX13_plays_11 : decode cX13_plays 11 = .ok (.getfield 15, 3) := dk_180 0 15 (dk_at dksX13_plays_0 11 rfl rfl)
theorem dX13_plays_14 : decode cX13_plays 14 = .ok (.if_icmp .ne 8, 3) := dk_160 0 8 (dk_at dksX13_plays_0 14 rfl rfl)
theorem dX13_plays_17 : decode cX13_plays 17 = .ok (.bipush 50, 2) := dk_16 50 (dk_at dksX13_plays_0 17 rfl rfl)
theorem dX13_plays_19 : decode cX13_plays 19 = .ok (.goto 4, 3) := dk_167 0 4 (dk_at dksX13_plays_0 19 rfl rfl)
theorem dX13_plays_22 : decode cX13_plays 22 = .ok (.iconst 0, 1) := dk_3 (dk_at dksX13_plays_0 22 rfl rfl)
theorem dX13_plays_23 : decode cX13_plays 23 = .ok (.iadd, 1) := dk_96 (dk_at dksX13_plays_0 23 rfl rfl)
theorem dX13_plays_24 : decode cX13_plays 24 = .ok (.ireturn, 1) := dk_172 (dk_at dksX13_plays_1 0 rfl rfl)
abbrev cX13_tires : ByteArray := prog_5_method_4_code
def yX13_tires : MethodName := ⟨RX13, "tires", "(IZ)I"⟩
def dkwX13_tires_0 : List UInt8 := [42, 27, 28, 183, 0, 21, 6, 100, 172]
abbrev dktX13_tires_0 : List UInt8 := dkwX13_tires_0 ++ []
theorem dksX13_tires_0 : cX13_tires.data.toList.drop 0 = dktX13_tires_0 := by decide +kernel
theorem dX13_tires_0 : decode cX13_tires 0 = .ok (.aload_n 0, 1) := dk_42 (dk_at dksX13_tires_0 0 rfl rfl)
theorem dX13_tires_1 : decode cX13_tires 1 = .ok (.iload_n 1, 1) := dk_27 (dk_at dksX13_tires_0 1 rfl rfl)
theorem dX13_tires_2 : decode cX13_tires 2 = .ok (.iload_n 2, 1) := dk_28 (dk_at dksX13_tires_0 2 rfl rfl)
theorem dX13_tires_3 : decode cX13_tires 3 = .ok (.invokespecial 21, 3) := dk_183 0 21 (dk_at dksX13_tires_0 3 rfl rfl)
theorem dX13_tires_6 : decode cX13_tires 6 = .ok (.iconst 3, 1) := dk_6 (dk_at dksX13_tires_0 6 rfl rfl)
theorem dX13_tires_7 : decode cX13_tires 7 = .ok (.isub, 1) := dk_100 (dk_at dksX13_tires_0 7 rfl rfl)
theorem dX13_tires_8 : decode cX13_tires 8 = .ok (.ireturn, 1) := dk_172 (dk_at dksX13_tires_0 8 rfl rfl)
theorem q128 : (Jvm.Cond.initialized "LoserKeepsTheBoard$Groom") ∈ lw_all := lw_g (lw_at lw_m1 24 rfl) rfl
theorem q161 : (Jvm.Cond.fieldLink "LoserKeepsTheBoard$Groom" (15 : Nat) "LoserKeepsTheBoard$Groom" "number" "I") ∈ lw_all := lw_g (lw_at lw_m1 57 rfl) rfl
theorem q162 : (Jvm.Cond.sameField "LoserKeepsTheBoard$Groom" "LoserKeepsTheBoard$Player" "number" "I") ∈ lw_all := lw_g (lw_at lw_m1 58 rfl) rfl
theorem q208 : (Jvm.Cond.instantiable "LoserKeepsTheBoard$Groom" (4 : Nat)) ∈ lw_all := lw_g (lw_at lw_m1 104 rfl) rfl
theorem q210 : (Jvm.Cond.instanceMethod ({ cls := "LoserKeepsTheBoard$Groom", name := "<init>", desc := "(I)V" } : Jvm.MethodName)) ∈ lw_all := lw_g (lw_at lw_m1 106 rfl) rfl
theorem q211 : (Jvm.Cond.code ({ cls := "LoserKeepsTheBoard$Groom", name := "<init>", desc := "(I)V" } : Jvm.MethodName) prog_5_method_1_code (2 : Nat) (Option.none : Option Jvm.ClassFile.FieldType)) ∈ lw_all := lw_g (lw_at lw_m1 107 rfl) rfl
theorem q212 : (Jvm.Cond.methodLink "LoserKeepsTheBoard$Groom" (1 : Nat) ({ cls := "LoserKeepsTheBoard$Boy", name := "<init>", desc := "(I)V" } : Jvm.MethodName)) ∈ lw_all := lw_g (lw_at lw_m1 108 rfl) rfl
theorem q213 : (Jvm.Cond.lays "LoserKeepsTheBoard$Groom" "LoserKeepsTheBoard$Player" "number" "I") ∈ lw_all := lw_g (lw_at lw_m1 109 rfl) rfl
theorem q214 : (Jvm.Cond.lays "LoserKeepsTheBoard$Groom" "LoserKeepsTheBoard$Player" "strong" "I") ∈ lw_all := lw_g (lw_at lw_m1 110 rfl) rfl
theorem q215 : (Jvm.Cond.lays "LoserKeepsTheBoard$Groom" "LoserKeepsTheBoard$Player" "won" "I") ∈ lw_all := lw_g (lw_at lw_m1 111 rfl) rfl
theorem q216 : (Jvm.Cond.lays "LoserKeepsTheBoard$Groom" "LoserKeepsTheBoard$Player" "has" "I") ∈ lw_all := lw_g (lw_at lw_m1 112 rfl) rfl
theorem q217 : (Jvm.Cond.superclass "LoserKeepsTheBoard$Groom" "LoserKeepsTheBoard$Boy") ∈ lw_all := lw_g (lw_at lw_m1 113 rfl) rfl
theorem q288 : (Jvm.Cond.selects "LoserKeepsTheBoard$Groom" ({ cls := "LoserKeepsTheBoard$Player", name := "kind", desc := "()I" } : Jvm.MethodName) ({ cls := "LoserKeepsTheBoard$Groom", name := "kind", desc := "()I" } : Jvm.MethodName)) ∈ lw_all := lw_g (lw_at lw_m1 184 rfl) rfl
theorem q289 : (Jvm.Cond.instanceMethod ({ cls := "LoserKeepsTheBoard$Groom", name := "kind", desc := "()I" } : Jvm.MethodName)) ∈ lw_all := lw_g (lw_at lw_m1 185 rfl) rfl
theorem q290 : (Jvm.Cond.code ({ cls := "LoserKeepsTheBoard$Groom", name := "kind", desc := "()I" } : Jvm.MethodName) prog_5_method_2_code (1 : Nat) (Option.some Jvm.ClassFile.FieldType.int)) ∈ lw_all := lw_g (lw_at lw_m1 186 rfl) rfl
theorem q291 : (Jvm.Cond.methodLink "LoserKeepsTheBoard$Groom" (7 : Nat) ({ cls := "LoserKeepsTheBoard$Boy", name := "kind", desc := "()I" } : Jvm.MethodName)) ∈ lw_all := lw_g (lw_at lw_m1 187 rfl) rfl
theorem q303 : (Jvm.Cond.selects "LoserKeepsTheBoard$Groom" ({ cls := "LoserKeepsTheBoard$Player", name := "hasMany", desc := "()I" } : Jvm.MethodName) ({ cls := "LoserKeepsTheBoard$Player", name := "hasMany", desc := "()I" } : Jvm.MethodName)) ∈ lw_all := lw_g (lw_at lw_m1 199 rfl) rfl
theorem q862 : (Jvm.Cond.selects "LoserKeepsTheBoard$Groom" ({ cls := "LoserKeepsTheBoard$Player", name := "doesThrow", desc := "(ZLLoserKeepsTheBoard$Player;)Z" } : Jvm.MethodName) ({ cls := "LoserKeepsTheBoard$Boy", name := "doesThrow", desc := "(ZLLoserKeepsTheBoard$Player;)Z" } : Jvm.MethodName)) ∈ lw_all := lw_g (lw_at lw_m4 38 rfl) rfl
theorem q886 : (Jvm.Cond.selects "LoserKeepsTheBoard$Groom" ({ cls := "LoserKeepsTheBoard$Player", name := "plays", desc := "(II)I" } : Jvm.MethodName) ({ cls := "LoserKeepsTheBoard$Groom", name := "plays", desc := "(II)I" } : Jvm.MethodName)) ∈ lw_all := lw_g (lw_at lw_m4 62 rfl) rfl
theorem q887 : (Jvm.Cond.instanceMethod ({ cls := "LoserKeepsTheBoard$Groom", name := "plays", desc := "(II)I" } : Jvm.MethodName)) ∈ lw_all := lw_g (lw_at lw_m4 63 rfl) rfl
theorem q888 : (Jvm.Cond.code ({ cls := "LoserKeepsTheBoard$Groom", name := "plays", desc := "(II)I" } : Jvm.MethodName) prog_5_method_3_code (3 : Nat) (Option.some Jvm.ClassFile.FieldType.int)) ∈ lw_all := lw_g (lw_at lw_m4 64 rfl) rfl
theorem q889 : (Jvm.Cond.methodLink "LoserKeepsTheBoard$Groom" (11 : Nat) ({ cls := "LoserKeepsTheBoard$Boy", name := "plays", desc := "(II)I" } : Jvm.MethodName)) ∈ lw_all := lw_g (lw_at lw_m4 65 rfl) rfl
theorem q914 : (Jvm.Cond.selects "LoserKeepsTheBoard$Groom" ({ cls := "LoserKeepsTheBoard$Player", name := "tires", desc := "(IZ)I" } : Jvm.MethodName) ({ cls := "LoserKeepsTheBoard$Groom", name := "tires", desc := "(IZ)I" } : Jvm.MethodName)) ∈ lw_all := lw_g (lw_at lw_m4 90 rfl) rfl
theorem q915 : (Jvm.Cond.instanceMethod ({ cls := "LoserKeepsTheBoard$Groom", name := "tires", desc := "(IZ)I" } : Jvm.MethodName)) ∈ lw_all := lw_g (lw_at lw_m4 91 rfl) rfl
theorem q916 : (Jvm.Cond.code ({ cls := "LoserKeepsTheBoard$Groom", name := "tires", desc := "(IZ)I" } : Jvm.MethodName) prog_5_method_4_code (3 : Nat) (Option.some Jvm.ClassFile.FieldType.int)) ∈ lw_all := lw_g (lw_at lw_m4 92 rfl) rfl
theorem q917 : (Jvm.Cond.methodLink "LoserKeepsTheBoard$Groom" (21 : Nat) ({ cls := "LoserKeepsTheBoard$Boy", name := "tires", desc := "(IZ)I" } : Jvm.MethodName)) ∈ lw_all := lw_g (lw_at lw_m4 93 rfl) rfl
theorem q1084 : (Jvm.Cond.selects "LoserKeepsTheBoard$Groom" ({ cls := "LoserKeepsTheBoard$Player", name := "like", desc := "(LLoserKeepsTheBoard$Player;)LLoserKeepsTheBoard$Player;" } : Jvm.MethodName) ({ cls := "LoserKeepsTheBoard$Player", name := "like", desc := "(LLoserKeepsTheBoard$Player;)LLoserKeepsTheBoard$Player;" } : Jvm.MethodName)) ∈ lw_all := lw_g (lw_at lw_m5 20 rfl) rfl
theorem q1742 : (Jvm.Cond.castable "LoserKeepsTheBoard$Groom" "LoserKeepsTheBoard$Boy") ∈ lw_tbl := lw_at lw_m7 198 rfl
theorem q1750 : (Jvm.Cond.castable "LoserKeepsTheBoard$Groom" "LoserKeepsTheBoard$Player") ∈ lw_tbl := lw_at lw_m7 206 rfl
theorem in_X13 : ∀ w ∈ wsX130, w ∈ lw_all := lw_in wsX130 [213, 214, 215, 216] (by decide +kernel) (by decide +kernel)

/-! LoserKeepsTheBoard$Widow -/
set_option maxRecDepth 100000
def RX14 : String := "LoserKeepsTheBoard$Widow"
def TX14 : u_T := fun k => match k with
  | 0 => ("LoserKeepsTheBoard$Player", "number", "I", false)
  | 1 => ("LoserKeepsTheBoard$Player", "strong", "I", false)
  | 2 => ("LoserKeepsTheBoard$Player", "won", "I", false)
  | _ => ("LoserKeepsTheBoard$Player", "has", "I", false)
def tyX14 : Nat → FieldType := fun k => match k with
  | 0 => .int
  | 1 => .int
  | 2 => .int
  | _ => .int
abbrev wsX140 : List Cond := u_ws RX14 TX14 4
theorem nmX14 : ∀ a, a < 4 → ∀ b, b < 4 → a ≠ b → (TX14 a).2.1 ≠ (TX14 b).2.1 := by decide +kernel
theorem tyX14_ok : ∀ k, k < 4 → parseFieldDescriptor (TX14 k).2.2.1 = some (tyX14 k) := by decide +kernel
abbrev cX14_init : ByteArray := prog_14_method_1_code
def yX14_init : MethodName := ⟨RX14, "<init>", "(I)V"⟩
def dkwX14_init_0 : List UInt8 := [42, 27, 183, 0, 1, 177]
abbrev dktX14_init_0 : List UInt8 := dkwX14_init_0 ++ []
theorem dksX14_init_0 : cX14_init.data.toList.drop 0 = dktX14_init_0 := by decide +kernel
theorem dX14_init_0 : decode cX14_init 0 = .ok (.aload_n 0, 1) := dk_42 (dk_at dksX14_init_0 0 rfl rfl)
theorem dX14_init_1 : decode cX14_init 1 = .ok (.iload_n 1, 1) := dk_27 (dk_at dksX14_init_0 1 rfl rfl)
theorem dX14_init_2 : decode cX14_init 2 = .ok (.invokespecial 1, 3) := dk_183 0 1 (dk_at dksX14_init_0 2 rfl rfl)
theorem dX14_init_5 : decode cX14_init 5 = .ok (.return_, 1) := dk_177 (dk_at dksX14_init_0 5 rfl rfl)
abbrev cX14_kind : ByteArray := prog_14_method_2_code
def yX14_kind : MethodName := ⟨RX14, "kind", "()I"⟩
def dkwX14_kind_0 : List UInt8 := [42, 183, 0, 7, 8, 96, 172]
abbrev dktX14_kind_0 : List UInt8 := dkwX14_kind_0 ++ []
theorem dksX14_kind_0 : cX14_kind.data.toList.drop 0 = dktX14_kind_0 := by decide +kernel
theorem dX14_kind_0 : decode cX14_kind 0 = .ok (.aload_n 0, 1) := dk_42 (dk_at dksX14_kind_0 0 rfl rfl)
theorem dX14_kind_1 : decode cX14_kind 1 = .ok (.invokespecial 7, 3) := dk_183 0 7 (dk_at dksX14_kind_0 1 rfl rfl)
theorem dX14_kind_4 : decode cX14_kind 4 = .ok (.iconst 5, 1) := dk_8 (dk_at dksX14_kind_0 4 rfl rfl)
theorem dX14_kind_5 : decode cX14_kind 5 = .ok (.iadd, 1) := dk_96 (dk_at dksX14_kind_0 5 rfl rfl)
theorem dX14_kind_6 : decode cX14_kind 6 = .ok (.ireturn, 1) := dk_172 (dk_at dksX14_kind_0 6 rfl rfl)
abbrev cX14_plays : ByteArray := prog_14_method_3_code
def yX14_plays : MethodName := ⟨RX14, "plays", "(II)I"⟩
theorem dX14_plays_0 : decode cX14_plays 0 = .ok (.iconst 0, 1) := by decide +kernel
theorem dX14_plays_1 : decode cX14_plays 1 = .ok (.ireturn, 1) := by decide +kernel
abbrev cX14_tires : ByteArray := prog_14_method_4_code
def yX14_tires : MethodName := ⟨RX14, "tires", "(IZ)I"⟩
theorem dX14_tires_0 : decode cX14_tires 0 = .ok (.iconst 0, 1) := by decide +kernel
theorem dX14_tires_1 : decode cX14_tires 1 = .ok (.ireturn, 1) := by decide +kernel
theorem q129 : (Jvm.Cond.initialized "LoserKeepsTheBoard$Widow") ∈ lw_all := lw_g (lw_at lw_m1 25 rfl) rfl
theorem q219 : (Jvm.Cond.instantiable "LoserKeepsTheBoard$Widow" (4 : Nat)) ∈ lw_all := lw_g (lw_at lw_m1 115 rfl) rfl
theorem q221 : (Jvm.Cond.instanceMethod ({ cls := "LoserKeepsTheBoard$Widow", name := "<init>", desc := "(I)V" } : Jvm.MethodName)) ∈ lw_all := lw_g (lw_at lw_m1 117 rfl) rfl
theorem q222 : (Jvm.Cond.code ({ cls := "LoserKeepsTheBoard$Widow", name := "<init>", desc := "(I)V" } : Jvm.MethodName) prog_14_method_1_code (2 : Nat) (Option.none : Option Jvm.ClassFile.FieldType)) ∈ lw_all := lw_g (lw_at lw_m1 118 rfl) rfl
theorem q223 : (Jvm.Cond.methodLink "LoserKeepsTheBoard$Widow" (1 : Nat) ({ cls := "LoserKeepsTheBoard$Player", name := "<init>", desc := "(I)V" } : Jvm.MethodName)) ∈ lw_all := lw_g (lw_at lw_m1 119 rfl) rfl
theorem q224 : (Jvm.Cond.lays "LoserKeepsTheBoard$Widow" "LoserKeepsTheBoard$Player" "number" "I") ∈ lw_all := lw_g (lw_at lw_m1 120 rfl) rfl
theorem q225 : (Jvm.Cond.lays "LoserKeepsTheBoard$Widow" "LoserKeepsTheBoard$Player" "strong" "I") ∈ lw_all := lw_g (lw_at lw_m1 121 rfl) rfl
theorem q226 : (Jvm.Cond.lays "LoserKeepsTheBoard$Widow" "LoserKeepsTheBoard$Player" "won" "I") ∈ lw_all := lw_g (lw_at lw_m1 122 rfl) rfl
theorem q227 : (Jvm.Cond.lays "LoserKeepsTheBoard$Widow" "LoserKeepsTheBoard$Player" "has" "I") ∈ lw_all := lw_g (lw_at lw_m1 123 rfl) rfl
theorem q228 : (Jvm.Cond.superclass "LoserKeepsTheBoard$Widow" "LoserKeepsTheBoard$Player") ∈ lw_all := lw_g (lw_at lw_m1 124 rfl) rfl
theorem q293 : (Jvm.Cond.selects "LoserKeepsTheBoard$Widow" ({ cls := "LoserKeepsTheBoard$Player", name := "kind", desc := "()I" } : Jvm.MethodName) ({ cls := "LoserKeepsTheBoard$Widow", name := "kind", desc := "()I" } : Jvm.MethodName)) ∈ lw_all := lw_g (lw_at lw_m1 189 rfl) rfl
theorem q294 : (Jvm.Cond.instanceMethod ({ cls := "LoserKeepsTheBoard$Widow", name := "kind", desc := "()I" } : Jvm.MethodName)) ∈ lw_all := lw_g (lw_at lw_m1 190 rfl) rfl
theorem q295 : (Jvm.Cond.code ({ cls := "LoserKeepsTheBoard$Widow", name := "kind", desc := "()I" } : Jvm.MethodName) prog_14_method_2_code (1 : Nat) (Option.some Jvm.ClassFile.FieldType.int)) ∈ lw_all := lw_g (lw_at lw_m1 191 rfl) rfl
theorem q296 : (Jvm.Cond.methodLink "LoserKeepsTheBoard$Widow" (7 : Nat) ({ cls := "LoserKeepsTheBoard$Player", name := "kind", desc := "()I" } : Jvm.MethodName)) ∈ lw_all := lw_g (lw_at lw_m1 192 rfl) rfl
theorem q305 : (Jvm.Cond.selects "LoserKeepsTheBoard$Widow" ({ cls := "LoserKeepsTheBoard$Player", name := "hasMany", desc := "()I" } : Jvm.MethodName) ({ cls := "LoserKeepsTheBoard$Player", name := "hasMany", desc := "()I" } : Jvm.MethodName)) ∈ lw_all := lw_g (lw_at lw_m1 201 rfl) rfl
theorem q864 : (Jvm.Cond.selects "LoserKeepsTheBoard$Widow" ({ cls := "LoserKeepsTheBoard$Player", name := "doesThrow", desc := "(ZLLoserKeepsTheBoard$Player;)Z" } : Jvm.MethodName) ({ cls := "LoserKeepsTheBoard$Player", name := "doesThrow", desc := "(ZLLoserKeepsTheBoard$Player;)Z" } : Jvm.MethodName)) ∈ lw_all := lw_g (lw_at lw_m4 40 rfl) rfl
theorem q891 : (Jvm.Cond.selects "LoserKeepsTheBoard$Widow" ({ cls := "LoserKeepsTheBoard$Player", name := "plays", desc := "(II)I" } : Jvm.MethodName) ({ cls := "LoserKeepsTheBoard$Widow", name := "plays", desc := "(II)I" } : Jvm.MethodName)) ∈ lw_all := lw_g (lw_at lw_m4 67 rfl) rfl
theorem q892 : (Jvm.Cond.instanceMethod ({ cls := "LoserKeepsTheBoard$Widow", name := "plays", desc := "(II)I" } : Jvm.MethodName)) ∈ lw_all := lw_g (lw_at lw_m4 68 rfl) rfl
theorem q893 : (Jvm.Cond.code ({ cls := "LoserKeepsTheBoard$Widow", name := "plays", desc := "(II)I" } : Jvm.MethodName) prog_14_method_3_code (3 : Nat) (Option.some Jvm.ClassFile.FieldType.int)) ∈ lw_all := lw_g (lw_at lw_m4 69 rfl) rfl
theorem q919 : (Jvm.Cond.selects "LoserKeepsTheBoard$Widow" ({ cls := "LoserKeepsTheBoard$Player", name := "tires", desc := "(IZ)I" } : Jvm.MethodName) ({ cls := "LoserKeepsTheBoard$Widow", name := "tires", desc := "(IZ)I" } : Jvm.MethodName)) ∈ lw_all := lw_g (lw_at lw_m4 95 rfl) rfl
theorem q920 : (Jvm.Cond.instanceMethod ({ cls := "LoserKeepsTheBoard$Widow", name := "tires", desc := "(IZ)I" } : Jvm.MethodName)) ∈ lw_all := lw_g (lw_at lw_m4 96 rfl) rfl
theorem q921 : (Jvm.Cond.code ({ cls := "LoserKeepsTheBoard$Widow", name := "tires", desc := "(IZ)I" } : Jvm.MethodName) prog_14_method_4_code (3 : Nat) (Option.some Jvm.ClassFile.FieldType.int)) ∈ lw_all := lw_g (lw_at lw_m4 97 rfl) rfl
theorem q1086 : (Jvm.Cond.selects "LoserKeepsTheBoard$Widow" ({ cls := "LoserKeepsTheBoard$Player", name := "like", desc := "(LLoserKeepsTheBoard$Player;)LLoserKeepsTheBoard$Player;" } : Jvm.MethodName) ({ cls := "LoserKeepsTheBoard$Player", name := "like", desc := "(LLoserKeepsTheBoard$Player;)LLoserKeepsTheBoard$Player;" } : Jvm.MethodName)) ∈ lw_all := lw_g (lw_at lw_m5 22 rfl) rfl
theorem q1751 : (Jvm.Cond.castable "LoserKeepsTheBoard$Widow" "LoserKeepsTheBoard$Player") ∈ lw_tbl := lw_at lw_m7 207 rfl
theorem in_X14 : ∀ w ∈ wsX140, w ∈ lw_all := lw_in wsX140 [224, 225, 226, 227] (by decide +kernel) (by decide +kernel)

/-! LoserKeepsTheBoard$Faulty -/
set_option maxRecDepth 100000
def RX1 : String := "LoserKeepsTheBoard$Faulty"
def TX1 : u_T := fun k => match k with
  | 0 => ("java/lang/Throwable", "cause", "Ljava/lang/Throwable;", false)
  | 1 => ("java/lang/Throwable", "stackTrace", "[Ljava/lang/StackTraceElement;", false)
  | 2 => ("java/lang/Throwable", "suppressedExceptions", "Ljava/util/List;", false)
  | 3 => ("java/lang/Throwable", "detailMessage", "Ljava/lang/String;", false)
  | 4 => ("java/lang/Throwable", "backtrace", "Ljava/lang/Object;", false)
  | _ => ("java/lang/Throwable", "depth", "I", false)
def tyX1 : Nat → FieldType := fun k => match k with
  | 0 => .object "java/lang/Throwable"
  | 1 => .array (.object "java/lang/StackTraceElement")
  | 2 => .object "java/util/List"
  | 3 => .object "java/lang/String"
  | 4 => .object "java/lang/Object"
  | _ => .int
abbrev wsX10 : List Cond := u_ws RX1 TX1 6
theorem nmX1 : ∀ a, a < 6 → ∀ b, b < 6 → a ≠ b → (TX1 a).2.1 ≠ (TX1 b).2.1 := by decide +kernel
theorem tyX1_ok : ∀ k, k < 6 → parseFieldDescriptor (TX1 k).2.2.1 = some (tyX1 k) := by decide +kernel
abbrev cX1_init : ByteArray := prog_4_method_1_code
def yX1_init : MethodName := ⟨RX1, "<init>", "()V"⟩
def dkwX1_init_0 : List UInt8 := [42, 1, 1, 3, 3, 183, 0, 1, 177]
abbrev dktX1_init_0 : List UInt8 := dkwX1_init_0 ++ []
theorem dksX1_init_0 : cX1_init.data.toList.drop 0 = dktX1_init_0 := by decide +kernel
theorem dX1_init_0 : decode cX1_init 0 = .ok (.aload_n 0, 1) := dk_42 (dk_at dksX1_init_0 0 rfl rfl)
theorem dX1_init_1 : decode cX1_init 1 = .ok (.aconst_null, 1) := dk_1 (dk_at dksX1_init_0 1 rfl rfl)
theorem dX1_init_2 : decode cX1_init 2 = .ok (.aconst_null, 1) := dk_1 (dk_at dksX1_init_0 2 rfl rfl)
theorem dX1_init_3 : decode cX1_init 3 = .ok (.iconst 0, 1) := dk_3 (dk_at dksX1_init_0 3 rfl rfl)
theorem dX1_init_4 : decode cX1_init 4 = .ok (.iconst 0, 1) := dk_3 (dk_at dksX1_init_0 4 rfl rfl)
theorem dX1_init_5 : decode cX1_init 5 = .ok (.invokespecial 1, 3) := dk_183 0 1 (dk_at dksX1_init_0 5 rfl rfl)
theorem dX1_init_8 : decode cX1_init 8 = .ok (.return_, 1) := dk_177 (dk_at dksX1_init_0 8 rfl rfl)
theorem q109 : (Jvm.Cond.initialized "LoserKeepsTheBoard$Faulty") ∈ lw_all := lw_g (lw_at lw_m1 5 rfl) rfl
theorem q578 : (Jvm.Cond.instantiable "LoserKeepsTheBoard$Faulty" (6 : Nat)) ∈ lw_all := lw_g (lw_at lw_m2 234 rfl) rfl
theorem q579 : (Jvm.Cond.castable "LoserKeepsTheBoard$Faulty" "LoserKeepsTheBoard$Faulty") ∈ lw_tbl := lw_at lw_m2 235 rfl
theorem q586 : (Jvm.Cond.selects "LoserKeepsTheBoard$Faulty" ({ cls := "java/lang/Throwable", name := "fillInStackTrace", desc := "(I)Ljava/lang/Throwable;" } : Jvm.MethodName) ({ cls := "java/lang/Throwable", name := "fillInStackTrace", desc := "(I)Ljava/lang/Throwable;" } : Jvm.MethodName)) ∈ lw_all := lw_g (lw_at lw_m3 2 rfl) rfl
theorem q587 : (Jvm.Cond.selects "LoserKeepsTheBoard$Faulty" ({ cls := "java/lang/Throwable", name := "fillInStackTrace", desc := "()Ljava/lang/Throwable;" } : Jvm.MethodName) ({ cls := "java/lang/Throwable", name := "fillInStackTrace", desc := "()Ljava/lang/Throwable;" } : Jvm.MethodName)) ∈ lw_all := lw_g (lw_at lw_m3 3 rfl) rfl
theorem q588 : (Jvm.Cond.lays "LoserKeepsTheBoard$Faulty" "java/lang/Throwable" "cause" "Ljava/lang/Throwable;") ∈ lw_all := lw_g (lw_at lw_m3 4 rfl) rfl
theorem q590 : (Jvm.Cond.lays "LoserKeepsTheBoard$Faulty" "java/lang/Throwable" "stackTrace" "[Ljava/lang/StackTraceElement;") ∈ lw_all := lw_g (lw_at lw_m3 6 rfl) rfl
theorem q592 : (Jvm.Cond.lays "LoserKeepsTheBoard$Faulty" "java/lang/Throwable" "suppressedExceptions" "Ljava/util/List;") ∈ lw_all := lw_g (lw_at lw_m3 8 rfl) rfl
theorem q594 : (Jvm.Cond.lays "LoserKeepsTheBoard$Faulty" "java/lang/Throwable" "detailMessage" "Ljava/lang/String;") ∈ lw_all := lw_g (lw_at lw_m3 10 rfl) rfl
theorem q596 : (Jvm.Cond.lays "LoserKeepsTheBoard$Faulty" "java/lang/Throwable" "backtrace" "Ljava/lang/Object;") ∈ lw_all := lw_g (lw_at lw_m3 12 rfl) rfl
theorem q635 : (Jvm.Cond.instanceMethod ({ cls := "LoserKeepsTheBoard$Faulty", name := "<init>", desc := "()V" } : Jvm.MethodName)) ∈ lw_all := lw_g (lw_at lw_m3 51 rfl) rfl
theorem q636 : (Jvm.Cond.code ({ cls := "LoserKeepsTheBoard$Faulty", name := "<init>", desc := "()V" } : Jvm.MethodName) prog_4_method_1_code (1 : Nat) (Option.none : Option Jvm.ClassFile.FieldType)) ∈ lw_all := lw_g (lw_at lw_m3 52 rfl) rfl
theorem q637 : (Jvm.Cond.methodLink "LoserKeepsTheBoard$Faulty" (1 : Nat) ({ cls := "java/lang/RuntimeException", name := "<init>", desc := "(Ljava/lang/String;Ljava/lang/Throwable;ZZ)V" } : Jvm.MethodName)) ∈ lw_all := lw_g (lw_at lw_m3 53 rfl) rfl
theorem q655 : (Jvm.Cond.lays "LoserKeepsTheBoard$Faulty" "java/lang/Throwable" "depth" "I") ∈ lw_all := lw_g (lw_at lw_m3 71 rfl) rfl
theorem q658 : (Jvm.Cond.superclass "LoserKeepsTheBoard$Faulty" "java/lang/RuntimeException") ∈ lw_all := lw_g (lw_at lw_m3 74 rfl) rfl
theorem in_X1 : ∀ w ∈ wsX10, w ∈ lw_all := lw_in wsX10 [588, 590, 592, 594, 596, 655] (by decide +kernel) (by decide +kernel)

/-! LoserKeepsTheBoard$Sheet -/
set_option maxRecDepth 100000
def RX2 : String := "LoserKeepsTheBoard$Sheet"
def TX2 : u_T := fun k => match k with
  | _ => ("LoserKeepsTheBoard$Sheet", "row", "Ljava/lang/Object;", false)
def tyX2 : Nat → FieldType := fun k => match k with
  | _ => .object "java/lang/Object"
abbrev wsX20 : List Cond := u_ws RX2 TX2 1
theorem nmX2 : ∀ a, a < 1 → ∀ b, b < 1 → a ≠ b → (TX2 a).2.1 ≠ (TX2 b).2.1 := by decide +kernel
theorem tyX2_ok : ∀ k, k < 1 → parseFieldDescriptor (TX2 k).2.2.1 = some (tyX2 k) := by decide +kernel
abbrev cX2_init : ByteArray := prog_11_method_1_code
def yX2_init : MethodName := ⟨RX2, "<init>", "()V"⟩
theorem dX2_init_0 : decode cX2_init 0 = .ok (.aload_n 0, 1) := by decide +kernel
theorem dX2_init_1 : decode cX2_init 1 = .ok (.invokespecial 1, 3) := by decide +kernel
theorem dX2_init_4 : decode cX2_init 4 = .ok (.return_, 1) := by decide +kernel
theorem q110 : (Jvm.Cond.initialized "LoserKeepsTheBoard$Sheet") ∈ lw_all := lw_g (lw_at lw_m1 6 rfl) rfl
theorem q679 : (Jvm.Cond.instantiable "LoserKeepsTheBoard$Sheet" (1 : Nat)) ∈ lw_all := lw_g (lw_at lw_m3 95 rfl) rfl
theorem q681 : (Jvm.Cond.instanceMethod ({ cls := "LoserKeepsTheBoard$Sheet", name := "<init>", desc := "()V" } : Jvm.MethodName)) ∈ lw_all := lw_g (lw_at lw_m3 97 rfl) rfl
theorem q682 : (Jvm.Cond.code ({ cls := "LoserKeepsTheBoard$Sheet", name := "<init>", desc := "()V" } : Jvm.MethodName) prog_11_method_1_code (1 : Nat) (Option.none : Option Jvm.ClassFile.FieldType)) ∈ lw_all := lw_g (lw_at lw_m3 98 rfl) rfl
theorem q683 : (Jvm.Cond.methodLink "LoserKeepsTheBoard$Sheet" (1 : Nat) ({ cls := "java/lang/Object", name := "<init>", desc := "()V" } : Jvm.MethodName)) ∈ lw_all := lw_g (lw_at lw_m3 99 rfl) rfl
theorem q685 : (Jvm.Cond.lays "LoserKeepsTheBoard$Sheet" "LoserKeepsTheBoard$Sheet" "row" "Ljava/lang/Object;") ∈ lw_all := lw_g (lw_at lw_m3 101 rfl) rfl
theorem q686 : (Jvm.Cond.soleField "LoserKeepsTheBoard$Sheet" "row") ∈ lw_all := lw_g (lw_at lw_m3 102 rfl) rfl
theorem q687 : (Jvm.Cond.superclass "LoserKeepsTheBoard$Sheet" "java/lang/Object") ∈ lw_all := lw_g (lw_at lw_m3 103 rfl) rfl
theorem in_X2 : ∀ w ∈ wsX20, w ∈ lw_all := lw_in wsX20 [685] (by decide +kernel) (by decide +kernel)

/-! LoserKeepsTheBoard$Node -/
set_option maxRecDepth 100000
def RX3 : String := "LoserKeepsTheBoard$Node"
abbrev cX3_init : ByteArray := prog_8_method_1_code
def yX3_init : MethodName := ⟨RX3, "<init>", "()V"⟩
theorem dX3_init_0 : decode cX3_init 0 = .ok (.aload_n 0, 1) := by decide +kernel
theorem dX3_init_1 : decode cX3_init 1 = .ok (.invokespecial 1, 3) := by decide +kernel
theorem dX3_init_4 : decode cX3_init 4 = .ok (.return_, 1) := by decide +kernel
theorem q117 : (Jvm.Cond.initialized "LoserKeepsTheBoard$Node") ∈ lw_all := lw_g (lw_at lw_m1 13 rfl) rfl
theorem q506 : (Jvm.Cond.instanceMethod ({ cls := "LoserKeepsTheBoard$Node", name := "<init>", desc := "()V" } : Jvm.MethodName)) ∈ lw_all := lw_g (lw_at lw_m2 162 rfl) rfl
theorem q507 : (Jvm.Cond.code ({ cls := "LoserKeepsTheBoard$Node", name := "<init>", desc := "()V" } : Jvm.MethodName) prog_8_method_1_code (1 : Nat) (Option.none : Option Jvm.ClassFile.FieldType)) ∈ lw_all := lw_g (lw_at lw_m2 163 rfl) rfl
theorem q508 : (Jvm.Cond.methodLink "LoserKeepsTheBoard$Node" (1 : Nat) ({ cls := "java/lang/Object", name := "<init>", desc := "()V" } : Jvm.MethodName)) ∈ lw_all := lw_g (lw_at lw_m2 164 rfl) rfl
theorem q824 : (Jvm.Cond.declares ({ cls := "LoserKeepsTheBoard$Node", name := "worth", desc := "()I" } : Jvm.MethodName)) ∈ lw_tbl := lw_at lw_m4 0 rfl
theorem q825 : (Jvm.Cond.sameMethod "LoserKeepsTheBoard$Node" "LoserKeepsTheBoard$Node" "worth" "()I") ∈ lw_all := lw_g (lw_at lw_m4 1 rfl) rfl

/-! LoserKeepsTheBoard$Turned -/
set_option maxRecDepth 100000
def RX4 : String := "LoserKeepsTheBoard$Turned"
def TX4 : u_T := fun k => match k with
  | 0 => ("LoserKeepsTheBoard$Turned", "of", "LLoserKeepsTheBoard$Node;", true)
  | _ => ("LoserKeepsTheBoard$Turned", "isMinus", "Z", true)
def tyX4 : Nat → FieldType := fun k => match k with
  | 0 => .object "LoserKeepsTheBoard$Node"
  | _ => .boolean
abbrev wsX40 : List Cond := u_ws RX4 TX4 2
theorem nmX4 : ∀ a, a < 2 → ∀ b, b < 2 → a ≠ b → (TX4 a).2.1 ≠ (TX4 b).2.1 := by decide +kernel
theorem tyX4_ok : ∀ k, k < 2 → parseFieldDescriptor (TX4 k).2.2.1 = some (tyX4 k) := by decide +kernel
abbrev cX4_init : ByteArray := prog_12_method_1_code
def yX4_init : MethodName := ⟨RX4, "<init>", "(LLoserKeepsTheBoard$Node;Z)V"⟩
def dkwX4_init_0 : List UInt8 := [42, 183, 0, 1, 42, 43, 181, 0, 7, 42, 28, 181, 0, 13, 177]
abbrev dktX4_init_0 : List UInt8 := dkwX4_init_0 ++ []
theorem dksX4_init_0 : cX4_init.data.toList.drop 0 = dktX4_init_0 := by decide +kernel
theorem dX4_init_0 : decode cX4_init 0 = .ok (.aload_n 0, 1) := dk_42 (dk_at dksX4_init_0 0 rfl rfl)
theorem dX4_init_1 : decode cX4_init 1 = .ok (.invokespecial 1, 3) := dk_183 0 1 (dk_at dksX4_init_0 1 rfl rfl)
theorem dX4_init_4 : decode cX4_init 4 = .ok (.aload_n 0, 1) := dk_42 (dk_at dksX4_init_0 4 rfl rfl)
theorem dX4_init_5 : decode cX4_init 5 = .ok (.aload_n 1, 1) := dk_43 (dk_at dksX4_init_0 5 rfl rfl)
theorem dX4_init_6 : decode cX4_init 6 = .ok (.putfield 7, 3) := dk_181 0 7 (dk_at dksX4_init_0 6 rfl rfl)
theorem dX4_init_9 : decode cX4_init 9 = .ok (.aload_n 0, 1) := dk_42 (dk_at dksX4_init_0 9 rfl rfl)
theorem dX4_init_10 : decode cX4_init 10 = .ok (.iload_n 2, 1) := dk_28 (dk_at dksX4_init_0 10 rfl rfl)
theorem dX4_init_11 : decode cX4_init 11 = .ok (.putfield 13, 3) := dk_181 0 13 (dk_at dksX4_init_0 11 rfl rfl)
theorem dX4_init_14 : decode cX4_init 14 = .ok (.return_, 1) := dk_177 (dk_at dksX4_init_0 14 rfl rfl)
abbrev cX4_worth : ByteArray := prog_12_method_2_code
def yX4_worth : MethodName := ⟨RX4, "worth", "()I"⟩
def dkwX4_worth_1 : List UInt8 := [4, 167, 0, 4, 3, 172]
abbrev dktX4_worth_1 : List UInt8 := dkwX4_worth_1 ++ []
def dkwX4_worth_0 : List UInt8 := [42, 180, 0, 7, 182, 0, 17, 60, 42, 180, 0, 13, 153, 0, 8, 27, 116, 167, 0, 12, 27, 154, 0, 7]
abbrev dktX4_worth_0 : List UInt8 := dkwX4_worth_0 ++ dktX4_worth_1
theorem dksX4_worth_0 : cX4_worth.data.toList.drop 0 = dktX4_worth_0 := by decide +kernel
theorem dksX4_worth_1 : cX4_worth.data.toList.drop 24 = dktX4_worth_1 := dk_seg dksX4_worth_0 24 rfl rfl
theorem dX4_worth_0 : decode cX4_worth 0 = .ok (.aload_n 0, 1) := dk_42 (dk_at dksX4_worth_0 0 rfl rfl)
theorem dX4_worth_1 : decode cX4_worth 1 = .ok (.getfield 7, 3) := dk_180 0 7 (dk_at dksX4_worth_0 1 rfl rfl)
theorem dX4_worth_4 : decode cX4_worth 4 = .ok (.invokevirtual 17, 3) := dk_182 0 17 (dk_at dksX4_worth_0 4 rfl rfl)
theorem dX4_worth_7 : decode cX4_worth 7 = .ok (.istore_n 1, 1) := dk_60 (dk_at dksX4_worth_0 7 rfl rfl)
theorem dX4_worth_8 : decode cX4_worth 8 = .ok (.aload_n 0, 1) := dk_42 (dk_at dksX4_worth_0 8 rfl rfl)
theorem dX4_worth_9 : decode cX4_worth 9 = .ok (.getfield 13, 3) := dk_180 0 13 (dk_at dksX4_worth_0 9 rfl rfl)
theorem dX4_worth_12 : decode cX4_worth 12 = .ok (.ifCond .eq 8, 3) := dk_153 0 8 (dk_at dksX4_worth_0 12 rfl rfl)
theorem dX4_worth_15 : decode cX4_worth 15 = .ok (.iload_n 1, 1) := dk_27 (dk_at dksX4_worth_0 15 rfl rfl)
theorem dX4_worth_16 : decode cX4_worth 16 = .ok (.ineg, 1) := dk_116 (dk_at dksX4_worth_0 16 rfl rfl)
theorem dX4_worth_17 : decode cX4_worth 17 = .ok (.goto 12, 3) := dk_167 0 12 (dk_at dksX4_worth_0 17 rfl rfl)
theorem dX4_worth_20 : decode cX4_worth 20 = .ok (.iload_n 1, 1) := dk_27 (dk_at dksX4_worth_0 20 rfl rfl)
theorem dX4_worth_21 : decode cX4_worth 21 = .ok (.ifCond .ne 7, 3) := dk_154 0 7 (dk_at dksX4_worth_0 21 rfl rfl)
theorem dX4_worth_24 : decode cX4_worth 24 = .ok (.iconst 1, 1) := dk_4 (dk_at dksX4_worth_1 0 rfl rfl)
theorem dX4_worth_25 : decode cX4_worth 25 = .ok (.goto 4, 3) := dk_167 0 4 (dk_at dksX4_worth_1 1 rfl rfl)
theorem dX4_worth_28 : decode cX4_worth 28 = .ok (.iconst 0, 1) := dk_3 (dk_at dksX4_worth_1 4 rfl rfl)
theorem dX4_worth_29 : decode cX4_worth 29 = .ok (.ireturn, 1) := dk_172 (dk_at dksX4_worth_1 5 rfl rfl)
theorem q118 : (Jvm.Cond.initialized "LoserKeepsTheBoard$Turned") ∈ lw_all := lw_g (lw_at lw_m1 14 rfl) rfl
theorem q501 : (Jvm.Cond.instantiable "LoserKeepsTheBoard$Turned" (2 : Nat)) ∈ lw_all := lw_g (lw_at lw_m2 157 rfl) rfl
theorem q503 : (Jvm.Cond.instanceMethod ({ cls := "LoserKeepsTheBoard$Turned", name := "<init>", desc := "(LLoserKeepsTheBoard$Node;Z)V" } : Jvm.MethodName)) ∈ lw_all := lw_g (lw_at lw_m2 159 rfl) rfl
theorem q504 : (Jvm.Cond.code ({ cls := "LoserKeepsTheBoard$Turned", name := "<init>", desc := "(LLoserKeepsTheBoard$Node;Z)V" } : Jvm.MethodName) prog_12_method_1_code (3 : Nat) (Option.none : Option Jvm.ClassFile.FieldType)) ∈ lw_all := lw_g (lw_at lw_m2 160 rfl) rfl
theorem q505 : (Jvm.Cond.methodLinkNest "LoserKeepsTheBoard$Turned" (1 : Nat) ({ cls := "LoserKeepsTheBoard$Node", name := "<init>", desc := "()V" } : Jvm.MethodName) "LoserKeepsTheBoard") ∈ lw_tbl := lw_at lw_m2 161 rfl
theorem q509 : (Jvm.Cond.fieldLink "LoserKeepsTheBoard$Turned" (7 : Nat) "LoserKeepsTheBoard$Turned" "of" "LLoserKeepsTheBoard$Node;") ∈ lw_all := lw_g (lw_at lw_m2 165 rfl) rfl
theorem q510 : (Jvm.Cond.fieldLink "LoserKeepsTheBoard$Turned" (13 : Nat) "LoserKeepsTheBoard$Turned" "isMinus" "Z") ∈ lw_all := lw_g (lw_at lw_m2 166 rfl) rfl
theorem q511 : (Jvm.Cond.laysFinal "LoserKeepsTheBoard$Turned" "LoserKeepsTheBoard$Turned" "of" "LLoserKeepsTheBoard$Node;") ∈ lw_all := lw_g (lw_at lw_m2 167 rfl) rfl
theorem q512 : (Jvm.Cond.soleField "LoserKeepsTheBoard$Turned" "of") ∈ lw_all := lw_g (lw_at lw_m2 168 rfl) rfl
theorem q513 : (Jvm.Cond.laysFinal "LoserKeepsTheBoard$Turned" "LoserKeepsTheBoard$Turned" "isMinus" "Z") ∈ lw_all := lw_g (lw_at lw_m2 169 rfl) rfl
theorem q514 : (Jvm.Cond.soleField "LoserKeepsTheBoard$Turned" "isMinus") ∈ lw_all := lw_g (lw_at lw_m2 170 rfl) rfl
theorem q515 : (Jvm.Cond.superclass "LoserKeepsTheBoard$Turned" "LoserKeepsTheBoard$Node") ∈ lw_all := lw_g (lw_at lw_m2 171 rfl) rfl
theorem q834 : (Jvm.Cond.selects "LoserKeepsTheBoard$Turned" ({ cls := "LoserKeepsTheBoard$Node", name := "worth", desc := "()I" } : Jvm.MethodName) ({ cls := "LoserKeepsTheBoard$Turned", name := "worth", desc := "()I" } : Jvm.MethodName)) ∈ lw_all := lw_g (lw_at lw_m4 10 rfl) rfl
theorem q835 : (Jvm.Cond.instanceMethod ({ cls := "LoserKeepsTheBoard$Turned", name := "worth", desc := "()I" } : Jvm.MethodName)) ∈ lw_all := lw_g (lw_at lw_m4 11 rfl) rfl
theorem q836 : (Jvm.Cond.code ({ cls := "LoserKeepsTheBoard$Turned", name := "worth", desc := "()I" } : Jvm.MethodName) prog_12_method_2_code (2 : Nat) (Option.some Jvm.ClassFile.FieldType.int)) ∈ lw_all := lw_g (lw_at lw_m4 12 rfl) rfl
theorem q837 : (Jvm.Cond.methodLink "LoserKeepsTheBoard$Turned" (17 : Nat) ({ cls := "LoserKeepsTheBoard$Node", name := "worth", desc := "()I" } : Jvm.MethodName)) ∈ lw_all := lw_g (lw_at lw_m4 13 rfl) rfl
theorem q1743 : (Jvm.Cond.castable "LoserKeepsTheBoard$Turned" "LoserKeepsTheBoard$Node") ∈ lw_tbl := lw_at lw_m7 199 rfl
theorem in_X4 : ∀ w ∈ wsX40, w ∈ lw_all := lw_in wsX40 [511, 513] (by decide +kernel) (by decide +kernel)

/-! LoserKeepsTheBoard$Number -/
set_option maxRecDepth 100000
def RX5 : String := "LoserKeepsTheBoard$Number"
def TX5 : u_T := fun k => match k with
  | _ => ("LoserKeepsTheBoard$Number", "v", "I", true)
def tyX5 : Nat → FieldType := fun k => match k with
  | _ => .int
abbrev wsX50 : List Cond := u_ws RX5 TX5 1
theorem nmX5 : ∀ a, a < 1 → ∀ b, b < 1 → a ≠ b → (TX5 a).2.1 ≠ (TX5 b).2.1 := by decide +kernel
theorem tyX5_ok : ∀ k, k < 1 → parseFieldDescriptor (TX5 k).2.2.1 = some (tyX5 k) := by decide +kernel
abbrev cX5_init : ByteArray := prog_9_method_1_code
def yX5_init : MethodName := ⟨RX5, "<init>", "(I)V"⟩
def dkwX5_init_0 : List UInt8 := [42, 183, 0, 1, 42, 27, 181, 0, 7, 177]
abbrev dktX5_init_0 : List UInt8 := dkwX5_init_0 ++ []
theorem dksX5_init_0 : cX5_init.data.toList.drop 0 = dktX5_init_0 := by decide +kernel
theorem dX5_init_0 : decode cX5_init 0 = .ok (.aload_n 0, 1) := dk_42 (dk_at dksX5_init_0 0 rfl rfl)
theorem dX5_init_1 : decode cX5_init 1 = .ok (.invokespecial 1, 3) := dk_183 0 1 (dk_at dksX5_init_0 1 rfl rfl)
theorem dX5_init_4 : decode cX5_init 4 = .ok (.aload_n 0, 1) := dk_42 (dk_at dksX5_init_0 4 rfl rfl)
theorem dX5_init_5 : decode cX5_init 5 = .ok (.iload_n 1, 1) := dk_27 (dk_at dksX5_init_0 5 rfl rfl)
theorem dX5_init_6 : decode cX5_init 6 = .ok (.putfield 7, 3) := dk_181 0 7 (dk_at dksX5_init_0 6 rfl rfl)
theorem dX5_init_9 : decode cX5_init 9 = .ok (.return_, 1) := dk_177 (dk_at dksX5_init_0 9 rfl rfl)
abbrev cX5_worth : ByteArray := prog_9_method_2_code
def yX5_worth : MethodName := ⟨RX5, "worth", "()I"⟩
theorem dX5_worth_0 : decode cX5_worth 0 = .ok (.aload_n 0, 1) := by decide +kernel
theorem dX5_worth_1 : decode cX5_worth 1 = .ok (.getfield 7, 3) := by decide +kernel
theorem dX5_worth_4 : decode cX5_worth 4 = .ok (.ireturn, 1) := by decide +kernel
theorem q119 : (Jvm.Cond.initialized "LoserKeepsTheBoard$Number") ∈ lw_all := lw_g (lw_at lw_m1 15 rfl) rfl
theorem q530 : (Jvm.Cond.instantiable "LoserKeepsTheBoard$Number" (1 : Nat)) ∈ lw_all := lw_g (lw_at lw_m2 186 rfl) rfl
theorem q532 : (Jvm.Cond.instanceMethod ({ cls := "LoserKeepsTheBoard$Number", name := "<init>", desc := "(I)V" } : Jvm.MethodName)) ∈ lw_all := lw_g (lw_at lw_m2 188 rfl) rfl
theorem q533 : (Jvm.Cond.code ({ cls := "LoserKeepsTheBoard$Number", name := "<init>", desc := "(I)V" } : Jvm.MethodName) prog_9_method_1_code (2 : Nat) (Option.none : Option Jvm.ClassFile.FieldType)) ∈ lw_all := lw_g (lw_at lw_m2 189 rfl) rfl
theorem q534 : (Jvm.Cond.methodLinkNest "LoserKeepsTheBoard$Number" (1 : Nat) ({ cls := "LoserKeepsTheBoard$Node", name := "<init>", desc := "()V" } : Jvm.MethodName) "LoserKeepsTheBoard") ∈ lw_tbl := lw_at lw_m2 190 rfl
theorem q535 : (Jvm.Cond.fieldLink "LoserKeepsTheBoard$Number" (7 : Nat) "LoserKeepsTheBoard$Number" "v" "I") ∈ lw_all := lw_g (lw_at lw_m2 191 rfl) rfl
theorem q536 : (Jvm.Cond.laysFinal "LoserKeepsTheBoard$Number" "LoserKeepsTheBoard$Number" "v" "I") ∈ lw_all := lw_g (lw_at lw_m2 192 rfl) rfl
theorem q537 : (Jvm.Cond.soleField "LoserKeepsTheBoard$Number" "v") ∈ lw_all := lw_g (lw_at lw_m2 193 rfl) rfl
theorem q538 : (Jvm.Cond.superclass "LoserKeepsTheBoard$Number" "LoserKeepsTheBoard$Node") ∈ lw_all := lw_g (lw_at lw_m2 194 rfl) rfl
theorem q831 : (Jvm.Cond.selects "LoserKeepsTheBoard$Number" ({ cls := "LoserKeepsTheBoard$Node", name := "worth", desc := "()I" } : Jvm.MethodName) ({ cls := "LoserKeepsTheBoard$Number", name := "worth", desc := "()I" } : Jvm.MethodName)) ∈ lw_all := lw_g (lw_at lw_m4 7 rfl) rfl
theorem q832 : (Jvm.Cond.instanceMethod ({ cls := "LoserKeepsTheBoard$Number", name := "worth", desc := "()I" } : Jvm.MethodName)) ∈ lw_all := lw_g (lw_at lw_m4 8 rfl) rfl
theorem q833 : (Jvm.Cond.code ({ cls := "LoserKeepsTheBoard$Number", name := "worth", desc := "()I" } : Jvm.MethodName) prog_9_method_2_code (1 : Nat) (Option.some Jvm.ClassFile.FieldType.int)) ∈ lw_all := lw_g (lw_at lw_m4 9 rfl) rfl
theorem q1744 : (Jvm.Cond.castable "LoserKeepsTheBoard$Number" "LoserKeepsTheBoard$Node") ∈ lw_tbl := lw_at lw_m7 200 rfl
theorem in_X5 : ∀ w ∈ wsX50, w ∈ lw_all := lw_in wsX50 [536] (by decide +kernel) (by decide +kernel)

/-! LoserKeepsTheBoard$Name -/
set_option maxRecDepth 100000
def RX6 : String := "LoserKeepsTheBoard$Name"
def TX6 : u_T := fun k => match k with
  | 0 => ("LoserKeepsTheBoard$Name", "which", "I", true)
  | _ => ("LoserKeepsTheBoard$Name", "this$0", "LLoserKeepsTheBoard;", true)
def tyX6 : Nat → FieldType := fun k => match k with
  | 0 => .int
  | _ => .object "LoserKeepsTheBoard"
abbrev wsX60 : List Cond := u_ws RX6 TX6 2
theorem nmX6 : ∀ a, a < 2 → ∀ b, b < 2 → a ≠ b → (TX6 a).2.1 ≠ (TX6 b).2.1 := by decide +kernel
theorem tyX6_ok : ∀ k, k < 2 → parseFieldDescriptor (TX6 k).2.2.1 = some (tyX6 k) := by decide +kernel
abbrev cX6_init : ByteArray := prog_7_method_1_code
def yX6_init : MethodName := ⟨RX6, "<init>", "(LLoserKeepsTheBoard;I)V"⟩
def dkwX6_init_0 : List UInt8 := [42, 43, 181, 0, 1, 42, 183, 0, 7, 42, 28, 181, 0, 13, 177]
abbrev dktX6_init_0 : List UInt8 := dkwX6_init_0 ++ []
theorem dksX6_init_0 : cX6_init.data.toList.drop 0 = dktX6_init_0 := by decide +kernel
theorem dX6_init_0 : decode cX6_init 0 = .ok (.aload_n 0, 1) := dk_42 (dk_at dksX6_init_0 0 rfl rfl)
theorem dX6_init_1 : decode cX6_init 1 = .ok (.aload_n 1, 1) := dk_43 (dk_at dksX6_init_0 1 rfl rfl)
theorem dX6_init_2 : decode cX6_init 2 = .ok (.putfield 1, 3) := dk_181 0 1 (dk_at dksX6_init_0 2 rfl rfl)
theorem dX6_init_5 : decode cX6_init 5 = .ok (.aload_n 0, 1) := dk_42 (dk_at dksX6_init_0 5 rfl rfl)
theorem dX6_init_6 : decode cX6_init 6 = .ok (.invokespecial 7, 3) := dk_183 0 7 (dk_at dksX6_init_0 6 rfl rfl)
theorem dX6_init_9 : decode cX6_init 9 = .ok (.aload_n 0, 1) := dk_42 (dk_at dksX6_init_0 9 rfl rfl)
theorem dX6_init_10 : decode cX6_init 10 = .ok (.iload_n 2, 1) := dk_28 (dk_at dksX6_init_0 10 rfl rfl)
theorem dX6_init_11 : decode cX6_init 11 = .ok (.putfield 13, 3) := dk_181 0 13 (dk_at dksX6_init_0 11 rfl rfl)
theorem dX6_init_14 : decode cX6_init 14 = .ok (.return_, 1) := dk_177 (dk_at dksX6_init_0 14 rfl rfl)
abbrev cX6_worth : ByteArray := prog_7_method_2_code
def yX6_worth : MethodName := ⟨RX6, "worth", "()I"⟩
def dkwX6_worth_6 : List UInt8 := [180, 0, 1, 180, 0, 38, 50, 182, 0, 31, 42, 180, 0, 1, 180, 0, 44, 184, 0, 47, 96, 172]
abbrev dktX6_worth_6 : List UInt8 := dkwX6_worth_6 ++ []
def dkwX6_worth_5 : List UInt8 := [180, 0, 38, 50, 180, 0, 26, 172, 42, 180, 0, 1, 180, 0, 41, 172, 42, 180, 0, 1, 180, 0, 17, 42]
abbrev dktX6_worth_5 : List UInt8 := dkwX6_worth_5 ++ dktX6_worth_6
def dkwX6_worth_4 : List UInt8 := [180, 0, 1, 180, 0, 23, 50, 180, 0, 35, 172, 42, 180, 0, 1, 180, 0, 17, 42, 180, 0, 1]
abbrev dktX6_worth_4 : List UInt8 := dkwX6_worth_4 ++ dktX6_worth_5
def dkwX6_worth_3 : List UInt8 := [180, 0, 17, 42, 180, 0, 1, 180, 0, 23, 50, 182, 0, 31, 172, 42, 180, 0, 1, 180, 0, 17, 42]
abbrev dktX6_worth_3 : List UInt8 := dkwX6_worth_3 ++ dktX6_worth_4
def dkwX6_worth_2 : List UInt8 := [42, 180, 0, 1, 180, 0, 17, 42, 180, 0, 1, 180, 0, 23, 50, 180, 0, 26, 172, 42, 180, 0, 1]
abbrev dktX6_worth_2 : List UInt8 := dkwX6_worth_2 ++ dktX6_worth_3
def dkwX6_worth_1 : List UInt8 := [170, 0, 0, 0, 0, 0, 0, 120, 0, 0, 0, 0, 0, 0, 0, 4, 0, 0, 0, 36, 0, 0, 0, 55, 0, 0, 0, 74, 0, 0, 0, 93, 0, 0, 0, 112]
abbrev dktX6_worth_1 : List UInt8 := dkwX6_worth_1 ++ dktX6_worth_2
def dkwX6_worth_0 : List UInt8 := [42, 180, 0, 13]
abbrev dktX6_worth_0 : List UInt8 := dkwX6_worth_0 ++ dktX6_worth_1
theorem dksX6_worth_0 : cX6_worth.data.toList.drop 0 = dktX6_worth_0 := by decide +kernel
theorem dksX6_worth_1 : cX6_worth.data.toList.drop 4 = dktX6_worth_1 := dk_seg dksX6_worth_0 4 rfl rfl
theorem dksX6_worth_2 : cX6_worth.data.toList.drop 40 = dktX6_worth_2 := dk_seg dksX6_worth_1 36 rfl rfl
theorem dksX6_worth_3 : cX6_worth.data.toList.drop 63 = dktX6_worth_3 := dk_seg dksX6_worth_2 23 rfl rfl
theorem dksX6_worth_4 : cX6_worth.data.toList.drop 86 = dktX6_worth_4 := dk_seg dksX6_worth_3 23 rfl rfl
theorem dksX6_worth_5 : cX6_worth.data.toList.drop 108 = dktX6_worth_5 := dk_seg dksX6_worth_4 22 rfl rfl
theorem dksX6_worth_6 : cX6_worth.data.toList.drop 132 = dktX6_worth_6 := dk_seg dksX6_worth_5 24 rfl rfl
theorem dX6_worth_0 : decode cX6_worth 0 = .ok (.aload_n 0, 1) := dk_42 (dk_at dksX6_worth_0 0 rfl rfl)
theorem dX6_worth_1 : decode cX6_worth 1 = .ok (.getfield 13, 3) := dk_180 0 13 (dk_at dksX6_worth_0 1 rfl rfl)
theorem dX6_worth_4 : decode cX6_worth 4 = .ok (.tableswitch 120 0 4 #[36, 55, 74, 93, 112], 36) := by decide +kernel
theorem dX6_worth_40 : decode cX6_worth 40 = .ok (.aload_n 0, 1) := dk_42 (dk_at dksX6_worth_2 0 rfl rfl)
theorem dX6_worth_41 : decode cX6_worth 41 = .ok (.getfield 1, 3) := dk_180 0 1 (dk_at dksX6_worth_2 1 rfl rfl)
theorem dX6_worth_44 : decode cX6_worth 44 = .ok (.getfield 17, 3) := dk_180 0 17 (dk_at dksX6_worth_2 4 rfl rfl)
theorem dX6_worth_47 : decode cX6_worth 47 = .ok (.aload_n 0, 1) := dk_42 (dk_at dksX6_worth_2 7 rfl rfl)
theorem dX6_worth_48 : decode cX6_worth 48 = .ok (.getfield 1, 3) := dk_180 0 1 (dk_at dksX6_worth_2 8 rfl rfl)
theorem dX6_worth_51 : decode cX6_worth 51 = .ok (.getfield 23, 3) := dk_180 0 23 (dk_at dksX6_worth_2 11 rfl rfl)
theorem dX6_worth_54 : decode cX6_worth 54 = .ok (.aaload, 1) := dk_50 (dk_at dksX6_worth_2 14 rfl rfl)
theorem dX6_worth_55 : decode cX6_worth 55 = .ok (.getfield 26, 3) := dk_180 0 26 (dk_at dksX6_worth_2 15 rfl rfl)
theorem dX6_worth_58 : decode cX6_worth 58 = .ok (.ireturn, 1) := dk_172 (dk_at dksX6_worth_2 18 rfl rfl)
theorem dX6_worth_59 : decode cX6_worth 59 = .ok (.aload_n 0, 1) := dk_42 (dk_at dksX6_worth_2 19 rfl rfl)
theorem dX6_worth_60 : decode cX6_worth 60 = .ok (.getfield 1, 3) := dk_180 0 1 (dk_at dksX6_worth_2 20 rfl rfl)
theorem dX6_worth_63 : decode cX6_worth 63 = .ok (.getfield 17, 3) := dk_180 0 17 (dk_at dksX6_worth_3 0 rfl rfl)
theorem dX6_worth_66 : decode cX6_worth 66 = .ok (.aload_n 0, 1) := dk_42 (dk_at dksX6_worth_3 3 rfl rfl)
theorem dX6_worth_67 : decode cX6_worth 67 = .ok (.getfield 1, 3) := dk_180 0 1 (dk_at dksX6_worth_3 4 rfl rfl)
theorem dX6_worth_70 : decode cX6_worth 70 = .ok (.getfield 23, 3) := dk_180 0 23 (dk_at dksX6_worth_3 7 rfl rfl)
theorem dX6_worth_73 : decode cX6_worth 73 = .ok (.aaload, 1) := dk_50 (dk_at dksX6_worth_3 10 rfl rfl)
theorem dX6_worth_74 : decode cX6_worth 74 = .ok (.invokevirtual 31, 3) := dk_182 0 31 (dk_at dksX6_worth_3 11 rfl rfl)
theorem dX6_worth_77 : decode cX6_worth 77 = .ok (.ireturn, 1) := dk_172 (dk_at dksX6_worth_3 14 rfl rfl)
theorem dX6_worth_78 : decode cX6_worth 78 = .ok (.aload_n 0, 1) := dk_42 (dk_at dksX6_worth_3 15 rfl rfl)
theorem dX6_worth_79 : decode cX6_worth 79 = .ok (.getfield 1, 3) := dk_180 0 1 (dk_at dksX6_worth_3 16 rfl rfl)
theorem dX6_worth_82 : decode cX6_worth 82 = .ok (.getfield 17, 3) := dk_180 0 17 (dk_at dksX6_worth_3 19 rfl rfl)
theorem dX6_worth_85 : decode cX6_worth 85 = .ok (.aload_n 0, 1) := dk_42 (dk_at dksX6_worth_3 22 rfl rfl)
theorem dX6_worth_86 : decode cX6_worth 86 = .ok (.getfield 1, 3) := dk_180 0 1 (dk_at dksX6_worth_4 0 rfl rfl)
theorem dX6_worth_89 : decode cX6_worth 89 = .ok (.getfield 23, 3) := dk_180 0 23 (dk_at dksX6_worth_4 3 rfl rfl)
theorem dX6_worth_92 : decode cX6_worth 92 = .ok (.aaload, 1) := dk_50 (dk_at dksX6_worth_4 6 rfl rfl)
theorem dX6_worth_93 : decode cX6_worth 93 = .ok (.getfield 35, 3) := dk_180 0 35 (dk_at dksX6_worth_4 7 rfl rfl)
theorem dX6_worth_96 : decode cX6_worth 96 = .ok (.ireturn, 1) := dk_172 (dk_at dksX6_worth_4 10 rfl rfl)
theorem dX6_worth_97 : decode cX6_worth 97 = .ok (.aload_n 0, 1) := dk_42 (dk_at dksX6_worth_4 11 rfl rfl)
theorem dX6_worth_98 : decode cX6_worth 98 = .ok (.getfield 1, 3) := dk_180 0 1 (dk_at dksX6_worth_4 12 rfl rfl)
theorem dX6_worth_101 : decode cX6_worth 101 = .ok (.getfield 17, 3) := dk_180 0 17 (dk_at dksX6_worth_4 15 rfl rfl)
theorem dX6_worth_104 : decode cX6_worth 104 = .ok (.aload_n 0, 1) := dk_42 (dk_at dksX6_worth_4 18 rfl rfl)
theorem dX6_worth_105 : decode cX6_worth 105 = .ok (.getfield 1, 3) := dk_180 0 1 (dk_at dksX6_worth_4 19 rfl rfl)
theorem dX6_worth_108 : decode cX6_worth 108 = .ok (.getfield 38, 3) := dk_180 0 38 (dk_at dksX6_worth_5 0 rfl rfl)
theorem dX6_worth_111 : decode cX6_worth 111 = .ok (.aaload, 1) := dk_50 (dk_at dksX6_worth_5 3 rfl rfl)
theorem dX6_worth_112 : decode cX6_worth 112 = .ok (.getfield 26, 3) := dk_180 0 26 (dk_at dksX6_worth_5 4 rfl rfl)
theorem dX6_worth_115 : decode cX6_worth 115 = .ok (.ireturn, 1) := dk_172 (dk_at dksX6_worth_5 7 rfl rfl)
theorem dX6_worth_116 : decode cX6_worth 116 = .ok (.aload_n 0, 1) := dk_42 (dk_at dksX6_worth_5 8 rfl rfl)
theorem dX6_worth_117 : decode cX6_worth 117 = .ok (.getfield 1, 3) := dk_180 0 1 (dk_at dksX6_worth_5 9 rfl rfl)
theorem dX6_worth_120 : decode cX6_worth 120 = .ok (.getfield 41, 3) := dk_180 0 41 (dk_at dksX6_worth_5 12 rfl rfl)
theorem dX6_worth_123 : decode cX6_worth 123 = .ok (.ireturn, 1) := dk_172 (dk_at dksX6_worth_5 15 rfl rfl)
theorem dX6_worth_124 : decode cX6_worth 124 = .ok (.aload_n 0, 1) := dk_42 (dk_at dksX6_worth_5 16 rfl rfl)
theorem dX6_worth_125 : decode cX6_worth 125 = .ok (.getfield 1, 3) := dk_180 0 1 (dk_at dksX6_worth_5 17 rfl rfl)
theorem dX6_worth_128 : decode cX6_worth 128 = .ok (.getfield 17, 3) := dk_180 0 17 (dk_at dksX6_worth_5 20 rfl rfl)
theorem dX6_worth_131 : decode cX6_worth 131 = .ok (.aload_n 0, 1) := dk_42 (dk_at dksX6_worth_5 23 rfl rfl)
theorem dX6_worth_132 : decode cX6_worth 132 = .ok (.getfield 1, 3) := dk_180 0 1 (dk_at dksX6_worth_6 0 rfl rfl)
theorem dX6_worth_135 : decode cX6_worth 135 = .ok (.getfield 38, 3) := dk_180 0 38 (dk_at dksX6_worth_6 3 rfl rfl)
theorem dX6_worth_138 : decode cX6_worth 138 = .ok (.aaload, 1) := dk_50 (dk_at dksX6_worth_6 6 rfl rfl)
theorem dX6_worth_139 : decode cX6_worth 139 = .ok (.invokevirtual 31, 3) := dk_182 0 31 (dk_at dksX6_worth_6 7 rfl rfl)
theorem dX6_worth_142 : decode cX6_worth 142 = .ok (.aload_n 0, 1) := dk_42 (dk_at dksX6_worth_6 10 rfl rfl)
theorem dX6_worth_143 : decode cX6_worth 143 = .ok (.getfield 1, 3) := dk_180 0 1 (dk_at dksX6_worth_6 11 rfl rfl)
theorem dX6_worth_146 : decode cX6_worth 146 = .ok (.getfield 44, 3) := dk_180 0 44 (dk_at dksX6_worth_6 14 rfl rfl)
theorem dX6_worth_149 : decode cX6_worth 149 = .ok (.invokestatic 47, 3) := dk_184 0 47 (dk_at dksX6_worth_6 17 rfl rfl)
theorem dX6_worth_152 : decode cX6_worth 152 = .ok (.iadd, 1) := dk_96 (dk_at dksX6_worth_6 20 rfl rfl)
theorem dX6_worth_153 : decode cX6_worth 153 = .ok (.ireturn, 1) := dk_172 (dk_at dksX6_worth_6 21 rfl rfl)
theorem q120 : (Jvm.Cond.initialized "LoserKeepsTheBoard$Name") ∈ lw_all := lw_g (lw_at lw_m1 16 rfl) rfl
theorem q160 : (Jvm.Cond.fieldLink "LoserKeepsTheBoard$Name" (35 : Nat) "LoserKeepsTheBoard$Player" "number" "I") ∈ lw_all := lw_g (lw_at lw_m1 56 rfl) rfl
theorem q167 : (Jvm.Cond.fieldLink "LoserKeepsTheBoard$Name" (26 : Nat) "LoserKeepsTheBoard$Player" "strong" "I") ∈ lw_all := lw_g (lw_at lw_m1 63 rfl) rfl
theorem q540 : (Jvm.Cond.instantiable "LoserKeepsTheBoard$Name" (2 : Nat)) ∈ lw_all := lw_g (lw_at lw_m2 196 rfl) rfl
theorem q542 : (Jvm.Cond.instanceMethod ({ cls := "LoserKeepsTheBoard$Name", name := "<init>", desc := "(LLoserKeepsTheBoard;I)V" } : Jvm.MethodName)) ∈ lw_all := lw_g (lw_at lw_m2 198 rfl) rfl
theorem q543 : (Jvm.Cond.code ({ cls := "LoserKeepsTheBoard$Name", name := "<init>", desc := "(LLoserKeepsTheBoard;I)V" } : Jvm.MethodName) prog_7_method_1_code (3 : Nat) (Option.none : Option Jvm.ClassFile.FieldType)) ∈ lw_all := lw_g (lw_at lw_m2 199 rfl) rfl
theorem q544 : (Jvm.Cond.methodLinkNest "LoserKeepsTheBoard$Name" (7 : Nat) ({ cls := "LoserKeepsTheBoard$Node", name := "<init>", desc := "()V" } : Jvm.MethodName) "LoserKeepsTheBoard") ∈ lw_tbl := lw_at lw_m2 200 rfl
theorem q545 : (Jvm.Cond.fieldLink "LoserKeepsTheBoard$Name" (13 : Nat) "LoserKeepsTheBoard$Name" "which" "I") ∈ lw_all := lw_g (lw_at lw_m2 201 rfl) rfl
theorem q546 : (Jvm.Cond.fieldLink "LoserKeepsTheBoard$Name" (1 : Nat) "LoserKeepsTheBoard$Name" "this$0" "LLoserKeepsTheBoard;") ∈ lw_all := lw_g (lw_at lw_m2 202 rfl) rfl
theorem q547 : (Jvm.Cond.laysFinal "LoserKeepsTheBoard$Name" "LoserKeepsTheBoard$Name" "which" "I") ∈ lw_all := lw_g (lw_at lw_m2 203 rfl) rfl
theorem q548 : (Jvm.Cond.soleField "LoserKeepsTheBoard$Name" "which") ∈ lw_all := lw_g (lw_at lw_m2 204 rfl) rfl
theorem q549 : (Jvm.Cond.laysFinal "LoserKeepsTheBoard$Name" "LoserKeepsTheBoard$Name" "this$0" "LLoserKeepsTheBoard;") ∈ lw_all := lw_g (lw_at lw_m2 205 rfl) rfl
theorem q550 : (Jvm.Cond.soleField "LoserKeepsTheBoard$Name" "this$0") ∈ lw_all := lw_g (lw_at lw_m2 206 rfl) rfl
theorem q551 : (Jvm.Cond.superclass "LoserKeepsTheBoard$Name" "LoserKeepsTheBoard$Node") ∈ lw_all := lw_g (lw_at lw_m2 207 rfl) rfl
theorem q694 : (Jvm.Cond.fieldLinkNest "LoserKeepsTheBoard$Name" (17 : Nat) "LoserKeepsTheBoard" "folk" "[LLoserKeepsTheBoard$Player;" "LoserKeepsTheBoard") ∈ lw_tbl := lw_at lw_m3 110 rfl
theorem q697 : (Jvm.Cond.fieldLinkNest "LoserKeepsTheBoard$Name" (41 : Nat) "LoserKeepsTheBoard" "round" "I" "LoserKeepsTheBoard") ∈ lw_tbl := lw_at lw_m3 113 rfl
theorem q699 : (Jvm.Cond.fieldLinkNest "LoserKeepsTheBoard$Name" (44 : Nat) "LoserKeepsTheBoard" "hall" "I" "LoserKeepsTheBoard") ∈ lw_tbl := lw_at lw_m3 115 rfl
theorem q702 : (Jvm.Cond.fieldLinkNest "LoserKeepsTheBoard$Name" (23 : Nat) "LoserKeepsTheBoard" "forOne" "I" "LoserKeepsTheBoard") ∈ lw_tbl := lw_at lw_m3 118 rfl
theorem q704 : (Jvm.Cond.fieldLinkNest "LoserKeepsTheBoard$Name" (38 : Nat) "LoserKeepsTheBoard" "forOther" "I" "LoserKeepsTheBoard") ∈ lw_tbl := lw_at lw_m3 120 rfl
theorem q826 : (Jvm.Cond.selects "LoserKeepsTheBoard$Name" ({ cls := "LoserKeepsTheBoard$Node", name := "worth", desc := "()I" } : Jvm.MethodName) ({ cls := "LoserKeepsTheBoard$Name", name := "worth", desc := "()I" } : Jvm.MethodName)) ∈ lw_all := lw_g (lw_at lw_m4 2 rfl) rfl
theorem q827 : (Jvm.Cond.instanceMethod ({ cls := "LoserKeepsTheBoard$Name", name := "worth", desc := "()I" } : Jvm.MethodName)) ∈ lw_all := lw_g (lw_at lw_m4 3 rfl) rfl
theorem q828 : (Jvm.Cond.code ({ cls := "LoserKeepsTheBoard$Name", name := "worth", desc := "()I" } : Jvm.MethodName) prog_7_method_2_code (1 : Nat) (Option.some Jvm.ClassFile.FieldType.int)) ∈ lw_all := lw_g (lw_at lw_m4 4 rfl) rfl
theorem q829 : (Jvm.Cond.methodLink "LoserKeepsTheBoard$Name" (31 : Nat) ({ cls := "LoserKeepsTheBoard$Player", name := "hasMany", desc := "()I" } : Jvm.MethodName)) ∈ lw_all := lw_g (lw_at lw_m4 5 rfl) rfl
theorem q830 : (Jvm.Cond.methodLink "LoserKeepsTheBoard$Name" (47 : Nat) ({ cls := "java/lang/Integer", name := "bitCount", desc := "(I)I" } : Jvm.MethodName)) ∈ lw_all := lw_g (lw_at lw_m4 6 rfl) rfl
theorem q1745 : (Jvm.Cond.castable "LoserKeepsTheBoard$Name" "LoserKeepsTheBoard$Node") ∈ lw_tbl := lw_at lw_m7 201 rfl
theorem in_X6 : ∀ w ∈ wsX60, w ∈ lw_all := lw_in wsX60 [547, 549] (by decide +kernel) (by decide +kernel)

/-! LoserKeepsTheBoard$Two -/
set_option maxRecDepth 100000
def RX7 : String := "LoserKeepsTheBoard$Two"
def TX7 : u_T := fun k => match k with
  | 0 => ("LoserKeepsTheBoard$Two", "sign", "I", true)
  | 1 => ("LoserKeepsTheBoard$Two", "a", "LLoserKeepsTheBoard$Node;", true)
  | _ => ("LoserKeepsTheBoard$Two", "b", "LLoserKeepsTheBoard$Node;", true)
def tyX7 : Nat → FieldType := fun k => match k with
  | 0 => .int
  | 1 => .object "LoserKeepsTheBoard$Node"
  | _ => .object "LoserKeepsTheBoard$Node"
abbrev wsX70 : List Cond := u_ws RX7 TX7 3
theorem nmX7 : ∀ a, a < 3 → ∀ b, b < 3 → a ≠ b → (TX7 a).2.1 ≠ (TX7 b).2.1 := by decide +kernel
theorem tyX7_ok : ∀ k, k < 3 → parseFieldDescriptor (TX7 k).2.2.1 = some (tyX7 k) := by decide +kernel
abbrev cX7_init : ByteArray := prog_13_method_1_code
def yX7_init : MethodName := ⟨RX7, "<init>", "(ILLoserKeepsTheBoard$Node;LLoserKeepsTheBoard$Node;)V"⟩
def dkwX7_init_0 : List UInt8 := [42, 183, 0, 1, 42, 27, 181, 0, 7, 42, 44, 181, 0, 13, 42, 45, 181, 0, 17, 177]
abbrev dktX7_init_0 : List UInt8 := dkwX7_init_0 ++ []
theorem dksX7_init_0 : cX7_init.data.toList.drop 0 = dktX7_init_0 := by decide +kernel
theorem dX7_init_0 : decode cX7_init 0 = .ok (.aload_n 0, 1) := dk_42 (dk_at dksX7_init_0 0 rfl rfl)
theorem dX7_init_1 : decode cX7_init 1 = .ok (.invokespecial 1, 3) := dk_183 0 1 (dk_at dksX7_init_0 1 rfl rfl)
theorem dX7_init_4 : decode cX7_init 4 = .ok (.aload_n 0, 1) := dk_42 (dk_at dksX7_init_0 4 rfl rfl)
theorem dX7_init_5 : decode cX7_init 5 = .ok (.iload_n 1, 1) := dk_27 (dk_at dksX7_init_0 5 rfl rfl)
theorem dX7_init_6 : decode cX7_init 6 = .ok (.putfield 7, 3) := dk_181 0 7 (dk_at dksX7_init_0 6 rfl rfl)
theorem dX7_init_9 : decode cX7_init 9 = .ok (.aload_n 0, 1) := dk_42 (dk_at dksX7_init_0 9 rfl rfl)
theorem dX7_init_10 : decode cX7_init 10 = .ok (.aload_n 2, 1) := dk_44 (dk_at dksX7_init_0 10 rfl rfl)
theorem dX7_init_11 : decode cX7_init 11 = .ok (.putfield 13, 3) := dk_181 0 13 (dk_at dksX7_init_0 11 rfl rfl)
theorem dX7_init_14 : decode cX7_init 14 = .ok (.aload_n 0, 1) := dk_42 (dk_at dksX7_init_0 14 rfl rfl)
theorem dX7_init_15 : decode cX7_init 15 = .ok (.aload_n 3, 1) := dk_45 (dk_at dksX7_init_0 15 rfl rfl)
theorem dX7_init_16 : decode cX7_init 16 = .ok (.putfield 17, 3) := dk_181 0 17 (dk_at dksX7_init_0 16 rfl rfl)
theorem dX7_init_19 : decode cX7_init 19 = .ok (.return_, 1) := dk_177 (dk_at dksX7_init_0 19 rfl rfl)
abbrev cX7_worth : ByteArray := prog_13_method_2_code
def yX7_worth : MethodName := ⟨RX7, "worth", "()I"⟩
def dkwX7_worth_4 : List UInt8 := [27, 154, 0, 7, 28, 153, 0, 7, 4, 167, 0, 4, 3, 172]
abbrev dktX7_worth_4 : List UInt8 := dkwX7_worth_4 ++ []
def dkwX7_worth_3 : List UInt8 := [28, 160, 0, 7, 4, 167, 0, 4, 3, 172, 27, 153, 0, 11, 28, 153, 0, 7, 4, 167, 0, 4, 3, 172]
abbrev dktX7_worth_3 : List UInt8 := dkwX7_worth_3 ++ dktX7_worth_4
def dkwX7_worth_2 : List UInt8 := [27, 28, 96, 172, 27, 28, 100, 172, 27, 28, 104, 172, 27, 28, 162, 0, 7, 4, 167, 0, 4, 3, 172, 27]
abbrev dktX7_worth_2 : List UInt8 := dkwX7_worth_2 ++ dktX7_worth_3
def dkwX7_worth_1 : List UInt8 := [171, 0, 0, 0, 0, 0, 0, 108, 0, 0, 0, 6, 0, 0, 0, 38, 0, 0, 0, 94, 0, 0, 0, 42, 0, 0, 0, 68, 0, 0, 0, 43, 0, 0, 0, 60, 0, 0, 0, 45, 0, 0, 0, 64, 0, 0, 0, 60, 0, 0, 0, 72, 0, 0, 0, 61, 0, 0, 0, 83]
abbrev dktX7_worth_1 : List UInt8 := dkwX7_worth_1 ++ dktX7_worth_2
def dkwX7_worth_0 : List UInt8 := [42, 180, 0, 13, 182, 0, 20, 60, 42, 180, 0, 17, 182, 0, 20, 61, 42, 180, 0, 7]
abbrev dktX7_worth_0 : List UInt8 := dkwX7_worth_0 ++ dktX7_worth_1
theorem dksX7_worth_0 : cX7_worth.data.toList.drop 0 = dktX7_worth_0 := by decide +kernel
theorem dksX7_worth_1 : cX7_worth.data.toList.drop 20 = dktX7_worth_1 := dk_seg dksX7_worth_0 20 rfl rfl
theorem dksX7_worth_2 : cX7_worth.data.toList.drop 80 = dktX7_worth_2 := dk_seg dksX7_worth_1 60 rfl rfl
theorem dksX7_worth_3 : cX7_worth.data.toList.drop 104 = dktX7_worth_3 := dk_seg dksX7_worth_2 24 rfl rfl
theorem dksX7_worth_4 : cX7_worth.data.toList.drop 128 = dktX7_worth_4 := dk_seg dksX7_worth_3 24 rfl rfl
theorem dX7_worth_0 : decode cX7_worth 0 = .ok (.aload_n 0, 1) := dk_42 (dk_at dksX7_worth_0 0 rfl rfl)
theorem dX7_worth_1 : decode cX7_worth 1 = .ok (.getfield 13, 3) := dk_180 0 13 (dk_at dksX7_worth_0 1 rfl rfl)
theorem dX7_worth_4 : decode cX7_worth 4 = .ok (.invokevirtual 20, 3) := dk_182 0 20 (dk_at dksX7_worth_0 4 rfl rfl)
theorem dX7_worth_7 : decode cX7_worth 7 = .ok (.istore_n 1, 1) := dk_60 (dk_at dksX7_worth_0 7 rfl rfl)
theorem dX7_worth_8 : decode cX7_worth 8 = .ok (.aload_n 0, 1) := dk_42 (dk_at dksX7_worth_0 8 rfl rfl)
theorem dX7_worth_9 : decode cX7_worth 9 = .ok (.getfield 17, 3) := dk_180 0 17 (dk_at dksX7_worth_0 9 rfl rfl)
theorem dX7_worth_12 : decode cX7_worth 12 = .ok (.invokevirtual 20, 3) := dk_182 0 20 (dk_at dksX7_worth_0 12 rfl rfl)
theorem dX7_worth_15 : decode cX7_worth 15 = .ok (.istore_n 2, 1) := dk_61 (dk_at dksX7_worth_0 15 rfl rfl)
theorem dX7_worth_16 : decode cX7_worth 16 = .ok (.aload_n 0, 1) := dk_42 (dk_at dksX7_worth_0 16 rfl rfl)
theorem dX7_worth_17 : decode cX7_worth 17 = .ok (.getfield 7, 3) := dk_180 0 7 (dk_at dksX7_worth_0 17 rfl rfl)
theorem dX7_worth_20 : decode cX7_worth 20 = .ok (.lookupswitch 108 #[(38, 94), (42, 68), (43, 60), (45, 64), (60, 72), (61, 83)], 60) := by decide +kernel
theorem dX7_worth_80 : decode cX7_worth 80 = .ok (.iload_n 1, 1) := dk_27 (dk_at dksX7_worth_2 0 rfl rfl)
theorem dX7_worth_81 : decode cX7_worth 81 = .ok (.iload_n 2, 1) := dk_28 (dk_at dksX7_worth_2 1 rfl rfl)
theorem dX7_worth_82 : decode cX7_worth 82 = .ok (.iadd, 1) := dk_96 (dk_at dksX7_worth_2 2 rfl rfl)
theorem dX7_worth_83 : decode cX7_worth 83 = .ok (.ireturn, 1) := dk_172 (dk_at dksX7_worth_2 3 rfl rfl)
theorem dX7_worth_84 : decode cX7_worth 84 = .ok (.iload_n 1, 1) := dk_27 (dk_at dksX7_worth_2 4 rfl rfl)
theorem dX7_worth_85 : decode cX7_worth 85 = .ok (.iload_n 2, 1) := dk_28 (dk_at dksX7_worth_2 5 rfl rfl)
theorem dX7_worth_86 : decode cX7_worth 86 = .ok (.isub, 1) := dk_100 (dk_at dksX7_worth_2 6 rfl rfl)
theorem dX7_worth_87 : decode cX7_worth 87 = .ok (.ireturn, 1) := dk_172 (dk_at dksX7_worth_2 7 rfl rfl)
theorem dX7_worth_88 : decode cX7_worth 88 = .ok (.iload_n 1, 1) := dk_27 (dk_at dksX7_worth_2 8 rfl rfl)
theorem dX7_worth_89 : decode cX7_worth 89 = .ok (.iload_n 2, 1) := dk_28 (dk_at dksX7_worth_2 9 rfl rfl)
theorem dX7_worth_90 : decode cX7_worth 90 = .ok (.imul, 1) := dk_104 (dk_at dksX7_worth_2 10 rfl rfl)
theorem dX7_worth_91 : decode cX7_worth 91 = .ok (.ireturn, 1) := dk_172 (dk_at dksX7_worth_2 11 rfl rfl)
theorem dX7_worth_92 : decode cX7_worth 92 = .ok (.iload_n 1, 1) := dk_27 (dk_at dksX7_worth_2 12 rfl rfl)
theorem dX7_worth_93 : decode cX7_worth 93 = .ok (.iload_n 2, 1) := dk_28 (dk_at dksX7_worth_2 13 rfl rfl)
theorem dX7_worth_94 : decode cX7_worth 94 = .ok (.if_icmp .ge 7, 3) := dk_162 0 7 (dk_at dksX7_worth_2 14 rfl rfl)
theorem dX7_worth_97 : decode cX7_worth 97 = .ok (.iconst 1, 1) := dk_4 (dk_at dksX7_worth_2 17 rfl rfl)
theorem dX7_worth_98 : decode cX7_worth 98 = .ok (.goto 4, 3) := dk_167 0 4 (dk_at dksX7_worth_2 18 rfl rfl)
theorem dX7_worth_101 : decode cX7_worth 101 = .ok (.iconst 0, 1) := dk_3 (dk_at dksX7_worth_2 21 rfl rfl)
theorem dX7_worth_102 : decode cX7_worth 102 = .ok (.ireturn, 1) := dk_172 (dk_at dksX7_worth_2 22 rfl rfl)
theorem dX7_worth_103 : decode cX7_worth 103 = .ok (.iload_n 1, 1) := dk_27 (dk_at dksX7_worth_2 23 rfl rfl)
theorem dX7_worth_104 : decode cX7_worth 104 = .ok (.iload_n 2, 1) := dk_28 (dk_at dksX7_worth_3 0 rfl rfl)
theorem dX7_worth_105 : decode cX7_worth 105 = .ok (.if_icmp .ne 7, 3) := dk_160 0 7 (dk_at dksX7_worth_3 1 rfl rfl)
theorem dX7_worth_108 : decode cX7_worth 108 = .ok (.iconst 1, 1) := dk_4 (dk_at dksX7_worth_3 4 rfl rfl)
theorem dX7_worth_109 : decode cX7_worth 109 = .ok (.goto 4, 3) := dk_167 0 4 (dk_at dksX7_worth_3 5 rfl rfl)
theorem dX7_worth_112 : decode cX7_worth 112 = .ok (.iconst 0, 1) := dk_3 (dk_at dksX7_worth_3 8 rfl rfl)
theorem dX7_worth_113 : decode cX7_worth 113 = .ok (.ireturn, 1) := dk_172 (dk_at dksX7_worth_3 9 rfl rfl)
theorem dX7_worth_114 : decode cX7_worth 114 = .ok (.iload_n 1, 1) := dk_27 (dk_at dksX7_worth_3 10 rfl rfl)
theorem dX7_worth_115 : decode cX7_worth 115 = .ok (.ifCond .eq 11, 3) := dk_153 0 11 (dk_at dksX7_worth_3 11 rfl rfl)
theorem dX7_worth_118 : decode cX7_worth 118 = .ok (.iload_n 2, 1) := dk_28 (dk_at dksX7_worth_3 14 rfl rfl)
theorem dX7_worth_119 : decode cX7_worth 119 = .ok (.ifCond .eq 7, 3) := dk_153 0 7 (dk_at dksX7_worth_3 15 rfl rfl)
theorem dX7_worth_122 : decode cX7_worth 122 = .ok (.iconst 1, 1) := dk_4 (dk_at dksX7_worth_3 18 rfl rfl)
theorem dX7_worth_123 : decode cX7_worth 123 = .ok (.goto 4, 3) := dk_167 0 4 (dk_at dksX7_worth_3 19 rfl rfl)
theorem dX7_worth_126 : decode cX7_worth 126 = .ok (.iconst 0, 1) := dk_3 (dk_at dksX7_worth_3 22 rfl rfl)
theorem dX7_worth_127 : decode cX7_worth 127 = .ok (.ireturn, 1) := dk_172 (dk_at dksX7_worth_3 23 rfl rfl)
theorem dX7_worth_128 : decode cX7_worth 128 = .ok (.iload_n 1, 1) := dk_27 (dk_at dksX7_worth_4 0 rfl rfl)
theorem dX7_worth_129 : decode cX7_worth 129 = .ok (.ifCond .ne 7, 3) := dk_154 0 7 (dk_at dksX7_worth_4 1 rfl rfl)
theorem dX7_worth_132 : decode cX7_worth 132 = .ok (.iload_n 2, 1) := dk_28 (dk_at dksX7_worth_4 4 rfl rfl)
theorem dX7_worth_133 : decode cX7_worth 133 = .ok (.ifCond .eq 7, 3) := dk_153 0 7 (dk_at dksX7_worth_4 5 rfl rfl)
theorem dX7_worth_136 : decode cX7_worth 136 = .ok (.iconst 1, 1) := dk_4 (dk_at dksX7_worth_4 8 rfl rfl)
theorem dX7_worth_137 : decode cX7_worth 137 = .ok (.goto 4, 3) := dk_167 0 4 (dk_at dksX7_worth_4 9 rfl rfl)
theorem dX7_worth_140 : decode cX7_worth 140 = .ok (.iconst 0, 1) := dk_3 (dk_at dksX7_worth_4 12 rfl rfl)
theorem dX7_worth_141 : decode cX7_worth 141 = .ok (.ireturn, 1) := dk_172 (dk_at dksX7_worth_4 13 rfl rfl)
theorem q121 : (Jvm.Cond.initialized "LoserKeepsTheBoard$Two") ∈ lw_all := lw_g (lw_at lw_m1 17 rfl) rfl
theorem q557 : (Jvm.Cond.instantiable "LoserKeepsTheBoard$Two" (3 : Nat)) ∈ lw_all := lw_g (lw_at lw_m2 213 rfl) rfl
theorem q559 : (Jvm.Cond.instanceMethod ({ cls := "LoserKeepsTheBoard$Two", name := "<init>", desc := "(ILLoserKeepsTheBoard$Node;LLoserKeepsTheBoard$Node;)V" } : Jvm.MethodName)) ∈ lw_all := lw_g (lw_at lw_m2 215 rfl) rfl
theorem q560 : (Jvm.Cond.code ({ cls := "LoserKeepsTheBoard$Two", name := "<init>", desc := "(ILLoserKeepsTheBoard$Node;LLoserKeepsTheBoard$Node;)V" } : Jvm.MethodName) prog_13_method_1_code (4 : Nat) (Option.none : Option Jvm.ClassFile.FieldType)) ∈ lw_all := lw_g (lw_at lw_m2 216 rfl) rfl
theorem q561 : (Jvm.Cond.methodLinkNest "LoserKeepsTheBoard$Two" (1 : Nat) ({ cls := "LoserKeepsTheBoard$Node", name := "<init>", desc := "()V" } : Jvm.MethodName) "LoserKeepsTheBoard") ∈ lw_tbl := lw_at lw_m2 217 rfl
theorem q562 : (Jvm.Cond.fieldLink "LoserKeepsTheBoard$Two" (7 : Nat) "LoserKeepsTheBoard$Two" "sign" "I") ∈ lw_all := lw_g (lw_at lw_m2 218 rfl) rfl
theorem q563 : (Jvm.Cond.fieldLink "LoserKeepsTheBoard$Two" (13 : Nat) "LoserKeepsTheBoard$Two" "a" "LLoserKeepsTheBoard$Node;") ∈ lw_all := lw_g (lw_at lw_m2 219 rfl) rfl
theorem q564 : (Jvm.Cond.fieldLink "LoserKeepsTheBoard$Two" (17 : Nat) "LoserKeepsTheBoard$Two" "b" "LLoserKeepsTheBoard$Node;") ∈ lw_all := lw_g (lw_at lw_m2 220 rfl) rfl
theorem q565 : (Jvm.Cond.laysFinal "LoserKeepsTheBoard$Two" "LoserKeepsTheBoard$Two" "sign" "I") ∈ lw_all := lw_g (lw_at lw_m2 221 rfl) rfl
theorem q566 : (Jvm.Cond.soleField "LoserKeepsTheBoard$Two" "sign") ∈ lw_all := lw_g (lw_at lw_m2 222 rfl) rfl
theorem q567 : (Jvm.Cond.laysFinal "LoserKeepsTheBoard$Two" "LoserKeepsTheBoard$Two" "a" "LLoserKeepsTheBoard$Node;") ∈ lw_all := lw_g (lw_at lw_m2 223 rfl) rfl
theorem q568 : (Jvm.Cond.soleField "LoserKeepsTheBoard$Two" "a") ∈ lw_all := lw_g (lw_at lw_m2 224 rfl) rfl
theorem q569 : (Jvm.Cond.laysFinal "LoserKeepsTheBoard$Two" "LoserKeepsTheBoard$Two" "b" "LLoserKeepsTheBoard$Node;") ∈ lw_all := lw_g (lw_at lw_m2 225 rfl) rfl
theorem q570 : (Jvm.Cond.soleField "LoserKeepsTheBoard$Two" "b") ∈ lw_all := lw_g (lw_at lw_m2 226 rfl) rfl
theorem q571 : (Jvm.Cond.superclass "LoserKeepsTheBoard$Two" "LoserKeepsTheBoard$Node") ∈ lw_all := lw_g (lw_at lw_m2 227 rfl) rfl
theorem q838 : (Jvm.Cond.instanceMethod ({ cls := "LoserKeepsTheBoard$Two", name := "worth", desc := "()I" } : Jvm.MethodName)) ∈ lw_all := lw_g (lw_at lw_m4 14 rfl) rfl
theorem q839 : (Jvm.Cond.code ({ cls := "LoserKeepsTheBoard$Two", name := "worth", desc := "()I" } : Jvm.MethodName) prog_13_method_2_code (3 : Nat) (Option.some Jvm.ClassFile.FieldType.int)) ∈ lw_all := lw_g (lw_at lw_m4 15 rfl) rfl
theorem q840 : (Jvm.Cond.methodLink "LoserKeepsTheBoard$Two" (20 : Nat) ({ cls := "LoserKeepsTheBoard$Node", name := "worth", desc := "()I" } : Jvm.MethodName)) ∈ lw_all := lw_g (lw_at lw_m4 16 rfl) rfl
theorem q841 : (Jvm.Cond.selects "LoserKeepsTheBoard$Two" ({ cls := "LoserKeepsTheBoard$Node", name := "worth", desc := "()I" } : Jvm.MethodName) ({ cls := "LoserKeepsTheBoard$Two", name := "worth", desc := "()I" } : Jvm.MethodName)) ∈ lw_all := lw_g (lw_at lw_m4 17 rfl) rfl
theorem q1746 : (Jvm.Cond.castable "LoserKeepsTheBoard$Two" "LoserKeepsTheBoard$Node") ∈ lw_tbl := lw_at lw_m7 202 rfl
theorem in_X7 : ∀ w ∈ wsX70, w ∈ lw_all := lw_in wsX70 [565, 567, 569] (by decide +kernel) (by decide +kernel)

theorem q337 : (Jvm.Cond.arrayOver (Jvm.ClassFile.FieldType.object "LoserKeepsTheBoard$Node")) ∈ lw_tbl := lw_at lw_m1 233 rfl
set_option maxRecDepth 100000
theorem q516 : (Jvm.Cond.arrayClass Jvm.ClassFile.FieldType.byte) ∈ lw_all := lw_g (lw_at lw_m2 172 rfl) rfl
theorem q577 : (Jvm.Cond.arrayOver (Jvm.ClassFile.FieldType.object "LoserKeepsTheBoard$Player")) ∈ lw_tbl := lw_at lw_m2 233 rfl
theorem q660 : (Jvm.Cond.arrayOver (Jvm.ClassFile.FieldType.array (Jvm.ClassFile.FieldType.object "LoserKeepsTheBoard$Node"))) ∈ lw_tbl := lw_at lw_m3 76 rfl
theorem q662 : (Jvm.Cond.arrayOver (Jvm.ClassFile.FieldType.object "java/lang/String")) ∈ lw_tbl := lw_at lw_m3 78 rfl
theorem q676 : (Jvm.Cond.arrayOver (Jvm.ClassFile.FieldType.array Jvm.ClassFile.FieldType.int)) ∈ lw_tbl := lw_at lw_m3 92 rfl
theorem q678 : (Jvm.Cond.arrayOver (Jvm.ClassFile.FieldType.object "LoserKeepsTheBoard$Sheet")) ∈ lw_tbl := lw_at lw_m3 94 rfl
theorem q688 : (Jvm.Cond.arrayClass Jvm.ClassFile.FieldType.int) ∈ lw_all := lw_g (lw_at lw_m3 104 rfl) rfl
theorem q1191 : (Jvm.Cond.arrayClass Jvm.ClassFile.FieldType.short) ∈ lw_all := lw_g (lw_at lw_m5 127 rfl) rfl
theorem q1392 : (Jvm.Cond.arrayClass Jvm.ClassFile.FieldType.boolean) ∈ lw_all := lw_g (lw_at lw_m6 88 rfl) rfl
theorem q134 : (Jvm.Cond.initialized "java/lang/System") ∈ lw_all := lw_g (lw_at lw_m1 30 rfl) rfl
set_option maxRecDepth 100000
theorem q1227 : (Jvm.Cond.static ({ cls := "java/lang/System", name := "arraycopy", desc := "(Ljava/lang/Object;ILjava/lang/Object;II)V" } : Jvm.MethodName)) ∈ lw_all := lw_g (lw_at lw_m5 163 rfl) rfl
theorem q1228 : (Jvm.Cond.native ({ cls := "java/lang/System", name := "arraycopy", desc := "(Ljava/lang/Object;ILjava/lang/Object;II)V" } : Jvm.MethodName)) ∈ lw_all := lw_g (lw_at lw_m5 164 rfl) rfl
