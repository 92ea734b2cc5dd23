/-! DECODE ROWS BY BYTES: one lemma an opcode; a method's code is cut into short pieces once, and a row reads its own piece alone. -/
set_option maxRecDepth 100000
/-- the code has just these bytes from pc on -/
def DkAt (code : ByteArray) (pc : Nat) (bs : List UInt8) : Prop := ∀ (j : Nat) (b : UInt8), bs[j]? = some b → code.data.toList[pc + j]? = some b
/-- the piece W has the bytes bs from its place j on -/
def dkIn (W : List UInt8) (j : Nat) (bs : List UInt8) : Bool := decide ((W.drop j).take bs.length = bs)
theorem dk_seg {l W T : List UInt8} {o o2 : Nat} (h : l.drop o = W ++ T) (n : Nat) (hn : W.length = n) (ho : o + n = o2) : l.drop o2 = T := by
  subst ho
  rw [← List.drop_drop, h, List.drop_left' hn]
theorem dk_at {code : ByteArray} {W T bs : List UInt8} {o pc : Nat} (h : code.data.toList.drop o = W ++ T) (j : Nat) (hp : o + j = pc) (hw : dkIn W j bs = true) : DkAt code pc bs := by
  subst hp
  intro i b e
  have h1 := of_decide_eq_true hw
  have h2 : i < bs.length := (List.getElem?_eq_some_iff.mp e).1
  have h3 : W[j + i]? = some b := by
    rw [← h1, List.getElem?_take, if_pos h2, List.getElem?_drop] at e
    exact e
  have h4 : j + i < W.length := (List.getElem?_eq_some_iff.mp h3).1
  have h5 : (code.data.toList.drop o)[j + i]? = some b := by
    rw [h, List.getElem?_append_left h4]
    exact h3
  rw [List.getElem?_drop, ← Nat.add_assoc] at h5
  exact h5
theorem dk_u1 {A : ByteArray} {p : Nat} {b : UInt8} (h : A.data.toList[p]? = some b) : (Reader.u1 : Reader DecodeError Nat) A p = .ok (b.toNat, p + 1) := by
  obtain ⟨h1, h2⟩ := List.getElem?_eq_some_iff.mp h
  have h3 : p < A.size := by simpa using h1
  have h4 : A[p]'h3 = b := h2
  have e : (Reader.u1 : Reader DecodeError Nat) A p = (if h : p < A.size then .ok (A[p].toNat, p + 1) else .error (HasTruncated.truncated p)) := by
    show (do if h : p < A.size then do set (p + 1); Pure.pure A[p].toNat else MonadExcept.throw (HasTruncated.truncated p) : Reader DecodeError Nat) A p = _
    by_cases hi : p < A.size
    · rw [dif_pos hi, dif_pos hi]; rfl
    · rw [dif_neg hi, dif_neg hi]; rfl
  rw [e, dif_pos h3, h4]
theorem dk_bind {α β : Type} {r : Reader DecodeError α} {f : α → Reader DecodeError β} {A : ByteArray} {p s : Nat} {a : α} (h : r A p = .ok (a, s)) : (r >>= f) A p = f a A s := by
  show (do let (a, s) ← r A p; f a A s : Except DecodeError (β × Nat)) = _
  rw [h]
  rfl
theorem dk_map {α β : Type} {r : Reader DecodeError α} {g : α → β} {A : ByteArray} {p s : Nat} {a : α} (h : r A p = .ok (a, s)) : (g <$> r) A p = .ok (g a, s) := by
  show (do let (a, s) ← r A p; .ok (g a, s) : Except DecodeError (β × Nat)) = _
  rw [h]
  rfl
theorem dk_u2 {A : ByteArray} {p : Nat} {a b : UInt8} (h : A.data.toList[p]? = some a) (h2 : A.data.toList[p + 1]? = some b) : (Reader.u2 : Reader DecodeError Nat) A p = .ok (a.toNat * 256 + b.toNat, p + 2) := by
  show (Reader.u1 >>= fun hi => Reader.u1 >>= fun lo => Pure.pure (hi * 256 + lo) : Reader DecodeError Nat) A p = _
  rw [dk_bind (dk_u1 h), dk_bind (dk_u1 h2)]
  rfl
theorem dk_of {code : ByteArray} {pc n : Nat} {i : Instr} (h : Decoder.instr pc code pc = .ok (i, pc + n)) : decode code pc = .ok (i, n) := by
  have e : decode code pc = (match Decoder.instr pc code pc with | .error x => .error x | .ok (j, s) => .ok (j, s - pc)) := by
    show (do let (j, s) ← Decoder.instr pc code pc; Pure.pure (j, s - pc) : Except DecodeError (Instr × Nat)) = _
    cases Decoder.instr pc code pc <;> rfl
  rw [e, h]
  show Except.ok (i, pc + n - pc) = _
  rw [Nat.add_sub_cancel_left]
theorem dk_1 {code : ByteArray} {pc : Nat} (h : DkAt code pc [1]) : decode code pc = .ok (.aconst_null, 1) := dk_of ((dk_bind (dk_u1 (h 0 _ rfl))).trans rfl)
theorem dk_2 {code : ByteArray} {pc : Nat} (h : DkAt code pc [2]) : decode code pc = .ok (.iconst (-1), 1) := dk_of ((dk_bind (dk_u1 (h 0 _ rfl))).trans rfl)
theorem dk_3 {code : ByteArray} {pc : Nat} (h : DkAt code pc [3]) : decode code pc = .ok (.iconst 0, 1) := dk_of ((dk_bind (dk_u1 (h 0 _ rfl))).trans rfl)
theorem dk_4 {code : ByteArray} {pc : Nat} (h : DkAt code pc [4]) : decode code pc = .ok (.iconst 1, 1) := dk_of ((dk_bind (dk_u1 (h 0 _ rfl))).trans rfl)
theorem dk_5 {code : ByteArray} {pc : Nat} (h : DkAt code pc [5]) : decode code pc = .ok (.iconst 2, 1) := dk_of ((dk_bind (dk_u1 (h 0 _ rfl))).trans rfl)
theorem dk_6 {code : ByteArray} {pc : Nat} (h : DkAt code pc [6]) : decode code pc = .ok (.iconst 3, 1) := dk_of ((dk_bind (dk_u1 (h 0 _ rfl))).trans rfl)
theorem dk_7 {code : ByteArray} {pc : Nat} (h : DkAt code pc [7]) : decode code pc = .ok (.iconst 4, 1) := dk_of ((dk_bind (dk_u1 (h 0 _ rfl))).trans rfl)
theorem dk_8 {code : ByteArray} {pc : Nat} (h : DkAt code pc [8]) : decode code pc = .ok (.iconst 5, 1) := dk_of ((dk_bind (dk_u1 (h 0 _ rfl))).trans rfl)
theorem dk_9 {code : ByteArray} {pc : Nat} (h : DkAt code pc [9]) : decode code pc = .ok (.lconst 0, 1) := dk_of ((dk_bind (dk_u1 (h 0 _ rfl))).trans rfl)
theorem dk_10 {code : ByteArray} {pc : Nat} (h : DkAt code pc [10]) : decode code pc = .ok (.lconst 1, 1) := dk_of ((dk_bind (dk_u1 (h 0 _ rfl))).trans rfl)
theorem dk_11 {code : ByteArray} {pc : Nat} (h : DkAt code pc [11]) : decode code pc = .ok (.fconst 0, 1) := dk_of ((dk_bind (dk_u1 (h 0 _ rfl))).trans rfl)
theorem dk_14 {code : ByteArray} {pc : Nat} (h : DkAt code pc [14]) : decode code pc = .ok (.dconst 0, 1) := dk_of ((dk_bind (dk_u1 (h 0 _ rfl))).trans rfl)
theorem dk_16 {code : ByteArray} {pc : Nat} (a : UInt8) (h : DkAt code pc [16, a]) : decode code pc = .ok (.bipush (Reader.signed 8 a.toNat), 2) := dk_of ((dk_bind (dk_u1 (h 0 _ rfl))).trans ((dk_bind (dk_map (dk_u1 (h 1 _ rfl)))).trans rfl))
theorem dk_17 {code : ByteArray} {pc : Nat} (a b : UInt8) (h : DkAt code pc [17, a, b]) : decode code pc = .ok (.sipush (Reader.signed 16 (a.toNat * 256 + b.toNat)), 3) := dk_of ((dk_bind (dk_u1 (h 0 _ rfl))).trans ((dk_bind (dk_map (dk_u2 (h 1 _ rfl) (h 2 _ rfl)))).trans rfl))
theorem dk_18 {code : ByteArray} {pc : Nat} (a : UInt8) (h : DkAt code pc [18, a]) : decode code pc = .ok (.ldc a.toNat, 2) := dk_of ((dk_bind (dk_u1 (h 0 _ rfl))).trans ((dk_bind (dk_u1 (h 1 _ rfl))).trans rfl))
theorem dk_19 {code : ByteArray} {pc : Nat} (a b : UInt8) (h : DkAt code pc [19, a, b]) : decode code pc = .ok (.ldc_w (a.toNat * 256 + b.toNat), 3) := dk_of ((dk_bind (dk_u1 (h 0 _ rfl))).trans ((dk_bind (dk_u2 (h 1 _ rfl) (h 2 _ rfl))).trans rfl))
theorem dk_21 {code : ByteArray} {pc : Nat} (a : UInt8) (h : DkAt code pc [21, a]) : decode code pc = .ok (.iload a.toNat, 2) := dk_of ((dk_bind (dk_u1 (h 0 _ rfl))).trans ((dk_bind (dk_u1 (h 1 _ rfl))).trans rfl))
theorem dk_22 {code : ByteArray} {pc : Nat} (a : UInt8) (h : DkAt code pc [22, a]) : decode code pc = .ok (.lload a.toNat, 2) := dk_of ((dk_bind (dk_u1 (h 0 _ rfl))).trans ((dk_bind (dk_u1 (h 1 _ rfl))).trans rfl))
theorem dk_23 {code : ByteArray} {pc : Nat} (a : UInt8) (h : DkAt code pc [23, a]) : decode code pc = .ok (.fload a.toNat, 2) := dk_of ((dk_bind (dk_u1 (h 0 _ rfl))).trans ((dk_bind (dk_u1 (h 1 _ rfl))).trans rfl))
theorem dk_24 {code : ByteArray} {pc : Nat} (a : UInt8) (h : DkAt code pc [24, a]) : decode code pc = .ok (.dload a.toNat, 2) := dk_of ((dk_bind (dk_u1 (h 0 _ rfl))).trans ((dk_bind (dk_u1 (h 1 _ rfl))).trans rfl))
theorem dk_25 {code : ByteArray} {pc : Nat} (a : UInt8) (h : DkAt code pc [25, a]) : decode code pc = .ok (.aload a.toNat, 2) := dk_of ((dk_bind (dk_u1 (h 0 _ rfl))).trans ((dk_bind (dk_u1 (h 1 _ rfl))).trans rfl))
theorem dk_26 {code : ByteArray} {pc : Nat} (h : DkAt code pc [26]) : decode code pc = .ok (.iload_n 0, 1) := dk_of ((dk_bind (dk_u1 (h 0 _ rfl))).trans rfl)
theorem dk_27 {code : ByteArray} {pc : Nat} (h : DkAt code pc [27]) : decode code pc = .ok (.iload_n 1, 1) := dk_of ((dk_bind (dk_u1 (h 0 _ rfl))).trans rfl)
theorem dk_28 {code : ByteArray} {pc : Nat} (h : DkAt code pc [28]) : decode code pc = .ok (.iload_n 2, 1) := dk_of ((dk_bind (dk_u1 (h 0 _ rfl))).trans rfl)
theorem dk_29 {code : ByteArray} {pc : Nat} (h : DkAt code pc [29]) : decode code pc = .ok (.iload_n 3, 1) := dk_of ((dk_bind (dk_u1 (h 0 _ rfl))).trans rfl)
theorem dk_31 {code : ByteArray} {pc : Nat} (h : DkAt code pc [31]) : decode code pc = .ok (.lload_n 1, 1) := dk_of ((dk_bind (dk_u1 (h 0 _ rfl))).trans rfl)
theorem dk_32 {code : ByteArray} {pc : Nat} (h : DkAt code pc [32]) : decode code pc = .ok (.lload_n 2, 1) := dk_of ((dk_bind (dk_u1 (h 0 _ rfl))).trans rfl)
theorem dk_33 {code : ByteArray} {pc : Nat} (h : DkAt code pc [33]) : decode code pc = .ok (.lload_n 3, 1) := dk_of ((dk_bind (dk_u1 (h 0 _ rfl))).trans rfl)
theorem dk_42 {code : ByteArray} {pc : Nat} (h : DkAt code pc [42]) : decode code pc = .ok (.aload_n 0, 1) := dk_of ((dk_bind (dk_u1 (h 0 _ rfl))).trans rfl)
theorem dk_43 {code : ByteArray} {pc : Nat} (h : DkAt code pc [43]) : decode code pc = .ok (.aload_n 1, 1) := dk_of ((dk_bind (dk_u1 (h 0 _ rfl))).trans rfl)
theorem dk_44 {code : ByteArray} {pc : Nat} (h : DkAt code pc [44]) : decode code pc = .ok (.aload_n 2, 1) := dk_of ((dk_bind (dk_u1 (h 0 _ rfl))).trans rfl)
theorem dk_45 {code : ByteArray} {pc : Nat} (h : DkAt code pc [45]) : decode code pc = .ok (.aload_n 3, 1) := dk_of ((dk_bind (dk_u1 (h 0 _ rfl))).trans rfl)
theorem dk_46 {code : ByteArray} {pc : Nat} (h : DkAt code pc [46]) : decode code pc = .ok (.iaload, 1) := dk_of ((dk_bind (dk_u1 (h 0 _ rfl))).trans rfl)
theorem dk_47 {code : ByteArray} {pc : Nat} (h : DkAt code pc [47]) : decode code pc = .ok (.laload, 1) := dk_of ((dk_bind (dk_u1 (h 0 _ rfl))).trans rfl)
theorem dk_49 {code : ByteArray} {pc : Nat} (h : DkAt code pc [49]) : decode code pc = .ok (.daload, 1) := dk_of ((dk_bind (dk_u1 (h 0 _ rfl))).trans rfl)
theorem dk_50 {code : ByteArray} {pc : Nat} (h : DkAt code pc [50]) : decode code pc = .ok (.aaload, 1) := dk_of ((dk_bind (dk_u1 (h 0 _ rfl))).trans rfl)
theorem dk_51 {code : ByteArray} {pc : Nat} (h : DkAt code pc [51]) : decode code pc = .ok (.baload, 1) := dk_of ((dk_bind (dk_u1 (h 0 _ rfl))).trans rfl)
theorem dk_52 {code : ByteArray} {pc : Nat} (h : DkAt code pc [52]) : decode code pc = .ok (.caload, 1) := dk_of ((dk_bind (dk_u1 (h 0 _ rfl))).trans rfl)
theorem dk_54 {code : ByteArray} {pc : Nat} (a : UInt8) (h : DkAt code pc [54, a]) : decode code pc = .ok (.istore a.toNat, 2) := dk_of ((dk_bind (dk_u1 (h 0 _ rfl))).trans ((dk_bind (dk_u1 (h 1 _ rfl))).trans rfl))
theorem dk_55 {code : ByteArray} {pc : Nat} (a : UInt8) (h : DkAt code pc [55, a]) : decode code pc = .ok (.lstore a.toNat, 2) := dk_of ((dk_bind (dk_u1 (h 0 _ rfl))).trans ((dk_bind (dk_u1 (h 1 _ rfl))).trans rfl))
theorem dk_56 {code : ByteArray} {pc : Nat} (a : UInt8) (h : DkAt code pc [56, a]) : decode code pc = .ok (.fstore a.toNat, 2) := dk_of ((dk_bind (dk_u1 (h 0 _ rfl))).trans ((dk_bind (dk_u1 (h 1 _ rfl))).trans rfl))
theorem dk_57 {code : ByteArray} {pc : Nat} (a : UInt8) (h : DkAt code pc [57, a]) : decode code pc = .ok (.dstore a.toNat, 2) := dk_of ((dk_bind (dk_u1 (h 0 _ rfl))).trans ((dk_bind (dk_u1 (h 1 _ rfl))).trans rfl))
theorem dk_58 {code : ByteArray} {pc : Nat} (a : UInt8) (h : DkAt code pc [58, a]) : decode code pc = .ok (.astore a.toNat, 2) := dk_of ((dk_bind (dk_u1 (h 0 _ rfl))).trans ((dk_bind (dk_u1 (h 1 _ rfl))).trans rfl))
theorem dk_59 {code : ByteArray} {pc : Nat} (h : DkAt code pc [59]) : decode code pc = .ok (.istore_n 0, 1) := dk_of ((dk_bind (dk_u1 (h 0 _ rfl))).trans rfl)
theorem dk_60 {code : ByteArray} {pc : Nat} (h : DkAt code pc [60]) : decode code pc = .ok (.istore_n 1, 1) := dk_of ((dk_bind (dk_u1 (h 0 _ rfl))).trans rfl)
theorem dk_61 {code : ByteArray} {pc : Nat} (h : DkAt code pc [61]) : decode code pc = .ok (.istore_n 2, 1) := dk_of ((dk_bind (dk_u1 (h 0 _ rfl))).trans rfl)
theorem dk_62 {code : ByteArray} {pc : Nat} (h : DkAt code pc [62]) : decode code pc = .ok (.istore_n 3, 1) := dk_of ((dk_bind (dk_u1 (h 0 _ rfl))).trans rfl)
theorem dk_65 {code : ByteArray} {pc : Nat} (h : DkAt code pc [65]) : decode code pc = .ok (.lstore_n 2, 1) := dk_of ((dk_bind (dk_u1 (h 0 _ rfl))).trans rfl)
theorem dk_76 {code : ByteArray} {pc : Nat} (h : DkAt code pc [76]) : decode code pc = .ok (.astore_n 1, 1) := dk_of ((dk_bind (dk_u1 (h 0 _ rfl))).trans rfl)
theorem dk_77 {code : ByteArray} {pc : Nat} (h : DkAt code pc [77]) : decode code pc = .ok (.astore_n 2, 1) := dk_of ((dk_bind (dk_u1 (h 0 _ rfl))).trans rfl)
theorem dk_78 {code : ByteArray} {pc : Nat} (h : DkAt code pc [78]) : decode code pc = .ok (.astore_n 3, 1) := dk_of ((dk_bind (dk_u1 (h 0 _ rfl))).trans rfl)
theorem dk_79 {code : ByteArray} {pc : Nat} (h : DkAt code pc [79]) : decode code pc = .ok (.iastore, 1) := dk_of ((dk_bind (dk_u1 (h 0 _ rfl))).trans rfl)
theorem dk_80 {code : ByteArray} {pc : Nat} (h : DkAt code pc [80]) : decode code pc = .ok (.lastore, 1) := dk_of ((dk_bind (dk_u1 (h 0 _ rfl))).trans rfl)
theorem dk_82 {code : ByteArray} {pc : Nat} (h : DkAt code pc [82]) : decode code pc = .ok (.dastore, 1) := dk_of ((dk_bind (dk_u1 (h 0 _ rfl))).trans rfl)
theorem dk_83 {code : ByteArray} {pc : Nat} (h : DkAt code pc [83]) : decode code pc = .ok (.aastore, 1) := dk_of ((dk_bind (dk_u1 (h 0 _ rfl))).trans rfl)
theorem dk_84 {code : ByteArray} {pc : Nat} (h : DkAt code pc [84]) : decode code pc = .ok (.bastore, 1) := dk_of ((dk_bind (dk_u1 (h 0 _ rfl))).trans rfl)
theorem dk_85 {code : ByteArray} {pc : Nat} (h : DkAt code pc [85]) : decode code pc = .ok (.castore, 1) := dk_of ((dk_bind (dk_u1 (h 0 _ rfl))).trans rfl)
theorem dk_87 {code : ByteArray} {pc : Nat} (h : DkAt code pc [87]) : decode code pc = .ok (.pop, 1) := dk_of ((dk_bind (dk_u1 (h 0 _ rfl))).trans rfl)
theorem dk_89 {code : ByteArray} {pc : Nat} (h : DkAt code pc [89]) : decode code pc = .ok (.dup, 1) := dk_of ((dk_bind (dk_u1 (h 0 _ rfl))).trans rfl)
theorem dk_90 {code : ByteArray} {pc : Nat} (h : DkAt code pc [90]) : decode code pc = .ok (.dup_x1, 1) := dk_of ((dk_bind (dk_u1 (h 0 _ rfl))).trans rfl)
theorem dk_92 {code : ByteArray} {pc : Nat} (h : DkAt code pc [92]) : decode code pc = .ok (.dup2, 1) := dk_of ((dk_bind (dk_u1 (h 0 _ rfl))).trans rfl)
theorem dk_96 {code : ByteArray} {pc : Nat} (h : DkAt code pc [96]) : decode code pc = .ok (.iadd, 1) := dk_of ((dk_bind (dk_u1 (h 0 _ rfl))).trans rfl)
theorem dk_97 {code : ByteArray} {pc : Nat} (h : DkAt code pc [97]) : decode code pc = .ok (.ladd, 1) := dk_of ((dk_bind (dk_u1 (h 0 _ rfl))).trans rfl)
theorem dk_100 {code : ByteArray} {pc : Nat} (h : DkAt code pc [100]) : decode code pc = .ok (.isub, 1) := dk_of ((dk_bind (dk_u1 (h 0 _ rfl))).trans rfl)
theorem dk_101 {code : ByteArray} {pc : Nat} (h : DkAt code pc [101]) : decode code pc = .ok (.lsub, 1) := dk_of ((dk_bind (dk_u1 (h 0 _ rfl))).trans rfl)
theorem dk_104 {code : ByteArray} {pc : Nat} (h : DkAt code pc [104]) : decode code pc = .ok (.imul, 1) := dk_of ((dk_bind (dk_u1 (h 0 _ rfl))).trans rfl)
theorem dk_105 {code : ByteArray} {pc : Nat} (h : DkAt code pc [105]) : decode code pc = .ok (.lmul, 1) := dk_of ((dk_bind (dk_u1 (h 0 _ rfl))).trans rfl)
theorem dk_108 {code : ByteArray} {pc : Nat} (h : DkAt code pc [108]) : decode code pc = .ok (.idiv, 1) := dk_of ((dk_bind (dk_u1 (h 0 _ rfl))).trans rfl)
theorem dk_110 {code : ByteArray} {pc : Nat} (h : DkAt code pc [110]) : decode code pc = .ok (.fdiv, 1) := dk_of ((dk_bind (dk_u1 (h 0 _ rfl))).trans rfl)
theorem dk_111 {code : ByteArray} {pc : Nat} (h : DkAt code pc [111]) : decode code pc = .ok (.ddiv, 1) := dk_of ((dk_bind (dk_u1 (h 0 _ rfl))).trans rfl)
theorem dk_112 {code : ByteArray} {pc : Nat} (h : DkAt code pc [112]) : decode code pc = .ok (.irem, 1) := dk_of ((dk_bind (dk_u1 (h 0 _ rfl))).trans rfl)
theorem dk_116 {code : ByteArray} {pc : Nat} (h : DkAt code pc [116]) : decode code pc = .ok (.ineg, 1) := dk_of ((dk_bind (dk_u1 (h 0 _ rfl))).trans rfl)
theorem dk_120 {code : ByteArray} {pc : Nat} (h : DkAt code pc [120]) : decode code pc = .ok (.ishl, 1) := dk_of ((dk_bind (dk_u1 (h 0 _ rfl))).trans rfl)
theorem dk_122 {code : ByteArray} {pc : Nat} (h : DkAt code pc [122]) : decode code pc = .ok (.ishr, 1) := dk_of ((dk_bind (dk_u1 (h 0 _ rfl))).trans rfl)
theorem dk_124 {code : ByteArray} {pc : Nat} (h : DkAt code pc [124]) : decode code pc = .ok (.iushr, 1) := dk_of ((dk_bind (dk_u1 (h 0 _ rfl))).trans rfl)
theorem dk_126 {code : ByteArray} {pc : Nat} (h : DkAt code pc [126]) : decode code pc = .ok (.iand, 1) := dk_of ((dk_bind (dk_u1 (h 0 _ rfl))).trans rfl)
theorem dk_128 {code : ByteArray} {pc : Nat} (h : DkAt code pc [128]) : decode code pc = .ok (.ior, 1) := dk_of ((dk_bind (dk_u1 (h 0 _ rfl))).trans rfl)
theorem dk_132 {code : ByteArray} {pc : Nat} (a b : UInt8) (h : DkAt code pc [132, a, b]) : decode code pc = .ok (.iinc a.toNat (Reader.signed 8 b.toNat), 3) := dk_of ((dk_bind (dk_u1 (h 0 _ rfl))).trans ((dk_bind (dk_u1 (h 1 _ rfl))).trans ((dk_bind (dk_map (dk_u1 (h 2 _ rfl)))).trans rfl)))
theorem dk_133 {code : ByteArray} {pc : Nat} (h : DkAt code pc [133]) : decode code pc = .ok (.i2l, 1) := dk_of ((dk_bind (dk_u1 (h 0 _ rfl))).trans rfl)
theorem dk_134 {code : ByteArray} {pc : Nat} (h : DkAt code pc [134]) : decode code pc = .ok (.i2f, 1) := dk_of ((dk_bind (dk_u1 (h 0 _ rfl))).trans rfl)
theorem dk_135 {code : ByteArray} {pc : Nat} (h : DkAt code pc [135]) : decode code pc = .ok (.i2d, 1) := dk_of ((dk_bind (dk_u1 (h 0 _ rfl))).trans rfl)
theorem dk_141 {code : ByteArray} {pc : Nat} (h : DkAt code pc [141]) : decode code pc = .ok (.f2d, 1) := dk_of ((dk_bind (dk_u1 (h 0 _ rfl))).trans rfl)
theorem dk_145 {code : ByteArray} {pc : Nat} (h : DkAt code pc [145]) : decode code pc = .ok (.i2b, 1) := dk_of ((dk_bind (dk_u1 (h 0 _ rfl))).trans rfl)
theorem dk_146 {code : ByteArray} {pc : Nat} (h : DkAt code pc [146]) : decode code pc = .ok (.i2c, 1) := dk_of ((dk_bind (dk_u1 (h 0 _ rfl))).trans rfl)
theorem dk_148 {code : ByteArray} {pc : Nat} (h : DkAt code pc [148]) : decode code pc = .ok (.lcmp, 1) := dk_of ((dk_bind (dk_u1 (h 0 _ rfl))).trans rfl)
theorem dk_149 {code : ByteArray} {pc : Nat} (h : DkAt code pc [149]) : decode code pc = .ok (.fcmp .l, 1) := dk_of ((dk_bind (dk_u1 (h 0 _ rfl))).trans rfl)
theorem dk_151 {code : ByteArray} {pc : Nat} (h : DkAt code pc [151]) : decode code pc = .ok (.dcmp .l, 1) := dk_of ((dk_bind (dk_u1 (h 0 _ rfl))).trans rfl)
theorem dk_153 {code : ByteArray} {pc : Nat} (a b : UInt8) (h : DkAt code pc [153, a, b]) : decode code pc = .ok (.ifCond .eq (Reader.signed 16 (a.toNat * 256 + b.toNat)), 3) := dk_of ((dk_bind (dk_u1 (h 0 _ rfl))).trans ((dk_bind (dk_map (dk_u2 (h 1 _ rfl) (h 2 _ rfl)))).trans rfl))
theorem dk_154 {code : ByteArray} {pc : Nat} (a b : UInt8) (h : DkAt code pc [154, a, b]) : decode code pc = .ok (.ifCond .ne (Reader.signed 16 (a.toNat * 256 + b.toNat)), 3) := dk_of ((dk_bind (dk_u1 (h 0 _ rfl))).trans ((dk_bind (dk_map (dk_u2 (h 1 _ rfl) (h 2 _ rfl)))).trans rfl))
theorem dk_155 {code : ByteArray} {pc : Nat} (a b : UInt8) (h : DkAt code pc [155, a, b]) : decode code pc = .ok (.ifCond .lt (Reader.signed 16 (a.toNat * 256 + b.toNat)), 3) := dk_of ((dk_bind (dk_u1 (h 0 _ rfl))).trans ((dk_bind (dk_map (dk_u2 (h 1 _ rfl) (h 2 _ rfl)))).trans rfl))
theorem dk_156 {code : ByteArray} {pc : Nat} (a b : UInt8) (h : DkAt code pc [156, a, b]) : decode code pc = .ok (.ifCond .ge (Reader.signed 16 (a.toNat * 256 + b.toNat)), 3) := dk_of ((dk_bind (dk_u1 (h 0 _ rfl))).trans ((dk_bind (dk_map (dk_u2 (h 1 _ rfl) (h 2 _ rfl)))).trans rfl))
theorem dk_157 {code : ByteArray} {pc : Nat} (a b : UInt8) (h : DkAt code pc [157, a, b]) : decode code pc = .ok (.ifCond .gt (Reader.signed 16 (a.toNat * 256 + b.toNat)), 3) := dk_of ((dk_bind (dk_u1 (h 0 _ rfl))).trans ((dk_bind (dk_map (dk_u2 (h 1 _ rfl) (h 2 _ rfl)))).trans rfl))
theorem dk_158 {code : ByteArray} {pc : Nat} (a b : UInt8) (h : DkAt code pc [158, a, b]) : decode code pc = .ok (.ifCond .le (Reader.signed 16 (a.toNat * 256 + b.toNat)), 3) := dk_of ((dk_bind (dk_u1 (h 0 _ rfl))).trans ((dk_bind (dk_map (dk_u2 (h 1 _ rfl) (h 2 _ rfl)))).trans rfl))
theorem dk_159 {code : ByteArray} {pc : Nat} (a b : UInt8) (h : DkAt code pc [159, a, b]) : decode code pc = .ok (.if_icmp .eq (Reader.signed 16 (a.toNat * 256 + b.toNat)), 3) := dk_of ((dk_bind (dk_u1 (h 0 _ rfl))).trans ((dk_bind (dk_map (dk_u2 (h 1 _ rfl) (h 2 _ rfl)))).trans rfl))
theorem dk_160 {code : ByteArray} {pc : Nat} (a b : UInt8) (h : DkAt code pc [160, a, b]) : decode code pc = .ok (.if_icmp .ne (Reader.signed 16 (a.toNat * 256 + b.toNat)), 3) := dk_of ((dk_bind (dk_u1 (h 0 _ rfl))).trans ((dk_bind (dk_map (dk_u2 (h 1 _ rfl) (h 2 _ rfl)))).trans rfl))
theorem dk_161 {code : ByteArray} {pc : Nat} (a b : UInt8) (h : DkAt code pc [161, a, b]) : decode code pc = .ok (.if_icmp .lt (Reader.signed 16 (a.toNat * 256 + b.toNat)), 3) := dk_of ((dk_bind (dk_u1 (h 0 _ rfl))).trans ((dk_bind (dk_map (dk_u2 (h 1 _ rfl) (h 2 _ rfl)))).trans rfl))
theorem dk_162 {code : ByteArray} {pc : Nat} (a b : UInt8) (h : DkAt code pc [162, a, b]) : decode code pc = .ok (.if_icmp .ge (Reader.signed 16 (a.toNat * 256 + b.toNat)), 3) := dk_of ((dk_bind (dk_u1 (h 0 _ rfl))).trans ((dk_bind (dk_map (dk_u2 (h 1 _ rfl) (h 2 _ rfl)))).trans rfl))
theorem dk_163 {code : ByteArray} {pc : Nat} (a b : UInt8) (h : DkAt code pc [163, a, b]) : decode code pc = .ok (.if_icmp .gt (Reader.signed 16 (a.toNat * 256 + b.toNat)), 3) := dk_of ((dk_bind (dk_u1 (h 0 _ rfl))).trans ((dk_bind (dk_map (dk_u2 (h 1 _ rfl) (h 2 _ rfl)))).trans rfl))
theorem dk_164 {code : ByteArray} {pc : Nat} (a b : UInt8) (h : DkAt code pc [164, a, b]) : decode code pc = .ok (.if_icmp .le (Reader.signed 16 (a.toNat * 256 + b.toNat)), 3) := dk_of ((dk_bind (dk_u1 (h 0 _ rfl))).trans ((dk_bind (dk_map (dk_u2 (h 1 _ rfl) (h 2 _ rfl)))).trans rfl))
theorem dk_165 {code : ByteArray} {pc : Nat} (a b : UInt8) (h : DkAt code pc [165, a, b]) : decode code pc = .ok (.if_acmp .eq (Reader.signed 16 (a.toNat * 256 + b.toNat)), 3) := dk_of ((dk_bind (dk_u1 (h 0 _ rfl))).trans ((dk_bind (dk_map (dk_u2 (h 1 _ rfl) (h 2 _ rfl)))).trans rfl))
theorem dk_166 {code : ByteArray} {pc : Nat} (a b : UInt8) (h : DkAt code pc [166, a, b]) : decode code pc = .ok (.if_acmp .ne (Reader.signed 16 (a.toNat * 256 + b.toNat)), 3) := dk_of ((dk_bind (dk_u1 (h 0 _ rfl))).trans ((dk_bind (dk_map (dk_u2 (h 1 _ rfl) (h 2 _ rfl)))).trans rfl))
theorem dk_167 {code : ByteArray} {pc : Nat} (a b : UInt8) (h : DkAt code pc [167, a, b]) : decode code pc = .ok (.goto (Reader.signed 16 (a.toNat * 256 + b.toNat)), 3) := dk_of ((dk_bind (dk_u1 (h 0 _ rfl))).trans ((dk_bind (dk_map (dk_u2 (h 1 _ rfl) (h 2 _ rfl)))).trans rfl))
theorem dk_172 {code : ByteArray} {pc : Nat} (h : DkAt code pc [172]) : decode code pc = .ok (.ireturn, 1) := dk_of ((dk_bind (dk_u1 (h 0 _ rfl))).trans rfl)
theorem dk_173 {code : ByteArray} {pc : Nat} (h : DkAt code pc [173]) : decode code pc = .ok (.lreturn, 1) := dk_of ((dk_bind (dk_u1 (h 0 _ rfl))).trans rfl)
theorem dk_174 {code : ByteArray} {pc : Nat} (h : DkAt code pc [174]) : decode code pc = .ok (.freturn, 1) := dk_of ((dk_bind (dk_u1 (h 0 _ rfl))).trans rfl)
theorem dk_175 {code : ByteArray} {pc : Nat} (h : DkAt code pc [175]) : decode code pc = .ok (.dreturn, 1) := dk_of ((dk_bind (dk_u1 (h 0 _ rfl))).trans rfl)
theorem dk_176 {code : ByteArray} {pc : Nat} (h : DkAt code pc [176]) : decode code pc = .ok (.areturn, 1) := dk_of ((dk_bind (dk_u1 (h 0 _ rfl))).trans rfl)
theorem dk_177 {code : ByteArray} {pc : Nat} (h : DkAt code pc [177]) : decode code pc = .ok (.return_, 1) := dk_of ((dk_bind (dk_u1 (h 0 _ rfl))).trans rfl)
theorem dk_178 {code : ByteArray} {pc : Nat} (a b : UInt8) (h : DkAt code pc [178, a, b]) : decode code pc = .ok (.getstatic (a.toNat * 256 + b.toNat), 3) := dk_of ((dk_bind (dk_u1 (h 0 _ rfl))).trans ((dk_bind (dk_u2 (h 1 _ rfl) (h 2 _ rfl))).trans rfl))
theorem dk_180 {code : ByteArray} {pc : Nat} (a b : UInt8) (h : DkAt code pc [180, a, b]) : decode code pc = .ok (.getfield (a.toNat * 256 + b.toNat), 3) := dk_of ((dk_bind (dk_u1 (h 0 _ rfl))).trans ((dk_bind (dk_u2 (h 1 _ rfl) (h 2 _ rfl))).trans rfl))
theorem dk_181 {code : ByteArray} {pc : Nat} (a b : UInt8) (h : DkAt code pc [181, a, b]) : decode code pc = .ok (.putfield (a.toNat * 256 + b.toNat), 3) := dk_of ((dk_bind (dk_u1 (h 0 _ rfl))).trans ((dk_bind (dk_u2 (h 1 _ rfl) (h 2 _ rfl))).trans rfl))
theorem dk_182 {code : ByteArray} {pc : Nat} (a b : UInt8) (h : DkAt code pc [182, a, b]) : decode code pc = .ok (.invokevirtual (a.toNat * 256 + b.toNat), 3) := dk_of ((dk_bind (dk_u1 (h 0 _ rfl))).trans ((dk_bind (dk_u2 (h 1 _ rfl) (h 2 _ rfl))).trans rfl))
theorem dk_183 {code : ByteArray} {pc : Nat} (a b : UInt8) (h : DkAt code pc [183, a, b]) : decode code pc = .ok (.invokespecial (a.toNat * 256 + b.toNat), 3) := dk_of ((dk_bind (dk_u1 (h 0 _ rfl))).trans ((dk_bind (dk_u2 (h 1 _ rfl) (h 2 _ rfl))).trans rfl))
theorem dk_184 {code : ByteArray} {pc : Nat} (a b : UInt8) (h : DkAt code pc [184, a, b]) : decode code pc = .ok (.invokestatic (a.toNat * 256 + b.toNat), 3) := dk_of ((dk_bind (dk_u1 (h 0 _ rfl))).trans ((dk_bind (dk_u2 (h 1 _ rfl) (h 2 _ rfl))).trans rfl))
theorem dk_187 {code : ByteArray} {pc : Nat} (a b : UInt8) (h : DkAt code pc [187, a, b]) : decode code pc = .ok (.new (a.toNat * 256 + b.toNat), 3) := dk_of ((dk_bind (dk_u1 (h 0 _ rfl))).trans ((dk_bind (dk_u2 (h 1 _ rfl) (h 2 _ rfl))).trans rfl))
theorem dk_188_4 {code : ByteArray} {pc : Nat} (h : DkAt code pc [188, 4]) : decode code pc = .ok (.newarray .boolean, 2) := dk_of ((dk_bind (dk_u1 (h 0 _ rfl))).trans ((dk_bind (dk_u1 (h 1 _ rfl))).trans rfl))
theorem dk_188_5 {code : ByteArray} {pc : Nat} (h : DkAt code pc [188, 5]) : decode code pc = .ok (.newarray .char, 2) := dk_of ((dk_bind (dk_u1 (h 0 _ rfl))).trans ((dk_bind (dk_u1 (h 1 _ rfl))).trans rfl))
theorem dk_188_7 {code : ByteArray} {pc : Nat} (h : DkAt code pc [188, 7]) : decode code pc = .ok (.newarray .double, 2) := dk_of ((dk_bind (dk_u1 (h 0 _ rfl))).trans ((dk_bind (dk_u1 (h 1 _ rfl))).trans rfl))
theorem dk_188_8 {code : ByteArray} {pc : Nat} (h : DkAt code pc [188, 8]) : decode code pc = .ok (.newarray .byte, 2) := dk_of ((dk_bind (dk_u1 (h 0 _ rfl))).trans ((dk_bind (dk_u1 (h 1 _ rfl))).trans rfl))
theorem dk_188_10 {code : ByteArray} {pc : Nat} (h : DkAt code pc [188, 10]) : decode code pc = .ok (.newarray .int, 2) := dk_of ((dk_bind (dk_u1 (h 0 _ rfl))).trans ((dk_bind (dk_u1 (h 1 _ rfl))).trans rfl))
theorem dk_188_11 {code : ByteArray} {pc : Nat} (h : DkAt code pc [188, 11]) : decode code pc = .ok (.newarray .long, 2) := dk_of ((dk_bind (dk_u1 (h 0 _ rfl))).trans ((dk_bind (dk_u1 (h 1 _ rfl))).trans rfl))
theorem dk_189 {code : ByteArray} {pc : Nat} (a b : UInt8) (h : DkAt code pc [189, a, b]) : decode code pc = .ok (.anewarray (a.toNat * 256 + b.toNat), 3) := dk_of ((dk_bind (dk_u1 (h 0 _ rfl))).trans ((dk_bind (dk_u2 (h 1 _ rfl) (h 2 _ rfl))).trans rfl))
theorem dk_190 {code : ByteArray} {pc : Nat} (h : DkAt code pc [190]) : decode code pc = .ok (.arraylength, 1) := dk_of ((dk_bind (dk_u1 (h 0 _ rfl))).trans rfl)
theorem dk_191 {code : ByteArray} {pc : Nat} (h : DkAt code pc [191]) : decode code pc = .ok (.athrow, 1) := dk_of ((dk_bind (dk_u1 (h 0 _ rfl))).trans rfl)
theorem dk_192 {code : ByteArray} {pc : Nat} (a b : UInt8) (h : DkAt code pc [192, a, b]) : decode code pc = .ok (.checkcast (a.toNat * 256 + b.toNat), 3) := dk_of ((dk_bind (dk_u1 (h 0 _ rfl))).trans ((dk_bind (dk_u2 (h 1 _ rfl) (h 2 _ rfl))).trans rfl))
theorem dk_193 {code : ByteArray} {pc : Nat} (a b : UInt8) (h : DkAt code pc [193, a, b]) : decode code pc = .ok (.instanceof (a.toNat * 256 + b.toNat), 3) := dk_of ((dk_bind (dk_u1 (h 0 _ rfl))).trans ((dk_bind (dk_u2 (h 1 _ rfl) (h 2 _ rfl))).trans rfl))
theorem dk_198 {code : ByteArray} {pc : Nat} (a b : UInt8) (h : DkAt code pc [198, a, b]) : decode code pc = .ok (.ifnull (Reader.signed 16 (a.toNat * 256 + b.toNat)), 3) := dk_of ((dk_bind (dk_u1 (h 0 _ rfl))).trans ((dk_bind (dk_map (dk_u2 (h 1 _ rfl) (h 2 _ rfl)))).trans rfl))
theorem dk_199 {code : ByteArray} {pc : Nat} (a b : UInt8) (h : DkAt code pc [199, a, b]) : decode code pc = .ok (.ifnonnull (Reader.signed 16 (a.toNat * 256 + b.toNat)), 3) := dk_of ((dk_bind (dk_u1 (h 0 _ rfl))).trans ((dk_bind (dk_map (dk_u2 (h 1 _ rfl) (h 2 _ rfl)))).trans rfl))

/-! java/util/AbstractCollection -/
def RJ0 : String := "java/util/AbstractCollection"
abbrev cJ0_init : ByteArray := prog_55_method_1_code
def yJ0_init : MethodName := ⟨RJ0, "<init>", "()V"⟩
theorem q93 : (Jvm.Cond.initialized "java/util/AbstractCollection") ∈ lw_all := lw_g (lw_at lw_m1 3 rfl) rfl
theorem q161 : (Jvm.Cond.instanceMethod ({ cls := "java/util/AbstractCollection", name := "<init>", desc := "()V" } : Jvm.MethodName)) ∈ lw_all := lw_g (lw_at lw_m1 71 rfl) rfl
theorem q162 : (Jvm.Cond.code ({ cls := "java/util/AbstractCollection", name := "<init>", desc := "()V" } : Jvm.MethodName) prog_55_method_1_code (1 : Nat) (Option.none : Option Jvm.ClassFile.FieldType)) ∈ lw_all := lw_g (lw_at lw_m1 72 rfl) rfl
theorem q163 : (Jvm.Cond.methodLink "java/util/AbstractCollection" (1 : Nat) ({ cls := "java/lang/Object", name := "<init>", desc := "()V" } : Jvm.MethodName)) ∈ lw_all := lw_g (lw_at lw_m1 73 rfl) rfl
/-! java/util/AbstractList -/
def RJ1 : String := "java/util/AbstractList"
abbrev cJ1_init : ByteArray := prog_56_method_1_code
def yJ1_init : MethodName := ⟨RJ1, "<init>", "()V"⟩
theorem q94 : (Jvm.Cond.initialized "java/util/AbstractList") ∈ lw_all := lw_g (lw_at lw_m1 4 rfl) rfl
theorem q158 : (Jvm.Cond.instanceMethod ({ cls := "java/util/AbstractList", name := "<init>", desc := "()V" } : Jvm.MethodName)) ∈ lw_all := lw_g (lw_at lw_m1 68 rfl) rfl
theorem q159 : (Jvm.Cond.code ({ cls := "java/util/AbstractList", name := "<init>", desc := "()V" } : Jvm.MethodName) prog_56_method_1_code (1 : Nat) (Option.none : Option Jvm.ClassFile.FieldType)) ∈ lw_all := lw_g (lw_at lw_m1 69 rfl) rfl
theorem q160 : (Jvm.Cond.methodLink "java/util/AbstractList" (1 : Nat) ({ cls := "java/util/AbstractCollection", name := "<init>", desc := "()V" } : Jvm.MethodName)) ∈ lw_all := lw_g (lw_at lw_m1 70 rfl) rfl
theorem q170 : (Jvm.Cond.fieldLink "java/util/AbstractList" (7 : Nat) "java/util/AbstractList" "modCount" "I") ∈ lw_all := lw_g (lw_at lw_m1 80 rfl) rfl
theorem q179 : (Jvm.Cond.soleField "java/util/AbstractList" "modCount") ∈ lw_all := lw_g (lw_at lw_m1 89 rfl) rfl
/-! java/lang/Exception -/
def RJ10 : String := "java/lang/Exception"
abbrev cJ10_init : ByteArray := prog_35_method_2_code
def yJ10_init : MethodName := ⟨RJ10, "<init>", "(Ljava/lang/String;)V"⟩
abbrev cJ10_init_2 : ByteArray := prog_35_method_1_code
def yJ10_init_2 : MethodName := ⟨RJ10, "<init>", "()V"⟩
abbrev cJ10_init_3 : ByteArray := prog_35_method_5_code
def yJ10_init_3 : MethodName := ⟨RJ10, "<init>", "(Ljava/lang/String;Ljava/lang/Throwable;ZZ)V"⟩
theorem q105 : (Jvm.Cond.initialized "java/lang/Exception") ∈ lw_all := lw_g (lw_at lw_m1 15 rfl) rfl
theorem q664 : (Jvm.Cond.declares ({ cls := "java/lang/Exception", name := "<init>", desc := "()V" } : Jvm.MethodName)) ∈ lw_tbl := lw_at lw_m3 94 rfl
theorem q665 : (Jvm.Cond.declares ({ cls := "java/lang/Exception", name := "<init>", desc := "(Ljava/lang/String;)V" } : Jvm.MethodName)) ∈ lw_tbl := lw_at lw_m3 95 rfl
theorem q719 : (Jvm.Cond.instanceMethod ({ cls := "java/lang/Exception", name := "<init>", desc := "(Ljava/lang/String;)V" } : Jvm.MethodName)) ∈ lw_all := lw_g (lw_at lw_m3 149 rfl) rfl
theorem q720 : (Jvm.Cond.code ({ cls := "java/lang/Exception", name := "<init>", desc := "(Ljava/lang/String;)V" } : Jvm.MethodName) prog_35_method_2_code (2 : Nat) (Option.none : Option Jvm.ClassFile.FieldType)) ∈ lw_all := lw_g (lw_at lw_m3 150 rfl) rfl
theorem q721 : (Jvm.Cond.methodLink "java/lang/Exception" (7 : Nat) ({ cls := "java/lang/Throwable", name := "<init>", desc := "(Ljava/lang/String;)V" } : Jvm.MethodName)) ∈ lw_all := lw_g (lw_at lw_m3 151 rfl) rfl
theorem q1053 : (Jvm.Cond.instanceMethod ({ cls := "java/lang/Exception", name := "<init>", desc := "()V" } : Jvm.MethodName)) ∈ lw_all := lw_g (lw_at lw_m5 3 rfl) rfl
theorem q1054 : (Jvm.Cond.code ({ cls := "java/lang/Exception", name := "<init>", desc := "()V" } : Jvm.MethodName) prog_35_method_1_code (1 : Nat) (Option.none : Option Jvm.ClassFile.FieldType)) ∈ lw_all := lw_g (lw_at lw_m5 4 rfl) rfl
theorem q1055 : (Jvm.Cond.methodLink "java/lang/Exception" (1 : Nat) ({ cls := "java/lang/Throwable", name := "<init>", desc := "()V" } : Jvm.MethodName)) ∈ lw_all := lw_g (lw_at lw_m5 5 rfl) rfl
theorem q1869 : (Jvm.Cond.instanceMethod ({ cls := "java/lang/Exception", name := "<init>", desc := "(Ljava/lang/String;Ljava/lang/Throwable;ZZ)V" } : Jvm.MethodName)) ∈ lw_all := lw_g (lw_at lw_m8 99 rfl) rfl
theorem q1870 : (Jvm.Cond.code ({ cls := "java/lang/Exception", name := "<init>", desc := "(Ljava/lang/String;Ljava/lang/Throwable;ZZ)V" } : Jvm.MethodName) prog_35_method_5_code (5 : Nat) (Option.none : Option Jvm.ClassFile.FieldType)) ∈ lw_all := lw_g (lw_at lw_m8 100 rfl) rfl
theorem q1871 : (Jvm.Cond.methodLink "java/lang/Exception" (16 : Nat) ({ cls := "java/lang/Throwable", name := "<init>", desc := "(Ljava/lang/String;Ljava/lang/Throwable;ZZ)V" } : Jvm.MethodName)) ∈ lw_all := lw_g (lw_at lw_m8 101 rfl) rfl
/-! java/lang/RuntimeException -/
def RJ11 : String := "java/lang/RuntimeException"
abbrev cJ11_init : ByteArray := prog_44_method_2_code
def yJ11_init : MethodName := ⟨RJ11, "<init>", "(Ljava/lang/String;)V"⟩
abbrev cJ11_init_2 : ByteArray := prog_44_method_1_code
def yJ11_init_2 : MethodName := ⟨RJ11, "<init>", "()V"⟩
theorem q106 : (Jvm.Cond.initialized "java/lang/RuntimeException") ∈ lw_all := lw_g (lw_at lw_m1 16 rfl) rfl
theorem q662 : (Jvm.Cond.declares ({ cls := "java/lang/RuntimeException", name := "<init>", desc := "()V" } : Jvm.MethodName)) ∈ lw_tbl := lw_at lw_m3 92 rfl
theorem q663 : (Jvm.Cond.declares ({ cls := "java/lang/RuntimeException", name := "<init>", desc := "(Ljava/lang/String;)V" } : Jvm.MethodName)) ∈ lw_tbl := lw_at lw_m3 93 rfl
theorem q716 : (Jvm.Cond.instanceMethod ({ cls := "java/lang/RuntimeException", name := "<init>", desc := "(Ljava/lang/String;)V" } : Jvm.MethodName)) ∈ lw_all := lw_g (lw_at lw_m3 146 rfl) rfl
theorem q717 : (Jvm.Cond.code ({ cls := "java/lang/RuntimeException", name := "<init>", desc := "(Ljava/lang/String;)V" } : Jvm.MethodName) prog_44_method_2_code (2 : Nat) (Option.none : Option Jvm.ClassFile.FieldType)) ∈ lw_all := lw_g (lw_at lw_m3 147 rfl) rfl
theorem q718 : (Jvm.Cond.methodLink "java/lang/RuntimeException" (7 : Nat) ({ cls := "java/lang/Exception", name := "<init>", desc := "(Ljava/lang/String;)V" } : Jvm.MethodName)) ∈ lw_all := lw_g (lw_at lw_m3 148 rfl) rfl
theorem q1050 : (Jvm.Cond.instanceMethod ({ cls := "java/lang/RuntimeException", name := "<init>", desc := "()V" } : Jvm.MethodName)) ∈ lw_all := lw_g (lw_at lw_m5 0 rfl) rfl
theorem q1051 : (Jvm.Cond.code ({ cls := "java/lang/RuntimeException", name := "<init>", desc := "()V" } : Jvm.MethodName) prog_44_method_1_code (1 : Nat) (Option.none : Option Jvm.ClassFile.FieldType)) ∈ lw_all := lw_g (lw_at lw_m5 1 rfl) rfl
theorem q1052 : (Jvm.Cond.methodLink "java/lang/RuntimeException" (1 : Nat) ({ cls := "java/lang/Exception", name := "<init>", desc := "()V" } : Jvm.MethodName)) ∈ lw_all := lw_g (lw_at lw_m5 2 rfl) rfl
/-! java/lang/IllegalArgumentException -/
def RJ12 : String := "java/lang/IllegalArgumentException"
def TJ12 : u_T := fun k => match k with
  | 0 => ("java/lang/Throwable", "cause", "Ljava/lang/Throwable;", false)
  | 1 => ("java/lang/Throwable", "stackTrace", "[Ljava/lang/StackTraceElement;", false)
  | 2 => ("java/lang/Throwable", "suppressedExceptions", "Ljava/util/List;", false)
  | 3 => ("java/lang/Throwable", "detailMessage", "Ljava/lang/String;", false)
  | 4 => ("java/lang/Throwable", "backtrace", "Ljava/lang/Object;", false)
  | _ => ("java/lang/Throwable", "depth", "I", false)
def tyJ12 : Nat → FieldType := fun k => match k with
  | 0 => .object "java/lang/Throwable"
  | 1 => .array (.object "java/lang/StackTraceElement")
  | 2 => .object "java/util/List"
  | 3 => .object "java/lang/String"
  | 4 => .object "java/lang/Object"
  | _ => .int
abbrev wsJ120 : List Cond := u_ws RJ12 TJ12 6
theorem nmJ12 : ∀ a, a < 6 → ∀ b, b < 6 → a ≠ b → (TJ12 a).2.1 ≠ (TJ12 b).2.1 := by decide +kernel
theorem tyJ12_ok : ∀ k, k < 6 → parseFieldDescriptor (TJ12 k).2.2.1 = some (tyJ12 k) := by decide +kernel
abbrev cJ12_init : ByteArray := prog_36_method_2_code
def yJ12_init : MethodName := ⟨RJ12, "<init>", "(Ljava/lang/String;)V"⟩
abbrev cJ12_init_2 : ByteArray := prog_36_method_1_code
def yJ12_init_2 : MethodName := ⟨RJ12, "<init>", "()V"⟩
theorem q107 : (Jvm.Cond.initialized "java/lang/IllegalArgumentException") ∈ lw_all := lw_g (lw_at lw_m1 17 rfl) rfl
theorem q660 : (Jvm.Cond.instantiable "java/lang/IllegalArgumentException" (6 : Nat)) ∈ lw_all := lw_g (lw_at lw_m3 90 rfl) rfl
theorem q661 : (Jvm.Cond.castable "java/lang/IllegalArgumentException" "java/lang/IllegalArgumentException") ∈ lw_tbl := lw_at lw_m3 91 rfl
theorem q668 : (Jvm.Cond.selects "java/lang/IllegalArgumentException" ({ cls := "java/lang/Throwable", name := "fillInStackTrace", desc := "(I)Ljava/lang/Throwable;" } : Jvm.MethodName) ({ cls := "java/lang/Throwable", name := "fillInStackTrace", desc := "(I)Ljava/lang/Throwable;" } : Jvm.MethodName)) ∈ lw_all := lw_g (lw_at lw_m3 98 rfl) rfl
theorem q669 : (Jvm.Cond.selects "java/lang/IllegalArgumentException" ({ cls := "java/lang/Throwable", name := "fillInStackTrace", desc := "()Ljava/lang/Throwable;" } : Jvm.MethodName) ({ cls := "java/lang/Throwable", name := "fillInStackTrace", desc := "()Ljava/lang/Throwable;" } : Jvm.MethodName)) ∈ lw_all := lw_g (lw_at lw_m3 99 rfl) rfl
theorem q670 : (Jvm.Cond.lays "java/lang/IllegalArgumentException" "java/lang/Throwable" "cause" "Ljava/lang/Throwable;") ∈ lw_all := lw_g (lw_at lw_m3 100 rfl) rfl
theorem q672 : (Jvm.Cond.lays "java/lang/IllegalArgumentException" "java/lang/Throwable" "stackTrace" "[Ljava/lang/StackTraceElement;") ∈ lw_all := lw_g (lw_at lw_m3 102 rfl) rfl
theorem q674 : (Jvm.Cond.lays "java/lang/IllegalArgumentException" "java/lang/Throwable" "suppressedExceptions" "Ljava/util/List;") ∈ lw_all := lw_g (lw_at lw_m3 104 rfl) rfl
theorem q676 : (Jvm.Cond.lays "java/lang/IllegalArgumentException" "java/lang/Throwable" "detailMessage" "Ljava/lang/String;") ∈ lw_all := lw_g (lw_at lw_m3 106 rfl) rfl
theorem q678 : (Jvm.Cond.lays "java/lang/IllegalArgumentException" "java/lang/Throwable" "backtrace" "Ljava/lang/Object;") ∈ lw_all := lw_g (lw_at lw_m3 108 rfl) rfl
theorem q713 : (Jvm.Cond.instanceMethod ({ cls := "java/lang/IllegalArgumentException", name := "<init>", desc := "(Ljava/lang/String;)V" } : Jvm.MethodName)) ∈ lw_all := lw_g (lw_at lw_m3 143 rfl) rfl
theorem q714 : (Jvm.Cond.code ({ cls := "java/lang/IllegalArgumentException", name := "<init>", desc := "(Ljava/lang/String;)V" } : Jvm.MethodName) prog_36_method_2_code (2 : Nat) (Option.none : Option Jvm.ClassFile.FieldType)) ∈ lw_all := lw_g (lw_at lw_m3 144 rfl) rfl
theorem q715 : (Jvm.Cond.methodLink "java/lang/IllegalArgumentException" (7 : Nat) ({ cls := "java/lang/RuntimeException", name := "<init>", desc := "(Ljava/lang/String;)V" } : Jvm.MethodName)) ∈ lw_all := lw_g (lw_at lw_m3 145 rfl) rfl
theorem q733 : (Jvm.Cond.lays "java/lang/IllegalArgumentException" "java/lang/Throwable" "depth" "I") ∈ lw_all := lw_g (lw_at lw_m3 163 rfl) rfl
theorem q736 : (Jvm.Cond.superclass "java/lang/IllegalArgumentException" "java/lang/RuntimeException") ∈ lw_all := lw_g (lw_at lw_m3 166 rfl) rfl
theorem q999 : (Jvm.Cond.selects "java/lang/IllegalArgumentException" ({ cls := "java/lang/Object", name := "getClass", desc := "()Ljava/lang/Class;" } : Jvm.MethodName) ({ cls := "java/lang/Object", name := "getClass", desc := "()Ljava/lang/Class;" } : Jvm.MethodName)) ∈ lw_all := lw_g (lw_at lw_m4 189 rfl) rfl
theorem q1047 : (Jvm.Cond.instanceMethod ({ cls := "java/lang/IllegalArgumentException", name := "<init>", desc := "()V" } : Jvm.MethodName)) ∈ lw_all := lw_g (lw_at lw_m4 237 rfl) rfl
theorem q1048 : (Jvm.Cond.code ({ cls := "java/lang/IllegalArgumentException", name := "<init>", desc := "()V" } : Jvm.MethodName) prog_36_method_1_code (1 : Nat) (Option.none : Option Jvm.ClassFile.FieldType)) ∈ lw_all := lw_g (lw_at lw_m4 238 rfl) rfl
theorem q1049 : (Jvm.Cond.methodLink "java/lang/IllegalArgumentException" (1 : Nat) ({ cls := "java/lang/RuntimeException", name := "<init>", desc := "()V" } : Jvm.MethodName)) ∈ lw_all := lw_g (lw_at lw_m4 239 rfl) rfl
theorem q2633 : (Jvm.Cond.castable "java/lang/IllegalArgumentException" "java/lang/Object") ∈ lw_tbl := lw_at lw_m11 143 rfl
theorem in_J12 : ∀ w ∈ wsJ120, w ∈ lw_all := lw_in wsJ120 [670, 672, 674, 676, 678, 733] (by decide +kernel) (by decide +kernel)
/-! java/lang/IllegalStateException -/
def RJ13 : String := "java/lang/IllegalStateException"
def TJ13 : u_T := fun k => match k with
  | 0 => ("java/lang/Throwable", "cause", "Ljava/lang/Throwable;", false)
  | 1 => ("java/lang/Throwable", "stackTrace", "[Ljava/lang/StackTraceElement;", false)
  | 2 => ("java/lang/Throwable", "suppressedExceptions", "Ljava/util/List;", false)
  | 3 => ("java/lang/Throwable", "detailMessage", "Ljava/lang/String;", false)
  | 4 => ("java/lang/Throwable", "backtrace", "Ljava/lang/Object;", false)
  | _ => ("java/lang/Throwable", "depth", "I", false)
def tyJ13 : Nat → FieldType := fun k => match k with
  | 0 => .object "java/lang/Throwable"
  | 1 => .array (.object "java/lang/StackTraceElement")
  | 2 => .object "java/util/List"
  | 3 => .object "java/lang/String"
  | 4 => .object "java/lang/Object"
  | _ => .int
abbrev wsJ130 : List Cond := u_ws RJ13 TJ13 6
theorem nmJ13 : ∀ a, a < 6 → ∀ b, b < 6 → a ≠ b → (TJ13 a).2.1 ≠ (TJ13 b).2.1 := by decide +kernel
theorem tyJ13_ok : ∀ k, k < 6 → parseFieldDescriptor (TJ13 k).2.2.1 = some (tyJ13 k) := by decide +kernel
abbrev cJ13_init : ByteArray := prog_37_method_1_code
def yJ13_init : MethodName := ⟨RJ13, "<init>", "()V"⟩
abbrev cJ13_init_2 : ByteArray := prog_37_method_2_code
def yJ13_init_2 : MethodName := ⟨RJ13, "<init>", "(Ljava/lang/String;)V"⟩
theorem q108 : (Jvm.Cond.initialized "java/lang/IllegalStateException") ∈ lw_all := lw_g (lw_at lw_m1 18 rfl) rfl
theorem q695 : (Jvm.Cond.selects "java/lang/IllegalStateException" ({ cls := "java/lang/Throwable", name := "fillInStackTrace", desc := "()Ljava/lang/Throwable;" } : Jvm.MethodName) ({ cls := "java/lang/Throwable", name := "fillInStackTrace", desc := "()Ljava/lang/Throwable;" } : Jvm.MethodName)) ∈ lw_all := lw_g (lw_at lw_m3 125 rfl) rfl
theorem q1000 : (Jvm.Cond.selects "java/lang/IllegalStateException" ({ cls := "java/lang/Object", name := "getClass", desc := "()Ljava/lang/Class;" } : Jvm.MethodName) ({ cls := "java/lang/Object", name := "getClass", desc := "()Ljava/lang/Class;" } : Jvm.MethodName)) ∈ lw_all := lw_g (lw_at lw_m4 190 rfl) rfl
theorem q1061 : (Jvm.Cond.instantiable "java/lang/IllegalStateException" (6 : Nat)) ∈ lw_all := lw_g (lw_at lw_m5 11 rfl) rfl
theorem q1062 : (Jvm.Cond.castable "java/lang/IllegalStateException" "java/lang/IllegalStateException") ∈ lw_tbl := lw_at lw_m5 12 rfl
theorem q1063 : (Jvm.Cond.selects "java/lang/IllegalStateException" ({ cls := "java/lang/Throwable", name := "fillInStackTrace", desc := "(I)Ljava/lang/Throwable;" } : Jvm.MethodName) ({ cls := "java/lang/Throwable", name := "fillInStackTrace", desc := "(I)Ljava/lang/Throwable;" } : Jvm.MethodName)) ∈ lw_all := lw_g (lw_at lw_m5 13 rfl) rfl
theorem q1064 : (Jvm.Cond.lays "java/lang/IllegalStateException" "java/lang/Throwable" "cause" "Ljava/lang/Throwable;") ∈ lw_all := lw_g (lw_at lw_m5 14 rfl) rfl
theorem q1065 : (Jvm.Cond.lays "java/lang/IllegalStateException" "java/lang/Throwable" "stackTrace" "[Ljava/lang/StackTraceElement;") ∈ lw_all := lw_g (lw_at lw_m5 15 rfl) rfl
theorem q1066 : (Jvm.Cond.lays "java/lang/IllegalStateException" "java/lang/Throwable" "suppressedExceptions" "Ljava/util/List;") ∈ lw_all := lw_g (lw_at lw_m5 16 rfl) rfl
theorem q1067 : (Jvm.Cond.lays "java/lang/IllegalStateException" "java/lang/Throwable" "detailMessage" "Ljava/lang/String;") ∈ lw_all := lw_g (lw_at lw_m5 17 rfl) rfl
theorem q1068 : (Jvm.Cond.lays "java/lang/IllegalStateException" "java/lang/Throwable" "backtrace" "Ljava/lang/Object;") ∈ lw_all := lw_g (lw_at lw_m5 18 rfl) rfl
theorem q1070 : (Jvm.Cond.instanceMethod ({ cls := "java/lang/IllegalStateException", name := "<init>", desc := "()V" } : Jvm.MethodName)) ∈ lw_all := lw_g (lw_at lw_m5 20 rfl) rfl
theorem q1071 : (Jvm.Cond.code ({ cls := "java/lang/IllegalStateException", name := "<init>", desc := "()V" } : Jvm.MethodName) prog_37_method_1_code (1 : Nat) (Option.none : Option Jvm.ClassFile.FieldType)) ∈ lw_all := lw_g (lw_at lw_m5 21 rfl) rfl
theorem q1072 : (Jvm.Cond.methodLink "java/lang/IllegalStateException" (1 : Nat) ({ cls := "java/lang/RuntimeException", name := "<init>", desc := "()V" } : Jvm.MethodName)) ∈ lw_all := lw_g (lw_at lw_m5 22 rfl) rfl
theorem q1073 : (Jvm.Cond.lays "java/lang/IllegalStateException" "java/lang/Throwable" "depth" "I") ∈ lw_all := lw_g (lw_at lw_m5 23 rfl) rfl
theorem q1074 : (Jvm.Cond.superclass "java/lang/IllegalStateException" "java/lang/RuntimeException") ∈ lw_all := lw_g (lw_at lw_m5 24 rfl) rfl
theorem q1165 : (Jvm.Cond.instanceMethod ({ cls := "java/lang/IllegalStateException", name := "<init>", desc := "(Ljava/lang/String;)V" } : Jvm.MethodName)) ∈ lw_all := lw_g (lw_at lw_m5 115 rfl) rfl
theorem q1166 : (Jvm.Cond.code ({ cls := "java/lang/IllegalStateException", name := "<init>", desc := "(Ljava/lang/String;)V" } : Jvm.MethodName) prog_37_method_2_code (2 : Nat) (Option.none : Option Jvm.ClassFile.FieldType)) ∈ lw_all := lw_g (lw_at lw_m5 116 rfl) rfl
theorem q1167 : (Jvm.Cond.methodLink "java/lang/IllegalStateException" (7 : Nat) ({ cls := "java/lang/RuntimeException", name := "<init>", desc := "(Ljava/lang/String;)V" } : Jvm.MethodName)) ∈ lw_all := lw_g (lw_at lw_m5 117 rfl) rfl
theorem q2634 : (Jvm.Cond.castable "java/lang/IllegalStateException" "java/lang/Object") ∈ lw_tbl := lw_at lw_m11 144 rfl
theorem in_J13 : ∀ w ∈ wsJ130, w ∈ lw_all := lw_in wsJ130 [1064, 1065, 1066, 1067, 1068, 1073] (by decide +kernel) (by decide +kernel)
/-! java/lang/Record -/
def RJ14 : String := "java/lang/Record"
abbrev cJ14_init : ByteArray := prog_43_method_1_code
def yJ14_init : MethodName := ⟨RJ14, "<init>", "()V"⟩
theorem q109 : (Jvm.Cond.initialized "java/lang/Record") ∈ lw_all := lw_g (lw_at lw_m1 19 rfl) rfl
theorem q869 : (Jvm.Cond.instanceMethod ({ cls := "java/lang/Record", name := "<init>", desc := "()V" } : Jvm.MethodName)) ∈ lw_all := lw_g (lw_at lw_m4 59 rfl) rfl
theorem q870 : (Jvm.Cond.code ({ cls := "java/lang/Record", name := "<init>", desc := "()V" } : Jvm.MethodName) prog_43_method_1_code (1 : Nat) (Option.none : Option Jvm.ClassFile.FieldType)) ∈ lw_all := lw_g (lw_at lw_m4 60 rfl) rfl
theorem q871 : (Jvm.Cond.methodLink "java/lang/Record" (1 : Nat) ({ cls := "java/lang/Object", name := "<init>", desc := "()V" } : Jvm.MethodName)) ∈ lw_all := lw_g (lw_at lw_m4 61 rfl) rfl
/-! jdk/internal/util/ArraysSupport -/
def RJ15 : String := "jdk/internal/util/ArraysSupport"
abbrev cJ15_newLength : ByteArray := prog_70_method_27_code
def yJ15_newLength : MethodName := ⟨RJ15, "newLength", "(III)I"⟩
abbrev cJ15_hugeLength : ByteArray := prog_70_method_28_code
def yJ15_hugeLength : MethodName := ⟨RJ15, "hugeLength", "(II)I"⟩
theorem q112 : (Jvm.Cond.initialized "jdk/internal/util/ArraysSupport") ∈ lw_all := lw_g (lw_at lw_m1 22 rfl) rfl
theorem q500 : (Jvm.Cond.static ({ cls := "jdk/internal/util/ArraysSupport", name := "newLength", desc := "(III)I" } : Jvm.MethodName)) ∈ lw_all := lw_g (lw_at lw_m2 170 rfl) rfl
theorem q501 : (Jvm.Cond.code ({ cls := "jdk/internal/util/ArraysSupport", name := "newLength", desc := "(III)I" } : Jvm.MethodName) prog_70_method_27_code (4 : Nat) (Option.some Jvm.ClassFile.FieldType.int)) ∈ lw_all := lw_g (lw_at lw_m2 171 rfl) rfl
theorem q502 : (Jvm.Cond.methodLink "jdk/internal/util/ArraysSupport" (194 : Nat) ({ cls := "java/lang/Math", name := "max", desc := "(II)I" } : Jvm.MethodName)) ∈ lw_all := lw_g (lw_at lw_m2 172 rfl) rfl
theorem q505 : (Jvm.Cond.constant "jdk/internal/util/ArraysSupport" (200 : Nat) (2147483639 : Int32)) ∈ lw_all := lw_g (lw_at lw_m2 175 rfl) rfl
theorem q506 : (Jvm.Cond.methodLink "jdk/internal/util/ArraysSupport" (201 : Nat) ({ cls := "jdk/internal/util/ArraysSupport", name := "hugeLength", desc := "(II)I" } : Jvm.MethodName)) ∈ lw_all := lw_g (lw_at lw_m2 176 rfl) rfl
theorem q507 : (Jvm.Cond.static ({ cls := "jdk/internal/util/ArraysSupport", name := "hugeLength", desc := "(II)I" } : Jvm.MethodName)) ∈ lw_all := lw_g (lw_at lw_m2 177 rfl) rfl
theorem q508 : (Jvm.Cond.code ({ cls := "jdk/internal/util/ArraysSupport", name := "hugeLength", desc := "(II)I" } : Jvm.MethodName) prog_70_method_28_code (3 : Nat) (Option.some Jvm.ClassFile.FieldType.int)) ∈ lw_all := lw_g (lw_at lw_m2 178 rfl) rfl
/-! java/lang/Math -/
def RJ16 : String := "java/lang/Math"
abbrev cJ16_min : ByteArray := prog_41_method_69_code
def yJ16_min : MethodName := ⟨RJ16, "min", "(II)I"⟩
abbrev cJ16_max : ByteArray := prog_41_method_65_code
def yJ16_max : MethodName := ⟨RJ16, "max", "(II)I"⟩
theorem q113 : (Jvm.Cond.initialized "java/lang/Math") ∈ lw_all := lw_g (lw_at lw_m1 23 rfl) rfl
theorem q434 : (Jvm.Cond.static ({ cls := "java/lang/Math", name := "min", desc := "(II)I" } : Jvm.MethodName)) ∈ lw_all := lw_g (lw_at lw_m2 104 rfl) rfl
theorem q435 : (Jvm.Cond.code ({ cls := "java/lang/Math", name := "min", desc := "(II)I" } : Jvm.MethodName) prog_41_method_69_code (2 : Nat) (Option.some Jvm.ClassFile.FieldType.int)) ∈ lw_all := lw_g (lw_at lw_m2 105 rfl) rfl
theorem q503 : (Jvm.Cond.static ({ cls := "java/lang/Math", name := "max", desc := "(II)I" } : Jvm.MethodName)) ∈ lw_all := lw_g (lw_at lw_m2 173 rfl) rfl
theorem q504 : (Jvm.Cond.code ({ cls := "java/lang/Math", name := "max", desc := "(II)I" } : Jvm.MethodName) prog_41_method_65_code (2 : Nat) (Option.some Jvm.ClassFile.FieldType.int)) ∈ lw_all := lw_g (lw_at lw_m2 174 rfl) rfl
/-! java/util/Arrays -/
def RJ17 : String := "java/util/Arrays"
abbrev cJ17_copyOf : ByteArray := prog_60_method_121_code
def yJ17_copyOf : MethodName := ⟨RJ17, "copyOf", "([BI)[B"⟩
abbrev cJ17_copyOfRange : ByteArray := prog_60_method_132_code
def yJ17_copyOfRange : MethodName := ⟨RJ17, "copyOfRange", "([BII)[B"⟩
abbrev cJ17_copyOfRangeByte : ByteArray := prog_60_method_133_code
def yJ17_copyOfRangeByte : MethodName := ⟨RJ17, "copyOfRangeByte", "([BII)[B"⟩
abbrev cJ17_checkLength : ByteArray := prog_60_method_131_code
def yJ17_checkLength : MethodName := ⟨RJ17, "checkLength", "(II)V"⟩
abbrev cJ17_fill : ByteArray := prog_60_method_110_code
def yJ17_fill : MethodName := ⟨RJ17, "fill", "([BIIB)V"⟩
abbrev cJ17_rangeCheck : ByteArray := prog_60_method_30_code
def yJ17_rangeCheck : MethodName := ⟨RJ17, "rangeCheck", "(III)V"⟩
abbrev cJ17_copyOfRange_2 : ByteArray := prog_60_method_130_code
def yJ17_copyOfRange_2 : MethodName := ⟨RJ17, "copyOfRange", "([Ljava/lang/Object;IILjava/lang/Class;)[Ljava/lang/Object;"⟩
abbrev cJ17_copyOf_2 : ByteArray := prog_60_method_119_code
def yJ17_copyOf_2 : MethodName := ⟨RJ17, "copyOf", "([Ljava/lang/Object;I)[Ljava/lang/Object;"⟩
abbrev cJ17_copyOf_3 : ByteArray := prog_60_method_120_code
def yJ17_copyOf_3 : MethodName := ⟨RJ17, "copyOf", "([Ljava/lang/Object;ILjava/lang/Class;)[Ljava/lang/Object;"⟩
theorem q114 : (Jvm.Cond.initialized "java/util/Arrays") ∈ lw_all := lw_g (lw_at lw_m1 24 rfl) rfl
theorem q511 : (Jvm.Cond.static ({ cls := "java/util/Arrays", name := "copyOf", desc := "([BI)[B" } : Jvm.MethodName)) ∈ lw_all := lw_g (lw_at lw_m2 181 rfl) rfl
theorem q512 : (Jvm.Cond.code ({ cls := "java/util/Arrays", name := "copyOf", desc := "([BI)[B" } : Jvm.MethodName) prog_60_method_121_code (3 : Nat) (Option.some (Jvm.ClassFile.FieldType.array Jvm.ClassFile.FieldType.byte))) ∈ lw_all := lw_g (lw_at lw_m2 182 rfl) rfl
theorem q513 : (Jvm.Cond.methodLink "java/util/Arrays" (310 : Nat) ({ cls := "[B", name := "clone", desc := "()Ljava/lang/Object;" } : Jvm.MethodName)) ∈ lw_all := lw_g (lw_at lw_m2 183 rfl) rfl
theorem q519 : (Jvm.Cond.classLink "java/util/Arrays" (311 : Nat) "[B") ∈ lw_all := lw_g (lw_at lw_m2 189 rfl) rfl
theorem q520 : (Jvm.Cond.methodLink "java/util/Arrays" (304 : Nat) ({ cls := "java/lang/Math", name := "min", desc := "(II)I" } : Jvm.MethodName)) ∈ lw_all := lw_g (lw_at lw_m2 190 rfl) rfl
theorem q521 : (Jvm.Cond.methodLink "java/util/Arrays" (150 : Nat) ({ cls := "java/lang/System", name := "arraycopy", desc := "(Ljava/lang/Object;ILjava/lang/Object;II)V" } : Jvm.MethodName)) ∈ lw_all := lw_g (lw_at lw_m2 191 rfl) rfl
theorem q651 : (Jvm.Cond.static ({ cls := "java/util/Arrays", name := "copyOfRange", desc := "([BII)[B" } : Jvm.MethodName)) ∈ lw_all := lw_g (lw_at lw_m3 81 rfl) rfl
theorem q652 : (Jvm.Cond.code ({ cls := "java/util/Arrays", name := "copyOfRange", desc := "([BII)[B" } : Jvm.MethodName) prog_60_method_132_code (3 : Nat) (Option.some (Jvm.ClassFile.FieldType.array Jvm.ClassFile.FieldType.byte))) ∈ lw_all := lw_g (lw_at lw_m3 82 rfl) rfl
theorem q653 : (Jvm.Cond.methodLink "java/util/Arrays" (339 : Nat) ({ cls := "java/util/Arrays", name := "copyOfRangeByte", desc := "([BII)[B" } : Jvm.MethodName)) ∈ lw_all := lw_g (lw_at lw_m3 83 rfl) rfl
theorem q654 : (Jvm.Cond.static ({ cls := "java/util/Arrays", name := "copyOfRangeByte", desc := "([BII)[B" } : Jvm.MethodName)) ∈ lw_all := lw_g (lw_at lw_m3 84 rfl) rfl
theorem q655 : (Jvm.Cond.code ({ cls := "java/util/Arrays", name := "copyOfRangeByte", desc := "([BII)[B" } : Jvm.MethodName) prog_60_method_133_code (5 : Nat) (Option.some (Jvm.ClassFile.FieldType.array Jvm.ClassFile.FieldType.byte))) ∈ lw_all := lw_g (lw_at lw_m3 85 rfl) rfl
theorem q656 : (Jvm.Cond.methodLink "java/util/Arrays" (343 : Nat) ({ cls := "java/util/Arrays", name := "checkLength", desc := "(II)V" } : Jvm.MethodName)) ∈ lw_all := lw_g (lw_at lw_m3 86 rfl) rfl
theorem q657 : (Jvm.Cond.static ({ cls := "java/util/Arrays", name := "checkLength", desc := "(II)V" } : Jvm.MethodName)) ∈ lw_all := lw_g (lw_at lw_m3 87 rfl) rfl
theorem q658 : (Jvm.Cond.code ({ cls := "java/util/Arrays", name := "checkLength", desc := "(II)V" } : Jvm.MethodName) prog_60_method_131_code (2 : Nat) (Option.none : Option Jvm.ClassFile.FieldType)) ∈ lw_all := lw_g (lw_at lw_m3 88 rfl) rfl
theorem q659 : (Jvm.Cond.classLink "java/util/Arrays" (43 : Nat) "java/lang/IllegalArgumentException") ∈ lw_all := lw_g (lw_at lw_m3 89 rfl) rfl
theorem q706 : (Jvm.Cond.classLink "java/util/Arrays" (45 : Nat) "java/lang/StringBuilder") ∈ lw_all := lw_g (lw_at lw_m3 136 rfl) rfl
theorem q707 : (Jvm.Cond.methodLink "java/util/Arrays" (47 : Nat) ({ cls := "java/lang/StringBuilder", name := "<init>", desc := "()V" } : Jvm.MethodName)) ∈ lw_all := lw_g (lw_at lw_m3 137 rfl) rfl
theorem q708 : (Jvm.Cond.methodLink "java/util/Arrays" (54 : Nat) ({ cls := "java/lang/StringBuilder", name := "append", desc := "(I)Ljava/lang/StringBuilder;" } : Jvm.MethodName)) ∈ lw_all := lw_g (lw_at lw_m3 138 rfl) rfl
theorem q709 : (Jvm.Cond.stringRef "java/util/Arrays" (337 : Nat) " > ") ∈ lw_tbl := lw_at lw_m3 139 rfl
theorem q710 : (Jvm.Cond.methodLink "java/util/Arrays" (50 : Nat) ({ cls := "java/lang/StringBuilder", name := "append", desc := "(Ljava/lang/String;)Ljava/lang/StringBuilder;" } : Jvm.MethodName)) ∈ lw_all := lw_g (lw_at lw_m3 140 rfl) rfl
theorem q711 : (Jvm.Cond.methodLink "java/util/Arrays" (61 : Nat) ({ cls := "java/lang/StringBuilder", name := "toString", desc := "()Ljava/lang/String;" } : Jvm.MethodName)) ∈ lw_all := lw_g (lw_at lw_m3 141 rfl) rfl
theorem q712 : (Jvm.Cond.methodLink "java/util/Arrays" (65 : Nat) ({ cls := "java/lang/IllegalArgumentException", name := "<init>", desc := "(Ljava/lang/String;)V" } : Jvm.MethodName)) ∈ lw_all := lw_g (lw_at lw_m3 142 rfl) rfl
theorem q776 : (Jvm.Cond.static ({ cls := "java/util/Arrays", name := "fill", desc := "([BIIB)V" } : Jvm.MethodName)) ∈ lw_all := lw_g (lw_at lw_m3 206 rfl) rfl
theorem q777 : (Jvm.Cond.code ({ cls := "java/util/Arrays", name := "fill", desc := "([BIIB)V" } : Jvm.MethodName) prog_60_method_110_code (5 : Nat) (Option.none : Option Jvm.ClassFile.FieldType)) ∈ lw_all := lw_g (lw_at lw_m3 207 rfl) rfl
theorem q778 : (Jvm.Cond.methodLink "java/util/Arrays" (13 : Nat) ({ cls := "java/util/Arrays", name := "rangeCheck", desc := "(III)V" } : Jvm.MethodName)) ∈ lw_all := lw_g (lw_at lw_m3 208 rfl) rfl
theorem q779 : (Jvm.Cond.static ({ cls := "java/util/Arrays", name := "rangeCheck", desc := "(III)V" } : Jvm.MethodName)) ∈ lw_all := lw_g (lw_at lw_m3 209 rfl) rfl
theorem q780 : (Jvm.Cond.code ({ cls := "java/util/Arrays", name := "rangeCheck", desc := "(III)V" } : Jvm.MethodName) prog_60_method_30_code (3 : Nat) (Option.none : Option Jvm.ClassFile.FieldType)) ∈ lw_all := lw_g (lw_at lw_m3 210 rfl) rfl
theorem q781 : (Jvm.Cond.stringRef "java/util/Arrays" (48 : Nat) "fromIndex(") ∈ lw_tbl := lw_at lw_m3 211 rfl
theorem q782 : (Jvm.Cond.stringRef "java/util/Arrays" (57 : Nat) ") > toIndex(") ∈ lw_tbl := lw_at lw_m3 212 rfl
theorem q783 : (Jvm.Cond.stringRef "java/util/Arrays" (59 : Nat) ")") ∈ lw_tbl := lw_at lw_m3 213 rfl
theorem q784 : (Jvm.Cond.classLink "java/util/Arrays" (68 : Nat) "java/lang/ArrayIndexOutOfBoundsException") ∈ lw_all := lw_g (lw_at lw_m3 214 rfl) rfl
theorem q795 : (Jvm.Cond.methodLink "java/util/Arrays" (70 : Nat) ({ cls := "java/lang/ArrayIndexOutOfBoundsException", name := "<init>", desc := "(I)V" } : Jvm.MethodName)) ∈ lw_all := lw_g (lw_at lw_m3 225 rfl) rfl
theorem q962 : (Jvm.Cond.static ({ cls := "java/util/Arrays", name := "copyOfRange", desc := "([Ljava/lang/Object;IILjava/lang/Class;)[Ljava/lang/Object;" } : Jvm.MethodName)) ∈ lw_all := lw_g (lw_at lw_m4 152 rfl) rfl
theorem q963 : (Jvm.Cond.code ({ cls := "java/util/Arrays", name := "copyOfRange", desc := "([Ljava/lang/Object;IILjava/lang/Class;)[Ljava/lang/Object;" } : Jvm.MethodName) prog_60_method_130_code (6 : Nat) (Option.some (Jvm.ClassFile.FieldType.array (Jvm.ClassFile.FieldType.object "java/lang/Object")))) ∈ lw_all := lw_g (lw_at lw_m4 153 rfl) rfl
theorem q964 : (Jvm.Cond.classLink "java/util/Arrays" (110 : Nat) "[Ljava/lang/Object;") ∈ lw_all := lw_g (lw_at lw_m4 154 rfl) rfl
theorem q965 : (Jvm.Cond.classLink "java/util/Arrays" (2 : Nat) "java/lang/Object") ∈ lw_all := lw_g (lw_at lw_m4 155 rfl) rfl
theorem q974 : (Jvm.Cond.static ({ cls := "java/util/Arrays", name := "copyOf", desc := "([Ljava/lang/Object;I)[Ljava/lang/Object;" } : Jvm.MethodName)) ∈ lw_all := lw_g (lw_at lw_m4 164 rfl) rfl
theorem q975 : (Jvm.Cond.code ({ cls := "java/util/Arrays", name := "copyOf", desc := "([Ljava/lang/Object;I)[Ljava/lang/Object;" } : Jvm.MethodName) prog_60_method_119_code (2 : Nat) (Option.some (Jvm.ClassFile.FieldType.array (Jvm.ClassFile.FieldType.object "java/lang/Object")))) ∈ lw_all := lw_g (lw_at lw_m4 165 rfl) rfl
theorem q976 : (Jvm.Cond.methodLink "java/util/Arrays" (86 : Nat) ({ cls := "java/lang/Object", name := "getClass", desc := "()Ljava/lang/Class;" } : Jvm.MethodName)) ∈ lw_all := lw_g (lw_at lw_m4 166 rfl) rfl
theorem q1011 : (Jvm.Cond.methodLink "java/util/Arrays" (300 : Nat) ({ cls := "java/util/Arrays", name := "copyOf", desc := "([Ljava/lang/Object;ILjava/lang/Class;)[Ljava/lang/Object;" } : Jvm.MethodName)) ∈ lw_all := lw_g (lw_at lw_m4 201 rfl) rfl
theorem q1012 : (Jvm.Cond.static ({ cls := "java/util/Arrays", name := "copyOf", desc := "([Ljava/lang/Object;ILjava/lang/Class;)[Ljava/lang/Object;" } : Jvm.MethodName)) ∈ lw_all := lw_g (lw_at lw_m4 202 rfl) rfl
theorem q1013 : (Jvm.Cond.code ({ cls := "java/util/Arrays", name := "copyOf", desc := "([Ljava/lang/Object;ILjava/lang/Class;)[Ljava/lang/Object;" } : Jvm.MethodName) prog_60_method_120_code (4 : Nat) (Option.some (Jvm.ClassFile.FieldType.array (Jvm.ClassFile.FieldType.object "java/lang/Object")))) ∈ lw_all := lw_g (lw_at lw_m4 203 rfl) rfl
/-! java/lang/Integer -/
def RJ18 : String := "java/lang/Integer"
abbrev cJ18_stringSize : ByteArray := prog_39_method_13_code
def yJ18_stringSize : MethodName := ⟨RJ18, "stringSize", "(I)I"⟩
abbrev cJ18_getChars : ByteArray := prog_39_method_12_code
def yJ18_getChars : MethodName := ⟨RJ18, "getChars", "(II[B)I"⟩
theorem q117 : (Jvm.Cond.initialized "java/lang/Integer") ∈ lw_all := lw_g (lw_at lw_m1 27 rfl) rfl
theorem q606 : (Jvm.Cond.static ({ cls := "java/lang/Integer", name := "stringSize", desc := "(I)I" } : Jvm.MethodName)) ∈ lw_all := lw_g (lw_at lw_m3 36 rfl) rfl
theorem q607 : (Jvm.Cond.code ({ cls := "java/lang/Integer", name := "stringSize", desc := "(I)I" } : Jvm.MethodName) prog_39_method_13_code (4 : Nat) (Option.some Jvm.ClassFile.FieldType.int)) ∈ lw_all := lw_g (lw_at lw_m3 37 rfl) rfl
theorem q609 : (Jvm.Cond.static ({ cls := "java/lang/Integer", name := "getChars", desc := "(II[B)I" } : Jvm.MethodName)) ∈ lw_all := lw_g (lw_at lw_m3 39 rfl) rfl
theorem q610 : (Jvm.Cond.code ({ cls := "java/lang/Integer", name := "getChars", desc := "(II[B)I" } : Jvm.MethodName) prog_39_method_12_code (7 : Nat) (Option.some Jvm.ClassFile.FieldType.int)) ∈ lw_all := lw_g (lw_at lw_m3 40 rfl) rfl
theorem q611 : (Jvm.Cond.fieldLink "java/lang/Integer" (83 : Nat) "java/lang/Integer" "DigitOnes" "[B") ∈ lw_all := lw_g (lw_at lw_m3 41 rfl) rfl
theorem q612 : (Jvm.Cond.laysStatic "java/lang/Integer" "DigitOnes" "[B") ∈ lw_tbl := lw_at lw_m3 42 rfl
theorem q613 : (Jvm.Cond.fieldLink "java/lang/Integer" (87 : Nat) "java/lang/Integer" "DigitTens" "[B") ∈ lw_all := lw_g (lw_at lw_m3 43 rfl) rfl
theorem q614 : (Jvm.Cond.laysStatic "java/lang/Integer" "DigitTens" "[B") ∈ lw_tbl := lw_at lw_m3 44 rfl
/-! jdk/internal/util/Preconditions -/
def RJ19 : String := "jdk/internal/util/Preconditions"
abbrev cJ19_checkFromToIndex : ByteArray := prog_71_method_12_code
def yJ19_checkFromToIndex : MethodName := ⟨RJ19, "checkFromToIndex", "(IIILjava/util/function/BiFunction;)I"⟩
abbrev cJ19_checkFromIndexSize : ByteArray := prog_71_method_13_code
def yJ19_checkFromIndexSize : MethodName := ⟨RJ19, "checkFromIndexSize", "(IIILjava/util/function/BiFunction;)I"⟩
abbrev cJ19_checkIndex : ByteArray := prog_71_method_11_code
def yJ19_checkIndex : MethodName := ⟨RJ19, "checkIndex", "(IILjava/util/function/BiFunction;)I"⟩
theorem q118 : (Jvm.Cond.initialized "jdk/internal/util/Preconditions") ∈ lw_all := lw_g (lw_at lw_m1 28 rfl) rfl
theorem q542 : (Jvm.Cond.laysStatic "jdk/internal/util/Preconditions" "SIOOBE_FORMATTER" "Ljava/util/function/BiFunction;") ∈ lw_tbl := lw_at lw_m2 212 rfl
theorem q544 : (Jvm.Cond.static ({ cls := "jdk/internal/util/Preconditions", name := "checkFromToIndex", desc := "(IIILjava/util/function/BiFunction;)I" } : Jvm.MethodName)) ∈ lw_all := lw_g (lw_at lw_m2 214 rfl) rfl
theorem q545 : (Jvm.Cond.code ({ cls := "jdk/internal/util/Preconditions", name := "checkFromToIndex", desc := "(IIILjava/util/function/BiFunction;)I" } : Jvm.MethodName) prog_71_method_12_code (4 : Nat) (Option.some Jvm.ClassFile.FieldType.int)) ∈ lw_all := lw_g (lw_at lw_m2 215 rfl) rfl
theorem q590 : (Jvm.Cond.static ({ cls := "jdk/internal/util/Preconditions", name := "checkFromIndexSize", desc := "(IIILjava/util/function/BiFunction;)I" } : Jvm.MethodName)) ∈ lw_all := lw_g (lw_at lw_m3 20 rfl) rfl
theorem q591 : (Jvm.Cond.code ({ cls := "jdk/internal/util/Preconditions", name := "checkFromIndexSize", desc := "(IIILjava/util/function/BiFunction;)I" } : Jvm.MethodName) prog_71_method_13_code (4 : Nat) (Option.some Jvm.ClassFile.FieldType.int)) ∈ lw_all := lw_g (lw_at lw_m3 21 rfl) rfl
theorem q848 : (Jvm.Cond.static ({ cls := "jdk/internal/util/Preconditions", name := "checkIndex", desc := "(IILjava/util/function/BiFunction;)I" } : Jvm.MethodName)) ∈ lw_all := lw_g (lw_at lw_m4 38 rfl) rfl
theorem q849 : (Jvm.Cond.code ({ cls := "jdk/internal/util/Preconditions", name := "checkIndex", desc := "(IILjava/util/function/BiFunction;)I" } : Jvm.MethodName) prog_71_method_11_code (3 : Nat) (Option.some Jvm.ClassFile.FieldType.int)) ∈ lw_all := lw_g (lw_at lw_m4 39 rfl) rfl
/-! java/util/ArrayList -/
def RJ2 : String := "java/util/ArrayList"
def TJ2 : u_T := fun k => match k with
  | 0 => ("java/util/AbstractList", "modCount", "I", false)
  | 1 => ("java/util/ArrayList", "elementData", "[Ljava/lang/Object;", false)
  | _ => ("java/util/ArrayList", "size", "I", false)
def tyJ2 : Nat → FieldType := fun k => match k with
  | 0 => .int
  | 1 => .array (.object "java/lang/Object")
  | _ => .int
abbrev wsJ20 : List Cond := u_ws RJ2 TJ2 3
theorem nmJ2 : ∀ a, a < 3 → ∀ b, b < 3 → a ≠ b → (TJ2 a).2.1 ≠ (TJ2 b).2.1 := by decide +kernel
theorem tyJ2_ok : ∀ k, k < 3 → parseFieldDescriptor (TJ2 k).2.2.1 = some (tyJ2 k) := by decide +kernel
abbrev cJ2_init : ByteArray := prog_58_method_2_code
def yJ2_init : MethodName := ⟨RJ2, "<init>", "()V"⟩
abbrev cJ2_size : ByteArray := prog_58_method_8_code
def yJ2_size : MethodName := ⟨RJ2, "size", "()I"⟩
abbrev cJ2_get : ByteArray := prog_58_method_20_code
def yJ2_get : MethodName := ⟨RJ2, "get", "(I)Ljava/lang/Object;"⟩
abbrev cJ2_elementData : ByteArray := prog_58_method_18_code
def yJ2_elementData : MethodName := ⟨RJ2, "elementData", "(I)Ljava/lang/Object;"⟩
abbrev cJ2_addAll : ByteArray := prog_58_method_41_code
def yJ2_addAll : MethodName := ⟨RJ2, "addAll", "(Ljava/util/Collection;)Z"⟩
abbrev cJ2_toArray : ByteArray := prog_58_method_16_code
def yJ2_toArray : MethodName := ⟨RJ2, "toArray", "()[Ljava/lang/Object;"⟩
abbrev cJ2_grow : ByteArray := prog_58_method_6_code
def yJ2_grow : MethodName := ⟨RJ2, "grow", "(I)[Ljava/lang/Object;"⟩
abbrev cJ2_add : ByteArray := prog_58_method_25_code
def yJ2_add : MethodName := ⟨RJ2, "add", "(Ljava/lang/Object;)Z"⟩
abbrev cJ2_add_2 : ByteArray := prog_58_method_24_code
def yJ2_add_2 : MethodName := ⟨RJ2, "add", "(Ljava/lang/Object;[Ljava/lang/Object;I)V"⟩
abbrev cJ2_grow_2 : ByteArray := prog_58_method_7_code
def yJ2_grow_2 : MethodName := ⟨RJ2, "grow", "()[Ljava/lang/Object;"⟩
abbrev cJ2_iterator : ByteArray := prog_58_method_55_code
def yJ2_iterator : MethodName := ⟨RJ2, "iterator", "()Ljava/util/Iterator;"⟩
theorem q95 : (Jvm.Cond.initialized "java/util/ArrayList") ∈ lw_all := lw_g (lw_at lw_m1 5 rfl) rfl
theorem q153 : (Jvm.Cond.instantiable "java/util/ArrayList" (3 : Nat)) ∈ lw_all := lw_g (lw_at lw_m1 63 rfl) rfl
theorem q155 : (Jvm.Cond.instanceMethod ({ cls := "java/util/ArrayList", name := "<init>", desc := "()V" } : Jvm.MethodName)) ∈ lw_all := lw_g (lw_at lw_m1 65 rfl) rfl
theorem q156 : (Jvm.Cond.code ({ cls := "java/util/ArrayList", name := "<init>", desc := "()V" } : Jvm.MethodName) prog_58_method_2_code (1 : Nat) (Option.none : Option Jvm.ClassFile.FieldType)) ∈ lw_all := lw_g (lw_at lw_m1 66 rfl) rfl
theorem q157 : (Jvm.Cond.methodLink "java/util/ArrayList" (1 : Nat) ({ cls := "java/util/AbstractList", name := "<init>", desc := "()V" } : Jvm.MethodName)) ∈ lw_all := lw_g (lw_at lw_m1 67 rfl) rfl
theorem q164 : (Jvm.Cond.fieldLink "java/util/ArrayList" (39 : Nat) "java/util/ArrayList" "DEFAULTCAPACITY_EMPTY_ELEMENTDATA" "[Ljava/lang/Object;") ∈ lw_all := lw_g (lw_at lw_m1 74 rfl) rfl
theorem q165 : (Jvm.Cond.laysStatic "java/util/ArrayList" "DEFAULTCAPACITY_EMPTY_ELEMENTDATA" "[Ljava/lang/Object;") ∈ lw_tbl := lw_at lw_m1 75 rfl
theorem q166 : (Jvm.Cond.fieldLink "java/util/ArrayList" (9 : Nat) "java/util/ArrayList" "elementData" "[Ljava/lang/Object;") ∈ lw_all := lw_g (lw_at lw_m1 76 rfl) rfl
theorem q169 : (Jvm.Cond.fieldLink "java/util/ArrayList" (48 : Nat) "java/util/ArrayList" "size" "I") ∈ lw_all := lw_g (lw_at lw_m1 79 rfl) rfl
theorem q172 : (Jvm.Cond.sameField "java/util/ArrayList" "java/util/AbstractList" "modCount" "I") ∈ lw_all := lw_g (lw_at lw_m1 82 rfl) rfl
theorem q173 : (Jvm.Cond.fieldLink "java/util/ArrayList" (63 : Nat) "java/util/ArrayList" "modCount" "I") ∈ lw_all := lw_g (lw_at lw_m1 83 rfl) rfl
theorem q174 : (Jvm.Cond.lays "java/util/ArrayList" "java/util/ArrayList" "elementData" "[Ljava/lang/Object;") ∈ lw_all := lw_g (lw_at lw_m1 84 rfl) rfl
theorem q175 : (Jvm.Cond.soleField "java/util/ArrayList" "elementData") ∈ lw_all := lw_g (lw_at lw_m1 85 rfl) rfl
theorem q176 : (Jvm.Cond.lays "java/util/ArrayList" "java/util/ArrayList" "size" "I") ∈ lw_all := lw_g (lw_at lw_m1 86 rfl) rfl
theorem q177 : (Jvm.Cond.soleField "java/util/ArrayList" "size") ∈ lw_all := lw_g (lw_at lw_m1 87 rfl) rfl
theorem q178 : (Jvm.Cond.lays "java/util/ArrayList" "java/util/AbstractList" "modCount" "I") ∈ lw_all := lw_g (lw_at lw_m1 88 rfl) rfl
theorem q180 : (Jvm.Cond.superclass "java/util/ArrayList" "java/util/AbstractList") ∈ lw_all := lw_g (lw_at lw_m1 90 rfl) rfl
theorem q311 : (Jvm.Cond.instanceMethod ({ cls := "java/util/ArrayList", name := "size", desc := "()I" } : Jvm.MethodName)) ∈ lw_all := lw_g (lw_at lw_m1 221 rfl) rfl
theorem q312 : (Jvm.Cond.selects "java/util/ArrayList" ({ cls := "java/util/ArrayList", name := "size", desc := "()I" } : Jvm.MethodName) ({ cls := "java/util/ArrayList", name := "size", desc := "()I" } : Jvm.MethodName)) ∈ lw_all := lw_g (lw_at lw_m1 222 rfl) rfl
theorem q313 : (Jvm.Cond.code ({ cls := "java/util/ArrayList", name := "size", desc := "()I" } : Jvm.MethodName) prog_58_method_8_code (1 : Nat) (Option.some Jvm.ClassFile.FieldType.int)) ∈ lw_all := lw_g (lw_at lw_m1 223 rfl) rfl
theorem q841 : (Jvm.Cond.instanceMethod ({ cls := "java/util/ArrayList", name := "get", desc := "(I)Ljava/lang/Object;" } : Jvm.MethodName)) ∈ lw_all := lw_g (lw_at lw_m4 31 rfl) rfl
theorem q842 : (Jvm.Cond.selects "java/util/ArrayList" ({ cls := "java/util/ArrayList", name := "get", desc := "(I)Ljava/lang/Object;" } : Jvm.MethodName) ({ cls := "java/util/ArrayList", name := "get", desc := "(I)Ljava/lang/Object;" } : Jvm.MethodName)) ∈ lw_all := lw_g (lw_at lw_m4 32 rfl) rfl
theorem q843 : (Jvm.Cond.code ({ cls := "java/util/ArrayList", name := "get", desc := "(I)Ljava/lang/Object;" } : Jvm.MethodName) prog_58_method_20_code (2 : Nat) (Option.some (Jvm.ClassFile.FieldType.object "java/lang/Object"))) ∈ lw_all := lw_g (lw_at lw_m4 33 rfl) rfl
theorem q844 : (Jvm.Cond.methodLink "java/util/ArrayList" (118 : Nat) ({ cls := "java/util/Objects", name := "checkIndex", desc := "(II)I" } : Jvm.MethodName)) ∈ lw_all := lw_g (lw_at lw_m4 34 rfl) rfl
theorem q850 : (Jvm.Cond.methodLink "java/util/ArrayList" (123 : Nat) ({ cls := "java/util/ArrayList", name := "elementData", desc := "(I)Ljava/lang/Object;" } : Jvm.MethodName)) ∈ lw_all := lw_g (lw_at lw_m4 40 rfl) rfl
theorem q851 : (Jvm.Cond.instanceMethod ({ cls := "java/util/ArrayList", name := "elementData", desc := "(I)Ljava/lang/Object;" } : Jvm.MethodName)) ∈ lw_all := lw_g (lw_at lw_m4 41 rfl) rfl
theorem q852 : (Jvm.Cond.selects "java/util/ArrayList" ({ cls := "java/util/ArrayList", name := "elementData", desc := "(I)Ljava/lang/Object;" } : Jvm.MethodName) ({ cls := "java/util/ArrayList", name := "elementData", desc := "(I)Ljava/lang/Object;" } : Jvm.MethodName)) ∈ lw_all := lw_g (lw_at lw_m4 42 rfl) rfl
theorem q853 : (Jvm.Cond.code ({ cls := "java/util/ArrayList", name := "elementData", desc := "(I)Ljava/lang/Object;" } : Jvm.MethodName) prog_58_method_18_code (2 : Nat) (Option.some (Jvm.ClassFile.FieldType.object "java/lang/Object"))) ∈ lw_all := lw_g (lw_at lw_m4 43 rfl) rfl
theorem q943 : (Jvm.Cond.instanceMethod ({ cls := "java/util/ArrayList", name := "addAll", desc := "(Ljava/util/Collection;)Z" } : Jvm.MethodName)) ∈ lw_all := lw_g (lw_at lw_m4 133 rfl) rfl
theorem q944 : (Jvm.Cond.selects "java/util/ArrayList" ({ cls := "java/util/ArrayList", name := "addAll", desc := "(Ljava/util/Collection;)Z" } : Jvm.MethodName) ({ cls := "java/util/ArrayList", name := "addAll", desc := "(Ljava/util/Collection;)Z" } : Jvm.MethodName)) ∈ lw_all := lw_g (lw_at lw_m4 134 rfl) rfl
theorem q945 : (Jvm.Cond.code ({ cls := "java/util/ArrayList", name := "addAll", desc := "(Ljava/util/Collection;)Z" } : Jvm.MethodName) prog_58_method_41_code (6 : Nat) (Option.some Jvm.ClassFile.FieldType.boolean)) ∈ lw_all := lw_g (lw_at lw_m4 135 rfl) rfl
theorem q946 : (Jvm.Cond.interfaceEntry "java/util/ArrayList" (42 : Nat)) ∈ lw_tbl := lw_at lw_m4 136 rfl
theorem q947 : (Jvm.Cond.methodLink "java/util/ArrayList" (42 : Nat) ({ cls := "java/util/Collection", name := "toArray", desc := "()[Ljava/lang/Object;" } : Jvm.MethodName)) ∈ lw_all := lw_g (lw_at lw_m4 137 rfl) rfl
theorem q967 : (Jvm.Cond.castable "java/util/ArrayList" "java/util/Collection") ∈ lw_tbl := lw_at lw_m4 157 rfl
theorem q968 : (Jvm.Cond.selects "java/util/ArrayList" ({ cls := "java/util/Collection", name := "toArray", desc := "()[Ljava/lang/Object;" } : Jvm.MethodName) ({ cls := "java/util/ArrayList", name := "toArray", desc := "()[Ljava/lang/Object;" } : Jvm.MethodName)) ∈ lw_all := lw_g (lw_at lw_m4 158 rfl) rfl
theorem q969 : (Jvm.Cond.unhidden "java/util/ArrayList" "toArray" "()[Ljava/lang/Object;") ∈ lw_tbl := lw_at lw_m4 159 rfl
theorem q970 : (Jvm.Cond.instanceMethod ({ cls := "java/util/ArrayList", name := "toArray", desc := "()[Ljava/lang/Object;" } : Jvm.MethodName)) ∈ lw_all := lw_g (lw_at lw_m4 160 rfl) rfl
theorem q971 : (Jvm.Cond.publicMethod ({ cls := "java/util/ArrayList", name := "toArray", desc := "()[Ljava/lang/Object;" } : Jvm.MethodName)) ∈ lw_tbl := lw_at lw_m4 161 rfl
theorem q972 : (Jvm.Cond.code ({ cls := "java/util/ArrayList", name := "toArray", desc := "()[Ljava/lang/Object;" } : Jvm.MethodName) prog_58_method_16_code (1 : Nat) (Option.some (Jvm.ClassFile.FieldType.array (Jvm.ClassFile.FieldType.object "java/lang/Object")))) ∈ lw_all := lw_g (lw_at lw_m4 162 rfl) rfl
theorem q973 : (Jvm.Cond.methodLink "java/util/ArrayList" (66 : Nat) ({ cls := "java/util/Arrays", name := "copyOf", desc := "([Ljava/lang/Object;I)[Ljava/lang/Object;" } : Jvm.MethodName)) ∈ lw_all := lw_g (lw_at lw_m4 163 rfl) rfl
theorem q1007 : (Jvm.Cond.selects "java/util/ArrayList" ({ cls := "java/lang/Object", name := "getClass", desc := "()Ljava/lang/Class;" } : Jvm.MethodName) ({ cls := "java/lang/Object", name := "getClass", desc := "()Ljava/lang/Class;" } : Jvm.MethodName)) ∈ lw_all := lw_g (lw_at lw_m4 197 rfl) rfl
theorem q1014 : (Jvm.Cond.methodLink "java/util/ArrayList" (69 : Nat) ({ cls := "java/util/ArrayList", name := "grow", desc := "(I)[Ljava/lang/Object;" } : Jvm.MethodName)) ∈ lw_all := lw_g (lw_at lw_m4 204 rfl) rfl
theorem q1015 : (Jvm.Cond.privateMethod ({ cls := "java/util/ArrayList", name := "grow", desc := "(I)[Ljava/lang/Object;" } : Jvm.MethodName)) ∈ lw_tbl := lw_at lw_m4 205 rfl
theorem q1016 : (Jvm.Cond.instanceMethod ({ cls := "java/util/ArrayList", name := "grow", desc := "(I)[Ljava/lang/Object;" } : Jvm.MethodName)) ∈ lw_all := lw_g (lw_at lw_m4 206 rfl) rfl
theorem q1017 : (Jvm.Cond.code ({ cls := "java/util/ArrayList", name := "grow", desc := "(I)[Ljava/lang/Object;" } : Jvm.MethodName) prog_58_method_6_code (4 : Nat) (Option.some (Jvm.ClassFile.FieldType.array (Jvm.ClassFile.FieldType.object "java/lang/Object")))) ∈ lw_all := lw_g (lw_at lw_m4 207 rfl) rfl
theorem q1018 : (Jvm.Cond.methodLink "java/util/ArrayList" (73 : Nat) ({ cls := "jdk/internal/util/ArraysSupport", name := "newLength", desc := "(III)I" } : Jvm.MethodName)) ∈ lw_all := lw_g (lw_at lw_m4 208 rfl) rfl
theorem q1019 : (Jvm.Cond.methodLink "java/util/ArrayList" (79 : Nat) ({ cls := "java/lang/Math", name := "max", desc := "(II)I" } : Jvm.MethodName)) ∈ lw_all := lw_g (lw_at lw_m4 209 rfl) rfl
theorem q1020 : (Jvm.Cond.classLink "java/util/ArrayList" (7 : Nat) "java/lang/Object") ∈ lw_all := lw_g (lw_at lw_m4 210 rfl) rfl
theorem q1021 : (Jvm.Cond.methodLink "java/util/ArrayList" (112 : Nat) ({ cls := "java/lang/System", name := "arraycopy", desc := "(Ljava/lang/Object;ILjava/lang/Object;II)V" } : Jvm.MethodName)) ∈ lw_all := lw_g (lw_at lw_m4 211 rfl) rfl
theorem q1090 : (Jvm.Cond.instanceMethod ({ cls := "java/util/ArrayList", name := "add", desc := "(Ljava/lang/Object;)Z" } : Jvm.MethodName)) ∈ lw_all := lw_g (lw_at lw_m5 40 rfl) rfl
theorem q1091 : (Jvm.Cond.selects "java/util/ArrayList" ({ cls := "java/util/ArrayList", name := "add", desc := "(Ljava/lang/Object;)Z" } : Jvm.MethodName) ({ cls := "java/util/ArrayList", name := "add", desc := "(Ljava/lang/Object;)Z" } : Jvm.MethodName)) ∈ lw_all := lw_g (lw_at lw_m5 41 rfl) rfl
theorem q1092 : (Jvm.Cond.code ({ cls := "java/util/ArrayList", name := "add", desc := "(Ljava/lang/Object;)Z" } : Jvm.MethodName) prog_58_method_25_code (2 : Nat) (Option.some Jvm.ClassFile.FieldType.boolean)) ∈ lw_all := lw_g (lw_at lw_m5 42 rfl) rfl
theorem q1093 : (Jvm.Cond.methodLink "java/util/ArrayList" (131 : Nat) ({ cls := "java/util/ArrayList", name := "add", desc := "(Ljava/lang/Object;[Ljava/lang/Object;I)V" } : Jvm.MethodName)) ∈ lw_all := lw_g (lw_at lw_m5 43 rfl) rfl
theorem q1094 : (Jvm.Cond.privateMethod ({ cls := "java/util/ArrayList", name := "add", desc := "(Ljava/lang/Object;[Ljava/lang/Object;I)V" } : Jvm.MethodName)) ∈ lw_tbl := lw_at lw_m5 44 rfl
theorem q1095 : (Jvm.Cond.instanceMethod ({ cls := "java/util/ArrayList", name := "add", desc := "(Ljava/lang/Object;[Ljava/lang/Object;I)V" } : Jvm.MethodName)) ∈ lw_all := lw_g (lw_at lw_m5 45 rfl) rfl
theorem q1096 : (Jvm.Cond.code ({ cls := "java/util/ArrayList", name := "add", desc := "(Ljava/lang/Object;[Ljava/lang/Object;I)V" } : Jvm.MethodName) prog_58_method_24_code (4 : Nat) (Option.none : Option Jvm.ClassFile.FieldType)) ∈ lw_all := lw_g (lw_at lw_m5 46 rfl) rfl
theorem q1097 : (Jvm.Cond.methodLink "java/util/ArrayList" (129 : Nat) ({ cls := "java/util/ArrayList", name := "grow", desc := "()[Ljava/lang/Object;" } : Jvm.MethodName)) ∈ lw_all := lw_g (lw_at lw_m5 47 rfl) rfl
theorem q1098 : (Jvm.Cond.privateMethod ({ cls := "java/util/ArrayList", name := "grow", desc := "()[Ljava/lang/Object;" } : Jvm.MethodName)) ∈ lw_tbl := lw_at lw_m5 48 rfl
theorem q1099 : (Jvm.Cond.instanceMethod ({ cls := "java/util/ArrayList", name := "grow", desc := "()[Ljava/lang/Object;" } : Jvm.MethodName)) ∈ lw_all := lw_g (lw_at lw_m5 49 rfl) rfl
theorem q1100 : (Jvm.Cond.code ({ cls := "java/util/ArrayList", name := "grow", desc := "()[Ljava/lang/Object;" } : Jvm.MethodName) prog_58_method_7_code (1 : Nat) (Option.some (Jvm.ClassFile.FieldType.array (Jvm.ClassFile.FieldType.object "java/lang/Object")))) ∈ lw_all := lw_g (lw_at lw_m5 50 rfl) rfl
theorem q2015 : (Jvm.Cond.instanceMethod ({ cls := "java/util/ArrayList", name := "iterator", desc := "()Ljava/util/Iterator;" } : Jvm.MethodName)) ∈ lw_all := lw_g (lw_at lw_m9 5 rfl) rfl
theorem q2016 : (Jvm.Cond.selects "java/util/ArrayList" ({ cls := "java/util/ArrayList", name := "iterator", desc := "()Ljava/util/Iterator;" } : Jvm.MethodName) ({ cls := "java/util/ArrayList", name := "iterator", desc := "()Ljava/util/Iterator;" } : Jvm.MethodName)) ∈ lw_all := lw_g (lw_at lw_m9 6 rfl) rfl
theorem q2017 : (Jvm.Cond.code ({ cls := "java/util/ArrayList", name := "iterator", desc := "()Ljava/util/Iterator;" } : Jvm.MethodName) prog_58_method_55_code (1 : Nat) (Option.some (Jvm.ClassFile.FieldType.object "java/util/Iterator"))) ∈ lw_all := lw_g (lw_at lw_m9 7 rfl) rfl
theorem q2018 : (Jvm.Cond.classLink "java/util/ArrayList" (267 : Nat) "java/util/ArrayList$Itr") ∈ lw_all := lw_g (lw_at lw_m9 8 rfl) rfl
theorem q2020 : (Jvm.Cond.methodLink "java/util/ArrayList" (269 : Nat) ({ cls := "java/util/ArrayList$Itr", name := "<init>", desc := "(Ljava/util/ArrayList;)V" } : Jvm.MethodName)) ∈ lw_all := lw_g (lw_at lw_m9 10 rfl) rfl
theorem q2629 : (Jvm.Cond.castable "java/util/ArrayList" "java/lang/Object") ∈ lw_tbl := lw_at lw_m11 139 rfl
theorem in_J2 : ∀ w ∈ wsJ20, w ∈ lw_all := lw_in wsJ20 [178, 174, 176] (by decide +kernel) (by decide +kernel)
/-! java/lang/StringLatin1 -/
def RJ20 : String := "java/lang/StringLatin1"
abbrev cJ20_inflate : ByteArray := prog_48_method_50_code
def yJ20_inflate : MethodName := ⟨RJ20, "inflate", "([BI[BII)V"⟩
abbrev cJ20_fillNull : ByteArray := prog_48_method_48_code
def yJ20_fillNull : MethodName := ⟨RJ20, "fillNull", "([BII)V"⟩
abbrev cJ20_canEncode : ByteArray := prog_48_method_3_code
def yJ20_canEncode : MethodName := ⟨RJ20, "canEncode", "(C)Z"⟩
abbrev cJ20_indexOf : ByteArray := prog_48_method_22_code
def yJ20_indexOf : MethodName := ⟨RJ20, "indexOf", "([BIII)I"⟩
abbrev cJ20_canEncode_2 : ByteArray := prog_48_method_4_code
def yJ20_canEncode_2 : MethodName := ⟨RJ20, "canEncode", "(I)Z"⟩
abbrev cJ20_indexOfChar : ByteArray := prog_48_method_23_code
def yJ20_indexOfChar : MethodName := ⟨RJ20, "indexOfChar", "([BIII)I"⟩
abbrev cJ20_charAt : ByteArray := prog_48_method_2_code
def yJ20_charAt : MethodName := ⟨RJ20, "charAt", "([BI)C"⟩
theorem q119 : (Jvm.Cond.initialized "java/lang/StringLatin1") ∈ lw_all := lw_g (lw_at lw_m1 29 rfl) rfl
theorem q578 : (Jvm.Cond.static ({ cls := "java/lang/StringLatin1", name := "inflate", desc := "([BI[BII)V" } : Jvm.MethodName)) ∈ lw_all := lw_g (lw_at lw_m3 8 rfl) rfl
theorem q579 : (Jvm.Cond.code ({ cls := "java/lang/StringLatin1", name := "inflate", desc := "([BI[BII)V" } : Jvm.MethodName) prog_48_method_50_code (5 : Nat) (Option.none : Option Jvm.ClassFile.FieldType)) ∈ lw_all := lw_g (lw_at lw_m3 9 rfl) rfl
theorem q580 : (Jvm.Cond.methodLink "java/lang/StringLatin1" (240 : Nat) ({ cls := "java/lang/StringUTF16", name := "inflate", desc := "([BI[BII)V" } : Jvm.MethodName)) ∈ lw_all := lw_g (lw_at lw_m3 10 rfl) rfl
theorem q773 : (Jvm.Cond.static ({ cls := "java/lang/StringLatin1", name := "fillNull", desc := "([BII)V" } : Jvm.MethodName)) ∈ lw_all := lw_g (lw_at lw_m3 203 rfl) rfl
theorem q774 : (Jvm.Cond.code ({ cls := "java/lang/StringLatin1", name := "fillNull", desc := "([BII)V" } : Jvm.MethodName) prog_48_method_48_code (3 : Nat) (Option.none : Option Jvm.ClassFile.FieldType)) ∈ lw_all := lw_g (lw_at lw_m3 204 rfl) rfl
theorem q775 : (Jvm.Cond.methodLink "java/lang/StringLatin1" (236 : Nat) ({ cls := "java/util/Arrays", name := "fill", desc := "([BIIB)V" } : Jvm.MethodName)) ∈ lw_all := lw_g (lw_at lw_m3 205 rfl) rfl
theorem q921 : (Jvm.Cond.static ({ cls := "java/lang/StringLatin1", name := "canEncode", desc := "(C)Z" } : Jvm.MethodName)) ∈ lw_all := lw_g (lw_at lw_m4 111 rfl) rfl
theorem q922 : (Jvm.Cond.code ({ cls := "java/lang/StringLatin1", name := "canEncode", desc := "(C)Z" } : Jvm.MethodName) prog_48_method_3_code (1 : Nat) (Option.some Jvm.ClassFile.FieldType.boolean)) ∈ lw_all := lw_g (lw_at lw_m4 112 rfl) rfl
theorem q1816 : (Jvm.Cond.static ({ cls := "java/lang/StringLatin1", name := "indexOf", desc := "([BIII)I" } : Jvm.MethodName)) ∈ lw_all := lw_g (lw_at lw_m8 46 rfl) rfl
theorem q1817 : (Jvm.Cond.code ({ cls := "java/lang/StringLatin1", name := "indexOf", desc := "([BIII)I" } : Jvm.MethodName) prog_48_method_22_code (4 : Nat) (Option.some Jvm.ClassFile.FieldType.int)) ∈ lw_all := lw_g (lw_at lw_m8 47 rfl) rfl
theorem q1818 : (Jvm.Cond.methodLink "java/lang/StringLatin1" (88 : Nat) ({ cls := "java/lang/StringLatin1", name := "canEncode", desc := "(I)Z" } : Jvm.MethodName)) ∈ lw_all := lw_g (lw_at lw_m8 48 rfl) rfl
theorem q1819 : (Jvm.Cond.static ({ cls := "java/lang/StringLatin1", name := "canEncode", desc := "(I)Z" } : Jvm.MethodName)) ∈ lw_all := lw_g (lw_at lw_m8 49 rfl) rfl
theorem q1820 : (Jvm.Cond.code ({ cls := "java/lang/StringLatin1", name := "canEncode", desc := "(I)Z" } : Jvm.MethodName) prog_48_method_4_code (1 : Nat) (Option.some Jvm.ClassFile.FieldType.boolean)) ∈ lw_all := lw_g (lw_at lw_m8 50 rfl) rfl
theorem q1821 : (Jvm.Cond.methodLink "java/lang/StringLatin1" (92 : Nat) ({ cls := "java/lang/Math", name := "max", desc := "(II)I" } : Jvm.MethodName)) ∈ lw_all := lw_g (lw_at lw_m8 51 rfl) rfl
theorem q1822 : (Jvm.Cond.methodLink "java/lang/StringLatin1" (38 : Nat) ({ cls := "java/lang/Math", name := "min", desc := "(II)I" } : Jvm.MethodName)) ∈ lw_all := lw_g (lw_at lw_m8 52 rfl) rfl
theorem q1823 : (Jvm.Cond.methodLink "java/lang/StringLatin1" (95 : Nat) ({ cls := "java/lang/StringLatin1", name := "indexOfChar", desc := "([BIII)I" } : Jvm.MethodName)) ∈ lw_all := lw_g (lw_at lw_m8 53 rfl) rfl
theorem q1824 : (Jvm.Cond.static ({ cls := "java/lang/StringLatin1", name := "indexOfChar", desc := "([BIII)I" } : Jvm.MethodName)) ∈ lw_all := lw_g (lw_at lw_m8 54 rfl) rfl
theorem q1825 : (Jvm.Cond.code ({ cls := "java/lang/StringLatin1", name := "indexOfChar", desc := "([BIII)I" } : Jvm.MethodName) prog_48_method_23_code (6 : Nat) (Option.some Jvm.ClassFile.FieldType.int)) ∈ lw_all := lw_g (lw_at lw_m8 55 rfl) rfl
theorem q1899 : (Jvm.Cond.static ({ cls := "java/lang/StringLatin1", name := "charAt", desc := "([BI)C" } : Jvm.MethodName)) ∈ lw_all := lw_g (lw_at lw_m8 129 rfl) rfl
theorem q1900 : (Jvm.Cond.code ({ cls := "java/lang/StringLatin1", name := "charAt", desc := "([BI)C" } : Jvm.MethodName) prog_48_method_2_code (2 : Nat) (Option.some Jvm.ClassFile.FieldType.char)) ∈ lw_all := lw_g (lw_at lw_m8 130 rfl) rfl
theorem q1901 : (Jvm.Cond.methodLink "java/lang/StringLatin1" (9 : Nat) ({ cls := "java/lang/String", name := "checkIndex", desc := "(II)V" } : Jvm.MethodName)) ∈ lw_all := lw_g (lw_at lw_m8 131 rfl) rfl
/-! java/util/NoSuchElementException -/
def RJ21 : String := "java/util/NoSuchElementException"
def TJ21 : u_T := fun k => match k with
  | 0 => ("java/lang/Throwable", "cause", "Ljava/lang/Throwable;", false)
  | 1 => ("java/lang/Throwable", "stackTrace", "[Ljava/lang/StackTraceElement;", false)
  | 2 => ("java/lang/Throwable", "suppressedExceptions", "Ljava/util/List;", false)
  | 3 => ("java/lang/Throwable", "detailMessage", "Ljava/lang/String;", false)
  | 4 => ("java/lang/Throwable", "backtrace", "Ljava/lang/Object;", false)
  | _ => ("java/lang/Throwable", "depth", "I", false)
def tyJ21 : Nat → FieldType := fun k => match k with
  | 0 => .object "java/lang/Throwable"
  | 1 => .array (.object "java/lang/StackTraceElement")
  | 2 => .object "java/util/List"
  | 3 => .object "java/lang/String"
  | 4 => .object "java/lang/Object"
  | _ => .int
abbrev wsJ210 : List Cond := u_ws RJ21 TJ21 6
theorem nmJ21 : ∀ a, a < 6 → ∀ b, b < 6 → a ≠ b → (TJ21 a).2.1 ≠ (TJ21 b).2.1 := by decide +kernel
theorem tyJ21_ok : ∀ k, k < 6 → parseFieldDescriptor (TJ21 k).2.2.1 = some (tyJ21 k) := by decide +kernel
abbrev cJ21_init : ByteArray := prog_65_method_1_code
def yJ21_init : MethodName := ⟨RJ21, "<init>", "()V"⟩
theorem q120 : (Jvm.Cond.initialized "java/util/NoSuchElementException") ∈ lw_all := lw_g (lw_at lw_m1 30 rfl) rfl
theorem q699 : (Jvm.Cond.selects "java/util/NoSuchElementException" ({ cls := "java/lang/Throwable", name := "fillInStackTrace", desc := "()Ljava/lang/Throwable;" } : Jvm.MethodName) ({ cls := "java/lang/Throwable", name := "fillInStackTrace", desc := "()Ljava/lang/Throwable;" } : Jvm.MethodName)) ∈ lw_all := lw_g (lw_at lw_m3 129 rfl) rfl
theorem q1009 : (Jvm.Cond.selects "java/util/NoSuchElementException" ({ cls := "java/lang/Object", name := "getClass", desc := "()Ljava/lang/Class;" } : Jvm.MethodName) ({ cls := "java/lang/Object", name := "getClass", desc := "()Ljava/lang/Class;" } : Jvm.MethodName)) ∈ lw_all := lw_g (lw_at lw_m4 199 rfl) rfl
theorem q1135 : (Jvm.Cond.instantiable "java/util/NoSuchElementException" (6 : Nat)) ∈ lw_all := lw_g (lw_at lw_m5 85 rfl) rfl
theorem q1136 : (Jvm.Cond.castable "java/util/NoSuchElementException" "java/util/NoSuchElementException") ∈ lw_tbl := lw_at lw_m5 86 rfl
theorem q1137 : (Jvm.Cond.selects "java/util/NoSuchElementException" ({ cls := "java/lang/Throwable", name := "fillInStackTrace", desc := "(I)Ljava/lang/Throwable;" } : Jvm.MethodName) ({ cls := "java/lang/Throwable", name := "fillInStackTrace", desc := "(I)Ljava/lang/Throwable;" } : Jvm.MethodName)) ∈ lw_all := lw_g (lw_at lw_m5 87 rfl) rfl
theorem q1138 : (Jvm.Cond.lays "java/util/NoSuchElementException" "java/lang/Throwable" "cause" "Ljava/lang/Throwable;") ∈ lw_all := lw_g (lw_at lw_m5 88 rfl) rfl
theorem q1139 : (Jvm.Cond.lays "java/util/NoSuchElementException" "java/lang/Throwable" "stackTrace" "[Ljava/lang/StackTraceElement;") ∈ lw_all := lw_g (lw_at lw_m5 89 rfl) rfl
theorem q1140 : (Jvm.Cond.lays "java/util/NoSuchElementException" "java/lang/Throwable" "suppressedExceptions" "Ljava/util/List;") ∈ lw_all := lw_g (lw_at lw_m5 90 rfl) rfl
theorem q1141 : (Jvm.Cond.lays "java/util/NoSuchElementException" "java/lang/Throwable" "detailMessage" "Ljava/lang/String;") ∈ lw_all := lw_g (lw_at lw_m5 91 rfl) rfl
theorem q1142 : (Jvm.Cond.lays "java/util/NoSuchElementException" "java/lang/Throwable" "backtrace" "Ljava/lang/Object;") ∈ lw_all := lw_g (lw_at lw_m5 92 rfl) rfl
theorem q1144 : (Jvm.Cond.instanceMethod ({ cls := "java/util/NoSuchElementException", name := "<init>", desc := "()V" } : Jvm.MethodName)) ∈ lw_all := lw_g (lw_at lw_m5 94 rfl) rfl
theorem q1145 : (Jvm.Cond.code ({ cls := "java/util/NoSuchElementException", name := "<init>", desc := "()V" } : Jvm.MethodName) prog_65_method_1_code (1 : Nat) (Option.none : Option Jvm.ClassFile.FieldType)) ∈ lw_all := lw_g (lw_at lw_m5 95 rfl) rfl
theorem q1146 : (Jvm.Cond.methodLink "java/util/NoSuchElementException" (1 : Nat) ({ cls := "java/lang/RuntimeException", name := "<init>", desc := "()V" } : Jvm.MethodName)) ∈ lw_all := lw_g (lw_at lw_m5 96 rfl) rfl
theorem q1147 : (Jvm.Cond.lays "java/util/NoSuchElementException" "java/lang/Throwable" "depth" "I") ∈ lw_all := lw_g (lw_at lw_m5 97 rfl) rfl
theorem q1148 : (Jvm.Cond.superclass "java/util/NoSuchElementException" "java/lang/RuntimeException") ∈ lw_all := lw_g (lw_at lw_m5 98 rfl) rfl
theorem q2638 : (Jvm.Cond.castable "java/util/NoSuchElementException" "java/lang/Object") ∈ lw_tbl := lw_at lw_m11 148 rfl
theorem in_J21 : ∀ w ∈ wsJ210, w ∈ lw_all := lw_in wsJ210 [1138, 1139, 1140, 1141, 1142, 1147] (by decide +kernel) (by decide +kernel)
/-! java/lang/IndexOutOfBoundsException -/
def RJ22 : String := "java/lang/IndexOutOfBoundsException"
def TJ22 : u_T := fun k => match k with
  | 0 => ("java/lang/Throwable", "cause", "Ljava/lang/Throwable;", false)
  | 1 => ("java/lang/Throwable", "stackTrace", "[Ljava/lang/StackTraceElement;", false)
  | 2 => ("java/lang/Throwable", "suppressedExceptions", "Ljava/util/List;", false)
  | 3 => ("java/lang/Throwable", "detailMessage", "Ljava/lang/String;", false)
  | 4 => ("java/lang/Throwable", "backtrace", "Ljava/lang/Object;", false)
  | _ => ("java/lang/Throwable", "depth", "I", false)
def tyJ22 : Nat → FieldType := fun k => match k with
  | 0 => .object "java/lang/Throwable"
  | 1 => .array (.object "java/lang/StackTraceElement")
  | 2 => .object "java/util/List"
  | 3 => .object "java/lang/String"
  | 4 => .object "java/lang/Object"
  | _ => .int
abbrev wsJ220 : List Cond := u_ws RJ22 TJ22 6
theorem nmJ22 : ∀ a, a < 6 → ∀ b, b < 6 → a ≠ b → (TJ22 a).2.1 ≠ (TJ22 b).2.1 := by decide +kernel
theorem tyJ22_ok : ∀ k, k < 6 → parseFieldDescriptor (TJ22 k).2.2.1 = some (tyJ22 k) := by decide +kernel
abbrev cJ22_init : ByteArray := prog_38_method_2_code
def yJ22_init : MethodName := ⟨RJ22, "<init>", "(Ljava/lang/String;)V"⟩
abbrev cJ22_init_2 : ByteArray := prog_38_method_1_code
def yJ22_init_2 : MethodName := ⟨RJ22, "<init>", "()V"⟩
theorem q121 : (Jvm.Cond.initialized "java/lang/IndexOutOfBoundsException") ∈ lw_all := lw_g (lw_at lw_m1 31 rfl) rfl
theorem q696 : (Jvm.Cond.selects "java/lang/IndexOutOfBoundsException" ({ cls := "java/lang/Throwable", name := "fillInStackTrace", desc := "()Ljava/lang/Throwable;" } : Jvm.MethodName) ({ cls := "java/lang/Throwable", name := "fillInStackTrace", desc := "()Ljava/lang/Throwable;" } : Jvm.MethodName)) ∈ lw_all := lw_g (lw_at lw_m3 126 rfl) rfl
theorem q762 : (Jvm.Cond.instanceMethod ({ cls := "java/lang/IndexOutOfBoundsException", name := "<init>", desc := "(Ljava/lang/String;)V" } : Jvm.MethodName)) ∈ lw_all := lw_g (lw_at lw_m3 192 rfl) rfl
theorem q763 : (Jvm.Cond.code ({ cls := "java/lang/IndexOutOfBoundsException", name := "<init>", desc := "(Ljava/lang/String;)V" } : Jvm.MethodName) prog_38_method_2_code (2 : Nat) (Option.none : Option Jvm.ClassFile.FieldType)) ∈ lw_all := lw_g (lw_at lw_m3 193 rfl) rfl
theorem q764 : (Jvm.Cond.methodLink "java/lang/IndexOutOfBoundsException" (7 : Nat) ({ cls := "java/lang/RuntimeException", name := "<init>", desc := "(Ljava/lang/String;)V" } : Jvm.MethodName)) ∈ lw_all := lw_g (lw_at lw_m3 194 rfl) rfl
theorem q787 : (Jvm.Cond.declares ({ cls := "java/lang/IndexOutOfBoundsException", name := "<init>", desc := "()V" } : Jvm.MethodName)) ∈ lw_tbl := lw_at lw_m3 217 rfl
theorem q788 : (Jvm.Cond.declares ({ cls := "java/lang/IndexOutOfBoundsException", name := "<init>", desc := "(Ljava/lang/String;)V" } : Jvm.MethodName)) ∈ lw_tbl := lw_at lw_m3 218 rfl
theorem q1001 : (Jvm.Cond.selects "java/lang/IndexOutOfBoundsException" ({ cls := "java/lang/Object", name := "getClass", desc := "()Ljava/lang/Class;" } : Jvm.MethodName) ({ cls := "java/lang/Object", name := "getClass", desc := "()Ljava/lang/Class;" } : Jvm.MethodName)) ∈ lw_all := lw_g (lw_at lw_m4 191 rfl) rfl
theorem q1194 : (Jvm.Cond.instantiable "java/lang/IndexOutOfBoundsException" (6 : Nat)) ∈ lw_all := lw_g (lw_at lw_m5 144 rfl) rfl
theorem q1195 : (Jvm.Cond.castable "java/lang/IndexOutOfBoundsException" "java/lang/IndexOutOfBoundsException") ∈ lw_tbl := lw_at lw_m5 145 rfl
theorem q1196 : (Jvm.Cond.selects "java/lang/IndexOutOfBoundsException" ({ cls := "java/lang/Throwable", name := "fillInStackTrace", desc := "(I)Ljava/lang/Throwable;" } : Jvm.MethodName) ({ cls := "java/lang/Throwable", name := "fillInStackTrace", desc := "(I)Ljava/lang/Throwable;" } : Jvm.MethodName)) ∈ lw_all := lw_g (lw_at lw_m5 146 rfl) rfl
theorem q1197 : (Jvm.Cond.lays "java/lang/IndexOutOfBoundsException" "java/lang/Throwable" "cause" "Ljava/lang/Throwable;") ∈ lw_all := lw_g (lw_at lw_m5 147 rfl) rfl
theorem q1198 : (Jvm.Cond.lays "java/lang/IndexOutOfBoundsException" "java/lang/Throwable" "stackTrace" "[Ljava/lang/StackTraceElement;") ∈ lw_all := lw_g (lw_at lw_m5 148 rfl) rfl
theorem q1199 : (Jvm.Cond.lays "java/lang/IndexOutOfBoundsException" "java/lang/Throwable" "suppressedExceptions" "Ljava/util/List;") ∈ lw_all := lw_g (lw_at lw_m5 149 rfl) rfl
theorem q1200 : (Jvm.Cond.lays "java/lang/IndexOutOfBoundsException" "java/lang/Throwable" "detailMessage" "Ljava/lang/String;") ∈ lw_all := lw_g (lw_at lw_m5 150 rfl) rfl
theorem q1201 : (Jvm.Cond.lays "java/lang/IndexOutOfBoundsException" "java/lang/Throwable" "backtrace" "Ljava/lang/Object;") ∈ lw_all := lw_g (lw_at lw_m5 151 rfl) rfl
theorem q1203 : (Jvm.Cond.instanceMethod ({ cls := "java/lang/IndexOutOfBoundsException", name := "<init>", desc := "()V" } : Jvm.MethodName)) ∈ lw_all := lw_g (lw_at lw_m5 153 rfl) rfl
theorem q1204 : (Jvm.Cond.code ({ cls := "java/lang/IndexOutOfBoundsException", name := "<init>", desc := "()V" } : Jvm.MethodName) prog_38_method_1_code (1 : Nat) (Option.none : Option Jvm.ClassFile.FieldType)) ∈ lw_all := lw_g (lw_at lw_m5 154 rfl) rfl
theorem q1205 : (Jvm.Cond.methodLink "java/lang/IndexOutOfBoundsException" (1 : Nat) ({ cls := "java/lang/RuntimeException", name := "<init>", desc := "()V" } : Jvm.MethodName)) ∈ lw_all := lw_g (lw_at lw_m5 155 rfl) rfl
theorem q1206 : (Jvm.Cond.lays "java/lang/IndexOutOfBoundsException" "java/lang/Throwable" "depth" "I") ∈ lw_all := lw_g (lw_at lw_m5 156 rfl) rfl
theorem q1207 : (Jvm.Cond.superclass "java/lang/IndexOutOfBoundsException" "java/lang/RuntimeException") ∈ lw_all := lw_g (lw_at lw_m5 157 rfl) rfl
theorem q2640 : (Jvm.Cond.castable "java/lang/IndexOutOfBoundsException" "java/lang/Object") ∈ lw_tbl := lw_at lw_m11 150 rfl
theorem in_J22 : ∀ w ∈ wsJ220, w ∈ lw_all := lw_in wsJ220 [1197, 1198, 1199, 1200, 1201, 1206] (by decide +kernel) (by decide +kernel)
/-! java/lang/ArrayIndexOutOfBoundsException -/
def RJ23 : String := "java/lang/ArrayIndexOutOfBoundsException"
def TJ23 : u_T := fun k => match k with
  | 0 => ("java/lang/Throwable", "cause", "Ljava/lang/Throwable;", false)
  | 1 => ("java/lang/Throwable", "stackTrace", "[Ljava/lang/StackTraceElement;", false)
  | 2 => ("java/lang/Throwable", "suppressedExceptions", "Ljava/util/List;", false)
  | 3 => ("java/lang/Throwable", "detailMessage", "Ljava/lang/String;", false)
  | 4 => ("java/lang/Throwable", "backtrace", "Ljava/lang/Object;", false)
  | _ => ("java/lang/Throwable", "depth", "I", false)
def tyJ23 : Nat → FieldType := fun k => match k with
  | 0 => .object "java/lang/Throwable"
  | 1 => .array (.object "java/lang/StackTraceElement")
  | 2 => .object "java/util/List"
  | 3 => .object "java/lang/String"
  | 4 => .object "java/lang/Object"
  | _ => .int
abbrev wsJ230 : List Cond := u_ws RJ23 TJ23 6
theorem nmJ23 : ∀ a, a < 6 → ∀ b, b < 6 → a ≠ b → (TJ23 a).2.1 ≠ (TJ23 b).2.1 := by decide +kernel
theorem tyJ23_ok : ∀ k, k < 6 → parseFieldDescriptor (TJ23 k).2.2.1 = some (tyJ23 k) := by decide +kernel
abbrev cJ23_init : ByteArray := prog_29_method_3_code
def yJ23_init : MethodName := ⟨RJ23, "<init>", "(I)V"⟩
abbrev cJ23_init_2 : ByteArray := prog_29_method_2_code
def yJ23_init_2 : MethodName := ⟨RJ23, "<init>", "(Ljava/lang/String;)V"⟩
theorem q122 : (Jvm.Cond.initialized "java/lang/ArrayIndexOutOfBoundsException") ∈ lw_all := lw_g (lw_at lw_m1 32 rfl) rfl
theorem q694 : (Jvm.Cond.selects "java/lang/ArrayIndexOutOfBoundsException" ({ cls := "java/lang/Throwable", name := "fillInStackTrace", desc := "()Ljava/lang/Throwable;" } : Jvm.MethodName) ({ cls := "java/lang/Throwable", name := "fillInStackTrace", desc := "()Ljava/lang/Throwable;" } : Jvm.MethodName)) ∈ lw_all := lw_g (lw_at lw_m3 124 rfl) rfl
theorem q785 : (Jvm.Cond.instantiable "java/lang/ArrayIndexOutOfBoundsException" (6 : Nat)) ∈ lw_all := lw_g (lw_at lw_m3 215 rfl) rfl
theorem q786 : (Jvm.Cond.castable "java/lang/ArrayIndexOutOfBoundsException" "java/lang/ArrayIndexOutOfBoundsException") ∈ lw_tbl := lw_at lw_m3 216 rfl
theorem q789 : (Jvm.Cond.selects "java/lang/ArrayIndexOutOfBoundsException" ({ cls := "java/lang/Throwable", name := "fillInStackTrace", desc := "(I)Ljava/lang/Throwable;" } : Jvm.MethodName) ({ cls := "java/lang/Throwable", name := "fillInStackTrace", desc := "(I)Ljava/lang/Throwable;" } : Jvm.MethodName)) ∈ lw_all := lw_g (lw_at lw_m3 219 rfl) rfl
theorem q790 : (Jvm.Cond.lays "java/lang/ArrayIndexOutOfBoundsException" "java/lang/Throwable" "cause" "Ljava/lang/Throwable;") ∈ lw_all := lw_g (lw_at lw_m3 220 rfl) rfl
theorem q791 : (Jvm.Cond.lays "java/lang/ArrayIndexOutOfBoundsException" "java/lang/Throwable" "stackTrace" "[Ljava/lang/StackTraceElement;") ∈ lw_all := lw_g (lw_at lw_m3 221 rfl) rfl
theorem q792 : (Jvm.Cond.lays "java/lang/ArrayIndexOutOfBoundsException" "java/lang/Throwable" "suppressedExceptions" "Ljava/util/List;") ∈ lw_all := lw_g (lw_at lw_m3 222 rfl) rfl
theorem q793 : (Jvm.Cond.lays "java/lang/ArrayIndexOutOfBoundsException" "java/lang/Throwable" "detailMessage" "Ljava/lang/String;") ∈ lw_all := lw_g (lw_at lw_m3 223 rfl) rfl
theorem q794 : (Jvm.Cond.lays "java/lang/ArrayIndexOutOfBoundsException" "java/lang/Throwable" "backtrace" "Ljava/lang/Object;") ∈ lw_all := lw_g (lw_at lw_m3 224 rfl) rfl
theorem q796 : (Jvm.Cond.instanceMethod ({ cls := "java/lang/ArrayIndexOutOfBoundsException", name := "<init>", desc := "(I)V" } : Jvm.MethodName)) ∈ lw_all := lw_g (lw_at lw_m3 226 rfl) rfl
theorem q797 : (Jvm.Cond.code ({ cls := "java/lang/ArrayIndexOutOfBoundsException", name := "<init>", desc := "(I)V" } : Jvm.MethodName) prog_29_method_3_code (2 : Nat) (Option.none : Option Jvm.ClassFile.FieldType)) ∈ lw_all := lw_g (lw_at lw_m3 227 rfl) rfl
theorem q798 : (Jvm.Cond.classLink "java/lang/ArrayIndexOutOfBoundsException" (10 : Nat) "java/lang/StringBuilder") ∈ lw_all := lw_g (lw_at lw_m3 228 rfl) rfl
theorem q799 : (Jvm.Cond.methodLink "java/lang/ArrayIndexOutOfBoundsException" (12 : Nat) ({ cls := "java/lang/StringBuilder", name := "<init>", desc := "()V" } : Jvm.MethodName)) ∈ lw_all := lw_g (lw_at lw_m3 229 rfl) rfl
theorem q800 : (Jvm.Cond.stringRef "java/lang/ArrayIndexOutOfBoundsException" (13 : Nat) "Array index out of range: ") ∈ lw_tbl := lw_at lw_m3 230 rfl
theorem q801 : (Jvm.Cond.methodLink "java/lang/ArrayIndexOutOfBoundsException" (15 : Nat) ({ cls := "java/lang/StringBuilder", name := "append", desc := "(Ljava/lang/String;)Ljava/lang/StringBuilder;" } : Jvm.MethodName)) ∈ lw_all := lw_g (lw_at lw_m3 231 rfl) rfl
theorem q802 : (Jvm.Cond.methodLink "java/lang/ArrayIndexOutOfBoundsException" (19 : Nat) ({ cls := "java/lang/StringBuilder", name := "append", desc := "(I)Ljava/lang/StringBuilder;" } : Jvm.MethodName)) ∈ lw_all := lw_g (lw_at lw_m3 232 rfl) rfl
theorem q803 : (Jvm.Cond.methodLink "java/lang/ArrayIndexOutOfBoundsException" (22 : Nat) ({ cls := "java/lang/StringBuilder", name := "toString", desc := "()Ljava/lang/String;" } : Jvm.MethodName)) ∈ lw_all := lw_g (lw_at lw_m3 233 rfl) rfl
theorem q804 : (Jvm.Cond.methodLink "java/lang/ArrayIndexOutOfBoundsException" (7 : Nat) ({ cls := "java/lang/IndexOutOfBoundsException", name := "<init>", desc := "(Ljava/lang/String;)V" } : Jvm.MethodName)) ∈ lw_all := lw_g (lw_at lw_m3 234 rfl) rfl
theorem q805 : (Jvm.Cond.lays "java/lang/ArrayIndexOutOfBoundsException" "java/lang/Throwable" "depth" "I") ∈ lw_all := lw_g (lw_at lw_m3 235 rfl) rfl
theorem q806 : (Jvm.Cond.superclass "java/lang/ArrayIndexOutOfBoundsException" "java/lang/IndexOutOfBoundsException") ∈ lw_all := lw_g (lw_at lw_m3 236 rfl) rfl
theorem q998 : (Jvm.Cond.selects "java/lang/ArrayIndexOutOfBoundsException" ({ cls := "java/lang/Object", name := "getClass", desc := "()Ljava/lang/Class;" } : Jvm.MethodName) ({ cls := "java/lang/Object", name := "getClass", desc := "()Ljava/lang/Class;" } : Jvm.MethodName)) ∈ lw_all := lw_g (lw_at lw_m4 188 rfl) rfl
theorem q1174 : (Jvm.Cond.instanceMethod ({ cls := "java/lang/ArrayIndexOutOfBoundsException", name := "<init>", desc := "(Ljava/lang/String;)V" } : Jvm.MethodName)) ∈ lw_all := lw_g (lw_at lw_m5 124 rfl) rfl
theorem q1175 : (Jvm.Cond.code ({ cls := "java/lang/ArrayIndexOutOfBoundsException", name := "<init>", desc := "(Ljava/lang/String;)V" } : Jvm.MethodName) prog_29_method_2_code (2 : Nat) (Option.none : Option Jvm.ClassFile.FieldType)) ∈ lw_all := lw_g (lw_at lw_m5 125 rfl) rfl
theorem q2624 : (Jvm.Cond.castable "java/lang/ArrayIndexOutOfBoundsException" "java/lang/IndexOutOfBoundsException") ∈ lw_tbl := lw_at lw_m11 134 rfl
theorem q2639 : (Jvm.Cond.castable "java/lang/ArrayIndexOutOfBoundsException" "java/lang/Object") ∈ lw_tbl := lw_at lw_m11 149 rfl
theorem in_J23 : ∀ w ∈ wsJ230, w ∈ lw_all := lw_in wsJ230 [790, 791, 792, 793, 794, 805] (by decide +kernel) (by decide +kernel)
/-! java/util/Objects -/
def RJ24 : String := "java/util/Objects"
abbrev cJ24_checkIndex : ByteArray := prog_66_method_17_code
def yJ24_checkIndex : MethodName := ⟨RJ24, "checkIndex", "(II)I"⟩
theorem q124 : (Jvm.Cond.initialized "java/util/Objects") ∈ lw_all := lw_g (lw_at lw_m1 34 rfl) rfl
theorem q845 : (Jvm.Cond.static ({ cls := "java/util/Objects", name := "checkIndex", desc := "(II)I" } : Jvm.MethodName)) ∈ lw_all := lw_g (lw_at lw_m4 35 rfl) rfl
theorem q846 : (Jvm.Cond.code ({ cls := "java/util/Objects", name := "checkIndex", desc := "(II)I" } : Jvm.MethodName) prog_66_method_17_code (2 : Nat) (Option.some Jvm.ClassFile.FieldType.int)) ∈ lw_all := lw_g (lw_at lw_m4 36 rfl) rfl
theorem q847 : (Jvm.Cond.methodLink "java/util/Objects" (105 : Nat) ({ cls := "jdk/internal/util/Preconditions", name := "checkIndex", desc := "(IILjava/util/function/BiFunction;)I" } : Jvm.MethodName)) ∈ lw_all := lw_g (lw_at lw_m4 37 rfl) rfl
/-! java/lang/UnsupportedOperationException -/
def RJ25 : String := "java/lang/UnsupportedOperationException"
def TJ25 : u_T := fun k => match k with
  | 0 => ("java/lang/Throwable", "cause", "Ljava/lang/Throwable;", false)
  | 1 => ("java/lang/Throwable", "stackTrace", "[Ljava/lang/StackTraceElement;", false)
  | 2 => ("java/lang/Throwable", "suppressedExceptions", "Ljava/util/List;", false)
  | 3 => ("java/lang/Throwable", "detailMessage", "Ljava/lang/String;", false)
  | 4 => ("java/lang/Throwable", "backtrace", "Ljava/lang/Object;", false)
  | _ => ("java/lang/Throwable", "depth", "I", false)
def tyJ25 : Nat → FieldType := fun k => match k with
  | 0 => .object "java/lang/Throwable"
  | 1 => .array (.object "java/lang/StackTraceElement")
  | 2 => .object "java/util/List"
  | 3 => .object "java/lang/String"
  | 4 => .object "java/lang/Object"
  | _ => .int
abbrev wsJ250 : List Cond := u_ws RJ25 TJ25 6
theorem nmJ25 : ∀ a, a < 6 → ∀ b, b < 6 → a ≠ b → (TJ25 a).2.1 ≠ (TJ25 b).2.1 := by decide +kernel
theorem tyJ25_ok : ∀ k, k < 6 → parseFieldDescriptor (TJ25 k).2.2.1 = some (tyJ25 k) := by decide +kernel
abbrev cJ25_init : ByteArray := prog_52_method_1_code
def yJ25_init : MethodName := ⟨RJ25, "<init>", "()V"⟩
theorem q125 : (Jvm.Cond.initialized "java/lang/UnsupportedOperationException") ∈ lw_all := lw_g (lw_at lw_m1 35 rfl) rfl
theorem q698 : (Jvm.Cond.selects "java/lang/UnsupportedOperationException" ({ cls := "java/lang/Throwable", name := "fillInStackTrace", desc := "()Ljava/lang/Throwable;" } : Jvm.MethodName) ({ cls := "java/lang/Throwable", name := "fillInStackTrace", desc := "()Ljava/lang/Throwable;" } : Jvm.MethodName)) ∈ lw_all := lw_g (lw_at lw_m3 128 rfl) rfl
theorem q1005 : (Jvm.Cond.selects "java/lang/UnsupportedOperationException" ({ cls := "java/lang/Object", name := "getClass", desc := "()Ljava/lang/Class;" } : Jvm.MethodName) ({ cls := "java/lang/Object", name := "getClass", desc := "()Ljava/lang/Class;" } : Jvm.MethodName)) ∈ lw_all := lw_g (lw_at lw_m4 195 rfl) rfl
theorem q1309 : (Jvm.Cond.instantiable "java/lang/UnsupportedOperationException" (6 : Nat)) ∈ lw_all := lw_g (lw_at lw_m6 19 rfl) rfl
theorem q1310 : (Jvm.Cond.castable "java/lang/UnsupportedOperationException" "java/lang/UnsupportedOperationException") ∈ lw_tbl := lw_at lw_m6 20 rfl
theorem q1311 : (Jvm.Cond.selects "java/lang/UnsupportedOperationException" ({ cls := "java/lang/Throwable", name := "fillInStackTrace", desc := "(I)Ljava/lang/Throwable;" } : Jvm.MethodName) ({ cls := "java/lang/Throwable", name := "fillInStackTrace", desc := "(I)Ljava/lang/Throwable;" } : Jvm.MethodName)) ∈ lw_all := lw_g (lw_at lw_m6 21 rfl) rfl
theorem q1312 : (Jvm.Cond.lays "java/lang/UnsupportedOperationException" "java/lang/Throwable" "cause" "Ljava/lang/Throwable;") ∈ lw_all := lw_g (lw_at lw_m6 22 rfl) rfl
theorem q1313 : (Jvm.Cond.lays "java/lang/UnsupportedOperationException" "java/lang/Throwable" "stackTrace" "[Ljava/lang/StackTraceElement;") ∈ lw_all := lw_g (lw_at lw_m6 23 rfl) rfl
theorem q1314 : (Jvm.Cond.lays "java/lang/UnsupportedOperationException" "java/lang/Throwable" "suppressedExceptions" "Ljava/util/List;") ∈ lw_all := lw_g (lw_at lw_m6 24 rfl) rfl
theorem q1315 : (Jvm.Cond.lays "java/lang/UnsupportedOperationException" "java/lang/Throwable" "detailMessage" "Ljava/lang/String;") ∈ lw_all := lw_g (lw_at lw_m6 25 rfl) rfl
theorem q1316 : (Jvm.Cond.lays "java/lang/UnsupportedOperationException" "java/lang/Throwable" "backtrace" "Ljava/lang/Object;") ∈ lw_all := lw_g (lw_at lw_m6 26 rfl) rfl
theorem q1318 : (Jvm.Cond.instanceMethod ({ cls := "java/lang/UnsupportedOperationException", name := "<init>", desc := "()V" } : Jvm.MethodName)) ∈ lw_all := lw_g (lw_at lw_m6 28 rfl) rfl
theorem q1319 : (Jvm.Cond.code ({ cls := "java/lang/UnsupportedOperationException", name := "<init>", desc := "()V" } : Jvm.MethodName) prog_52_method_1_code (1 : Nat) (Option.none : Option Jvm.ClassFile.FieldType)) ∈ lw_all := lw_g (lw_at lw_m6 29 rfl) rfl
theorem q1320 : (Jvm.Cond.methodLink "java/lang/UnsupportedOperationException" (1 : Nat) ({ cls := "java/lang/RuntimeException", name := "<init>", desc := "()V" } : Jvm.MethodName)) ∈ lw_all := lw_g (lw_at lw_m6 30 rfl) rfl
theorem q1321 : (Jvm.Cond.lays "java/lang/UnsupportedOperationException" "java/lang/Throwable" "depth" "I") ∈ lw_all := lw_g (lw_at lw_m6 31 rfl) rfl
theorem q1322 : (Jvm.Cond.superclass "java/lang/UnsupportedOperationException" "java/lang/RuntimeException") ∈ lw_all := lw_g (lw_at lw_m6 32 rfl) rfl
theorem q2642 : (Jvm.Cond.castable "java/lang/UnsupportedOperationException" "java/lang/Object") ∈ lw_tbl := lw_at lw_m11 152 rfl
theorem in_J25 : ∀ w ∈ wsJ250, w ∈ lw_all := lw_in wsJ250 [1312, 1313, 1314, 1315, 1316, 1321] (by decide +kernel) (by decide +kernel)
/-! java/lang/ArithmeticException -/
def RJ26 : String := "java/lang/ArithmeticException"
def TJ26 : u_T := fun k => match k with
  | 0 => ("java/lang/Throwable", "backtrace", "Ljava/lang/Object;", false)
  | 1 => ("java/lang/Throwable", "detailMessage", "Ljava/lang/String;", false)
  | 2 => ("java/lang/Throwable", "cause", "Ljava/lang/Throwable;", false)
  | 3 => ("java/lang/Throwable", "stackTrace", "[Ljava/lang/StackTraceElement;", false)
  | 4 => ("java/lang/Throwable", "depth", "I", false)
  | _ => ("java/lang/Throwable", "suppressedExceptions", "Ljava/util/List;", false)
def tyJ26 : Nat → FieldType := fun k => match k with
  | 0 => .object "java/lang/Object"
  | 1 => .object "java/lang/String"
  | 2 => .object "java/lang/Throwable"
  | 3 => .array (.object "java/lang/StackTraceElement")
  | 4 => .int
  | _ => .object "java/util/List"
abbrev wsJ260 : List Cond := u_ws RJ26 TJ26 6
theorem nmJ26 : ∀ a, a < 6 → ∀ b, b < 6 → a ≠ b → (TJ26 a).2.1 ≠ (TJ26 b).2.1 := by decide +kernel
theorem tyJ26_ok : ∀ k, k < 6 → parseFieldDescriptor (TJ26 k).2.2.1 = some (tyJ26 k) := by decide +kernel
abbrev cJ26_init : ByteArray := prog_28_method_2_code
def yJ26_init : MethodName := ⟨RJ26, "<init>", "(Ljava/lang/String;)V"⟩
abbrev cJ26_init_2 : ByteArray := prog_28_method_1_code
def yJ26_init_2 : MethodName := ⟨RJ26, "<init>", "()V"⟩
theorem q131 : (Jvm.Cond.initialized "java/lang/ArithmeticException") ∈ lw_all := lw_g (lw_at lw_m1 41 rfl) rfl
theorem q693 : (Jvm.Cond.selects "java/lang/ArithmeticException" ({ cls := "java/lang/Throwable", name := "fillInStackTrace", desc := "()Ljava/lang/Throwable;" } : Jvm.MethodName) ({ cls := "java/lang/Throwable", name := "fillInStackTrace", desc := "()Ljava/lang/Throwable;" } : Jvm.MethodName)) ∈ lw_all := lw_g (lw_at lw_m3 123 rfl) rfl
theorem q997 : (Jvm.Cond.selects "java/lang/ArithmeticException" ({ cls := "java/lang/Object", name := "getClass", desc := "()Ljava/lang/Class;" } : Jvm.MethodName) ({ cls := "java/lang/Object", name := "getClass", desc := "()Ljava/lang/Class;" } : Jvm.MethodName)) ∈ lw_all := lw_g (lw_at lw_m4 187 rfl) rfl
theorem q1693 : (Jvm.Cond.instantiable "java/lang/ArithmeticException" (6 : Nat)) ∈ lw_all := lw_g (lw_at lw_m7 163 rfl) rfl
theorem q1694 : (Jvm.Cond.instanceMethod ({ cls := "java/lang/ArithmeticException", name := "<init>", desc := "(Ljava/lang/String;)V" } : Jvm.MethodName)) ∈ lw_all := lw_g (lw_at lw_m7 164 rfl) rfl
theorem q1695 : (Jvm.Cond.code ({ cls := "java/lang/ArithmeticException", name := "<init>", desc := "(Ljava/lang/String;)V" } : Jvm.MethodName) prog_28_method_2_code (2 : Nat) (Option.none : Option Jvm.ClassFile.FieldType)) ∈ lw_all := lw_g (lw_at lw_m7 165 rfl) rfl
theorem q1696 : (Jvm.Cond.methodLink "java/lang/ArithmeticException" (7 : Nat) ({ cls := "java/lang/RuntimeException", name := "<init>", desc := "(Ljava/lang/String;)V" } : Jvm.MethodName)) ∈ lw_all := lw_g (lw_at lw_m7 166 rfl) rfl
theorem q1697 : (Jvm.Cond.lays "java/lang/ArithmeticException" "java/lang/Throwable" "backtrace" "Ljava/lang/Object;") ∈ lw_all := lw_g (lw_at lw_m7 167 rfl) rfl
theorem q1698 : (Jvm.Cond.lays "java/lang/ArithmeticException" "java/lang/Throwable" "detailMessage" "Ljava/lang/String;") ∈ lw_all := lw_g (lw_at lw_m7 168 rfl) rfl
theorem q1699 : (Jvm.Cond.lays "java/lang/ArithmeticException" "java/lang/Throwable" "cause" "Ljava/lang/Throwable;") ∈ lw_all := lw_g (lw_at lw_m7 169 rfl) rfl
theorem q1700 : (Jvm.Cond.lays "java/lang/ArithmeticException" "java/lang/Throwable" "stackTrace" "[Ljava/lang/StackTraceElement;") ∈ lw_all := lw_g (lw_at lw_m7 170 rfl) rfl
theorem q1701 : (Jvm.Cond.lays "java/lang/ArithmeticException" "java/lang/Throwable" "depth" "I") ∈ lw_all := lw_g (lw_at lw_m7 171 rfl) rfl
theorem q1702 : (Jvm.Cond.lays "java/lang/ArithmeticException" "java/lang/Throwable" "suppressedExceptions" "Ljava/util/List;") ∈ lw_all := lw_g (lw_at lw_m7 172 rfl) rfl
theorem q1703 : (Jvm.Cond.superclass "java/lang/ArithmeticException" "java/lang/RuntimeException") ∈ lw_all := lw_g (lw_at lw_m7 173 rfl) rfl
theorem q1704 : (Jvm.Cond.castable "java/lang/ArithmeticException" "java/lang/ArithmeticException") ∈ lw_tbl := lw_at lw_m7 174 rfl
theorem q1705 : (Jvm.Cond.selects "java/lang/ArithmeticException" ({ cls := "java/lang/Throwable", name := "fillInStackTrace", desc := "(I)Ljava/lang/Throwable;" } : Jvm.MethodName) ({ cls := "java/lang/Throwable", name := "fillInStackTrace", desc := "(I)Ljava/lang/Throwable;" } : Jvm.MethodName)) ∈ lw_all := lw_g (lw_at lw_m7 175 rfl) rfl
theorem q1712 : (Jvm.Cond.instanceMethod ({ cls := "java/lang/ArithmeticException", name := "<init>", desc := "()V" } : Jvm.MethodName)) ∈ lw_all := lw_g (lw_at lw_m7 182 rfl) rfl
theorem q1713 : (Jvm.Cond.code ({ cls := "java/lang/ArithmeticException", name := "<init>", desc := "()V" } : Jvm.MethodName) prog_28_method_1_code (1 : Nat) (Option.none : Option Jvm.ClassFile.FieldType)) ∈ lw_all := lw_g (lw_at lw_m7 183 rfl) rfl
theorem q1714 : (Jvm.Cond.methodLink "java/lang/ArithmeticException" (1 : Nat) ({ cls := "java/lang/RuntimeException", name := "<init>", desc := "()V" } : Jvm.MethodName)) ∈ lw_all := lw_g (lw_at lw_m7 184 rfl) rfl
theorem q2651 : (Jvm.Cond.castable "java/lang/ArithmeticException" "java/lang/Object") ∈ lw_tbl := lw_at lw_m11 161 rfl
theorem in_J26 : ∀ w ∈ wsJ260, w ∈ lw_all := lw_in wsJ260 [1697, 1698, 1699, 1700, 1701, 1702] (by decide +kernel) (by decide +kernel)
/-! java/lang/StringIndexOutOfBoundsException -/
def RJ27 : String := "java/lang/StringIndexOutOfBoundsException"
def TJ27 : u_T := fun k => match k with
  | 0 => ("java/lang/Throwable", "backtrace", "Ljava/lang/Object;", false)
  | 1 => ("java/lang/Throwable", "detailMessage", "Ljava/lang/String;", false)
  | 2 => ("java/lang/Throwable", "cause", "Ljava/lang/Throwable;", false)
  | 3 => ("java/lang/Throwable", "stackTrace", "[Ljava/lang/StackTraceElement;", false)
  | 4 => ("java/lang/Throwable", "depth", "I", false)
  | _ => ("java/lang/Throwable", "suppressedExceptions", "Ljava/util/List;", false)
def tyJ27 : Nat → FieldType := fun k => match k with
  | 0 => .object "java/lang/Object"
  | 1 => .object "java/lang/String"
  | 2 => .object "java/lang/Throwable"
  | 3 => .array (.object "java/lang/StackTraceElement")
  | 4 => .int
  | _ => .object "java/util/List"
abbrev wsJ270 : List Cond := u_ws RJ27 TJ27 6
theorem nmJ27 : ∀ a, a < 6 → ∀ b, b < 6 → a ≠ b → (TJ27 a).2.1 ≠ (TJ27 b).2.1 := by decide +kernel
theorem tyJ27_ok : ∀ k, k < 6 → parseFieldDescriptor (TJ27 k).2.2.1 = some (tyJ27 k) := by decide +kernel
abbrev cJ27_init : ByteArray := prog_47_method_3_code
def yJ27_init : MethodName := ⟨RJ27, "<init>", "(I)V"⟩
theorem q132 : (Jvm.Cond.initialized "java/lang/StringIndexOutOfBoundsException") ∈ lw_all := lw_g (lw_at lw_m1 42 rfl) rfl
theorem q473 : (Jvm.Cond.instantiable "java/lang/StringIndexOutOfBoundsException" (6 : Nat)) ∈ lw_all := lw_g (lw_at lw_m2 143 rfl) rfl
theorem q475 : (Jvm.Cond.instanceMethod ({ cls := "java/lang/StringIndexOutOfBoundsException", name := "<init>", desc := "(I)V" } : Jvm.MethodName)) ∈ lw_all := lw_g (lw_at lw_m2 145 rfl) rfl
theorem q476 : (Jvm.Cond.code ({ cls := "java/lang/StringIndexOutOfBoundsException", name := "<init>", desc := "(I)V" } : Jvm.MethodName) prog_47_method_3_code (2 : Nat) (Option.none : Option Jvm.ClassFile.FieldType)) ∈ lw_all := lw_g (lw_at lw_m2 146 rfl) rfl
theorem q477 : (Jvm.Cond.classLink "java/lang/StringIndexOutOfBoundsException" (10 : Nat) "java/lang/StringBuilder") ∈ lw_all := lw_g (lw_at lw_m2 147 rfl) rfl
theorem q478 : (Jvm.Cond.methodLink "java/lang/StringIndexOutOfBoundsException" (12 : Nat) ({ cls := "java/lang/StringBuilder", name := "<init>", desc := "()V" } : Jvm.MethodName)) ∈ lw_all := lw_g (lw_at lw_m2 148 rfl) rfl
theorem q479 : (Jvm.Cond.stringRef "java/lang/StringIndexOutOfBoundsException" (13 : Nat) "String index out of range: ") ∈ lw_tbl := lw_at lw_m2 149 rfl
theorem q480 : (Jvm.Cond.methodLink "java/lang/StringIndexOutOfBoundsException" (15 : Nat) ({ cls := "java/lang/StringBuilder", name := "append", desc := "(Ljava/lang/String;)Ljava/lang/StringBuilder;" } : Jvm.MethodName)) ∈ lw_all := lw_g (lw_at lw_m2 150 rfl) rfl
theorem q598 : (Jvm.Cond.methodLink "java/lang/StringIndexOutOfBoundsException" (19 : Nat) ({ cls := "java/lang/StringBuilder", name := "append", desc := "(I)Ljava/lang/StringBuilder;" } : Jvm.MethodName)) ∈ lw_all := lw_g (lw_at lw_m3 28 rfl) rfl
theorem q623 : (Jvm.Cond.methodLink "java/lang/StringIndexOutOfBoundsException" (22 : Nat) ({ cls := "java/lang/StringBuilder", name := "toString", desc := "()Ljava/lang/String;" } : Jvm.MethodName)) ∈ lw_all := lw_g (lw_at lw_m3 53 rfl) rfl
theorem q697 : (Jvm.Cond.selects "java/lang/StringIndexOutOfBoundsException" ({ cls := "java/lang/Throwable", name := "fillInStackTrace", desc := "()Ljava/lang/Throwable;" } : Jvm.MethodName) ({ cls := "java/lang/Throwable", name := "fillInStackTrace", desc := "()Ljava/lang/Throwable;" } : Jvm.MethodName)) ∈ lw_all := lw_g (lw_at lw_m3 127 rfl) rfl
theorem q761 : (Jvm.Cond.methodLink "java/lang/StringIndexOutOfBoundsException" (7 : Nat) ({ cls := "java/lang/IndexOutOfBoundsException", name := "<init>", desc := "(Ljava/lang/String;)V" } : Jvm.MethodName)) ∈ lw_all := lw_g (lw_at lw_m3 191 rfl) rfl
theorem q765 : (Jvm.Cond.lays "java/lang/StringIndexOutOfBoundsException" "java/lang/Throwable" "backtrace" "Ljava/lang/Object;") ∈ lw_all := lw_g (lw_at lw_m3 195 rfl) rfl
theorem q766 : (Jvm.Cond.lays "java/lang/StringIndexOutOfBoundsException" "java/lang/Throwable" "detailMessage" "Ljava/lang/String;") ∈ lw_all := lw_g (lw_at lw_m3 196 rfl) rfl
theorem q767 : (Jvm.Cond.lays "java/lang/StringIndexOutOfBoundsException" "java/lang/Throwable" "cause" "Ljava/lang/Throwable;") ∈ lw_all := lw_g (lw_at lw_m3 197 rfl) rfl
theorem q768 : (Jvm.Cond.lays "java/lang/StringIndexOutOfBoundsException" "java/lang/Throwable" "stackTrace" "[Ljava/lang/StackTraceElement;") ∈ lw_all := lw_g (lw_at lw_m3 198 rfl) rfl
theorem q769 : (Jvm.Cond.lays "java/lang/StringIndexOutOfBoundsException" "java/lang/Throwable" "depth" "I") ∈ lw_all := lw_g (lw_at lw_m3 199 rfl) rfl
theorem q770 : (Jvm.Cond.lays "java/lang/StringIndexOutOfBoundsException" "java/lang/Throwable" "suppressedExceptions" "Ljava/util/List;") ∈ lw_all := lw_g (lw_at lw_m3 200 rfl) rfl
theorem q771 : (Jvm.Cond.superclass "java/lang/StringIndexOutOfBoundsException" "java/lang/IndexOutOfBoundsException") ∈ lw_all := lw_g (lw_at lw_m3 201 rfl) rfl
theorem q1004 : (Jvm.Cond.selects "java/lang/StringIndexOutOfBoundsException" ({ cls := "java/lang/Object", name := "getClass", desc := "()Ljava/lang/Class;" } : Jvm.MethodName) ({ cls := "java/lang/Object", name := "getClass", desc := "()Ljava/lang/Class;" } : Jvm.MethodName)) ∈ lw_all := lw_g (lw_at lw_m4 194 rfl) rfl
theorem q2625 : (Jvm.Cond.castable "java/lang/StringIndexOutOfBoundsException" "java/lang/IndexOutOfBoundsException") ∈ lw_tbl := lw_at lw_m11 135 rfl
theorem q2652 : (Jvm.Cond.castable "java/lang/StringIndexOutOfBoundsException" "java/lang/Object") ∈ lw_tbl := lw_at lw_m11 162 rfl
theorem in_J27 : ∀ w ∈ wsJ270, w ∈ lw_all := lw_in wsJ270 [765, 766, 767, 768, 769, 770] (by decide +kernel) (by decide +kernel)
/-! java/lang/Character -/
def RJ28 : String := "java/lang/Character"
abbrev cJ28_isValidCodePoint : ByteArray := prog_31_method_11_code
def yJ28_isValidCodePoint : MethodName := ⟨RJ28, "isValidCodePoint", "(I)Z"⟩
abbrev cJ28_highSurrogate : ByteArray := prog_31_method_28_code
def yJ28_highSurrogate : MethodName := ⟨RJ28, "highSurrogate", "(I)C"⟩
abbrev cJ28_lowSurrogate : ByteArray := prog_31_method_29_code
def yJ28_lowSurrogate : MethodName := ⟨RJ28, "lowSurrogate", "(I)C"⟩
theorem q134 : (Jvm.Cond.initialized "java/lang/Character") ∈ lw_all := lw_g (lw_at lw_m1 44 rfl) rfl
theorem q1842 : (Jvm.Cond.static ({ cls := "java/lang/Character", name := "isValidCodePoint", desc := "(I)Z" } : Jvm.MethodName)) ∈ lw_all := lw_g (lw_at lw_m8 72 rfl) rfl
theorem q1843 : (Jvm.Cond.code ({ cls := "java/lang/Character", name := "isValidCodePoint", desc := "(I)Z" } : Jvm.MethodName) prog_31_method_11_code (2 : Nat) (Option.some Jvm.ClassFile.FieldType.boolean)) ∈ lw_all := lw_g (lw_at lw_m8 73 rfl) rfl
theorem q1845 : (Jvm.Cond.static ({ cls := "java/lang/Character", name := "highSurrogate", desc := "(I)C" } : Jvm.MethodName)) ∈ lw_all := lw_g (lw_at lw_m8 75 rfl) rfl
theorem q1846 : (Jvm.Cond.code ({ cls := "java/lang/Character", name := "highSurrogate", desc := "(I)C" } : Jvm.MethodName) prog_31_method_28_code (1 : Nat) (Option.some Jvm.ClassFile.FieldType.char)) ∈ lw_all := lw_g (lw_at lw_m8 76 rfl) rfl
theorem q1847 : (Jvm.Cond.constant "java/lang/Character" (110 : Nat) (55232 : Int32)) ∈ lw_all := lw_g (lw_at lw_m8 77 rfl) rfl
theorem q1849 : (Jvm.Cond.static ({ cls := "java/lang/Character", name := "lowSurrogate", desc := "(I)C" } : Jvm.MethodName)) ∈ lw_all := lw_g (lw_at lw_m8 79 rfl) rfl
theorem q1850 : (Jvm.Cond.code ({ cls := "java/lang/Character", name := "lowSurrogate", desc := "(I)C" } : Jvm.MethodName) prog_31_method_29_code (1 : Nat) (Option.some Jvm.ClassFile.FieldType.char)) ∈ lw_all := lw_g (lw_at lw_m8 80 rfl) rfl
theorem q1851 : (Jvm.Cond.constant "java/lang/Character" (76 : Nat) (56320 : Int32)) ∈ lw_all := lw_g (lw_at lw_m8 81 rfl) rfl
/-! java/util/ArrayList$Itr -/
def RJ29 : String := "java/util/ArrayList$Itr"
def TJ29 : u_T := fun k => match k with
  | 0 => ("java/util/ArrayList$Itr", "cursor", "I", false)
  | 1 => ("java/util/ArrayList$Itr", "lastRet", "I", false)
  | 2 => ("java/util/ArrayList$Itr", "expectedModCount", "I", false)
  | _ => ("java/util/ArrayList$Itr", "this$0", "Ljava/util/ArrayList;", true)
def tyJ29 : Nat → FieldType := fun k => match k with
  | 0 => .int
  | 1 => .int
  | 2 => .int
  | _ => .object "java/util/ArrayList"
abbrev wsJ290 : List Cond := u_ws RJ29 TJ29 4
theorem nmJ29 : ∀ a, a < 4 → ∀ b, b < 4 → a ≠ b → (TJ29 a).2.1 ≠ (TJ29 b).2.1 := by decide +kernel
theorem tyJ29_ok : ∀ k, k < 4 → parseFieldDescriptor (TJ29 k).2.2.1 = some (tyJ29 k) := by decide +kernel
abbrev cJ29_init : ByteArray := prog_59_method_1_code
def yJ29_init : MethodName := ⟨RJ29, "<init>", "(Ljava/util/ArrayList;)V"⟩
abbrev cJ29_hasNext : ByteArray := prog_59_method_2_code
def yJ29_hasNext : MethodName := ⟨RJ29, "hasNext", "()Z"⟩
abbrev cJ29_next : ByteArray := prog_59_method_3_code
def yJ29_next : MethodName := ⟨RJ29, "next", "()Ljava/lang/Object;"⟩
abbrev cJ29_checkForComodification : ByteArray := prog_59_method_6_code
def yJ29_checkForComodification : MethodName := ⟨RJ29, "checkForComodification", "()V"⟩
theorem q137 : (Jvm.Cond.initialized "java/util/ArrayList$Itr") ∈ lw_all := lw_g (lw_at lw_m1 47 rfl) rfl
theorem q167 : (Jvm.Cond.fieldLink "java/util/ArrayList$Itr" (37 : Nat) "java/util/ArrayList" "elementData" "[Ljava/lang/Object;") ∈ lw_all := lw_g (lw_at lw_m1 77 rfl) rfl
theorem q168 : (Jvm.Cond.fieldLinkNest "java/util/ArrayList$Itr" (28 : Nat) "java/util/ArrayList" "size" "I" "java/util/ArrayList") ∈ lw_tbl := lw_at lw_m1 78 rfl
theorem q171 : (Jvm.Cond.fieldLink "java/util/ArrayList$Itr" (17 : Nat) "java/util/ArrayList" "modCount" "I") ∈ lw_all := lw_g (lw_at lw_m1 81 rfl) rfl
theorem q1008 : (Jvm.Cond.selects "java/util/ArrayList$Itr" ({ cls := "java/lang/Object", name := "getClass", desc := "()Ljava/lang/Class;" } : Jvm.MethodName) ({ cls := "java/lang/Object", name := "getClass", desc := "()Ljava/lang/Class;" } : Jvm.MethodName)) ∈ lw_all := lw_g (lw_at lw_m4 198 rfl) rfl
theorem q2019 : (Jvm.Cond.instantiable "java/util/ArrayList$Itr" (4 : Nat)) ∈ lw_all := lw_g (lw_at lw_m9 9 rfl) rfl
theorem q2021 : (Jvm.Cond.instanceMethod ({ cls := "java/util/ArrayList$Itr", name := "<init>", desc := "(Ljava/util/ArrayList;)V" } : Jvm.MethodName)) ∈ lw_all := lw_g (lw_at lw_m9 11 rfl) rfl
theorem q2022 : (Jvm.Cond.code ({ cls := "java/util/ArrayList$Itr", name := "<init>", desc := "(Ljava/util/ArrayList;)V" } : Jvm.MethodName) prog_59_method_1_code (2 : Nat) (Option.none : Option Jvm.ClassFile.FieldType)) ∈ lw_all := lw_g (lw_at lw_m9 12 rfl) rfl
theorem q2023 : (Jvm.Cond.methodLink "java/util/ArrayList$Itr" (7 : Nat) ({ cls := "java/lang/Object", name := "<init>", desc := "()V" } : Jvm.MethodName)) ∈ lw_all := lw_g (lw_at lw_m9 13 rfl) rfl
theorem q2024 : (Jvm.Cond.fieldLink "java/util/ArrayList$Itr" (25 : Nat) "java/util/ArrayList$Itr" "cursor" "I") ∈ lw_all := lw_g (lw_at lw_m9 14 rfl) rfl
theorem q2025 : (Jvm.Cond.fieldLink "java/util/ArrayList$Itr" (13 : Nat) "java/util/ArrayList$Itr" "lastRet" "I") ∈ lw_all := lw_g (lw_at lw_m9 15 rfl) rfl
theorem q2026 : (Jvm.Cond.fieldLink "java/util/ArrayList$Itr" (22 : Nat) "java/util/ArrayList$Itr" "expectedModCount" "I") ∈ lw_all := lw_g (lw_at lw_m9 16 rfl) rfl
theorem q2027 : (Jvm.Cond.fieldLink "java/util/ArrayList$Itr" (1 : Nat) "java/util/ArrayList$Itr" "this$0" "Ljava/util/ArrayList;") ∈ lw_all := lw_g (lw_at lw_m9 17 rfl) rfl
theorem q2028 : (Jvm.Cond.lays "java/util/ArrayList$Itr" "java/util/ArrayList$Itr" "cursor" "I") ∈ lw_all := lw_g (lw_at lw_m9 18 rfl) rfl
theorem q2029 : (Jvm.Cond.soleField "java/util/ArrayList$Itr" "cursor") ∈ lw_all := lw_g (lw_at lw_m9 19 rfl) rfl
theorem q2030 : (Jvm.Cond.lays "java/util/ArrayList$Itr" "java/util/ArrayList$Itr" "lastRet" "I") ∈ lw_all := lw_g (lw_at lw_m9 20 rfl) rfl
theorem q2031 : (Jvm.Cond.soleField "java/util/ArrayList$Itr" "lastRet") ∈ lw_all := lw_g (lw_at lw_m9 21 rfl) rfl
theorem q2032 : (Jvm.Cond.lays "java/util/ArrayList$Itr" "java/util/ArrayList$Itr" "expectedModCount" "I") ∈ lw_all := lw_g (lw_at lw_m9 22 rfl) rfl
theorem q2033 : (Jvm.Cond.soleField "java/util/ArrayList$Itr" "expectedModCount") ∈ lw_all := lw_g (lw_at lw_m9 23 rfl) rfl
theorem q2034 : (Jvm.Cond.laysFinal "java/util/ArrayList$Itr" "java/util/ArrayList$Itr" "this$0" "Ljava/util/ArrayList;") ∈ lw_all := lw_g (lw_at lw_m9 24 rfl) rfl
theorem q2035 : (Jvm.Cond.soleField "java/util/ArrayList$Itr" "this$0") ∈ lw_all := lw_g (lw_at lw_m9 25 rfl) rfl
theorem q2036 : (Jvm.Cond.superclass "java/util/ArrayList$Itr" "java/lang/Object") ∈ lw_all := lw_g (lw_at lw_m9 26 rfl) rfl
theorem q2041 : (Jvm.Cond.castable "java/util/ArrayList$Itr" "java/util/Iterator") ∈ lw_tbl := lw_at lw_m9 31 rfl
theorem q2042 : (Jvm.Cond.selects "java/util/ArrayList$Itr" ({ cls := "java/util/Iterator", name := "hasNext", desc := "()Z" } : Jvm.MethodName) ({ cls := "java/util/ArrayList$Itr", name := "hasNext", desc := "()Z" } : Jvm.MethodName)) ∈ lw_all := lw_g (lw_at lw_m9 32 rfl) rfl
theorem q2043 : (Jvm.Cond.unhidden "java/util/ArrayList$Itr" "hasNext" "()Z") ∈ lw_tbl := lw_at lw_m9 33 rfl
theorem q2044 : (Jvm.Cond.instanceMethod ({ cls := "java/util/ArrayList$Itr", name := "hasNext", desc := "()Z" } : Jvm.MethodName)) ∈ lw_all := lw_g (lw_at lw_m9 34 rfl) rfl
theorem q2045 : (Jvm.Cond.publicMethod ({ cls := "java/util/ArrayList$Itr", name := "hasNext", desc := "()Z" } : Jvm.MethodName)) ∈ lw_tbl := lw_at lw_m9 35 rfl
theorem q2046 : (Jvm.Cond.code ({ cls := "java/util/ArrayList$Itr", name := "hasNext", desc := "()Z" } : Jvm.MethodName) prog_59_method_2_code (1 : Nat) (Option.some Jvm.ClassFile.FieldType.boolean)) ∈ lw_all := lw_g (lw_at lw_m9 36 rfl) rfl
theorem q2051 : (Jvm.Cond.selects "java/util/ArrayList$Itr" ({ cls := "java/util/Iterator", name := "next", desc := "()Ljava/lang/Object;" } : Jvm.MethodName) ({ cls := "java/util/ArrayList$Itr", name := "next", desc := "()Ljava/lang/Object;" } : Jvm.MethodName)) ∈ lw_all := lw_g (lw_at lw_m9 41 rfl) rfl
theorem q2052 : (Jvm.Cond.unhidden "java/util/ArrayList$Itr" "next" "()Ljava/lang/Object;") ∈ lw_tbl := lw_at lw_m9 42 rfl
theorem q2053 : (Jvm.Cond.instanceMethod ({ cls := "java/util/ArrayList$Itr", name := "next", desc := "()Ljava/lang/Object;" } : Jvm.MethodName)) ∈ lw_all := lw_g (lw_at lw_m9 43 rfl) rfl
theorem q2054 : (Jvm.Cond.publicMethod ({ cls := "java/util/ArrayList$Itr", name := "next", desc := "()Ljava/lang/Object;" } : Jvm.MethodName)) ∈ lw_tbl := lw_at lw_m9 44 rfl
theorem q2055 : (Jvm.Cond.code ({ cls := "java/util/ArrayList$Itr", name := "next", desc := "()Ljava/lang/Object;" } : Jvm.MethodName) prog_59_method_3_code (3 : Nat) (Option.some (Jvm.ClassFile.FieldType.object "java/lang/Object"))) ∈ lw_all := lw_g (lw_at lw_m9 45 rfl) rfl
theorem q2056 : (Jvm.Cond.methodLink "java/util/ArrayList$Itr" (31 : Nat) ({ cls := "java/util/ArrayList$Itr", name := "checkForComodification", desc := "()V" } : Jvm.MethodName)) ∈ lw_all := lw_g (lw_at lw_m9 46 rfl) rfl
theorem q2057 : (Jvm.Cond.instanceMethod ({ cls := "java/util/ArrayList$Itr", name := "checkForComodification", desc := "()V" } : Jvm.MethodName)) ∈ lw_all := lw_g (lw_at lw_m9 47 rfl) rfl
theorem q2058 : (Jvm.Cond.selects "java/util/ArrayList$Itr" ({ cls := "java/util/ArrayList$Itr", name := "checkForComodification", desc := "()V" } : Jvm.MethodName) ({ cls := "java/util/ArrayList$Itr", name := "checkForComodification", desc := "()V" } : Jvm.MethodName)) ∈ lw_all := lw_g (lw_at lw_m9 48 rfl) rfl
theorem q2059 : (Jvm.Cond.code ({ cls := "java/util/ArrayList$Itr", name := "checkForComodification", desc := "()V" } : Jvm.MethodName) prog_59_method_6_code (1 : Nat) (Option.none : Option Jvm.ClassFile.FieldType)) ∈ lw_all := lw_g (lw_at lw_m9 49 rfl) rfl
theorem q2060 : (Jvm.Cond.classLink "java/util/ArrayList$Itr" (34 : Nat) "java/util/NoSuchElementException") ∈ lw_all := lw_g (lw_at lw_m9 50 rfl) rfl
theorem q2061 : (Jvm.Cond.methodLink "java/util/ArrayList$Itr" (36 : Nat) ({ cls := "java/util/NoSuchElementException", name := "<init>", desc := "()V" } : Jvm.MethodName)) ∈ lw_all := lw_g (lw_at lw_m9 51 rfl) rfl
theorem q2656 : (Jvm.Cond.castable "java/util/ArrayList$Itr" "java/lang/Object") ∈ lw_tbl := lw_at lw_m11 166 rfl
theorem in_J29 : ∀ w ∈ wsJ290, w ∈ lw_all := lw_in wsJ290 [2028, 2030, 2032, 2034] (by decide +kernel) (by decide +kernel)
/-! java/lang/Enum -/
def RJ3 : String := "java/lang/Enum"
abbrev cJ3_ordinal : ByteArray := prog_34_method_2_code
def yJ3_ordinal : MethodName := ⟨RJ3, "ordinal", "()I"⟩
theorem q96 : (Jvm.Cond.initialized "java/lang/Enum") ∈ lw_all := lw_g (lw_at lw_m1 6 rfl) rfl
theorem q381 : (Jvm.Cond.declares ({ cls := "java/lang/Enum", name := "ordinal", desc := "()I" } : Jvm.MethodName)) ∈ lw_tbl := lw_at lw_m2 51 rfl
theorem q383 : (Jvm.Cond.instanceMethod ({ cls := "java/lang/Enum", name := "ordinal", desc := "()I" } : Jvm.MethodName)) ∈ lw_all := lw_g (lw_at lw_m2 53 rfl) rfl
theorem q384 : (Jvm.Cond.code ({ cls := "java/lang/Enum", name := "ordinal", desc := "()I" } : Jvm.MethodName) prog_34_method_2_code (1 : Nat) (Option.some Jvm.ClassFile.FieldType.int)) ∈ lw_all := lw_g (lw_at lw_m2 54 rfl) rfl
theorem q2671 : (Jvm.Cond.fieldLink "java/lang/Enum" (7 : Nat) "java/lang/Enum" "ordinal" "I") ∈ lw_all := lw_g (lw_at lw_m11 181 rfl) rfl
/-! java/lang/Object -/
def RJ30 : String := "java/lang/Object"
abbrev cJ30_init : ByteArray := object_method_1_code
def yJ30_init : MethodName := ⟨RJ30, "<init>", "()V"⟩
theorem q144 : (Jvm.Cond.instanceMethod ({ cls := "java/lang/Object", name := "<init>", desc := "()V" } : Jvm.MethodName)) ∈ lw_all := lw_g (lw_at lw_m1 54 rfl) rfl
theorem q145 : (Jvm.Cond.code ({ cls := "java/lang/Object", name := "<init>", desc := "()V" } : Jvm.MethodName) object_method_1_code (1 : Nat) (Option.none : Option Jvm.ClassFile.FieldType)) ∈ lw_all := lw_g (lw_at lw_m1 55 rfl) rfl
theorem q515 : (Jvm.Cond.native ({ cls := "java/lang/Object", name := "clone", desc := "()Ljava/lang/Object;" } : Jvm.MethodName)) ∈ lw_all := lw_g (lw_at lw_m2 185 rfl) rfl
theorem q516 : (Jvm.Cond.instanceMethod ({ cls := "java/lang/Object", name := "clone", desc := "()Ljava/lang/Object;" } : Jvm.MethodName)) ∈ lw_all := lw_g (lw_at lw_m2 186 rfl) rfl
theorem q977 : (Jvm.Cond.instanceMethod ({ cls := "java/lang/Object", name := "getClass", desc := "()Ljava/lang/Class;" } : Jvm.MethodName)) ∈ lw_all := lw_g (lw_at lw_m4 167 rfl) rfl
theorem q978 : (Jvm.Cond.sameMethod "java/lang/Object" "java/lang/Object" "getClass" "()Ljava/lang/Class;") ∈ lw_all := lw_g (lw_at lw_m4 168 rfl) rfl
theorem q1010 : (Jvm.Cond.native ({ cls := "java/lang/Object", name := "getClass", desc := "()Ljava/lang/Class;" } : Jvm.MethodName)) ∈ lw_all := lw_g (lw_at lw_m4 200 rfl) rfl
theorem q2623 : (Jvm.Cond.initialized "java/lang/Object") ∈ lw_all := lw_g (lw_at lw_m11 133 rfl) rfl
theorem q2660 : (Jvm.Cond.declares ({ cls := "java/lang/Object", name := "getClass", desc := "()Ljava/lang/Class;" } : Jvm.MethodName)) ∈ lw_tbl := lw_at lw_m11 170 rfl
theorem q2674 : (Jvm.Cond.instantiable "java/lang/Object" (0 : Nat)) ∈ lw_all := lw_g (lw_at lw_m11 184 rfl) rfl
/-! java/util/ArrayDeque -/
def RJ4 : String := "java/util/ArrayDeque"
def TJ4 : u_T := fun k => match k with
  | 0 => ("java/util/ArrayDeque", "elements", "[Ljava/lang/Object;", false)
  | 1 => ("java/util/ArrayDeque", "head", "I", false)
  | _ => ("java/util/ArrayDeque", "tail", "I", false)
def tyJ4 : Nat → FieldType := fun k => match k with
  | 0 => .array (.object "java/lang/Object")
  | 1 => .int
  | _ => .int
abbrev wsJ40 : List Cond := u_ws RJ4 TJ4 3
theorem nmJ4 : ∀ a, a < 3 → ∀ b, b < 3 → a ≠ b → (TJ4 a).2.1 ≠ (TJ4 b).2.1 := by decide +kernel
theorem tyJ4_ok : ∀ k, k < 3 → parseFieldDescriptor (TJ4 k).2.2.1 = some (tyJ4 k) := by decide +kernel
abbrev cJ4_init : ByteArray := prog_57_method_3_code
def yJ4_init : MethodName := ⟨RJ4, "<init>", "()V"⟩
abbrev cJ4_toArray : ByteArray := prog_57_method_55_code
def yJ4_toArray : MethodName := ⟨RJ4, "toArray", "()[Ljava/lang/Object;"⟩
abbrev cJ4_toArray_2 : ByteArray := prog_57_method_56_code
def yJ4_toArray_2 : MethodName := ⟨RJ4, "toArray", "(Ljava/lang/Class;)[Ljava/lang/Object;"⟩
abbrev cJ4_size : ByteArray := prog_57_method_37_code
def yJ4_size : MethodName := ⟨RJ4, "size", "()I"⟩
abbrev cJ4_sub : ByteArray := prog_57_method_9_code
def yJ4_sub : MethodName := ⟨RJ4, "sub", "(III)I"⟩
abbrev cJ4_removeFirst : ByteArray := prog_57_method_18_code
def yJ4_removeFirst : MethodName := ⟨RJ4, "removeFirst", "()Ljava/lang/Object;"⟩
abbrev cJ4_pollFirst : ByteArray := prog_57_method_20_code
def yJ4_pollFirst : MethodName := ⟨RJ4, "pollFirst", "()Ljava/lang/Object;"⟩
abbrev cJ4_elementAt : ByteArray := prog_57_method_10_code
def yJ4_elementAt : MethodName := ⟨RJ4, "elementAt", "([Ljava/lang/Object;I)Ljava/lang/Object;"⟩
abbrev cJ4_inc : ByteArray := prog_57_method_6_code
def yJ4_inc : MethodName := ⟨RJ4, "inc", "(II)I"⟩
abbrev cJ4_addLast : ByteArray := prog_57_method_13_code
def yJ4_addLast : MethodName := ⟨RJ4, "addLast", "(Ljava/lang/Object;)V"⟩
abbrev cJ4_grow : ByteArray := prog_57_method_1_code
def yJ4_grow : MethodName := ⟨RJ4, "grow", "(I)V"⟩
abbrev cJ4_newCapacity : ByteArray := prog_57_method_2_code
def yJ4_newCapacity : MethodName := ⟨RJ4, "newCapacity", "(II)I"⟩
abbrev cJ4_isEmpty : ByteArray := prog_57_method_38_code
def yJ4_isEmpty : MethodName := ⟨RJ4, "isEmpty", "()Z"⟩
abbrev cJ4_removeLast : ByteArray := prog_57_method_19_code
def yJ4_removeLast : MethodName := ⟨RJ4, "removeLast", "()Ljava/lang/Object;"⟩
abbrev cJ4_pollLast : ByteArray := prog_57_method_21_code
def yJ4_pollLast : MethodName := ⟨RJ4, "pollLast", "()Ljava/lang/Object;"⟩
abbrev cJ4_dec : ByteArray := prog_57_method_7_code
def yJ4_dec : MethodName := ⟨RJ4, "dec", "(II)I"⟩
abbrev cJ4_clear : ByteArray := prog_57_method_53_code
def yJ4_clear : MethodName := ⟨RJ4, "clear", "()V"⟩
abbrev cJ4_circularClear : ByteArray := prog_57_method_54_code
def yJ4_circularClear : MethodName := ⟨RJ4, "circularClear", "([Ljava/lang/Object;II)V"⟩
theorem q98 : (Jvm.Cond.initialized "java/util/ArrayDeque") ∈ lw_all := lw_g (lw_at lw_m1 8 rfl) rfl
theorem q224 : (Jvm.Cond.instantiable "java/util/ArrayDeque" (3 : Nat)) ∈ lw_all := lw_g (lw_at lw_m1 134 rfl) rfl
theorem q226 : (Jvm.Cond.instanceMethod ({ cls := "java/util/ArrayDeque", name := "<init>", desc := "()V" } : Jvm.MethodName)) ∈ lw_all := lw_g (lw_at lw_m1 136 rfl) rfl
theorem q227 : (Jvm.Cond.code ({ cls := "java/util/ArrayDeque", name := "<init>", desc := "()V" } : Jvm.MethodName) prog_57_method_3_code (1 : Nat) (Option.none : Option Jvm.ClassFile.FieldType)) ∈ lw_all := lw_g (lw_at lw_m1 137 rfl) rfl
theorem q228 : (Jvm.Cond.methodLink "java/util/ArrayDeque" (42 : Nat) ({ cls := "java/util/AbstractCollection", name := "<init>", desc := "()V" } : Jvm.MethodName)) ∈ lw_all := lw_g (lw_at lw_m1 138 rfl) rfl
theorem q229 : (Jvm.Cond.classLink "java/util/ArrayDeque" (47 : Nat) "java/lang/Object") ∈ lw_all := lw_g (lw_at lw_m1 139 rfl) rfl
theorem q231 : (Jvm.Cond.fieldLink "java/util/ArrayDeque" (3 : Nat) "java/util/ArrayDeque" "elements" "[Ljava/lang/Object;") ∈ lw_all := lw_g (lw_at lw_m1 141 rfl) rfl
theorem q232 : (Jvm.Cond.fieldLink "java/util/ArrayDeque" (24 : Nat) "java/util/ArrayDeque" "head" "I") ∈ lw_all := lw_g (lw_at lw_m1 142 rfl) rfl
theorem q233 : (Jvm.Cond.fieldLink "java/util/ArrayDeque" (20 : Nat) "java/util/ArrayDeque" "tail" "I") ∈ lw_all := lw_g (lw_at lw_m1 143 rfl) rfl
theorem q234 : (Jvm.Cond.lays "java/util/ArrayDeque" "java/util/ArrayDeque" "elements" "[Ljava/lang/Object;") ∈ lw_all := lw_g (lw_at lw_m1 144 rfl) rfl
theorem q235 : (Jvm.Cond.soleField "java/util/ArrayDeque" "elements") ∈ lw_all := lw_g (lw_at lw_m1 145 rfl) rfl
theorem q236 : (Jvm.Cond.lays "java/util/ArrayDeque" "java/util/ArrayDeque" "head" "I") ∈ lw_all := lw_g (lw_at lw_m1 146 rfl) rfl
theorem q237 : (Jvm.Cond.soleField "java/util/ArrayDeque" "head") ∈ lw_all := lw_g (lw_at lw_m1 147 rfl) rfl
theorem q238 : (Jvm.Cond.lays "java/util/ArrayDeque" "java/util/ArrayDeque" "tail" "I") ∈ lw_all := lw_g (lw_at lw_m1 148 rfl) rfl
theorem q239 : (Jvm.Cond.soleField "java/util/ArrayDeque" "tail") ∈ lw_all := lw_g (lw_at lw_m1 149 rfl) rfl
theorem q240 : (Jvm.Cond.superclass "java/util/ArrayDeque" "java/util/AbstractCollection") ∈ lw_all := lw_g (lw_at lw_m1 150 rfl) rfl
theorem q950 : (Jvm.Cond.castable "java/util/ArrayDeque" "java/util/Collection") ∈ lw_tbl := lw_at lw_m4 140 rfl
theorem q951 : (Jvm.Cond.selects "java/util/ArrayDeque" ({ cls := "java/util/Collection", name := "toArray", desc := "()[Ljava/lang/Object;" } : Jvm.MethodName) ({ cls := "java/util/ArrayDeque", name := "toArray", desc := "()[Ljava/lang/Object;" } : Jvm.MethodName)) ∈ lw_all := lw_g (lw_at lw_m4 141 rfl) rfl
theorem q952 : (Jvm.Cond.unhidden "java/util/ArrayDeque" "toArray" "()[Ljava/lang/Object;") ∈ lw_tbl := lw_at lw_m4 142 rfl
theorem q953 : (Jvm.Cond.instanceMethod ({ cls := "java/util/ArrayDeque", name := "toArray", desc := "()[Ljava/lang/Object;" } : Jvm.MethodName)) ∈ lw_all := lw_g (lw_at lw_m4 143 rfl) rfl
theorem q954 : (Jvm.Cond.publicMethod ({ cls := "java/util/ArrayDeque", name := "toArray", desc := "()[Ljava/lang/Object;" } : Jvm.MethodName)) ∈ lw_tbl := lw_at lw_m4 144 rfl
theorem q955 : (Jvm.Cond.code ({ cls := "java/util/ArrayDeque", name := "toArray", desc := "()[Ljava/lang/Object;" } : Jvm.MethodName) prog_57_method_55_code (1 : Nat) (Option.some (Jvm.ClassFile.FieldType.array (Jvm.ClassFile.FieldType.object "java/lang/Object")))) ∈ lw_all := lw_g (lw_at lw_m4 145 rfl) rfl
theorem q956 : (Jvm.Cond.classLink "java/util/ArrayDeque" (188 : Nat) "[Ljava/lang/Object;") ∈ lw_all := lw_g (lw_at lw_m4 146 rfl) rfl
theorem q957 : (Jvm.Cond.methodLink "java/util/ArrayDeque" (189 : Nat) ({ cls := "java/util/ArrayDeque", name := "toArray", desc := "(Ljava/lang/Class;)[Ljava/lang/Object;" } : Jvm.MethodName)) ∈ lw_all := lw_g (lw_at lw_m4 147 rfl) rfl
theorem q958 : (Jvm.Cond.privateMethod ({ cls := "java/util/ArrayDeque", name := "toArray", desc := "(Ljava/lang/Class;)[Ljava/lang/Object;" } : Jvm.MethodName)) ∈ lw_tbl := lw_at lw_m4 148 rfl
theorem q959 : (Jvm.Cond.instanceMethod ({ cls := "java/util/ArrayDeque", name := "toArray", desc := "(Ljava/lang/Class;)[Ljava/lang/Object;" } : Jvm.MethodName)) ∈ lw_all := lw_g (lw_at lw_m4 149 rfl) rfl
theorem q960 : (Jvm.Cond.code ({ cls := "java/util/ArrayDeque", name := "toArray", desc := "(Ljava/lang/Class;)[Ljava/lang/Object;" } : Jvm.MethodName) prog_57_method_56_code (7 : Nat) (Option.some (Jvm.ClassFile.FieldType.array (Jvm.ClassFile.FieldType.object "java/lang/Object")))) ∈ lw_all := lw_g (lw_at lw_m4 150 rfl) rfl
theorem q961 : (Jvm.Cond.methodLink "java/util/ArrayDeque" (193 : Nat) ({ cls := "java/util/Arrays", name := "copyOfRange", desc := "([Ljava/lang/Object;IILjava/lang/Class;)[Ljava/lang/Object;" } : Jvm.MethodName)) ∈ lw_all := lw_g (lw_at lw_m4 151 rfl) rfl
theorem q966 : (Jvm.Cond.methodLink "java/util/ArrayDeque" (27 : Nat) ({ cls := "java/lang/System", name := "arraycopy", desc := "(Ljava/lang/Object;ILjava/lang/Object;II)V" } : Jvm.MethodName)) ∈ lw_all := lw_g (lw_at lw_m4 156 rfl) rfl
theorem q1006 : (Jvm.Cond.selects "java/util/ArrayDeque" ({ cls := "java/lang/Object", name := "getClass", desc := "()Ljava/lang/Class;" } : Jvm.MethodName) ({ cls := "java/lang/Object", name := "getClass", desc := "()Ljava/lang/Class;" } : Jvm.MethodName)) ∈ lw_all := lw_g (lw_at lw_m4 196 rfl) rfl
theorem q1114 : (Jvm.Cond.instanceMethod ({ cls := "java/util/ArrayDeque", name := "size", desc := "()I" } : Jvm.MethodName)) ∈ lw_all := lw_g (lw_at lw_m5 64 rfl) rfl
theorem q1115 : (Jvm.Cond.selects "java/util/ArrayDeque" ({ cls := "java/util/ArrayDeque", name := "size", desc := "()I" } : Jvm.MethodName) ({ cls := "java/util/ArrayDeque", name := "size", desc := "()I" } : Jvm.MethodName)) ∈ lw_all := lw_g (lw_at lw_m5 65 rfl) rfl
theorem q1116 : (Jvm.Cond.code ({ cls := "java/util/ArrayDeque", name := "size", desc := "()I" } : Jvm.MethodName) prog_57_method_37_code (1 : Nat) (Option.some Jvm.ClassFile.FieldType.int)) ∈ lw_all := lw_g (lw_at lw_m5 66 rfl) rfl
theorem q1117 : (Jvm.Cond.methodLink "java/util/ArrayDeque" (127 : Nat) ({ cls := "java/util/ArrayDeque", name := "sub", desc := "(III)I" } : Jvm.MethodName)) ∈ lw_all := lw_g (lw_at lw_m5 67 rfl) rfl
theorem q1118 : (Jvm.Cond.static ({ cls := "java/util/ArrayDeque", name := "sub", desc := "(III)I" } : Jvm.MethodName)) ∈ lw_all := lw_g (lw_at lw_m5 68 rfl) rfl
theorem q1119 : (Jvm.Cond.code ({ cls := "java/util/ArrayDeque", name := "sub", desc := "(III)I" } : Jvm.MethodName) prog_57_method_9_code (3 : Nat) (Option.some Jvm.ClassFile.FieldType.int)) ∈ lw_all := lw_g (lw_at lw_m5 69 rfl) rfl
theorem q1121 : (Jvm.Cond.instanceMethod ({ cls := "java/util/ArrayDeque", name := "removeFirst", desc := "()Ljava/lang/Object;" } : Jvm.MethodName)) ∈ lw_all := lw_g (lw_at lw_m5 71 rfl) rfl
theorem q1122 : (Jvm.Cond.selects "java/util/ArrayDeque" ({ cls := "java/util/ArrayDeque", name := "removeFirst", desc := "()Ljava/lang/Object;" } : Jvm.MethodName) ({ cls := "java/util/ArrayDeque", name := "removeFirst", desc := "()Ljava/lang/Object;" } : Jvm.MethodName)) ∈ lw_all := lw_g (lw_at lw_m5 72 rfl) rfl
theorem q1123 : (Jvm.Cond.code ({ cls := "java/util/ArrayDeque", name := "removeFirst", desc := "()Ljava/lang/Object;" } : Jvm.MethodName) prog_57_method_18_code (2 : Nat) (Option.some (Jvm.ClassFile.FieldType.object "java/lang/Object"))) ∈ lw_all := lw_g (lw_at lw_m5 73 rfl) rfl
theorem q1124 : (Jvm.Cond.methodLink "java/util/ArrayDeque" (93 : Nat) ({ cls := "java/util/ArrayDeque", name := "pollFirst", desc := "()Ljava/lang/Object;" } : Jvm.MethodName)) ∈ lw_all := lw_g (lw_at lw_m5 74 rfl) rfl
theorem q1125 : (Jvm.Cond.instanceMethod ({ cls := "java/util/ArrayDeque", name := "pollFirst", desc := "()Ljava/lang/Object;" } : Jvm.MethodName)) ∈ lw_all := lw_g (lw_at lw_m5 75 rfl) rfl
theorem q1126 : (Jvm.Cond.selects "java/util/ArrayDeque" ({ cls := "java/util/ArrayDeque", name := "pollFirst", desc := "()Ljava/lang/Object;" } : Jvm.MethodName) ({ cls := "java/util/ArrayDeque", name := "pollFirst", desc := "()Ljava/lang/Object;" } : Jvm.MethodName)) ∈ lw_all := lw_g (lw_at lw_m5 76 rfl) rfl
theorem q1127 : (Jvm.Cond.code ({ cls := "java/util/ArrayDeque", name := "pollFirst", desc := "()Ljava/lang/Object;" } : Jvm.MethodName) prog_57_method_20_code (4 : Nat) (Option.some (Jvm.ClassFile.FieldType.object "java/lang/Object"))) ∈ lw_all := lw_g (lw_at lw_m5 77 rfl) rfl
theorem q1128 : (Jvm.Cond.methodLink "java/util/ArrayDeque" (103 : Nat) ({ cls := "java/util/ArrayDeque", name := "elementAt", desc := "([Ljava/lang/Object;I)Ljava/lang/Object;" } : Jvm.MethodName)) ∈ lw_all := lw_g (lw_at lw_m5 78 rfl) rfl
theorem q1129 : (Jvm.Cond.static ({ cls := "java/util/ArrayDeque", name := "elementAt", desc := "([Ljava/lang/Object;I)Ljava/lang/Object;" } : Jvm.MethodName)) ∈ lw_all := lw_g (lw_at lw_m5 79 rfl) rfl
theorem q1130 : (Jvm.Cond.code ({ cls := "java/util/ArrayDeque", name := "elementAt", desc := "([Ljava/lang/Object;I)Ljava/lang/Object;" } : Jvm.MethodName) prog_57_method_10_code (2 : Nat) (Option.some (Jvm.ClassFile.FieldType.object "java/lang/Object"))) ∈ lw_all := lw_g (lw_at lw_m5 80 rfl) rfl
theorem q1131 : (Jvm.Cond.methodLink "java/util/ArrayDeque" (74 : Nat) ({ cls := "java/util/ArrayDeque", name := "inc", desc := "(II)I" } : Jvm.MethodName)) ∈ lw_all := lw_g (lw_at lw_m5 81 rfl) rfl
theorem q1132 : (Jvm.Cond.static ({ cls := "java/util/ArrayDeque", name := "inc", desc := "(II)I" } : Jvm.MethodName)) ∈ lw_all := lw_g (lw_at lw_m5 82 rfl) rfl
theorem q1133 : (Jvm.Cond.code ({ cls := "java/util/ArrayDeque", name := "inc", desc := "(II)I" } : Jvm.MethodName) prog_57_method_6_code (2 : Nat) (Option.some Jvm.ClassFile.FieldType.int)) ∈ lw_all := lw_g (lw_at lw_m5 83 rfl) rfl
theorem q1134 : (Jvm.Cond.classLink "java/util/ArrayDeque" (97 : Nat) "java/util/NoSuchElementException") ∈ lw_all := lw_g (lw_at lw_m5 84 rfl) rfl
theorem q1143 : (Jvm.Cond.methodLink "java/util/ArrayDeque" (99 : Nat) ({ cls := "java/util/NoSuchElementException", name := "<init>", desc := "()V" } : Jvm.MethodName)) ∈ lw_all := lw_g (lw_at lw_m5 93 rfl) rfl
theorem q1150 : (Jvm.Cond.instanceMethod ({ cls := "java/util/ArrayDeque", name := "addLast", desc := "(Ljava/lang/Object;)V" } : Jvm.MethodName)) ∈ lw_all := lw_g (lw_at lw_m5 100 rfl) rfl
theorem q1151 : (Jvm.Cond.selects "java/util/ArrayDeque" ({ cls := "java/util/ArrayDeque", name := "addLast", desc := "(Ljava/lang/Object;)V" } : Jvm.MethodName) ({ cls := "java/util/ArrayDeque", name := "addLast", desc := "(Ljava/lang/Object;)V" } : Jvm.MethodName)) ∈ lw_all := lw_g (lw_at lw_m5 101 rfl) rfl
theorem q1152 : (Jvm.Cond.code ({ cls := "java/util/ArrayDeque", name := "addLast", desc := "(Ljava/lang/Object;)V" } : Jvm.MethodName) prog_57_method_13_code (3 : Nat) (Option.none : Option Jvm.ClassFile.FieldType)) ∈ lw_all := lw_g (lw_at lw_m5 102 rfl) rfl
theorem q1153 : (Jvm.Cond.methodLink "java/util/ArrayDeque" (71 : Nat) ({ cls := "java/util/ArrayDeque", name := "grow", desc := "(I)V" } : Jvm.MethodName)) ∈ lw_all := lw_g (lw_at lw_m5 103 rfl) rfl
theorem q1154 : (Jvm.Cond.privateMethod ({ cls := "java/util/ArrayDeque", name := "grow", desc := "(I)V" } : Jvm.MethodName)) ∈ lw_tbl := lw_at lw_m5 104 rfl
theorem q1155 : (Jvm.Cond.instanceMethod ({ cls := "java/util/ArrayDeque", name := "grow", desc := "(I)V" } : Jvm.MethodName)) ∈ lw_all := lw_g (lw_at lw_m5 105 rfl) rfl
theorem q1156 : (Jvm.Cond.code ({ cls := "java/util/ArrayDeque", name := "grow", desc := "(I)V" } : Jvm.MethodName) prog_57_method_1_code (9 : Nat) (Option.none : Option Jvm.ClassFile.FieldType)) ∈ lw_all := lw_g (lw_at lw_m5 106 rfl) rfl
theorem q1157 : (Jvm.Cond.constant "java/util/ArrayDeque" (9 : Nat) (2147483639 : Int32)) ∈ lw_all := lw_g (lw_at lw_m5 107 rfl) rfl
theorem q1158 : (Jvm.Cond.methodLink "java/util/ArrayDeque" (10 : Nat) ({ cls := "java/util/ArrayDeque", name := "newCapacity", desc := "(II)I" } : Jvm.MethodName)) ∈ lw_all := lw_g (lw_at lw_m5 108 rfl) rfl
theorem q1159 : (Jvm.Cond.privateMethod ({ cls := "java/util/ArrayDeque", name := "newCapacity", desc := "(II)I" } : Jvm.MethodName)) ∈ lw_tbl := lw_at lw_m5 109 rfl
theorem q1160 : (Jvm.Cond.instanceMethod ({ cls := "java/util/ArrayDeque", name := "newCapacity", desc := "(II)I" } : Jvm.MethodName)) ∈ lw_all := lw_g (lw_at lw_m5 110 rfl) rfl
theorem q1161 : (Jvm.Cond.code ({ cls := "java/util/ArrayDeque", name := "newCapacity", desc := "(II)I" } : Jvm.MethodName) prog_57_method_2_code (5 : Nat) (Option.some Jvm.ClassFile.FieldType.int)) ∈ lw_all := lw_g (lw_at lw_m5 111 rfl) rfl
theorem q1162 : (Jvm.Cond.classLink "java/util/ArrayDeque" (33 : Nat) "java/lang/IllegalStateException") ∈ lw_all := lw_g (lw_at lw_m5 112 rfl) rfl
theorem q1163 : (Jvm.Cond.stringRef "java/util/ArrayDeque" (35 : Nat) "Sorry, deque too big") ∈ lw_tbl := lw_at lw_m5 113 rfl
theorem q1164 : (Jvm.Cond.methodLink "java/util/ArrayDeque" (37 : Nat) ({ cls := "java/lang/IllegalStateException", name := "<init>", desc := "(Ljava/lang/String;)V" } : Jvm.MethodName)) ∈ lw_all := lw_g (lw_at lw_m5 114 rfl) rfl
theorem q1168 : (Jvm.Cond.constant "java/util/ArrayDeque" (41 : Nat) (2147483647 : Int32)) ∈ lw_all := lw_g (lw_at lw_m5 118 rfl) rfl
theorem q1169 : (Jvm.Cond.methodLink "java/util/ArrayDeque" (14 : Nat) ({ cls := "java/util/Arrays", name := "copyOf", desc := "([Ljava/lang/Object;I)[Ljava/lang/Object;" } : Jvm.MethodName)) ∈ lw_all := lw_g (lw_at lw_m5 119 rfl) rfl
theorem q2085 : (Jvm.Cond.instanceMethod ({ cls := "java/util/ArrayDeque", name := "isEmpty", desc := "()Z" } : Jvm.MethodName)) ∈ lw_all := lw_g (lw_at lw_m9 75 rfl) rfl
theorem q2086 : (Jvm.Cond.selects "java/util/ArrayDeque" ({ cls := "java/util/ArrayDeque", name := "isEmpty", desc := "()Z" } : Jvm.MethodName) ({ cls := "java/util/ArrayDeque", name := "isEmpty", desc := "()Z" } : Jvm.MethodName)) ∈ lw_all := lw_g (lw_at lw_m9 76 rfl) rfl
theorem q2087 : (Jvm.Cond.code ({ cls := "java/util/ArrayDeque", name := "isEmpty", desc := "()Z" } : Jvm.MethodName) prog_57_method_38_code (1 : Nat) (Option.some Jvm.ClassFile.FieldType.boolean)) ∈ lw_all := lw_g (lw_at lw_m9 77 rfl) rfl
theorem q2089 : (Jvm.Cond.instanceMethod ({ cls := "java/util/ArrayDeque", name := "removeLast", desc := "()Ljava/lang/Object;" } : Jvm.MethodName)) ∈ lw_all := lw_g (lw_at lw_m9 79 rfl) rfl
theorem q2090 : (Jvm.Cond.selects "java/util/ArrayDeque" ({ cls := "java/util/ArrayDeque", name := "removeLast", desc := "()Ljava/lang/Object;" } : Jvm.MethodName) ({ cls := "java/util/ArrayDeque", name := "removeLast", desc := "()Ljava/lang/Object;" } : Jvm.MethodName)) ∈ lw_all := lw_g (lw_at lw_m9 80 rfl) rfl
theorem q2091 : (Jvm.Cond.code ({ cls := "java/util/ArrayDeque", name := "removeLast", desc := "()Ljava/lang/Object;" } : Jvm.MethodName) prog_57_method_19_code (2 : Nat) (Option.some (Jvm.ClassFile.FieldType.object "java/lang/Object"))) ∈ lw_all := lw_g (lw_at lw_m9 81 rfl) rfl
theorem q2092 : (Jvm.Cond.methodLink "java/util/ArrayDeque" (100 : Nat) ({ cls := "java/util/ArrayDeque", name := "pollLast", desc := "()Ljava/lang/Object;" } : Jvm.MethodName)) ∈ lw_all := lw_g (lw_at lw_m9 82 rfl) rfl
theorem q2093 : (Jvm.Cond.instanceMethod ({ cls := "java/util/ArrayDeque", name := "pollLast", desc := "()Ljava/lang/Object;" } : Jvm.MethodName)) ∈ lw_all := lw_g (lw_at lw_m9 83 rfl) rfl
theorem q2094 : (Jvm.Cond.selects "java/util/ArrayDeque" ({ cls := "java/util/ArrayDeque", name := "pollLast", desc := "()Ljava/lang/Object;" } : Jvm.MethodName) ({ cls := "java/util/ArrayDeque", name := "pollLast", desc := "()Ljava/lang/Object;" } : Jvm.MethodName)) ∈ lw_all := lw_g (lw_at lw_m9 84 rfl) rfl
theorem q2095 : (Jvm.Cond.code ({ cls := "java/util/ArrayDeque", name := "pollLast", desc := "()Ljava/lang/Object;" } : Jvm.MethodName) prog_57_method_21_code (4 : Nat) (Option.some (Jvm.ClassFile.FieldType.object "java/lang/Object"))) ∈ lw_all := lw_g (lw_at lw_m9 85 rfl) rfl
theorem q2096 : (Jvm.Cond.methodLink "java/util/ArrayDeque" (68 : Nat) ({ cls := "java/util/ArrayDeque", name := "dec", desc := "(II)I" } : Jvm.MethodName)) ∈ lw_all := lw_g (lw_at lw_m9 86 rfl) rfl
theorem q2097 : (Jvm.Cond.static ({ cls := "java/util/ArrayDeque", name := "dec", desc := "(II)I" } : Jvm.MethodName)) ∈ lw_all := lw_g (lw_at lw_m9 87 rfl) rfl
theorem q2098 : (Jvm.Cond.code ({ cls := "java/util/ArrayDeque", name := "dec", desc := "(II)I" } : Jvm.MethodName) prog_57_method_7_code (2 : Nat) (Option.some Jvm.ClassFile.FieldType.int)) ∈ lw_all := lw_g (lw_at lw_m9 88 rfl) rfl
theorem q2107 : (Jvm.Cond.instanceMethod ({ cls := "java/util/ArrayDeque", name := "clear", desc := "()V" } : Jvm.MethodName)) ∈ lw_all := lw_g (lw_at lw_m9 97 rfl) rfl
theorem q2108 : (Jvm.Cond.selects "java/util/ArrayDeque" ({ cls := "java/util/ArrayDeque", name := "clear", desc := "()V" } : Jvm.MethodName) ({ cls := "java/util/ArrayDeque", name := "clear", desc := "()V" } : Jvm.MethodName)) ∈ lw_all := lw_g (lw_at lw_m9 98 rfl) rfl
theorem q2109 : (Jvm.Cond.code ({ cls := "java/util/ArrayDeque", name := "clear", desc := "()V" } : Jvm.MethodName) prog_57_method_53_code (1 : Nat) (Option.none : Option Jvm.ClassFile.FieldType)) ∈ lw_all := lw_g (lw_at lw_m9 99 rfl) rfl
theorem q2110 : (Jvm.Cond.methodLink "java/util/ArrayDeque" (181 : Nat) ({ cls := "java/util/ArrayDeque", name := "circularClear", desc := "([Ljava/lang/Object;II)V" } : Jvm.MethodName)) ∈ lw_all := lw_g (lw_at lw_m9 100 rfl) rfl
theorem q2111 : (Jvm.Cond.static ({ cls := "java/util/ArrayDeque", name := "circularClear", desc := "([Ljava/lang/Object;II)V" } : Jvm.MethodName)) ∈ lw_all := lw_g (lw_at lw_m9 101 rfl) rfl
theorem q2112 : (Jvm.Cond.code ({ cls := "java/util/ArrayDeque", name := "circularClear", desc := "([Ljava/lang/Object;II)V" } : Jvm.MethodName) prog_57_method_54_code (4 : Nat) (Option.none : Option Jvm.ClassFile.FieldType)) ∈ lw_all := lw_g (lw_at lw_m9 102 rfl) rfl
theorem q2630 : (Jvm.Cond.castable "java/util/ArrayDeque" "java/lang/Object") ∈ lw_tbl := lw_at lw_m11 140 rfl
theorem in_J4 : ∀ w ∈ wsJ40, w ∈ lw_all := lw_in wsJ40 [234, 236, 238] (by decide +kernel) (by decide +kernel)
/-! java/lang/AbstractStringBuilder -/
def RJ5 : String := "java/lang/AbstractStringBuilder"
abbrev cJ5_init : ByteArray := prog_26_method_2_code
def yJ5_init : MethodName := ⟨RJ5, "<init>", "(I)V"⟩
abbrev cJ5_setLength : ByteArray := prog_26_method_13_code
def yJ5_setLength : MethodName := ⟨RJ5, "setLength", "(I)V"⟩
abbrev cJ5_append : ByteArray := prog_26_method_22_code
def yJ5_append : MethodName := ⟨RJ5, "append", "(Ljava/lang/String;)Ljava/lang/AbstractStringBuilder;"⟩
abbrev cJ5_appendNull : ByteArray := prog_26_method_26_code
def yJ5_appendNull : MethodName := ⟨RJ5, "appendNull", "()Ljava/lang/AbstractStringBuilder;"⟩
abbrev cJ5_ensureCapacityInternal : ByteArray := prog_26_method_9_code
def yJ5_ensureCapacityInternal : MethodName := ⟨RJ5, "ensureCapacityInternal", "(I)V"⟩
abbrev cJ5_newCapacity : ByteArray := prog_26_method_10_code
def yJ5_newCapacity : MethodName := ⟨RJ5, "newCapacity", "(I)I"⟩
abbrev cJ5_isLatin1 : ByteArray := prog_26_method_68_code
def yJ5_isLatin1 : MethodName := ⟨RJ5, "isLatin1", "()Z"⟩
abbrev cJ5_putStringAt : ByteArray := prog_26_method_73_code
def yJ5_putStringAt : MethodName := ⟨RJ5, "putStringAt", "(ILjava/lang/String;)V"⟩
abbrev cJ5_inflateIfNeededFor : ByteArray := prog_26_method_71_code
def yJ5_inflateIfNeededFor : MethodName := ⟨RJ5, "inflateIfNeededFor", "(Ljava/lang/String;)V"⟩
abbrev cJ5_inflate : ByteArray := prog_26_method_11_code
def yJ5_inflate : MethodName := ⟨RJ5, "inflate", "()V"⟩
abbrev cJ5_append_2 : ByteArray := prog_26_method_32_code
def yJ5_append_2 : MethodName := ⟨RJ5, "append", "(I)Ljava/lang/AbstractStringBuilder;"⟩
abbrev cJ5_getValue : ByteArray := prog_26_method_64_code
def yJ5_getValue : MethodName := ⟨RJ5, "getValue", "()[B"⟩
abbrev cJ5_length : ByteArray := prog_26_method_6_code
def yJ5_length : MethodName := ⟨RJ5, "length", "()I"⟩
abbrev cJ5_append_3 : ByteArray := prog_26_method_31_code
def yJ5_append_3 : MethodName := ⟨RJ5, "append", "(C)Ljava/lang/AbstractStringBuilder;"⟩
abbrev cJ5_charAt : ByteArray := prog_26_method_14_code
def yJ5_charAt : MethodName := ⟨RJ5, "charAt", "(I)C"⟩
theorem q99 : (Jvm.Cond.initialized "java/lang/AbstractStringBuilder") ∈ lw_all := lw_g (lw_at lw_m1 9 rfl) rfl
theorem q247 : (Jvm.Cond.instanceMethod ({ cls := "java/lang/AbstractStringBuilder", name := "<init>", desc := "(I)V" } : Jvm.MethodName)) ∈ lw_all := lw_g (lw_at lw_m1 157 rfl) rfl
theorem q248 : (Jvm.Cond.code ({ cls := "java/lang/AbstractStringBuilder", name := "<init>", desc := "(I)V" } : Jvm.MethodName) prog_26_method_2_code (2 : Nat) (Option.none : Option Jvm.ClassFile.FieldType)) ∈ lw_all := lw_g (lw_at lw_m1 158 rfl) rfl
theorem q249 : (Jvm.Cond.methodLink "java/lang/AbstractStringBuilder" (3 : Nat) ({ cls := "java/lang/Object", name := "<init>", desc := "()V" } : Jvm.MethodName)) ∈ lw_all := lw_g (lw_at lw_m1 159 rfl) rfl
theorem q250 : (Jvm.Cond.fieldLink "java/lang/AbstractStringBuilder" (18 : Nat) "java/lang/String" "COMPACT_STRINGS" "Z") ∈ lw_all := lw_g (lw_at lw_m1 160 rfl) rfl
theorem q252 : (Jvm.Cond.methodLink "java/lang/AbstractStringBuilder" (26 : Nat) ({ cls := "java/lang/StringUTF16", name := "newBytesFor", desc := "(I)[B" } : Jvm.MethodName)) ∈ lw_all := lw_g (lw_at lw_m1 162 rfl) rfl
theorem q259 : (Jvm.Cond.fieldLink "java/lang/AbstractStringBuilder" (15 : Nat) "java/lang/AbstractStringBuilder" "value" "[B") ∈ lw_all := lw_g (lw_at lw_m1 169 rfl) rfl
theorem q260 : (Jvm.Cond.fieldLink "java/lang/AbstractStringBuilder" (22 : Nat) "java/lang/AbstractStringBuilder" "coder" "B") ∈ lw_all := lw_g (lw_at lw_m1 170 rfl) rfl
theorem q261 : (Jvm.Cond.fieldLink "java/lang/AbstractStringBuilder" (73 : Nat) "java/lang/AbstractStringBuilder" "maybeLatin1" "Z") ∈ lw_all := lw_g (lw_at lw_m1 171 rfl) rfl
theorem q263 : (Jvm.Cond.fieldLink "java/lang/AbstractStringBuilder" (79 : Nat) "java/lang/AbstractStringBuilder" "count" "I") ∈ lw_all := lw_g (lw_at lw_m1 173 rfl) rfl
theorem q265 : (Jvm.Cond.soleField "java/lang/AbstractStringBuilder" "value") ∈ lw_all := lw_g (lw_at lw_m1 175 rfl) rfl
theorem q267 : (Jvm.Cond.soleField "java/lang/AbstractStringBuilder" "coder") ∈ lw_all := lw_g (lw_at lw_m1 177 rfl) rfl
theorem q269 : (Jvm.Cond.soleField "java/lang/AbstractStringBuilder" "maybeLatin1") ∈ lw_all := lw_g (lw_at lw_m1 179 rfl) rfl
theorem q271 : (Jvm.Cond.soleField "java/lang/AbstractStringBuilder" "count") ∈ lw_all := lw_g (lw_at lw_m1 181 rfl) rfl
theorem q470 : (Jvm.Cond.instanceMethod ({ cls := "java/lang/AbstractStringBuilder", name := "setLength", desc := "(I)V" } : Jvm.MethodName)) ∈ lw_all := lw_g (lw_at lw_m2 140 rfl) rfl
theorem q471 : (Jvm.Cond.code ({ cls := "java/lang/AbstractStringBuilder", name := "setLength", desc := "(I)V" } : Jvm.MethodName) prog_26_method_13_code (2 : Nat) (Option.none : Option Jvm.ClassFile.FieldType)) ∈ lw_all := lw_g (lw_at lw_m2 141 rfl) rfl
theorem q472 : (Jvm.Cond.classLink "java/lang/AbstractStringBuilder" (129 : Nat) "java/lang/StringIndexOutOfBoundsException") ∈ lw_all := lw_g (lw_at lw_m2 142 rfl) rfl
theorem q474 : (Jvm.Cond.methodLink "java/lang/AbstractStringBuilder" (131 : Nat) ({ cls := "java/lang/StringIndexOutOfBoundsException", name := "<init>", desc := "(I)V" } : Jvm.MethodName)) ∈ lw_all := lw_g (lw_at lw_m2 144 rfl) rfl
theorem q485 : (Jvm.Cond.instanceMethod ({ cls := "java/lang/AbstractStringBuilder", name := "append", desc := "(Ljava/lang/String;)Ljava/lang/AbstractStringBuilder;" } : Jvm.MethodName)) ∈ lw_all := lw_g (lw_at lw_m2 155 rfl) rfl
theorem q486 : (Jvm.Cond.code ({ cls := "java/lang/AbstractStringBuilder", name := "append", desc := "(Ljava/lang/String;)Ljava/lang/AbstractStringBuilder;" } : Jvm.MethodName) prog_26_method_22_code (3 : Nat) (Option.some (Jvm.ClassFile.FieldType.object "java/lang/AbstractStringBuilder"))) ∈ lw_all := lw_g (lw_at lw_m2 156 rfl) rfl
theorem q487 : (Jvm.Cond.methodLink "java/lang/AbstractStringBuilder" (204 : Nat) ({ cls := "java/lang/AbstractStringBuilder", name := "appendNull", desc := "()Ljava/lang/AbstractStringBuilder;" } : Jvm.MethodName)) ∈ lw_all := lw_g (lw_at lw_m2 157 rfl) rfl
theorem q488 : (Jvm.Cond.privateMethod ({ cls := "java/lang/AbstractStringBuilder", name := "appendNull", desc := "()Ljava/lang/AbstractStringBuilder;" } : Jvm.MethodName)) ∈ lw_tbl := lw_at lw_m2 158 rfl
theorem q489 : (Jvm.Cond.instanceMethod ({ cls := "java/lang/AbstractStringBuilder", name := "appendNull", desc := "()Ljava/lang/AbstractStringBuilder;" } : Jvm.MethodName)) ∈ lw_all := lw_g (lw_at lw_m2 159 rfl) rfl
theorem q490 : (Jvm.Cond.code ({ cls := "java/lang/AbstractStringBuilder", name := "appendNull", desc := "()Ljava/lang/AbstractStringBuilder;" } : Jvm.MethodName) prog_26_method_26_code (3 : Nat) (Option.some (Jvm.ClassFile.FieldType.object "java/lang/AbstractStringBuilder"))) ∈ lw_all := lw_g (lw_at lw_m2 160 rfl) rfl
theorem q491 : (Jvm.Cond.methodLink "java/lang/AbstractStringBuilder" (100 : Nat) ({ cls := "java/lang/AbstractStringBuilder", name := "ensureCapacityInternal", desc := "(I)V" } : Jvm.MethodName)) ∈ lw_all := lw_g (lw_at lw_m2 161 rfl) rfl
theorem q492 : (Jvm.Cond.privateMethod ({ cls := "java/lang/AbstractStringBuilder", name := "ensureCapacityInternal", desc := "(I)V" } : Jvm.MethodName)) ∈ lw_tbl := lw_at lw_m2 162 rfl
theorem q493 : (Jvm.Cond.instanceMethod ({ cls := "java/lang/AbstractStringBuilder", name := "ensureCapacityInternal", desc := "(I)V" } : Jvm.MethodName)) ∈ lw_all := lw_g (lw_at lw_m2 163 rfl) rfl
theorem q494 : (Jvm.Cond.code ({ cls := "java/lang/AbstractStringBuilder", name := "ensureCapacityInternal", desc := "(I)V" } : Jvm.MethodName) prog_26_method_9_code (3 : Nat) (Option.none : Option Jvm.ClassFile.FieldType)) ∈ lw_all := lw_g (lw_at lw_m2 164 rfl) rfl
theorem q495 : (Jvm.Cond.methodLink "java/lang/AbstractStringBuilder" (104 : Nat) ({ cls := "java/lang/AbstractStringBuilder", name := "newCapacity", desc := "(I)I" } : Jvm.MethodName)) ∈ lw_all := lw_g (lw_at lw_m2 165 rfl) rfl
theorem q496 : (Jvm.Cond.privateMethod ({ cls := "java/lang/AbstractStringBuilder", name := "newCapacity", desc := "(I)I" } : Jvm.MethodName)) ∈ lw_tbl := lw_at lw_m2 166 rfl
theorem q497 : (Jvm.Cond.instanceMethod ({ cls := "java/lang/AbstractStringBuilder", name := "newCapacity", desc := "(I)I" } : Jvm.MethodName)) ∈ lw_all := lw_g (lw_at lw_m2 167 rfl) rfl
theorem q498 : (Jvm.Cond.code ({ cls := "java/lang/AbstractStringBuilder", name := "newCapacity", desc := "(I)I" } : Jvm.MethodName) prog_26_method_10_code (6 : Nat) (Option.some Jvm.ClassFile.FieldType.int)) ∈ lw_all := lw_g (lw_at lw_m2 168 rfl) rfl
theorem q499 : (Jvm.Cond.methodLink "java/lang/AbstractStringBuilder" (114 : Nat) ({ cls := "jdk/internal/util/ArraysSupport", name := "newLength", desc := "(III)I" } : Jvm.MethodName)) ∈ lw_all := lw_g (lw_at lw_m2 169 rfl) rfl
theorem q509 : (Jvm.Cond.constant "java/lang/AbstractStringBuilder" (39 : Nat) (2147483647 : Int32)) ∈ lw_all := lw_g (lw_at lw_m2 179 rfl) rfl
theorem q510 : (Jvm.Cond.methodLink "java/lang/AbstractStringBuilder" (108 : Nat) ({ cls := "java/util/Arrays", name := "copyOf", desc := "([BI)[B" } : Jvm.MethodName)) ∈ lw_all := lw_g (lw_at lw_m2 180 rfl) rfl
theorem q524 : (Jvm.Cond.methodLink "java/lang/AbstractStringBuilder" (83 : Nat) ({ cls := "java/lang/AbstractStringBuilder", name := "isLatin1", desc := "()Z" } : Jvm.MethodName)) ∈ lw_all := lw_g (lw_at lw_m2 194 rfl) rfl
theorem q525 : (Jvm.Cond.instanceMethod ({ cls := "java/lang/AbstractStringBuilder", name := "isLatin1", desc := "()Z" } : Jvm.MethodName)) ∈ lw_all := lw_g (lw_at lw_m2 195 rfl) rfl
theorem q526 : (Jvm.Cond.sameMethod "java/lang/AbstractStringBuilder" "java/lang/AbstractStringBuilder" "isLatin1" "()Z") ∈ lw_all := lw_g (lw_at lw_m2 196 rfl) rfl
theorem q528 : (Jvm.Cond.code ({ cls := "java/lang/AbstractStringBuilder", name := "isLatin1", desc := "()Z" } : Jvm.MethodName) prog_26_method_68_code (1 : Nat) (Option.some Jvm.ClassFile.FieldType.boolean)) ∈ lw_all := lw_g (lw_at lw_m2 198 rfl) rfl
theorem q529 : (Jvm.Cond.methodLink "java/lang/AbstractStringBuilder" (226 : Nat) ({ cls := "java/lang/StringUTF16", name := "putCharsAt", desc := "([BICCCC)I" } : Jvm.MethodName)) ∈ lw_all := lw_g (lw_at lw_m2 199 rfl) rfl
theorem q555 : (Jvm.Cond.methodLink "java/lang/AbstractStringBuilder" (32 : Nat) ({ cls := "java/lang/String", name := "length", desc := "()I" } : Jvm.MethodName)) ∈ lw_all := lw_g (lw_at lw_m2 225 rfl) rfl
theorem q564 : (Jvm.Cond.methodLink "java/lang/AbstractStringBuilder" (208 : Nat) ({ cls := "java/lang/AbstractStringBuilder", name := "putStringAt", desc := "(ILjava/lang/String;)V" } : Jvm.MethodName)) ∈ lw_all := lw_g (lw_at lw_m2 234 rfl) rfl
theorem q565 : (Jvm.Cond.privateMethod ({ cls := "java/lang/AbstractStringBuilder", name := "putStringAt", desc := "(ILjava/lang/String;)V" } : Jvm.MethodName)) ∈ lw_tbl := lw_at lw_m2 235 rfl
theorem q566 : (Jvm.Cond.instanceMethod ({ cls := "java/lang/AbstractStringBuilder", name := "putStringAt", desc := "(ILjava/lang/String;)V" } : Jvm.MethodName)) ∈ lw_all := lw_g (lw_at lw_m2 236 rfl) rfl
theorem q567 : (Jvm.Cond.code ({ cls := "java/lang/AbstractStringBuilder", name := "putStringAt", desc := "(ILjava/lang/String;)V" } : Jvm.MethodName) prog_26_method_73_code (3 : Nat) (Option.none : Option Jvm.ClassFile.FieldType)) ∈ lw_all := lw_g (lw_at lw_m2 237 rfl) rfl
theorem q568 : (Jvm.Cond.methodLink "java/lang/AbstractStringBuilder" (397 : Nat) ({ cls := "java/lang/AbstractStringBuilder", name := "inflateIfNeededFor", desc := "(Ljava/lang/String;)V" } : Jvm.MethodName)) ∈ lw_all := lw_g (lw_at lw_m2 238 rfl) rfl
theorem q569 : (Jvm.Cond.privateMethod ({ cls := "java/lang/AbstractStringBuilder", name := "inflateIfNeededFor", desc := "(Ljava/lang/String;)V" } : Jvm.MethodName)) ∈ lw_tbl := lw_at lw_m2 239 rfl
theorem q570 : (Jvm.Cond.instanceMethod ({ cls := "java/lang/AbstractStringBuilder", name := "inflateIfNeededFor", desc := "(Ljava/lang/String;)V" } : Jvm.MethodName)) ∈ lw_all := lw_g (lw_at lw_m3 0 rfl) rfl
theorem q571 : (Jvm.Cond.code ({ cls := "java/lang/AbstractStringBuilder", name := "inflateIfNeededFor", desc := "(Ljava/lang/String;)V" } : Jvm.MethodName) prog_26_method_71_code (2 : Nat) (Option.none : Option Jvm.ClassFile.FieldType)) ∈ lw_all := lw_g (lw_at lw_m3 1 rfl) rfl
theorem q572 : (Jvm.Cond.methodLink "java/lang/AbstractStringBuilder" (40 : Nat) ({ cls := "java/lang/String", name := "coder", desc := "()B" } : Jvm.MethodName)) ∈ lw_all := lw_g (lw_at lw_m3 2 rfl) rfl
theorem q573 : (Jvm.Cond.methodLink "java/lang/AbstractStringBuilder" (195 : Nat) ({ cls := "java/lang/AbstractStringBuilder", name := "inflate", desc := "()V" } : Jvm.MethodName)) ∈ lw_all := lw_g (lw_at lw_m3 3 rfl) rfl
theorem q574 : (Jvm.Cond.privateMethod ({ cls := "java/lang/AbstractStringBuilder", name := "inflate", desc := "()V" } : Jvm.MethodName)) ∈ lw_tbl := lw_at lw_m3 4 rfl
theorem q575 : (Jvm.Cond.instanceMethod ({ cls := "java/lang/AbstractStringBuilder", name := "inflate", desc := "()V" } : Jvm.MethodName)) ∈ lw_all := lw_g (lw_at lw_m3 5 rfl) rfl
theorem q576 : (Jvm.Cond.code ({ cls := "java/lang/AbstractStringBuilder", name := "inflate", desc := "()V" } : Jvm.MethodName) prog_26_method_11_code (2 : Nat) (Option.none : Option Jvm.ClassFile.FieldType)) ∈ lw_all := lw_g (lw_at lw_m3 6 rfl) rfl
theorem q577 : (Jvm.Cond.methodLink "java/lang/AbstractStringBuilder" (125 : Nat) ({ cls := "java/lang/StringLatin1", name := "inflate", desc := "([BI[BII)V" } : Jvm.MethodName)) ∈ lw_all := lw_g (lw_at lw_m3 7 rfl) rfl
theorem q592 : (Jvm.Cond.methodLink "java/lang/AbstractStringBuilder" (399 : Nat) ({ cls := "java/lang/String", name := "getBytes", desc := "([BIB)V" } : Jvm.MethodName)) ∈ lw_all := lw_g (lw_at lw_m3 22 rfl) rfl
theorem q603 : (Jvm.Cond.instanceMethod ({ cls := "java/lang/AbstractStringBuilder", name := "append", desc := "(I)Ljava/lang/AbstractStringBuilder;" } : Jvm.MethodName)) ∈ lw_all := lw_g (lw_at lw_m3 33 rfl) rfl
theorem q604 : (Jvm.Cond.code ({ cls := "java/lang/AbstractStringBuilder", name := "append", desc := "(I)Ljava/lang/AbstractStringBuilder;" } : Jvm.MethodName) prog_26_method_32_code (4 : Nat) (Option.some (Jvm.ClassFile.FieldType.object "java/lang/AbstractStringBuilder"))) ∈ lw_all := lw_g (lw_at lw_m3 34 rfl) rfl
theorem q605 : (Jvm.Cond.methodLink "java/lang/AbstractStringBuilder" (245 : Nat) ({ cls := "java/lang/Integer", name := "stringSize", desc := "(I)I" } : Jvm.MethodName)) ∈ lw_all := lw_g (lw_at lw_m3 35 rfl) rfl
theorem q608 : (Jvm.Cond.methodLink "java/lang/AbstractStringBuilder" (248 : Nat) ({ cls := "java/lang/Integer", name := "getChars", desc := "(II[B)I" } : Jvm.MethodName)) ∈ lw_all := lw_g (lw_at lw_m3 38 rfl) rfl
theorem q615 : (Jvm.Cond.methodLink "java/lang/AbstractStringBuilder" (251 : Nat) ({ cls := "java/lang/StringUTF16", name := "getChars", desc := "(III[B)I" } : Jvm.MethodName)) ∈ lw_all := lw_g (lw_at lw_m3 45 rfl) rfl
theorem q637 : (Jvm.Cond.instanceMethod ({ cls := "java/lang/AbstractStringBuilder", name := "getValue", desc := "()[B" } : Jvm.MethodName)) ∈ lw_all := lw_g (lw_at lw_m3 67 rfl) rfl
theorem q638 : (Jvm.Cond.sameMethod "java/lang/AbstractStringBuilder" "java/lang/AbstractStringBuilder" "getValue" "()[B") ∈ lw_all := lw_g (lw_at lw_m3 68 rfl) rfl
theorem q640 : (Jvm.Cond.code ({ cls := "java/lang/AbstractStringBuilder", name := "getValue", desc := "()[B" } : Jvm.MethodName) prog_26_method_64_code (1 : Nat) (Option.some (Jvm.ClassFile.FieldType.array Jvm.ClassFile.FieldType.byte))) ∈ lw_all := lw_g (lw_at lw_m3 70 rfl) rfl
theorem q642 : (Jvm.Cond.instanceMethod ({ cls := "java/lang/AbstractStringBuilder", name := "length", desc := "()I" } : Jvm.MethodName)) ∈ lw_all := lw_g (lw_at lw_m3 72 rfl) rfl
theorem q643 : (Jvm.Cond.sameMethod "java/lang/AbstractStringBuilder" "java/lang/AbstractStringBuilder" "length" "()I") ∈ lw_all := lw_g (lw_at lw_m3 73 rfl) rfl
theorem q648 : (Jvm.Cond.code ({ cls := "java/lang/AbstractStringBuilder", name := "length", desc := "()I" } : Jvm.MethodName) prog_26_method_6_code (1 : Nat) (Option.some Jvm.ClassFile.FieldType.int)) ∈ lw_all := lw_g (lw_at lw_m3 78 rfl) rfl
theorem q772 : (Jvm.Cond.methodLink "java/lang/AbstractStringBuilder" (133 : Nat) ({ cls := "java/lang/StringLatin1", name := "fillNull", desc := "([BII)V" } : Jvm.MethodName)) ∈ lw_all := lw_g (lw_at lw_m3 202 rfl) rfl
theorem q807 : (Jvm.Cond.methodLink "java/lang/AbstractStringBuilder" (137 : Nat) ({ cls := "java/lang/StringUTF16", name := "fillNull", desc := "([BII)V" } : Jvm.MethodName)) ∈ lw_all := lw_g (lw_at lw_m3 237 rfl) rfl
theorem q918 : (Jvm.Cond.instanceMethod ({ cls := "java/lang/AbstractStringBuilder", name := "append", desc := "(C)Ljava/lang/AbstractStringBuilder;" } : Jvm.MethodName)) ∈ lw_all := lw_g (lw_at lw_m4 108 rfl) rfl
theorem q919 : (Jvm.Cond.code ({ cls := "java/lang/AbstractStringBuilder", name := "append", desc := "(C)Ljava/lang/AbstractStringBuilder;" } : Jvm.MethodName) prog_26_method_31_code (2 : Nat) (Option.some (Jvm.ClassFile.FieldType.object "java/lang/AbstractStringBuilder"))) ∈ lw_all := lw_g (lw_at lw_m4 109 rfl) rfl
theorem q920 : (Jvm.Cond.methodLink "java/lang/AbstractStringBuilder" (191 : Nat) ({ cls := "java/lang/StringLatin1", name := "canEncode", desc := "(C)Z" } : Jvm.MethodName)) ∈ lw_all := lw_g (lw_at lw_m4 110 rfl) rfl
theorem q923 : (Jvm.Cond.methodLink "java/lang/AbstractStringBuilder" (197 : Nat) ({ cls := "java/lang/StringUTF16", name := "putCharSB", desc := "([BII)V" } : Jvm.MethodName)) ∈ lw_all := lw_g (lw_at lw_m4 113 rfl) rfl
theorem q1753 : (Jvm.Cond.instanceMethod ({ cls := "java/lang/AbstractStringBuilder", name := "charAt", desc := "(I)C" } : Jvm.MethodName)) ∈ lw_all := lw_g (lw_at lw_m7 223 rfl) rfl
theorem q1754 : (Jvm.Cond.code ({ cls := "java/lang/AbstractStringBuilder", name := "charAt", desc := "(I)C" } : Jvm.MethodName) prog_26_method_14_code (5 : Nat) (Option.some Jvm.ClassFile.FieldType.char)) ∈ lw_all := lw_g (lw_at lw_m7 224 rfl) rfl
theorem q1755 : (Jvm.Cond.methodLink "java/lang/AbstractStringBuilder" (138 : Nat) ({ cls := "java/lang/Math", name := "min", desc := "(II)I" } : Jvm.MethodName)) ∈ lw_all := lw_g (lw_at lw_m7 225 rfl) rfl
theorem q1756 : (Jvm.Cond.methodLink "java/lang/AbstractStringBuilder" (144 : Nat) ({ cls := "java/lang/String", name := "checkIndex", desc := "(II)V" } : Jvm.MethodName)) ∈ lw_all := lw_g (lw_at lw_m7 226 rfl) rfl
theorem q1757 : (Jvm.Cond.methodLink "java/lang/AbstractStringBuilder" (148 : Nat) ({ cls := "java/lang/StringUTF16", name := "getChar", desc := "([BI)C" } : Jvm.MethodName)) ∈ lw_all := lw_g (lw_at lw_m7 227 rfl) rfl
theorem q2610 : (Jvm.Cond.sameMethod "java/lang/AbstractStringBuilder" "java/lang/AbstractStringBuilder" "setLength" "(I)V") ∈ lw_all := lw_g (lw_at lw_m11 120 rfl) rfl
theorem q2611 : (Jvm.Cond.sameMethod "java/lang/AbstractStringBuilder" "java/lang/AbstractStringBuilder" "append" "(Ljava/lang/String;)Ljava/lang/AbstractStringBuilder;") ∈ lw_all := lw_g (lw_at lw_m11 121 rfl) rfl
theorem q2612 : (Jvm.Cond.sameMethod "java/lang/AbstractStringBuilder" "java/lang/AbstractStringBuilder" "appendNull" "()Ljava/lang/AbstractStringBuilder;") ∈ lw_all := lw_g (lw_at lw_m11 122 rfl) rfl
theorem q2613 : (Jvm.Cond.sameMethod "java/lang/AbstractStringBuilder" "java/lang/AbstractStringBuilder" "ensureCapacityInternal" "(I)V") ∈ lw_all := lw_g (lw_at lw_m11 123 rfl) rfl
theorem q2614 : (Jvm.Cond.sameMethod "java/lang/AbstractStringBuilder" "java/lang/AbstractStringBuilder" "newCapacity" "(I)I") ∈ lw_all := lw_g (lw_at lw_m11 124 rfl) rfl
theorem q2615 : (Jvm.Cond.sameMethod "java/lang/AbstractStringBuilder" "java/lang/AbstractStringBuilder" "putStringAt" "(ILjava/lang/String;)V") ∈ lw_all := lw_g (lw_at lw_m11 125 rfl) rfl
theorem q2616 : (Jvm.Cond.sameMethod "java/lang/AbstractStringBuilder" "java/lang/AbstractStringBuilder" "inflateIfNeededFor" "(Ljava/lang/String;)V") ∈ lw_all := lw_g (lw_at lw_m11 126 rfl) rfl
theorem q2617 : (Jvm.Cond.sameMethod "java/lang/AbstractStringBuilder" "java/lang/AbstractStringBuilder" "inflate" "()V") ∈ lw_all := lw_g (lw_at lw_m11 127 rfl) rfl
theorem q2618 : (Jvm.Cond.sameMethod "java/lang/AbstractStringBuilder" "java/lang/AbstractStringBuilder" "append" "(I)Ljava/lang/AbstractStringBuilder;") ∈ lw_all := lw_g (lw_at lw_m11 128 rfl) rfl
theorem q2620 : (Jvm.Cond.sameMethod "java/lang/AbstractStringBuilder" "java/lang/AbstractStringBuilder" "append" "(C)Ljava/lang/AbstractStringBuilder;") ∈ lw_all := lw_g (lw_at lw_m11 130 rfl) rfl
theorem q2622 : (Jvm.Cond.sameMethod "java/lang/AbstractStringBuilder" "java/lang/AbstractStringBuilder" "charAt" "(I)C") ∈ lw_all := lw_g (lw_at lw_m11 132 rfl) rfl
/-! java/lang/StringBuilder -/
def RJ6 : String := "java/lang/StringBuilder"
def TJ6 : u_T := fun k => match k with
  | 0 => ("java/lang/AbstractStringBuilder", "value", "[B", false)
  | 1 => ("java/lang/AbstractStringBuilder", "coder", "B", false)
  | 2 => ("java/lang/AbstractStringBuilder", "maybeLatin1", "Z", false)
  | _ => ("java/lang/AbstractStringBuilder", "count", "I", false)
def tyJ6 : Nat → FieldType := fun k => match k with
  | 0 => .array .byte
  | 1 => .byte
  | 2 => .boolean
  | _ => .int
abbrev wsJ60 : List Cond := u_ws RJ6 TJ6 4
theorem nmJ6 : ∀ a, a < 4 → ∀ b, b < 4 → a ≠ b → (TJ6 a).2.1 ≠ (TJ6 b).2.1 := by decide +kernel
theorem tyJ6_ok : ∀ k, k < 4 → parseFieldDescriptor (TJ6 k).2.2.1 = some (tyJ6 k) := by decide +kernel
abbrev cJ6_init : ByteArray := prog_46_method_1_code
def yJ6_init : MethodName := ⟨RJ6, "<init>", "()V"⟩
abbrev cJ6_setLength : ByteArray := prog_46_method_89_code
def yJ6_setLength : MethodName := ⟨RJ6, "setLength", "(I)V"⟩
abbrev cJ6_append : ByteArray := prog_46_method_7_code
def yJ6_append : MethodName := ⟨RJ6, "append", "(Ljava/lang/String;)Ljava/lang/StringBuilder;"⟩
abbrev cJ6_append_2 : ByteArray := prog_46_method_15_code
def yJ6_append_2 : MethodName := ⟨RJ6, "append", "(I)Ljava/lang/StringBuilder;"⟩
abbrev cJ6_toString : ByteArray := prog_46_method_42_code
def yJ6_toString : MethodName := ⟨RJ6, "toString", "()Ljava/lang/String;"⟩
abbrev cJ6_length : ByteArray := prog_46_method_93_code
def yJ6_length : MethodName := ⟨RJ6, "length", "()I"⟩
abbrev cJ6_append_3 : ByteArray := prog_46_method_14_code
def yJ6_append_3 : MethodName := ⟨RJ6, "append", "(C)Ljava/lang/StringBuilder;"⟩
abbrev cJ6_charAt : ByteArray := prog_46_method_88_code
def yJ6_charAt : MethodName := ⟨RJ6, "charAt", "(I)C"⟩
theorem q100 : (Jvm.Cond.initialized "java/lang/StringBuilder") ∈ lw_all := lw_g (lw_at lw_m1 10 rfl) rfl
theorem q242 : (Jvm.Cond.instantiable "java/lang/StringBuilder" (4 : Nat)) ∈ lw_all := lw_g (lw_at lw_m1 152 rfl) rfl
theorem q244 : (Jvm.Cond.instanceMethod ({ cls := "java/lang/StringBuilder", name := "<init>", desc := "()V" } : Jvm.MethodName)) ∈ lw_all := lw_g (lw_at lw_m1 154 rfl) rfl
theorem q245 : (Jvm.Cond.code ({ cls := "java/lang/StringBuilder", name := "<init>", desc := "()V" } : Jvm.MethodName) prog_46_method_1_code (1 : Nat) (Option.none : Option Jvm.ClassFile.FieldType)) ∈ lw_all := lw_g (lw_at lw_m1 155 rfl) rfl
theorem q246 : (Jvm.Cond.methodLink "java/lang/StringBuilder" (1 : Nat) ({ cls := "java/lang/AbstractStringBuilder", name := "<init>", desc := "(I)V" } : Jvm.MethodName)) ∈ lw_all := lw_g (lw_at lw_m1 156 rfl) rfl
theorem q264 : (Jvm.Cond.lays "java/lang/StringBuilder" "java/lang/AbstractStringBuilder" "value" "[B") ∈ lw_all := lw_g (lw_at lw_m1 174 rfl) rfl
theorem q266 : (Jvm.Cond.lays "java/lang/StringBuilder" "java/lang/AbstractStringBuilder" "coder" "B") ∈ lw_all := lw_g (lw_at lw_m1 176 rfl) rfl
theorem q268 : (Jvm.Cond.lays "java/lang/StringBuilder" "java/lang/AbstractStringBuilder" "maybeLatin1" "Z") ∈ lw_all := lw_g (lw_at lw_m1 178 rfl) rfl
theorem q270 : (Jvm.Cond.lays "java/lang/StringBuilder" "java/lang/AbstractStringBuilder" "count" "I") ∈ lw_all := lw_g (lw_at lw_m1 180 rfl) rfl
theorem q272 : (Jvm.Cond.superclass "java/lang/StringBuilder" "java/lang/AbstractStringBuilder") ∈ lw_all := lw_g (lw_at lw_m1 182 rfl) rfl
theorem q466 : (Jvm.Cond.instanceMethod ({ cls := "java/lang/StringBuilder", name := "setLength", desc := "(I)V" } : Jvm.MethodName)) ∈ lw_all := lw_g (lw_at lw_m2 136 rfl) rfl
theorem q467 : (Jvm.Cond.selects "java/lang/StringBuilder" ({ cls := "java/lang/StringBuilder", name := "setLength", desc := "(I)V" } : Jvm.MethodName) ({ cls := "java/lang/StringBuilder", name := "setLength", desc := "(I)V" } : Jvm.MethodName)) ∈ lw_all := lw_g (lw_at lw_m2 137 rfl) rfl
theorem q468 : (Jvm.Cond.code ({ cls := "java/lang/StringBuilder", name := "setLength", desc := "(I)V" } : Jvm.MethodName) prog_46_method_89_code (2 : Nat) (Option.none : Option Jvm.ClassFile.FieldType)) ∈ lw_all := lw_g (lw_at lw_m2 138 rfl) rfl
theorem q469 : (Jvm.Cond.methodLink "java/lang/StringBuilder" (333 : Nat) ({ cls := "java/lang/AbstractStringBuilder", name := "setLength", desc := "(I)V" } : Jvm.MethodName)) ∈ lw_all := lw_g (lw_at lw_m2 139 rfl) rfl
theorem q481 : (Jvm.Cond.instanceMethod ({ cls := "java/lang/StringBuilder", name := "append", desc := "(Ljava/lang/String;)Ljava/lang/StringBuilder;" } : Jvm.MethodName)) ∈ lw_all := lw_g (lw_at lw_m2 151 rfl) rfl
theorem q482 : (Jvm.Cond.selects "java/lang/StringBuilder" ({ cls := "java/lang/StringBuilder", name := "append", desc := "(Ljava/lang/String;)Ljava/lang/StringBuilder;" } : Jvm.MethodName) ({ cls := "java/lang/StringBuilder", name := "append", desc := "(Ljava/lang/String;)Ljava/lang/StringBuilder;" } : Jvm.MethodName)) ∈ lw_all := lw_g (lw_at lw_m2 152 rfl) rfl
theorem q483 : (Jvm.Cond.code ({ cls := "java/lang/StringBuilder", name := "append", desc := "(Ljava/lang/String;)Ljava/lang/StringBuilder;" } : Jvm.MethodName) prog_46_method_7_code (2 : Nat) (Option.some (Jvm.ClassFile.FieldType.object "java/lang/StringBuilder"))) ∈ lw_all := lw_g (lw_at lw_m2 153 rfl) rfl
theorem q484 : (Jvm.Cond.methodLink "java/lang/StringBuilder" (29 : Nat) ({ cls := "java/lang/AbstractStringBuilder", name := "append", desc := "(Ljava/lang/String;)Ljava/lang/AbstractStringBuilder;" } : Jvm.MethodName)) ∈ lw_all := lw_g (lw_at lw_m2 154 rfl) rfl
theorem q527 : (Jvm.Cond.selects "java/lang/StringBuilder" ({ cls := "java/lang/AbstractStringBuilder", name := "isLatin1", desc := "()Z" } : Jvm.MethodName) ({ cls := "java/lang/AbstractStringBuilder", name := "isLatin1", desc := "()Z" } : Jvm.MethodName)) ∈ lw_all := lw_g (lw_at lw_m2 197 rfl) rfl
theorem q599 : (Jvm.Cond.instanceMethod ({ cls := "java/lang/StringBuilder", name := "append", desc := "(I)Ljava/lang/StringBuilder;" } : Jvm.MethodName)) ∈ lw_all := lw_g (lw_at lw_m3 29 rfl) rfl
theorem q600 : (Jvm.Cond.selects "java/lang/StringBuilder" ({ cls := "java/lang/StringBuilder", name := "append", desc := "(I)Ljava/lang/StringBuilder;" } : Jvm.MethodName) ({ cls := "java/lang/StringBuilder", name := "append", desc := "(I)Ljava/lang/StringBuilder;" } : Jvm.MethodName)) ∈ lw_all := lw_g (lw_at lw_m3 30 rfl) rfl
theorem q601 : (Jvm.Cond.code ({ cls := "java/lang/StringBuilder", name := "append", desc := "(I)Ljava/lang/StringBuilder;" } : Jvm.MethodName) prog_46_method_15_code (2 : Nat) (Option.some (Jvm.ClassFile.FieldType.object "java/lang/StringBuilder"))) ∈ lw_all := lw_g (lw_at lw_m3 31 rfl) rfl
theorem q602 : (Jvm.Cond.methodLink "java/lang/StringBuilder" (53 : Nat) ({ cls := "java/lang/AbstractStringBuilder", name := "append", desc := "(I)Ljava/lang/AbstractStringBuilder;" } : Jvm.MethodName)) ∈ lw_all := lw_g (lw_at lw_m3 32 rfl) rfl
theorem q624 : (Jvm.Cond.instanceMethod ({ cls := "java/lang/StringBuilder", name := "toString", desc := "()Ljava/lang/String;" } : Jvm.MethodName)) ∈ lw_all := lw_g (lw_at lw_m3 54 rfl) rfl
theorem q625 : (Jvm.Cond.selects "java/lang/StringBuilder" ({ cls := "java/lang/StringBuilder", name := "toString", desc := "()Ljava/lang/String;" } : Jvm.MethodName) ({ cls := "java/lang/StringBuilder", name := "toString", desc := "()Ljava/lang/String;" } : Jvm.MethodName)) ∈ lw_all := lw_g (lw_at lw_m3 55 rfl) rfl
theorem q626 : (Jvm.Cond.code ({ cls := "java/lang/StringBuilder", name := "toString", desc := "()Ljava/lang/String;" } : Jvm.MethodName) prog_46_method_42_code (1 : Nat) (Option.some (Jvm.ClassFile.FieldType.object "java/lang/String"))) ∈ lw_all := lw_g (lw_at lw_m3 56 rfl) rfl
theorem q627 : (Jvm.Cond.classLink "java/lang/StringBuilder" (18 : Nat) "java/lang/String") ∈ lw_all := lw_g (lw_at lw_m3 57 rfl) rfl
theorem q629 : (Jvm.Cond.methodLink "java/lang/StringBuilder" (137 : Nat) ({ cls := "java/lang/String", name := "<init>", desc := "(Ljava/lang/StringBuilder;)V" } : Jvm.MethodName)) ∈ lw_all := lw_g (lw_at lw_m3 59 rfl) rfl
theorem q639 : (Jvm.Cond.selects "java/lang/StringBuilder" ({ cls := "java/lang/AbstractStringBuilder", name := "getValue", desc := "()[B" } : Jvm.MethodName) ({ cls := "java/lang/AbstractStringBuilder", name := "getValue", desc := "()[B" } : Jvm.MethodName)) ∈ lw_all := lw_g (lw_at lw_m3 69 rfl) rfl
theorem q644 : (Jvm.Cond.selects "java/lang/StringBuilder" ({ cls := "java/lang/AbstractStringBuilder", name := "length", desc := "()I" } : Jvm.MethodName) ({ cls := "java/lang/StringBuilder", name := "length", desc := "()I" } : Jvm.MethodName)) ∈ lw_all := lw_g (lw_at lw_m3 74 rfl) rfl
theorem q645 : (Jvm.Cond.instanceMethod ({ cls := "java/lang/StringBuilder", name := "length", desc := "()I" } : Jvm.MethodName)) ∈ lw_all := lw_g (lw_at lw_m3 75 rfl) rfl
theorem q646 : (Jvm.Cond.code ({ cls := "java/lang/StringBuilder", name := "length", desc := "()I" } : Jvm.MethodName) prog_46_method_93_code (1 : Nat) (Option.some Jvm.ClassFile.FieldType.int)) ∈ lw_all := lw_g (lw_at lw_m3 76 rfl) rfl
theorem q647 : (Jvm.Cond.methodLink "java/lang/StringBuilder" (343 : Nat) ({ cls := "java/lang/AbstractStringBuilder", name := "length", desc := "()I" } : Jvm.MethodName)) ∈ lw_all := lw_g (lw_at lw_m3 77 rfl) rfl
theorem q914 : (Jvm.Cond.instanceMethod ({ cls := "java/lang/StringBuilder", name := "append", desc := "(C)Ljava/lang/StringBuilder;" } : Jvm.MethodName)) ∈ lw_all := lw_g (lw_at lw_m4 104 rfl) rfl
theorem q915 : (Jvm.Cond.selects "java/lang/StringBuilder" ({ cls := "java/lang/StringBuilder", name := "append", desc := "(C)Ljava/lang/StringBuilder;" } : Jvm.MethodName) ({ cls := "java/lang/StringBuilder", name := "append", desc := "(C)Ljava/lang/StringBuilder;" } : Jvm.MethodName)) ∈ lw_all := lw_g (lw_at lw_m4 105 rfl) rfl
theorem q916 : (Jvm.Cond.code ({ cls := "java/lang/StringBuilder", name := "append", desc := "(C)Ljava/lang/StringBuilder;" } : Jvm.MethodName) prog_46_method_14_code (2 : Nat) (Option.some (Jvm.ClassFile.FieldType.object "java/lang/StringBuilder"))) ∈ lw_all := lw_g (lw_at lw_m4 106 rfl) rfl
theorem q917 : (Jvm.Cond.methodLink "java/lang/StringBuilder" (50 : Nat) ({ cls := "java/lang/AbstractStringBuilder", name := "append", desc := "(C)Ljava/lang/AbstractStringBuilder;" } : Jvm.MethodName)) ∈ lw_all := lw_g (lw_at lw_m4 107 rfl) rfl
theorem q1003 : (Jvm.Cond.selects "java/lang/StringBuilder" ({ cls := "java/lang/Object", name := "getClass", desc := "()Ljava/lang/Class;" } : Jvm.MethodName) ({ cls := "java/lang/Object", name := "getClass", desc := "()Ljava/lang/Class;" } : Jvm.MethodName)) ∈ lw_all := lw_g (lw_at lw_m4 193 rfl) rfl
theorem q1749 : (Jvm.Cond.instanceMethod ({ cls := "java/lang/StringBuilder", name := "charAt", desc := "(I)C" } : Jvm.MethodName)) ∈ lw_all := lw_g (lw_at lw_m7 219 rfl) rfl
theorem q1750 : (Jvm.Cond.selects "java/lang/StringBuilder" ({ cls := "java/lang/StringBuilder", name := "charAt", desc := "(I)C" } : Jvm.MethodName) ({ cls := "java/lang/StringBuilder", name := "charAt", desc := "(I)C" } : Jvm.MethodName)) ∈ lw_all := lw_g (lw_at lw_m7 220 rfl) rfl
theorem q1751 : (Jvm.Cond.code ({ cls := "java/lang/StringBuilder", name := "charAt", desc := "(I)C" } : Jvm.MethodName) prog_46_method_88_code (2 : Nat) (Option.some Jvm.ClassFile.FieldType.char)) ∈ lw_all := lw_g (lw_at lw_m7 221 rfl) rfl
theorem q1752 : (Jvm.Cond.methodLink "java/lang/StringBuilder" (329 : Nat) ({ cls := "java/lang/AbstractStringBuilder", name := "charAt", desc := "(I)C" } : Jvm.MethodName)) ∈ lw_all := lw_g (lw_at lw_m7 222 rfl) rfl
theorem q2621 : (Jvm.Cond.selects "java/lang/StringBuilder" ({ cls := "java/lang/StringBuilder", name := "length", desc := "()I" } : Jvm.MethodName) ({ cls := "java/lang/StringBuilder", name := "length", desc := "()I" } : Jvm.MethodName)) ∈ lw_all := lw_g (lw_at lw_m11 131 rfl) rfl
theorem q2631 : (Jvm.Cond.castable "java/lang/StringBuilder" "java/lang/Object") ∈ lw_tbl := lw_at lw_m11 141 rfl
theorem in_J6 : ∀ w ∈ wsJ60, w ∈ lw_all := lw_in wsJ60 [264, 266, 268, 270] (by decide +kernel) (by decide +kernel)
/-! java/lang/String -/
def RJ7 : String := "java/lang/String"
def TJ7 : u_T := fun k => match k with
  | 0 => ("java/lang/String", "value", "[B", true)
  | 1 => ("java/lang/String", "coder", "B", true)
  | 2 => ("java/lang/String", "hash", "I", false)
  | _ => ("java/lang/String", "hashIsZero", "Z", false)
def tyJ7 : Nat → FieldType := fun k => match k with
  | 0 => .array .byte
  | 1 => .byte
  | 2 => .int
  | _ => .boolean
abbrev wsJ70 : List Cond := u_ws RJ7 TJ7 4
theorem nmJ7 : ∀ a, a < 4 → ∀ b, b < 4 → a ≠ b → (TJ7 a).2.1 ≠ (TJ7 b).2.1 := by decide +kernel
theorem tyJ7_ok : ∀ k, k < 4 → parseFieldDescriptor (TJ7 k).2.2.1 = some (tyJ7 k) := by decide +kernel
abbrev cJ7_checkBoundsBeginEnd : ByteArray := prog_45_method_158_code
def yJ7_checkBoundsBeginEnd : MethodName := ⟨RJ7, "checkBoundsBeginEnd", "(III)V"⟩
abbrev cJ7_length : ByteArray := prog_45_method_54_code
def yJ7_length : MethodName := ⟨RJ7, "length", "()I"⟩
abbrev cJ7_coder : ByteArray := prog_45_method_152_code
def yJ7_coder : MethodName := ⟨RJ7, "coder", "()B"⟩
abbrev cJ7_checkBoundsOffCount : ByteArray := prog_45_method_157_code
def yJ7_checkBoundsOffCount : MethodName := ⟨RJ7, "checkBoundsOffCount", "(III)I"⟩
abbrev cJ7_getBytes : ByteArray := prog_45_method_147_code
def yJ7_getBytes : MethodName := ⟨RJ7, "getBytes", "([BIB)V"⟩
abbrev cJ7_init : ByteArray := prog_45_method_53_code
def yJ7_init : MethodName := ⟨RJ7, "<init>", "(Ljava/lang/StringBuilder;)V"⟩
abbrev cJ7_init_2 : ByteArray := prog_45_method_150_code
def yJ7_init_2 : MethodName := ⟨RJ7, "<init>", "(Ljava/lang/AbstractStringBuilder;Ljava/lang/Void;)V"⟩
abbrev cJ7_checkIndex : ByteArray := prog_45_method_155_code
def yJ7_checkIndex : MethodName := ⟨RJ7, "checkIndex", "(II)V"⟩
abbrev cJ7_indexOf : ByteArray := prog_45_method_79_code
def yJ7_indexOf : MethodName := ⟨RJ7, "indexOf", "(I)I"⟩
abbrev cJ7_indexOf_2 : ByteArray := prog_45_method_80_code
def yJ7_indexOf_2 : MethodName := ⟨RJ7, "indexOf", "(II)I"⟩
abbrev cJ7_isLatin1 : ByteArray := prog_45_method_154_code
def yJ7_isLatin1 : MethodName := ⟨RJ7, "isLatin1", "()Z"⟩
abbrev cJ7_charAt : ByteArray := prog_45_method_56_code
def yJ7_charAt : MethodName := ⟨RJ7, "charAt", "(I)C"⟩
theorem q101 : (Jvm.Cond.initialized "java/lang/String") ∈ lw_all := lw_g (lw_at lw_m1 11 rfl) rfl
theorem q251 : (Jvm.Cond.laysStatic "java/lang/String" "COMPACT_STRINGS" "Z") ∈ lw_tbl := lw_at lw_m1 161 rfl
theorem q262 : (Jvm.Cond.fieldLink "java/lang/String" (1048 : Nat) "java/lang/AbstractStringBuilder" "maybeLatin1" "Z") ∈ lw_all := lw_g (lw_at lw_m1 172 rfl) rfl
theorem q539 : (Jvm.Cond.static ({ cls := "java/lang/String", name := "checkBoundsBeginEnd", desc := "(III)V" } : Jvm.MethodName)) ∈ lw_all := lw_g (lw_at lw_m2 209 rfl) rfl
theorem q540 : (Jvm.Cond.code ({ cls := "java/lang/String", name := "checkBoundsBeginEnd", desc := "(III)V" } : Jvm.MethodName) prog_45_method_158_code (3 : Nat) (Option.none : Option Jvm.ClassFile.FieldType)) ∈ lw_all := lw_g (lw_at lw_m2 210 rfl) rfl
theorem q541 : (Jvm.Cond.fieldLink "java/lang/String" (1053 : Nat) "jdk/internal/util/Preconditions" "SIOOBE_FORMATTER" "Ljava/util/function/BiFunction;") ∈ lw_all := lw_g (lw_at lw_m2 211 rfl) rfl
theorem q543 : (Jvm.Cond.methodLink "java/lang/String" (1062 : Nat) ({ cls := "jdk/internal/util/Preconditions", name := "checkFromToIndex", desc := "(IIILjava/util/function/BiFunction;)I" } : Jvm.MethodName)) ∈ lw_all := lw_g (lw_at lw_m2 213 rfl) rfl
theorem q556 : (Jvm.Cond.instanceMethod ({ cls := "java/lang/String", name := "length", desc := "()I" } : Jvm.MethodName)) ∈ lw_all := lw_g (lw_at lw_m2 226 rfl) rfl
theorem q557 : (Jvm.Cond.selects "java/lang/String" ({ cls := "java/lang/String", name := "length", desc := "()I" } : Jvm.MethodName) ({ cls := "java/lang/String", name := "length", desc := "()I" } : Jvm.MethodName)) ∈ lw_all := lw_g (lw_at lw_m2 227 rfl) rfl
theorem q558 : (Jvm.Cond.code ({ cls := "java/lang/String", name := "length", desc := "()I" } : Jvm.MethodName) prog_45_method_54_code (1 : Nat) (Option.some Jvm.ClassFile.FieldType.int)) ∈ lw_all := lw_g (lw_at lw_m2 228 rfl) rfl
theorem q559 : (Jvm.Cond.methodLink "java/lang/String" (335 : Nat) ({ cls := "java/lang/String", name := "coder", desc := "()B" } : Jvm.MethodName)) ∈ lw_all := lw_g (lw_at lw_m2 229 rfl) rfl
theorem q560 : (Jvm.Cond.instanceMethod ({ cls := "java/lang/String", name := "coder", desc := "()B" } : Jvm.MethodName)) ∈ lw_all := lw_g (lw_at lw_m2 230 rfl) rfl
theorem q561 : (Jvm.Cond.selects "java/lang/String" ({ cls := "java/lang/String", name := "coder", desc := "()B" } : Jvm.MethodName) ({ cls := "java/lang/String", name := "coder", desc := "()B" } : Jvm.MethodName)) ∈ lw_all := lw_g (lw_at lw_m2 231 rfl) rfl
theorem q562 : (Jvm.Cond.code ({ cls := "java/lang/String", name := "coder", desc := "()B" } : Jvm.MethodName) prog_45_method_152_code (1 : Nat) (Option.some Jvm.ClassFile.FieldType.byte)) ∈ lw_all := lw_g (lw_at lw_m2 232 rfl) rfl
theorem q563 : (Jvm.Cond.fieldLink "java/lang/String" (38 : Nat) "java/lang/String" "COMPACT_STRINGS" "Z") ∈ lw_all := lw_g (lw_at lw_m2 233 rfl) rfl
theorem q587 : (Jvm.Cond.static ({ cls := "java/lang/String", name := "checkBoundsOffCount", desc := "(III)I" } : Jvm.MethodName)) ∈ lw_all := lw_g (lw_at lw_m3 17 rfl) rfl
theorem q588 : (Jvm.Cond.code ({ cls := "java/lang/String", name := "checkBoundsOffCount", desc := "(III)I" } : Jvm.MethodName) prog_45_method_157_code (3 : Nat) (Option.some Jvm.ClassFile.FieldType.int)) ∈ lw_all := lw_g (lw_at lw_m3 18 rfl) rfl
theorem q589 : (Jvm.Cond.methodLink "java/lang/String" (1065 : Nat) ({ cls := "jdk/internal/util/Preconditions", name := "checkFromIndexSize", desc := "(IIILjava/util/function/BiFunction;)I" } : Jvm.MethodName)) ∈ lw_all := lw_g (lw_at lw_m3 19 rfl) rfl
theorem q593 : (Jvm.Cond.instanceMethod ({ cls := "java/lang/String", name := "getBytes", desc := "([BIB)V" } : Jvm.MethodName)) ∈ lw_all := lw_g (lw_at lw_m3 23 rfl) rfl
theorem q594 : (Jvm.Cond.selects "java/lang/String" ({ cls := "java/lang/String", name := "getBytes", desc := "([BIB)V" } : Jvm.MethodName) ({ cls := "java/lang/String", name := "getBytes", desc := "([BIB)V" } : Jvm.MethodName)) ∈ lw_all := lw_g (lw_at lw_m3 24 rfl) rfl
theorem q595 : (Jvm.Cond.code ({ cls := "java/lang/String", name := "getBytes", desc := "([BIB)V" } : Jvm.MethodName) prog_45_method_147_code (4 : Nat) (Option.none : Option Jvm.ClassFile.FieldType)) ∈ lw_all := lw_g (lw_at lw_m3 25 rfl) rfl
theorem q596 : (Jvm.Cond.methodLink "java/lang/String" (212 : Nat) ({ cls := "java/lang/System", name := "arraycopy", desc := "(Ljava/lang/Object;ILjava/lang/Object;II)V" } : Jvm.MethodName)) ∈ lw_all := lw_g (lw_at lw_m3 26 rfl) rfl
theorem q597 : (Jvm.Cond.methodLink "java/lang/String" (106 : Nat) ({ cls := "java/lang/StringLatin1", name := "inflate", desc := "([BI[BII)V" } : Jvm.MethodName)) ∈ lw_all := lw_g (lw_at lw_m3 27 rfl) rfl
theorem q628 : (Jvm.Cond.instantiable "java/lang/String" (4 : Nat)) ∈ lw_all := lw_g (lw_at lw_m3 58 rfl) rfl
theorem q630 : (Jvm.Cond.instanceMethod ({ cls := "java/lang/String", name := "<init>", desc := "(Ljava/lang/StringBuilder;)V" } : Jvm.MethodName)) ∈ lw_all := lw_g (lw_at lw_m3 60 rfl) rfl
theorem q631 : (Jvm.Cond.code ({ cls := "java/lang/String", name := "<init>", desc := "(Ljava/lang/StringBuilder;)V" } : Jvm.MethodName) prog_45_method_53_code (2 : Nat) (Option.none : Option Jvm.ClassFile.FieldType)) ∈ lw_all := lw_g (lw_at lw_m3 61 rfl) rfl
theorem q632 : (Jvm.Cond.methodLink "java/lang/String" (489 : Nat) ({ cls := "java/lang/String", name := "<init>", desc := "(Ljava/lang/AbstractStringBuilder;Ljava/lang/Void;)V" } : Jvm.MethodName)) ∈ lw_all := lw_g (lw_at lw_m3 62 rfl) rfl
theorem q633 : (Jvm.Cond.instanceMethod ({ cls := "java/lang/String", name := "<init>", desc := "(Ljava/lang/AbstractStringBuilder;Ljava/lang/Void;)V" } : Jvm.MethodName)) ∈ lw_all := lw_g (lw_at lw_m3 63 rfl) rfl
theorem q634 : (Jvm.Cond.code ({ cls := "java/lang/String", name := "<init>", desc := "(Ljava/lang/AbstractStringBuilder;Ljava/lang/Void;)V" } : Jvm.MethodName) prog_45_method_150_code (5 : Nat) (Option.none : Option Jvm.ClassFile.FieldType)) ∈ lw_all := lw_g (lw_at lw_m3 64 rfl) rfl
theorem q635 : (Jvm.Cond.methodLink "java/lang/String" (1 : Nat) ({ cls := "java/lang/Object", name := "<init>", desc := "()V" } : Jvm.MethodName)) ∈ lw_all := lw_g (lw_at lw_m3 65 rfl) rfl
theorem q636 : (Jvm.Cond.methodLink "java/lang/String" (552 : Nat) ({ cls := "java/lang/AbstractStringBuilder", name := "getValue", desc := "()[B" } : Jvm.MethodName)) ∈ lw_all := lw_g (lw_at lw_m3 66 rfl) rfl
theorem q641 : (Jvm.Cond.methodLink "java/lang/String" (549 : Nat) ({ cls := "java/lang/AbstractStringBuilder", name := "length", desc := "()I" } : Jvm.MethodName)) ∈ lw_all := lw_g (lw_at lw_m3 71 rfl) rfl
theorem q649 : (Jvm.Cond.methodLink "java/lang/String" (1047 : Nat) ({ cls := "java/lang/AbstractStringBuilder", name := "isLatin1", desc := "()Z" } : Jvm.MethodName)) ∈ lw_all := lw_g (lw_at lw_m3 79 rfl) rfl
theorem q650 : (Jvm.Cond.methodLink "java/lang/String" (54 : Nat) ({ cls := "java/util/Arrays", name := "copyOfRange", desc := "([BII)[B" } : Jvm.MethodName)) ∈ lw_all := lw_g (lw_at lw_m3 80 rfl) rfl
theorem q737 : (Jvm.Cond.methodLink "java/lang/String" (1051 : Nat) ({ cls := "java/lang/StringUTF16", name := "compress", desc := "([BII)[B" } : Jvm.MethodName)) ∈ lw_all := lw_g (lw_at lw_m3 167 rfl) rfl
theorem q747 : (Jvm.Cond.methodLink "java/lang/String" (47 : Nat) ({ cls := "java/lang/StringUTF16", name := "coderFromArrayLen", desc := "([BI)B" } : Jvm.MethodName)) ∈ lw_all := lw_g (lw_at lw_m3 177 rfl) rfl
theorem q750 : (Jvm.Cond.fieldLink "java/lang/String" (9 : Nat) "java/lang/String" "value" "[B") ∈ lw_all := lw_g (lw_at lw_m3 180 rfl) rfl
theorem q751 : (Jvm.Cond.fieldLink "java/lang/String" (15 : Nat) "java/lang/String" "coder" "B") ∈ lw_all := lw_g (lw_at lw_m3 181 rfl) rfl
theorem q752 : (Jvm.Cond.laysFinal "java/lang/String" "java/lang/String" "value" "[B") ∈ lw_all := lw_g (lw_at lw_m3 182 rfl) rfl
theorem q753 : (Jvm.Cond.soleField "java/lang/String" "value") ∈ lw_all := lw_g (lw_at lw_m3 183 rfl) rfl
theorem q754 : (Jvm.Cond.laysFinal "java/lang/String" "java/lang/String" "coder" "B") ∈ lw_all := lw_g (lw_at lw_m3 184 rfl) rfl
theorem q755 : (Jvm.Cond.soleField "java/lang/String" "coder") ∈ lw_all := lw_g (lw_at lw_m3 185 rfl) rfl
theorem q756 : (Jvm.Cond.lays "java/lang/String" "java/lang/String" "hash" "I") ∈ lw_all := lw_g (lw_at lw_m3 186 rfl) rfl
theorem q757 : (Jvm.Cond.soleField "java/lang/String" "hash") ∈ lw_all := lw_g (lw_at lw_m3 187 rfl) rfl
theorem q758 : (Jvm.Cond.lays "java/lang/String" "java/lang/String" "hashIsZero" "Z") ∈ lw_all := lw_g (lw_at lw_m3 188 rfl) rfl
theorem q759 : (Jvm.Cond.soleField "java/lang/String" "hashIsZero") ∈ lw_all := lw_g (lw_at lw_m3 189 rfl) rfl
theorem q760 : (Jvm.Cond.superclass "java/lang/String" "java/lang/Object") ∈ lw_all := lw_g (lw_at lw_m3 190 rfl) rfl
theorem q930 : (Jvm.Cond.static ({ cls := "java/lang/String", name := "checkIndex", desc := "(II)V" } : Jvm.MethodName)) ∈ lw_all := lw_g (lw_at lw_m4 120 rfl) rfl
theorem q931 : (Jvm.Cond.code ({ cls := "java/lang/String", name := "checkIndex", desc := "(II)V" } : Jvm.MethodName) prog_45_method_155_code (2 : Nat) (Option.none : Option Jvm.ClassFile.FieldType)) ∈ lw_all := lw_g (lw_at lw_m4 121 rfl) rfl
theorem q932 : (Jvm.Cond.methodLink "java/lang/String" (1059 : Nat) ({ cls := "jdk/internal/util/Preconditions", name := "checkIndex", desc := "(IILjava/util/function/BiFunction;)I" } : Jvm.MethodName)) ∈ lw_all := lw_g (lw_at lw_m4 122 rfl) rfl
theorem q1002 : (Jvm.Cond.selects "java/lang/String" ({ cls := "java/lang/Object", name := "getClass", desc := "()Ljava/lang/Class;" } : Jvm.MethodName) ({ cls := "java/lang/Object", name := "getClass", desc := "()Ljava/lang/Class;" } : Jvm.MethodName)) ∈ lw_all := lw_g (lw_at lw_m4 192 rfl) rfl
theorem q1803 : (Jvm.Cond.instanceMethod ({ cls := "java/lang/String", name := "indexOf", desc := "(I)I" } : Jvm.MethodName)) ∈ lw_all := lw_g (lw_at lw_m8 33 rfl) rfl
theorem q1804 : (Jvm.Cond.selects "java/lang/String" ({ cls := "java/lang/String", name := "indexOf", desc := "(I)I" } : Jvm.MethodName) ({ cls := "java/lang/String", name := "indexOf", desc := "(I)I" } : Jvm.MethodName)) ∈ lw_all := lw_g (lw_at lw_m8 34 rfl) rfl
theorem q1805 : (Jvm.Cond.code ({ cls := "java/lang/String", name := "indexOf", desc := "(I)I" } : Jvm.MethodName) prog_45_method_79_code (2 : Nat) (Option.some Jvm.ClassFile.FieldType.int)) ∈ lw_all := lw_g (lw_at lw_m8 35 rfl) rfl
theorem q1806 : (Jvm.Cond.methodLink "java/lang/String" (633 : Nat) ({ cls := "java/lang/String", name := "indexOf", desc := "(II)I" } : Jvm.MethodName)) ∈ lw_all := lw_g (lw_at lw_m8 36 rfl) rfl
theorem q1807 : (Jvm.Cond.instanceMethod ({ cls := "java/lang/String", name := "indexOf", desc := "(II)I" } : Jvm.MethodName)) ∈ lw_all := lw_g (lw_at lw_m8 37 rfl) rfl
theorem q1808 : (Jvm.Cond.selects "java/lang/String" ({ cls := "java/lang/String", name := "indexOf", desc := "(II)I" } : Jvm.MethodName) ({ cls := "java/lang/String", name := "indexOf", desc := "(II)I" } : Jvm.MethodName)) ∈ lw_all := lw_g (lw_at lw_m8 38 rfl) rfl
theorem q1809 : (Jvm.Cond.code ({ cls := "java/lang/String", name := "indexOf", desc := "(II)I" } : Jvm.MethodName) prog_45_method_80_code (3 : Nat) (Option.some Jvm.ClassFile.FieldType.int)) ∈ lw_all := lw_g (lw_at lw_m8 39 rfl) rfl
theorem q1810 : (Jvm.Cond.methodLink "java/lang/String" (492 : Nat) ({ cls := "java/lang/String", name := "isLatin1", desc := "()Z" } : Jvm.MethodName)) ∈ lw_all := lw_g (lw_at lw_m8 40 rfl) rfl
theorem q1811 : (Jvm.Cond.instanceMethod ({ cls := "java/lang/String", name := "isLatin1", desc := "()Z" } : Jvm.MethodName)) ∈ lw_all := lw_g (lw_at lw_m8 41 rfl) rfl
theorem q1812 : (Jvm.Cond.selects "java/lang/String" ({ cls := "java/lang/String", name := "isLatin1", desc := "()Z" } : Jvm.MethodName) ({ cls := "java/lang/String", name := "isLatin1", desc := "()Z" } : Jvm.MethodName)) ∈ lw_all := lw_g (lw_at lw_m8 42 rfl) rfl
theorem q1813 : (Jvm.Cond.code ({ cls := "java/lang/String", name := "isLatin1", desc := "()Z" } : Jvm.MethodName) prog_45_method_154_code (1 : Nat) (Option.some Jvm.ClassFile.FieldType.boolean)) ∈ lw_all := lw_g (lw_at lw_m8 43 rfl) rfl
theorem q1814 : (Jvm.Cond.methodLink "java/lang/String" (505 : Nat) ({ cls := "java/lang/String", name := "length", desc := "()I" } : Jvm.MethodName)) ∈ lw_all := lw_g (lw_at lw_m8 44 rfl) rfl
theorem q1815 : (Jvm.Cond.methodLink "java/lang/String" (637 : Nat) ({ cls := "java/lang/StringLatin1", name := "indexOf", desc := "([BIII)I" } : Jvm.MethodName)) ∈ lw_all := lw_g (lw_at lw_m8 45 rfl) rfl
theorem q1826 : (Jvm.Cond.methodLink "java/lang/String" (640 : Nat) ({ cls := "java/lang/StringUTF16", name := "indexOf", desc := "([BIII)I" } : Jvm.MethodName)) ∈ lw_all := lw_g (lw_at lw_m8 56 rfl) rfl
theorem q1895 : (Jvm.Cond.instanceMethod ({ cls := "java/lang/String", name := "charAt", desc := "(I)C" } : Jvm.MethodName)) ∈ lw_all := lw_g (lw_at lw_m8 125 rfl) rfl
theorem q1896 : (Jvm.Cond.selects "java/lang/String" ({ cls := "java/lang/String", name := "charAt", desc := "(I)C" } : Jvm.MethodName) ({ cls := "java/lang/String", name := "charAt", desc := "(I)C" } : Jvm.MethodName)) ∈ lw_all := lw_g (lw_at lw_m8 126 rfl) rfl
theorem q1897 : (Jvm.Cond.code ({ cls := "java/lang/String", name := "charAt", desc := "(I)C" } : Jvm.MethodName) prog_45_method_56_code (2 : Nat) (Option.some Jvm.ClassFile.FieldType.char)) ∈ lw_all := lw_g (lw_at lw_m8 127 rfl) rfl
theorem q1898 : (Jvm.Cond.methodLink "java/lang/String" (495 : Nat) ({ cls := "java/lang/StringLatin1", name := "charAt", desc := "([BI)C" } : Jvm.MethodName)) ∈ lw_all := lw_g (lw_at lw_m8 128 rfl) rfl
theorem q1902 : (Jvm.Cond.methodLink "java/lang/String" (498 : Nat) ({ cls := "java/lang/StringUTF16", name := "charAt", desc := "([BI)C" } : Jvm.MethodName)) ∈ lw_all := lw_g (lw_at lw_m8 132 rfl) rfl
theorem q2637 : (Jvm.Cond.castable "java/lang/String" "java/lang/Object") ∈ lw_tbl := lw_at lw_m11 147 rfl
theorem in_J7 : ∀ w ∈ wsJ70, w ∈ lw_all := lw_in wsJ70 [752, 754, 756, 758] (by decide +kernel) (by decide +kernel)
/-! java/lang/StringUTF16 -/
def RJ8 : String := "java/lang/StringUTF16"
abbrev cJ8_newBytesFor : ByteArray := prog_49_method_2_code
def yJ8_newBytesFor : MethodName := ⟨RJ8, "newBytesFor", "(I)[B"⟩
abbrev cJ8_newBytesLength : ByteArray := prog_49_method_3_code
def yJ8_newBytesLength : MethodName := ⟨RJ8, "newBytesLength", "(I)I"⟩
abbrev cJ8_putCharsAt : ByteArray := prog_49_method_81_code
def yJ8_putCharsAt : MethodName := ⟨RJ8, "putCharsAt", "([BICCCC)I"⟩
abbrev cJ8_checkBoundsBeginEnd : ByteArray := prog_49_method_93_code
def yJ8_checkBoundsBeginEnd : MethodName := ⟨RJ8, "checkBoundsBeginEnd", "(II[B)V"⟩
abbrev cJ8_length : ByteArray := prog_49_method_6_code
def yJ8_length : MethodName := ⟨RJ8, "length", "([B)I"⟩
abbrev cJ8_putChar : ByteArray := prog_49_method_4_code
def yJ8_putChar : MethodName := ⟨RJ8, "putChar", "([BII)V"⟩
abbrev cJ8_inflate : ByteArray := prog_49_method_86_code
def yJ8_inflate : MethodName := ⟨RJ8, "inflate", "([BI[BII)V"⟩
abbrev cJ8_checkBoundsOffCount : ByteArray := prog_49_method_94_code
def yJ8_checkBoundsOffCount : MethodName := ⟨RJ8, "checkBoundsOffCount", "(II[B)V"⟩
abbrev cJ8_getChars : ByteArray := prog_49_method_77_code
def yJ8_getChars : MethodName := ⟨RJ8, "getChars", "(III[B)I"⟩
abbrev cJ8_getChars_2 : ByteArray := prog_49_method_89_code
def yJ8_getChars_2 : MethodName := ⟨RJ8, "getChars", "(II[B)I"⟩
abbrev cJ8_compress : ByteArray := prog_49_method_17_code
def yJ8_compress : MethodName := ⟨RJ8, "compress", "([BII)[B"⟩
abbrev cJ8_compress_2 : ByteArray := prog_49_method_22_code
def yJ8_compress_2 : MethodName := ⟨RJ8, "compress", "([BI[BII)I"⟩
abbrev cJ8_getChar : ByteArray := prog_49_method_5_code
def yJ8_getChar : MethodName := ⟨RJ8, "getChar", "([BI)C"⟩
abbrev cJ8_coderFromArrayLen : ByteArray := prog_49_method_15_code
def yJ8_coderFromArrayLen : MethodName := ⟨RJ8, "coderFromArrayLen", "([BI)B"⟩
abbrev cJ8_fillNull : ByteArray := prog_49_method_70_code
def yJ8_fillNull : MethodName := ⟨RJ8, "fillNull", "([BII)V"⟩
abbrev cJ8_putCharSB : ByteArray := prog_49_method_71_code
def yJ8_putCharSB : MethodName := ⟨RJ8, "putCharSB", "([BII)V"⟩
abbrev cJ8_checkIndex : ByteArray := prog_49_method_91_code
def yJ8_checkIndex : MethodName := ⟨RJ8, "checkIndex", "(I[B)V"⟩
abbrev cJ8_indexOf : ByteArray := prog_49_method_40_code
def yJ8_indexOf : MethodName := ⟨RJ8, "indexOf", "([BIII)I"⟩
abbrev cJ8_indexOfChar : ByteArray := prog_49_method_47_code
def yJ8_indexOfChar : MethodName := ⟨RJ8, "indexOfChar", "([BIII)I"⟩
abbrev cJ8_indexOfCharUnsafe : ByteArray := prog_49_method_48_code
def yJ8_indexOfCharUnsafe : MethodName := ⟨RJ8, "indexOfCharUnsafe", "([BIII)I"⟩
abbrev cJ8_indexOfSupplementary : ByteArray := prog_49_method_49_code
def yJ8_indexOfSupplementary : MethodName := ⟨RJ8, "indexOfSupplementary", "([BIII)I"⟩
abbrev cJ8_charAt : ByteArray := prog_49_method_83_code
def yJ8_charAt : MethodName := ⟨RJ8, "charAt", "([BI)C"⟩
theorem q102 : (Jvm.Cond.initialized "java/lang/StringUTF16") ∈ lw_all := lw_g (lw_at lw_m1 12 rfl) rfl
theorem q253 : (Jvm.Cond.static ({ cls := "java/lang/StringUTF16", name := "newBytesFor", desc := "(I)[B" } : Jvm.MethodName)) ∈ lw_all := lw_g (lw_at lw_m1 163 rfl) rfl
theorem q254 : (Jvm.Cond.code ({ cls := "java/lang/StringUTF16", name := "newBytesFor", desc := "(I)[B" } : Jvm.MethodName) prog_49_method_2_code (1 : Nat) (Option.some (Jvm.ClassFile.FieldType.array Jvm.ClassFile.FieldType.byte))) ∈ lw_all := lw_g (lw_at lw_m1 164 rfl) rfl
theorem q255 : (Jvm.Cond.methodLink "java/lang/StringUTF16" (11 : Nat) ({ cls := "java/lang/StringUTF16", name := "newBytesLength", desc := "(I)I" } : Jvm.MethodName)) ∈ lw_all := lw_g (lw_at lw_m1 165 rfl) rfl
theorem q256 : (Jvm.Cond.static ({ cls := "java/lang/StringUTF16", name := "newBytesLength", desc := "(I)I" } : Jvm.MethodName)) ∈ lw_all := lw_g (lw_at lw_m1 166 rfl) rfl
theorem q257 : (Jvm.Cond.code ({ cls := "java/lang/StringUTF16", name := "newBytesLength", desc := "(I)I" } : Jvm.MethodName) prog_49_method_3_code (1 : Nat) (Option.some Jvm.ClassFile.FieldType.int)) ∈ lw_all := lw_g (lw_at lw_m1 167 rfl) rfl
theorem q258 : (Jvm.Cond.constant "java/lang/StringUTF16" (20 : Nat) (1073741823 : Int32)) ∈ lw_all := lw_g (lw_at lw_m1 168 rfl) rfl
theorem q530 : (Jvm.Cond.static ({ cls := "java/lang/StringUTF16", name := "putCharsAt", desc := "([BICCCC)I" } : Jvm.MethodName)) ∈ lw_all := lw_g (lw_at lw_m2 200 rfl) rfl
theorem q531 : (Jvm.Cond.code ({ cls := "java/lang/StringUTF16", name := "putCharsAt", desc := "([BICCCC)I" } : Jvm.MethodName) prog_49_method_81_code (7 : Nat) (Option.some Jvm.ClassFile.FieldType.int)) ∈ lw_all := lw_g (lw_at lw_m2 201 rfl) rfl
theorem q532 : (Jvm.Cond.methodLink "java/lang/StringUTF16" (96 : Nat) ({ cls := "java/lang/StringUTF16", name := "checkBoundsBeginEnd", desc := "(II[B)V" } : Jvm.MethodName)) ∈ lw_all := lw_g (lw_at lw_m2 202 rfl) rfl
theorem q533 : (Jvm.Cond.static ({ cls := "java/lang/StringUTF16", name := "checkBoundsBeginEnd", desc := "(II[B)V" } : Jvm.MethodName)) ∈ lw_all := lw_g (lw_at lw_m2 203 rfl) rfl
theorem q534 : (Jvm.Cond.code ({ cls := "java/lang/StringUTF16", name := "checkBoundsBeginEnd", desc := "(II[B)V" } : Jvm.MethodName) prog_49_method_93_code (3 : Nat) (Option.none : Option Jvm.ClassFile.FieldType)) ∈ lw_all := lw_g (lw_at lw_m2 204 rfl) rfl
theorem q535 : (Jvm.Cond.methodLink "java/lang/StringUTF16" (48 : Nat) ({ cls := "java/lang/StringUTF16", name := "length", desc := "([B)I" } : Jvm.MethodName)) ∈ lw_all := lw_g (lw_at lw_m2 205 rfl) rfl
theorem q536 : (Jvm.Cond.static ({ cls := "java/lang/StringUTF16", name := "length", desc := "([B)I" } : Jvm.MethodName)) ∈ lw_all := lw_g (lw_at lw_m2 206 rfl) rfl
theorem q537 : (Jvm.Cond.code ({ cls := "java/lang/StringUTF16", name := "length", desc := "([B)I" } : Jvm.MethodName) prog_49_method_6_code (1 : Nat) (Option.some Jvm.ClassFile.FieldType.int)) ∈ lw_all := lw_g (lw_at lw_m2 207 rfl) rfl
theorem q538 : (Jvm.Cond.methodLink "java/lang/StringUTF16" (241 : Nat) ({ cls := "java/lang/String", name := "checkBoundsBeginEnd", desc := "(III)V" } : Jvm.MethodName)) ∈ lw_all := lw_g (lw_at lw_m2 208 rfl) rfl
theorem q546 : (Jvm.Cond.methodLink "java/lang/StringUTF16" (111 : Nat) ({ cls := "java/lang/StringUTF16", name := "putChar", desc := "([BII)V" } : Jvm.MethodName)) ∈ lw_all := lw_g (lw_at lw_m2 216 rfl) rfl
theorem q547 : (Jvm.Cond.static ({ cls := "java/lang/StringUTF16", name := "putChar", desc := "([BII)V" } : Jvm.MethodName)) ∈ lw_all := lw_g (lw_at lw_m2 217 rfl) rfl
theorem q548 : (Jvm.Cond.code ({ cls := "java/lang/StringUTF16", name := "putChar", desc := "([BII)V" } : Jvm.MethodName) prog_49_method_4_code (3 : Nat) (Option.none : Option Jvm.ClassFile.FieldType)) ∈ lw_all := lw_g (lw_at lw_m2 218 rfl) rfl
theorem q549 : (Jvm.Cond.fieldLink "java/lang/StringUTF16" (44 : Nat) "java/lang/StringUTF16" "$assertionsDisabled" "Z") ∈ lw_all := lw_g (lw_at lw_m2 219 rfl) rfl
theorem q550 : (Jvm.Cond.laysStatic "java/lang/StringUTF16" "$assertionsDisabled" "Z") ∈ lw_tbl := lw_at lw_m2 220 rfl
theorem q551 : (Jvm.Cond.fieldLink "java/lang/StringUTF16" (59 : Nat) "java/lang/StringUTF16" "HI_BYTE_SHIFT" "I") ∈ lw_all := lw_g (lw_at lw_m2 221 rfl) rfl
theorem q552 : (Jvm.Cond.laysStatic "java/lang/StringUTF16" "HI_BYTE_SHIFT" "I") ∈ lw_tbl := lw_at lw_m2 222 rfl
theorem q553 : (Jvm.Cond.fieldLink "java/lang/StringUTF16" (63 : Nat) "java/lang/StringUTF16" "LO_BYTE_SHIFT" "I") ∈ lw_all := lw_g (lw_at lw_m2 223 rfl) rfl
theorem q554 : (Jvm.Cond.laysStatic "java/lang/StringUTF16" "LO_BYTE_SHIFT" "I") ∈ lw_tbl := lw_at lw_m2 224 rfl
theorem q581 : (Jvm.Cond.static ({ cls := "java/lang/StringUTF16", name := "inflate", desc := "([BI[BII)V" } : Jvm.MethodName)) ∈ lw_all := lw_g (lw_at lw_m3 11 rfl) rfl
theorem q582 : (Jvm.Cond.code ({ cls := "java/lang/StringUTF16", name := "inflate", desc := "([BI[BII)V" } : Jvm.MethodName) prog_49_method_86_code (6 : Nat) (Option.none : Option Jvm.ClassFile.FieldType)) ∈ lw_all := lw_g (lw_at lw_m3 12 rfl) rfl
theorem q583 : (Jvm.Cond.methodLink "java/lang/StringUTF16" (173 : Nat) ({ cls := "java/lang/StringUTF16", name := "checkBoundsOffCount", desc := "(II[B)V" } : Jvm.MethodName)) ∈ lw_all := lw_g (lw_at lw_m3 13 rfl) rfl
theorem q584 : (Jvm.Cond.static ({ cls := "java/lang/StringUTF16", name := "checkBoundsOffCount", desc := "(II[B)V" } : Jvm.MethodName)) ∈ lw_all := lw_g (lw_at lw_m3 14 rfl) rfl
theorem q585 : (Jvm.Cond.code ({ cls := "java/lang/StringUTF16", name := "checkBoundsOffCount", desc := "(II[B)V" } : Jvm.MethodName) prog_49_method_94_code (3 : Nat) (Option.none : Option Jvm.ClassFile.FieldType)) ∈ lw_all := lw_g (lw_at lw_m3 15 rfl) rfl
theorem q586 : (Jvm.Cond.methodLink "java/lang/StringUTF16" (419 : Nat) ({ cls := "java/lang/String", name := "checkBoundsOffCount", desc := "(III)I" } : Jvm.MethodName)) ∈ lw_all := lw_g (lw_at lw_m3 16 rfl) rfl
theorem q616 : (Jvm.Cond.static ({ cls := "java/lang/StringUTF16", name := "getChars", desc := "(III[B)I" } : Jvm.MethodName)) ∈ lw_all := lw_g (lw_at lw_m3 46 rfl) rfl
theorem q617 : (Jvm.Cond.code ({ cls := "java/lang/StringUTF16", name := "getChars", desc := "(III[B)I" } : Jvm.MethodName) prog_49_method_77_code (5 : Nat) (Option.some Jvm.ClassFile.FieldType.int)) ∈ lw_all := lw_g (lw_at lw_m3 47 rfl) rfl
theorem q618 : (Jvm.Cond.methodLink "java/lang/StringUTF16" (393 : Nat) ({ cls := "java/lang/StringUTF16", name := "getChars", desc := "(II[B)I" } : Jvm.MethodName)) ∈ lw_all := lw_g (lw_at lw_m3 48 rfl) rfl
theorem q619 : (Jvm.Cond.static ({ cls := "java/lang/StringUTF16", name := "getChars", desc := "(II[B)I" } : Jvm.MethodName)) ∈ lw_all := lw_g (lw_at lw_m3 49 rfl) rfl
theorem q620 : (Jvm.Cond.code ({ cls := "java/lang/StringUTF16", name := "getChars", desc := "(II[B)I" } : Jvm.MethodName) prog_49_method_89_code (7 : Nat) (Option.some Jvm.ClassFile.FieldType.int)) ∈ lw_all := lw_g (lw_at lw_m3 50 rfl) rfl
theorem q621 : (Jvm.Cond.fieldLink "java/lang/StringUTF16" (403 : Nat) "java/lang/Integer" "DigitOnes" "[B") ∈ lw_all := lw_g (lw_at lw_m3 51 rfl) rfl
theorem q622 : (Jvm.Cond.fieldLink "java/lang/StringUTF16" (407 : Nat) "java/lang/Integer" "DigitTens" "[B") ∈ lw_all := lw_g (lw_at lw_m3 52 rfl) rfl
theorem q738 : (Jvm.Cond.static ({ cls := "java/lang/StringUTF16", name := "compress", desc := "([BII)[B" } : Jvm.MethodName)) ∈ lw_all := lw_g (lw_at lw_m3 168 rfl) rfl
theorem q739 : (Jvm.Cond.code ({ cls := "java/lang/StringUTF16", name := "compress", desc := "([BII)[B" } : Jvm.MethodName) prog_49_method_17_code (6 : Nat) (Option.some (Jvm.ClassFile.FieldType.array Jvm.ClassFile.FieldType.byte))) ∈ lw_all := lw_g (lw_at lw_m3 169 rfl) rfl
theorem q740 : (Jvm.Cond.methodLink "java/lang/StringUTF16" (123 : Nat) ({ cls := "java/lang/StringUTF16", name := "compress", desc := "([BI[BII)I" } : Jvm.MethodName)) ∈ lw_all := lw_g (lw_at lw_m3 170 rfl) rfl
theorem q741 : (Jvm.Cond.static ({ cls := "java/lang/StringUTF16", name := "compress", desc := "([BI[BII)I" } : Jvm.MethodName)) ∈ lw_all := lw_g (lw_at lw_m3 171 rfl) rfl
theorem q742 : (Jvm.Cond.code ({ cls := "java/lang/StringUTF16", name := "compress", desc := "([BI[BII)I" } : Jvm.MethodName) prog_49_method_22_code (7 : Nat) (Option.some Jvm.ClassFile.FieldType.int)) ∈ lw_all := lw_g (lw_at lw_m3 172 rfl) rfl
theorem q743 : (Jvm.Cond.methodLink "java/lang/StringUTF16" (71 : Nat) ({ cls := "java/lang/StringUTF16", name := "getChar", desc := "([BI)C" } : Jvm.MethodName)) ∈ lw_all := lw_g (lw_at lw_m3 173 rfl) rfl
theorem q744 : (Jvm.Cond.static ({ cls := "java/lang/StringUTF16", name := "getChar", desc := "([BI)C" } : Jvm.MethodName)) ∈ lw_all := lw_g (lw_at lw_m3 174 rfl) rfl
theorem q745 : (Jvm.Cond.code ({ cls := "java/lang/StringUTF16", name := "getChar", desc := "([BI)C" } : Jvm.MethodName) prog_49_method_5_code (2 : Nat) (Option.some Jvm.ClassFile.FieldType.char)) ∈ lw_all := lw_g (lw_at lw_m3 175 rfl) rfl
theorem q746 : (Jvm.Cond.methodLink "java/lang/StringUTF16" (126 : Nat) ({ cls := "java/util/Arrays", name := "copyOfRange", desc := "([BII)[B" } : Jvm.MethodName)) ∈ lw_all := lw_g (lw_at lw_m3 176 rfl) rfl
theorem q748 : (Jvm.Cond.static ({ cls := "java/lang/StringUTF16", name := "coderFromArrayLen", desc := "([BI)B" } : Jvm.MethodName)) ∈ lw_all := lw_g (lw_at lw_m3 178 rfl) rfl
theorem q749 : (Jvm.Cond.code ({ cls := "java/lang/StringUTF16", name := "coderFromArrayLen", desc := "([BI)B" } : Jvm.MethodName) prog_49_method_15_code (2 : Nat) (Option.some Jvm.ClassFile.FieldType.byte)) ∈ lw_all := lw_g (lw_at lw_m3 179 rfl) rfl
theorem q808 : (Jvm.Cond.static ({ cls := "java/lang/StringUTF16", name := "fillNull", desc := "([BII)V" } : Jvm.MethodName)) ∈ lw_all := lw_g (lw_at lw_m3 238 rfl) rfl
theorem q809 : (Jvm.Cond.code ({ cls := "java/lang/StringUTF16", name := "fillNull", desc := "([BII)V" } : Jvm.MethodName) prog_49_method_70_code (3 : Nat) (Option.none : Option Jvm.ClassFile.FieldType)) ∈ lw_all := lw_g (lw_at lw_m3 239 rfl) rfl
theorem q810 : (Jvm.Cond.methodLink "java/lang/StringUTF16" (380 : Nat) ({ cls := "java/util/Arrays", name := "fill", desc := "([BIIB)V" } : Jvm.MethodName)) ∈ lw_all := lw_g (lw_at lw_m4 0 rfl) rfl
theorem q924 : (Jvm.Cond.static ({ cls := "java/lang/StringUTF16", name := "putCharSB", desc := "([BII)V" } : Jvm.MethodName)) ∈ lw_all := lw_g (lw_at lw_m4 114 rfl) rfl
theorem q925 : (Jvm.Cond.code ({ cls := "java/lang/StringUTF16", name := "putCharSB", desc := "([BII)V" } : Jvm.MethodName) prog_49_method_71_code (3 : Nat) (Option.none : Option Jvm.ClassFile.FieldType)) ∈ lw_all := lw_g (lw_at lw_m4 115 rfl) rfl
theorem q926 : (Jvm.Cond.methodLink "java/lang/StringUTF16" (67 : Nat) ({ cls := "java/lang/StringUTF16", name := "checkIndex", desc := "(I[B)V" } : Jvm.MethodName)) ∈ lw_all := lw_g (lw_at lw_m4 116 rfl) rfl
theorem q927 : (Jvm.Cond.static ({ cls := "java/lang/StringUTF16", name := "checkIndex", desc := "(I[B)V" } : Jvm.MethodName)) ∈ lw_all := lw_g (lw_at lw_m4 117 rfl) rfl
theorem q928 : (Jvm.Cond.code ({ cls := "java/lang/StringUTF16", name := "checkIndex", desc := "(I[B)V" } : Jvm.MethodName) prog_49_method_91_code (2 : Nat) (Option.none : Option Jvm.ClassFile.FieldType)) ∈ lw_all := lw_g (lw_at lw_m4 118 rfl) rfl
theorem q929 : (Jvm.Cond.methodLink "java/lang/StringUTF16" (414 : Nat) ({ cls := "java/lang/String", name := "checkIndex", desc := "(II)V" } : Jvm.MethodName)) ∈ lw_all := lw_g (lw_at lw_m4 119 rfl) rfl
theorem q1827 : (Jvm.Cond.static ({ cls := "java/lang/StringUTF16", name := "indexOf", desc := "([BIII)I" } : Jvm.MethodName)) ∈ lw_all := lw_g (lw_at lw_m8 57 rfl) rfl
theorem q1828 : (Jvm.Cond.code ({ cls := "java/lang/StringUTF16", name := "indexOf", desc := "([BIII)I" } : Jvm.MethodName) prog_49_method_40_code (4 : Nat) (Option.some Jvm.ClassFile.FieldType.int)) ∈ lw_all := lw_g (lw_at lw_m8 58 rfl) rfl
theorem q1829 : (Jvm.Cond.methodLink "java/lang/StringUTF16" (224 : Nat) ({ cls := "java/lang/Math", name := "max", desc := "(II)I" } : Jvm.MethodName)) ∈ lw_all := lw_g (lw_at lw_m8 59 rfl) rfl
theorem q1830 : (Jvm.Cond.methodLink "java/lang/StringUTF16" (183 : Nat) ({ cls := "java/lang/Math", name := "min", desc := "(II)I" } : Jvm.MethodName)) ∈ lw_all := lw_g (lw_at lw_m8 60 rfl) rfl
theorem q1831 : (Jvm.Cond.constant "java/lang/StringUTF16" (227 : Nat) (65536 : Int32)) ∈ lw_all := lw_g (lw_at lw_m8 61 rfl) rfl
theorem q1832 : (Jvm.Cond.methodLink "java/lang/StringUTF16" (228 : Nat) ({ cls := "java/lang/StringUTF16", name := "indexOfChar", desc := "([BIII)I" } : Jvm.MethodName)) ∈ lw_all := lw_g (lw_at lw_m8 62 rfl) rfl
theorem q1833 : (Jvm.Cond.static ({ cls := "java/lang/StringUTF16", name := "indexOfChar", desc := "([BIII)I" } : Jvm.MethodName)) ∈ lw_all := lw_g (lw_at lw_m8 63 rfl) rfl
theorem q1834 : (Jvm.Cond.code ({ cls := "java/lang/StringUTF16", name := "indexOfChar", desc := "([BIII)I" } : Jvm.MethodName) prog_49_method_47_code (4 : Nat) (Option.some Jvm.ClassFile.FieldType.int)) ∈ lw_all := lw_g (lw_at lw_m8 64 rfl) rfl
theorem q1835 : (Jvm.Cond.methodLink "java/lang/StringUTF16" (244 : Nat) ({ cls := "java/lang/StringUTF16", name := "indexOfCharUnsafe", desc := "([BIII)I" } : Jvm.MethodName)) ∈ lw_all := lw_g (lw_at lw_m8 65 rfl) rfl
theorem q1836 : (Jvm.Cond.static ({ cls := "java/lang/StringUTF16", name := "indexOfCharUnsafe", desc := "([BIII)I" } : Jvm.MethodName)) ∈ lw_all := lw_g (lw_at lw_m8 66 rfl) rfl
theorem q1837 : (Jvm.Cond.code ({ cls := "java/lang/StringUTF16", name := "indexOfCharUnsafe", desc := "([BIII)I" } : Jvm.MethodName) prog_49_method_48_code (5 : Nat) (Option.some Jvm.ClassFile.FieldType.int)) ∈ lw_all := lw_g (lw_at lw_m8 67 rfl) rfl
theorem q1838 : (Jvm.Cond.methodLink "java/lang/StringUTF16" (232 : Nat) ({ cls := "java/lang/StringUTF16", name := "indexOfSupplementary", desc := "([BIII)I" } : Jvm.MethodName)) ∈ lw_all := lw_g (lw_at lw_m8 68 rfl) rfl
theorem q1839 : (Jvm.Cond.static ({ cls := "java/lang/StringUTF16", name := "indexOfSupplementary", desc := "([BIII)I" } : Jvm.MethodName)) ∈ lw_all := lw_g (lw_at lw_m8 69 rfl) rfl
theorem q1840 : (Jvm.Cond.code ({ cls := "java/lang/StringUTF16", name := "indexOfSupplementary", desc := "([BIII)I" } : Jvm.MethodName) prog_49_method_49_code (7 : Nat) (Option.some Jvm.ClassFile.FieldType.int)) ∈ lw_all := lw_g (lw_at lw_m8 70 rfl) rfl
theorem q1841 : (Jvm.Cond.methodLink "java/lang/StringUTF16" (164 : Nat) ({ cls := "java/lang/Character", name := "isValidCodePoint", desc := "(I)Z" } : Jvm.MethodName)) ∈ lw_all := lw_g (lw_at lw_m8 71 rfl) rfl
theorem q1844 : (Jvm.Cond.methodLink "java/lang/StringUTF16" (157 : Nat) ({ cls := "java/lang/Character", name := "highSurrogate", desc := "(I)C" } : Jvm.MethodName)) ∈ lw_all := lw_g (lw_at lw_m8 74 rfl) rfl
theorem q1848 : (Jvm.Cond.methodLink "java/lang/StringUTF16" (161 : Nat) ({ cls := "java/lang/Character", name := "lowSurrogate", desc := "(I)C" } : Jvm.MethodName)) ∈ lw_all := lw_g (lw_at lw_m8 78 rfl) rfl
theorem q1903 : (Jvm.Cond.static ({ cls := "java/lang/StringUTF16", name := "charAt", desc := "([BI)C" } : Jvm.MethodName)) ∈ lw_all := lw_g (lw_at lw_m8 133 rfl) rfl
theorem q1904 : (Jvm.Cond.code ({ cls := "java/lang/StringUTF16", name := "charAt", desc := "([BI)C" } : Jvm.MethodName) prog_49_method_83_code (2 : Nat) (Option.some Jvm.ClassFile.FieldType.char)) ∈ lw_all := lw_g (lw_at lw_m8 134 rfl) rfl
/-! java/lang/Throwable -/
def RJ9 : String := "java/lang/Throwable"
def TJ9 : u_T := fun k => match k with
  | 0 => ("java/lang/Throwable", "cause", "Ljava/lang/Throwable;", false)
  | 1 => ("java/lang/Throwable", "stackTrace", "[Ljava/lang/StackTraceElement;", false)
  | 2 => ("java/lang/Throwable", "suppressedExceptions", "Ljava/util/List;", false)
  | 3 => ("java/lang/Throwable", "detailMessage", "Ljava/lang/String;", false)
  | _ => ("java/lang/Throwable", "backtrace", "Ljava/lang/Object;", false)
def tyJ9 : Nat → FieldType := fun k => match k with
  | 0 => .object "java/lang/Throwable"
  | 1 => .array (.object "java/lang/StackTraceElement")
  | 2 => .object "java/util/List"
  | 3 => .object "java/lang/String"
  | _ => .object "java/lang/Object"
abbrev wsJ90 : List Cond := u_ws RJ9 TJ9 5
theorem nmJ9 : ∀ a, a < 5 → ∀ b, b < 5 → a ≠ b → (TJ9 a).2.1 ≠ (TJ9 b).2.1 := by decide +kernel
theorem tyJ9_ok : ∀ k, k < 5 → parseFieldDescriptor (TJ9 k).2.2.1 = some (tyJ9 k) := by decide +kernel
abbrev cJ9_init : ByteArray := prog_51_method_1_code
def yJ9_init : MethodName := ⟨RJ9, "<init>", "()V"⟩
abbrev cJ9_init_2 : ByteArray := prog_51_method_2_code
def yJ9_init_2 : MethodName := ⟨RJ9, "<init>", "(Ljava/lang/String;)V"⟩
abbrev cJ9_init_3 : ByteArray := prog_51_method_5_code
def yJ9_init_3 : MethodName := ⟨RJ9, "<init>", "(Ljava/lang/String;Ljava/lang/Throwable;ZZ)V"⟩
theorem q104 : (Jvm.Cond.initialized "java/lang/Throwable") ∈ lw_all := lw_g (lw_at lw_m1 14 rfl) rfl
theorem q666 : (Jvm.Cond.declares ({ cls := "java/lang/Throwable", name := "<init>", desc := "()V" } : Jvm.MethodName)) ∈ lw_tbl := lw_at lw_m3 96 rfl
theorem q667 : (Jvm.Cond.declares ({ cls := "java/lang/Throwable", name := "<init>", desc := "(Ljava/lang/String;)V" } : Jvm.MethodName)) ∈ lw_tbl := lw_at lw_m3 97 rfl
theorem q671 : (Jvm.Cond.lays "java/lang/Throwable" "java/lang/Throwable" "cause" "Ljava/lang/Throwable;") ∈ lw_all := lw_g (lw_at lw_m3 101 rfl) rfl
theorem q673 : (Jvm.Cond.lays "java/lang/Throwable" "java/lang/Throwable" "stackTrace" "[Ljava/lang/StackTraceElement;") ∈ lw_all := lw_g (lw_at lw_m3 103 rfl) rfl
theorem q675 : (Jvm.Cond.lays "java/lang/Throwable" "java/lang/Throwable" "suppressedExceptions" "Ljava/util/List;") ∈ lw_all := lw_g (lw_at lw_m3 105 rfl) rfl
theorem q677 : (Jvm.Cond.lays "java/lang/Throwable" "java/lang/Throwable" "detailMessage" "Ljava/lang/String;") ∈ lw_all := lw_g (lw_at lw_m3 107 rfl) rfl
theorem q679 : (Jvm.Cond.lays "java/lang/Throwable" "java/lang/Throwable" "backtrace" "Ljava/lang/Object;") ∈ lw_all := lw_g (lw_at lw_m3 109 rfl) rfl
theorem q680 : (Jvm.Cond.fieldLink "java/lang/Throwable" (198 : Nat) "java/lang/Throwable" "backtrace" "Ljava/lang/Object;") ∈ lw_all := lw_g (lw_at lw_m3 110 rfl) rfl
theorem q681 : (Jvm.Cond.superclass "java/lang/Throwable" "java/lang/Object") ∈ lw_all := lw_g (lw_at lw_m3 111 rfl) rfl
theorem q682 : (Jvm.Cond.instanceMethod ({ cls := "java/lang/Throwable", name := "<init>", desc := "()V" } : Jvm.MethodName)) ∈ lw_all := lw_g (lw_at lw_m3 112 rfl) rfl
theorem q683 : (Jvm.Cond.code ({ cls := "java/lang/Throwable", name := "<init>", desc := "()V" } : Jvm.MethodName) prog_51_method_1_code (1 : Nat) (Option.none : Option Jvm.ClassFile.FieldType)) ∈ lw_all := lw_g (lw_at lw_m3 113 rfl) rfl
theorem q684 : (Jvm.Cond.methodLink "java/lang/Throwable" (1 : Nat) ({ cls := "java/lang/Object", name := "<init>", desc := "()V" } : Jvm.MethodName)) ∈ lw_all := lw_g (lw_at lw_m3 114 rfl) rfl
theorem q685 : (Jvm.Cond.fieldLink "java/lang/Throwable" (13 : Nat) "java/lang/Throwable" "UNASSIGNED_STACK" "[Ljava/lang/StackTraceElement;") ∈ lw_all := lw_g (lw_at lw_m3 115 rfl) rfl
theorem q686 : (Jvm.Cond.laysStatic "java/lang/Throwable" "UNASSIGNED_STACK" "[Ljava/lang/StackTraceElement;") ∈ lw_tbl := lw_at lw_m3 116 rfl
theorem q687 : (Jvm.Cond.fieldLink "java/lang/Throwable" (20 : Nat) "java/lang/Throwable" "SUPPRESSED_SENTINEL" "Ljava/util/List;") ∈ lw_all := lw_g (lw_at lw_m3 117 rfl) rfl
theorem q688 : (Jvm.Cond.laysStatic "java/lang/Throwable" "SUPPRESSED_SENTINEL" "Ljava/util/List;") ∈ lw_tbl := lw_at lw_m3 118 rfl
theorem q689 : (Jvm.Cond.methodLink "java/lang/Throwable" (27 : Nat) ({ cls := "java/lang/Throwable", name := "fillInStackTrace", desc := "()Ljava/lang/Throwable;" } : Jvm.MethodName)) ∈ lw_all := lw_g (lw_at lw_m3 119 rfl) rfl
theorem q690 : (Jvm.Cond.instanceMethod ({ cls := "java/lang/Throwable", name := "fillInStackTrace", desc := "()Ljava/lang/Throwable;" } : Jvm.MethodName)) ∈ lw_all := lw_g (lw_at lw_m3 120 rfl) rfl
theorem q691 : (Jvm.Cond.sameMethod "java/lang/Throwable" "java/lang/Throwable" "fillInStackTrace" "()Ljava/lang/Throwable;") ∈ lw_all := lw_g (lw_at lw_m3 121 rfl) rfl
theorem q700 : (Jvm.Cond.codeSync ({ cls := "java/lang/Throwable", name := "fillInStackTrace", desc := "()Ljava/lang/Throwable;" } : Jvm.MethodName) prog_51_method_18_code (1 : Nat) (Option.some (Jvm.ClassFile.FieldType.object "java/lang/Throwable"))) ∈ lw_all := lw_g (lw_at lw_m3 130 rfl) rfl
theorem q701 : (Jvm.Cond.methodLink "java/lang/Throwable" (202 : Nat) ({ cls := "java/lang/Throwable", name := "fillInStackTrace", desc := "(I)Ljava/lang/Throwable;" } : Jvm.MethodName)) ∈ lw_all := lw_g (lw_at lw_m3 131 rfl) rfl
theorem q702 : (Jvm.Cond.privateMethod ({ cls := "java/lang/Throwable", name := "fillInStackTrace", desc := "(I)Ljava/lang/Throwable;" } : Jvm.MethodName)) ∈ lw_tbl := lw_at lw_m3 132 rfl
theorem q703 : (Jvm.Cond.instanceMethod ({ cls := "java/lang/Throwable", name := "fillInStackTrace", desc := "(I)Ljava/lang/Throwable;" } : Jvm.MethodName)) ∈ lw_all := lw_g (lw_at lw_m3 133 rfl) rfl
theorem q704 : (Jvm.Cond.instantiable "java/lang/Throwable" (6 : Nat)) ∈ lw_all := lw_g (lw_at lw_m3 134 rfl) rfl
theorem q705 : (Jvm.Cond.native ({ cls := "java/lang/Throwable", name := "fillInStackTrace", desc := "(I)Ljava/lang/Throwable;" } : Jvm.MethodName)) ∈ lw_all := lw_g (lw_at lw_m3 135 rfl) rfl
theorem q722 : (Jvm.Cond.instanceMethod ({ cls := "java/lang/Throwable", name := "<init>", desc := "(Ljava/lang/String;)V" } : Jvm.MethodName)) ∈ lw_all := lw_g (lw_at lw_m3 152 rfl) rfl
theorem q723 : (Jvm.Cond.code ({ cls := "java/lang/Throwable", name := "<init>", desc := "(Ljava/lang/String;)V" } : Jvm.MethodName) prog_51_method_2_code (2 : Nat) (Option.none : Option Jvm.ClassFile.FieldType)) ∈ lw_all := lw_g (lw_at lw_m3 153 rfl) rfl
theorem q724 : (Jvm.Cond.fieldLink "java/lang/Throwable" (198 : Nat) "java/lang/Throwable" "backtrace" "Ljava/lang/Object;") ∈ lw_all := lw_g (lw_at lw_m3 154 rfl) rfl
theorem q725 : (Jvm.Cond.fieldLink "java/lang/Throwable" (31 : Nat) "java/lang/Throwable" "detailMessage" "Ljava/lang/String;") ∈ lw_all := lw_g (lw_at lw_m3 155 rfl) rfl
theorem q726 : (Jvm.Cond.fieldLink "java/lang/Throwable" (7 : Nat) "java/lang/Throwable" "cause" "Ljava/lang/Throwable;") ∈ lw_all := lw_g (lw_at lw_m3 156 rfl) rfl
theorem q727 : (Jvm.Cond.fieldLink "java/lang/Throwable" (17 : Nat) "java/lang/Throwable" "stackTrace" "[Ljava/lang/StackTraceElement;") ∈ lw_all := lw_g (lw_at lw_m3 157 rfl) rfl
theorem q728 : (Jvm.Cond.fieldLink "java/lang/Throwable" (24 : Nat) "java/lang/Throwable" "suppressedExceptions" "Ljava/util/List;") ∈ lw_all := lw_g (lw_at lw_m3 158 rfl) rfl
theorem q729 : (Jvm.Cond.soleField "java/lang/Throwable" "backtrace") ∈ lw_all := lw_g (lw_at lw_m3 159 rfl) rfl
theorem q730 : (Jvm.Cond.soleField "java/lang/Throwable" "detailMessage") ∈ lw_all := lw_g (lw_at lw_m3 160 rfl) rfl
theorem q731 : (Jvm.Cond.soleField "java/lang/Throwable" "cause") ∈ lw_all := lw_g (lw_at lw_m3 161 rfl) rfl
theorem q732 : (Jvm.Cond.soleField "java/lang/Throwable" "stackTrace") ∈ lw_all := lw_g (lw_at lw_m3 162 rfl) rfl
theorem q734 : (Jvm.Cond.soleField "java/lang/Throwable" "depth") ∈ lw_all := lw_g (lw_at lw_m3 164 rfl) rfl
theorem q735 : (Jvm.Cond.soleField "java/lang/Throwable" "suppressedExceptions") ∈ lw_all := lw_g (lw_at lw_m3 165 rfl) rfl
theorem q1872 : (Jvm.Cond.instanceMethod ({ cls := "java/lang/Throwable", name := "<init>", desc := "(Ljava/lang/String;Ljava/lang/Throwable;ZZ)V" } : Jvm.MethodName)) ∈ lw_all := lw_g (lw_at lw_m8 102 rfl) rfl
theorem q1873 : (Jvm.Cond.code ({ cls := "java/lang/Throwable", name := "<init>", desc := "(Ljava/lang/String;Ljava/lang/Throwable;ZZ)V" } : Jvm.MethodName) prog_51_method_5_code (5 : Nat) (Option.none : Option Jvm.ClassFile.FieldType)) ∈ lw_all := lw_g (lw_at lw_m8 103 rfl) rfl
theorem q2619 : (Jvm.Cond.sameMethod "java/lang/Throwable" "java/lang/Throwable" "fillInStackTrace" "(I)Ljava/lang/Throwable;") ∈ lw_all := lw_g (lw_at lw_m11 129 rfl) rfl
theorem q2657 : (Jvm.Cond.castable "java/lang/Throwable" "java/lang/Object") ∈ lw_tbl := lw_at lw_m11 167 rfl
theorem in_J9 : ∀ w ∈ wsJ90, w ∈ lw_all := lw_in wsJ90 [671, 673, 675, 677, 679] (by decide +kernel) (by decide +kernel)
/-! the law's own entry -/
abbrev cL_law : ByteArray := code
/-! TrailGuideLaw -/
def RX0 : String := "TrailGuideLaw"
abbrev cX0_addWaypoint : ByteArray := method_3_code
def yX0_addWaypoint : MethodName := ⟨RX0, "addWaypoint", "(LTrailGuide;III[J)I"⟩
abbrev cX0_addTrail : ByteArray := method_4_code
def yX0_addTrail : MethodName := ⟨RX0, "addTrail", "(LTrailGuide;III[J)I"⟩
abbrev cX0_removeTrail : ByteArray := method_5_code
def yX0_removeTrail : MethodName := ⟨RX0, "removeTrail", "(LTrailGuide;II[J)I"⟩
abbrev cX0_startTour : ByteArray := method_6_code
def yX0_startTour : MethodName := ⟨RX0, "startTour", "(LTrailGuide;II[J)I"⟩
abbrev cX0_stopTour : ByteArray := method_7_code
def yX0_stopTour : MethodName := ⟨RX0, "stopTour", "(LTrailGuide;[J)I"⟩
abbrev cX0_update : ByteArray := method_8_code
def yX0_update : MethodName := ⟨RX0, "update", "(LTrailGuide;II[J)I"⟩
abbrev cX0_setTolerance : ByteArray := method_9_code
def yX0_setTolerance : MethodName := ⟨RX0, "setTolerance", "(LTrailGuide;I[J)I"⟩
abbrev cX0_setMode : ByteArray := method_10_code
def yX0_setMode : MethodName := ⟨RX0, "setMode", "(LTrailGuide;I[J)I"⟩
abbrev cX0_charge : ByteArray := method_11_code
def yX0_charge : MethodName := ⟨RX0, "charge", "(LTrailGuide;I[J)I"⟩
abbrev cX0_waypointX : ByteArray := method_12_code
def yX0_waypointX : MethodName := ⟨RX0, "waypointX", "(LTrailGuide;I[J)I"⟩
abbrev cX0_waypointY : ByteArray := method_13_code
def yX0_waypointY : MethodName := ⟨RX0, "waypointY", "(LTrailGuide;I[J)I"⟩
abbrev cX0_radius : ByteArray := method_14_code
def yX0_radius : MethodName := ⟨RX0, "radius", "(LTrailGuide;I[J)I"⟩
abbrev cX0_hasTrail : ByteArray := method_15_code
def yX0_hasTrail : MethodName := ⟨RX0, "hasTrail", "(LTrailGuide;II[J)I"⟩
abbrev cX0_trailLength : ByteArray := method_16_code
def yX0_trailLength : MethodName := ⟨RX0, "trailLength", "(LTrailGuide;II[J)I"⟩
abbrev cX0_distance : ByteArray := method_17_code
def yX0_distance : MethodName := ⟨RX0, "distance", "(LTrailGuide;II[J)I"⟩
abbrev cX0_distanceByRelaxation : ByteArray := method_18_code
def yX0_distanceByRelaxation : MethodName := ⟨RX0, "distanceByRelaxation", "(LTrailGuide;II[J)I"⟩
abbrev cX0_nearest : ByteArray := method_19_code
def yX0_nearest : MethodName := ⟨RX0, "nearest", "(LTrailGuide;II[J)I"⟩
abbrev cX0_routeLength : ByteArray := method_20_code
def yX0_routeLength : MethodName := ⟨RX0, "routeLength", "(LTrailGuide;[J)I"⟩
abbrev cX0_routeWaypoint : ByteArray := method_21_code
def yX0_routeWaypoint : MethodName := ⟨RX0, "routeWaypoint", "(LTrailGuide;I[J)I"⟩
abbrev cX0_turn : ByteArray := method_22_code
def yX0_turn : MethodName := ⟨RX0, "turn", "(LTrailGuide;I[J)I"⟩
abbrev cX0_target : ByteArray := method_23_code
def yX0_target : MethodName := ⟨RX0, "target", "(LTrailGuide;[J)I"⟩
abbrev cX0_hikerX : ByteArray := method_24_code
def yX0_hikerX : MethodName := ⟨RX0, "hikerX", "(LTrailGuide;[J)I"⟩
abbrev cX0_hikerY : ByteArray := method_25_code
def yX0_hikerY : MethodName := ⟨RX0, "hikerY", "(LTrailGuide;[J)I"⟩
abbrev cX0_drift : ByteArray := method_26_code
def yX0_drift : MethodName := ⟨RX0, "drift", "(LTrailGuide;[J)I"⟩
abbrev cX0_forecast : ByteArray := method_27_code
def yX0_forecast : MethodName := ⟨RX0, "forecast", "(LTrailGuide;II[J)I"⟩
abbrev cX0_alarmRate : ByteArray := method_28_code
def yX0_alarmRate : MethodName := ⟨RX0, "alarmRate", "(LTrailGuide;[D)I"⟩
abbrev cX0_meanTrailLength : ByteArray := method_29_code
def yX0_meanTrailLength : MethodName := ⟨RX0, "meanTrailLength", "(LTrailGuide;[D)I"⟩
abbrev cX0_writeTrails : ByteArray := method_30_code
def yX0_writeTrails : MethodName := ⟨RX0, "writeTrails", "(LTrailGuide;I[J)I"⟩
abbrev cX0_charAt : ByteArray := method_31_code
def yX0_charAt : MethodName := ⟨RX0, "charAt", "(LTrailGuide;I[J)I"⟩
abbrev cX0_type : ByteArray := method_32_code
def yX0_type : MethodName := ⟨RX0, "type", "(LTrailGuide;C[J)I"⟩
abbrev cX0_run : ByteArray := method_33_code
def yX0_run : MethodName := ⟨RX0, "run", "(LTrailGuide;[J)I"⟩
abbrev cX0_errorPosition : ByteArray := method_34_code
def yX0_errorPosition : MethodName := ⟨RX0, "errorPosition", "(LTrailGuide;[J)I"⟩
abbrev cX0_failedCommand : ByteArray := method_35_code
def yX0_failedCommand : MethodName := ⟨RX0, "failedCommand", "(LTrailGuide;[J)I"⟩
abbrev cX0_undo : ByteArray := method_36_code
def yX0_undo : MethodName := ⟨RX0, "undo", "(LTrailGuide;[J)I"⟩
abbrev cX0_restore : ByteArray := method_37_code
def yX0_restore : MethodName := ⟨RX0, "restore", "(LTrailGuide;[J)I"⟩
theorem q90 : (Jvm.Cond.initialized "TrailGuideLaw") ∈ lw_all := lw_g (lw_at lw_m1 0 rfl) rfl
theorem q138 : (Jvm.Cond.classLink "TrailGuideLaw" (8 : Nat) "TrailGuide") ∈ lw_all := lw_g (lw_at lw_m1 48 rfl) rfl
theorem q140 : (Jvm.Cond.methodLink "TrailGuideLaw" (136 : Nat) ({ cls := "TrailGuide", name := "<init>", desc := "()V" } : Jvm.MethodName)) ∈ lw_all := lw_g (lw_at lw_m1 50 rfl) rfl
theorem q302 : (Jvm.Cond.methodLink "TrailGuideLaw" (176 : Nat) ({ cls := "TrailGuide", name := "waypoints", desc := "()I" } : Jvm.MethodName)) ∈ lw_all := lw_g (lw_at lw_m1 212 rfl) rfl
theorem q314 : (Jvm.Cond.methodLink "TrailGuideLaw" (189 : Nat) ({ cls := "TrailGuide", name := "trails", desc := "()I" } : Jvm.MethodName)) ∈ lw_all := lw_g (lw_at lw_m1 224 rfl) rfl
theorem q322 : (Jvm.Cond.methodLink "TrailGuideLaw" (205 : Nat) ({ cls := "TrailGuide", name := "components", desc := "()I" } : Jvm.MethodName)) ∈ lw_all := lw_g (lw_at lw_m1 232 rfl) rfl
theorem q352 : (Jvm.Cond.methodLink "TrailGuideLaw" (209 : Nat) ({ cls := "TrailGuide", name := "componentsByMerging", desc := "()I" } : Jvm.MethodName)) ∈ lw_all := lw_g (lw_at lw_m2 22 rfl) rfl
theorem q363 : (Jvm.Cond.methodLink "TrailGuideLaw" (216 : Nat) ({ cls := "TrailGuide", name := "isTouring", desc := "()Z" } : Jvm.MethodName)) ∈ lw_all := lw_g (lw_at lw_m2 33 rfl) rfl
theorem q367 : (Jvm.Cond.methodLink "TrailGuideLaw" (242 : Nat) ({ cls := "TrailGuide", name := "isAlarm", desc := "()Z" } : Jvm.MethodName)) ∈ lw_all := lw_g (lw_at lw_m2 37 rfl) rfl
theorem q371 : (Jvm.Cond.methodLink "TrailGuideLaw" (249 : Nat) ({ cls := "TrailGuide", name := "battery", desc := "()I" } : Jvm.MethodName)) ∈ lw_all := lw_g (lw_at lw_m2 41 rfl) rfl
theorem q375 : (Jvm.Cond.methodLink "TrailGuideLaw" (253 : Nat) ({ cls := "TrailGuide", name := "mode", desc := "()I" } : Jvm.MethodName)) ∈ lw_all := lw_g (lw_at lw_m2 45 rfl) rfl
theorem q385 : (Jvm.Cond.methodLink "TrailGuideLaw" (257 : Nat) ({ cls := "TrailGuide", name := "tolerance", desc := "()I" } : Jvm.MethodName)) ∈ lw_all := lw_g (lw_at lw_m2 55 rfl) rfl
theorem q389 : (Jvm.Cond.methodLink "TrailGuideLaw" (261 : Nat) ({ cls := "TrailGuide", name := "updatesLeft", desc := "()I" } : Jvm.MethodName)) ∈ lw_all := lw_g (lw_at lw_m2 59 rfl) rfl
theorem q393 : (Jvm.Cond.methodLink "TrailGuideLaw" (265 : Nat) ({ cls := "TrailGuide", name := "updatesLeftByCounting", desc := "()I" } : Jvm.MethodName)) ∈ lw_all := lw_g (lw_at lw_m2 63 rfl) rfl
theorem q397 : (Jvm.Cond.methodLink "TrailGuideLaw" (269 : Nat) ({ cls := "TrailGuide", name := "updates", desc := "()I" } : Jvm.MethodName)) ∈ lw_all := lw_g (lw_at lw_m2 67 rfl) rfl
theorem q401 : (Jvm.Cond.methodLink "TrailGuideLaw" (273 : Nat) ({ cls := "TrailGuide", name := "alarms", desc := "()I" } : Jvm.MethodName)) ∈ lw_all := lw_g (lw_at lw_m2 71 rfl) rfl
theorem q405 : (Jvm.Cond.methodLink "TrailGuideLaw" (277 : Nat) ({ cls := "TrailGuide", name := "reached", desc := "()I" } : Jvm.MethodName)) ∈ lw_all := lw_g (lw_at lw_m2 75 rfl) rfl
theorem q409 : (Jvm.Cond.methodLink "TrailGuideLaw" (288 : Nat) ({ cls := "TrailGuide", name := "isConsistent", desc := "()Z" } : Jvm.MethodName)) ∈ lw_all := lw_g (lw_at lw_m2 79 rfl) rfl
theorem q461 : (Jvm.Cond.methodLink "TrailGuideLaw" (292 : Nat) ({ cls := "TrailGuide", name := "writeRoute", desc := "()I" } : Jvm.MethodName)) ∈ lw_all := lw_g (lw_at lw_m2 131 rfl) rfl
theorem q935 : (Jvm.Cond.methodLink "TrailGuideLaw" (318 : Nat) ({ cls := "TrailGuide", name := "save", desc := "()I" } : Jvm.MethodName)) ∈ lw_all := lw_g (lw_at lw_m4 125 rfl) rfl
theorem q1023 : (Jvm.Cond.methodLink "TrailGuideLaw" (140 : Nat) ({ cls := "TrailGuideLaw", name := "addWaypoint", desc := "(LTrailGuide;III[J)I" } : Jvm.MethodName)) ∈ lw_all := lw_g (lw_at lw_m4 213 rfl) rfl
theorem q1024 : (Jvm.Cond.static ({ cls := "TrailGuideLaw", name := "addWaypoint", desc := "(LTrailGuide;III[J)I" } : Jvm.MethodName)) ∈ lw_all := lw_g (lw_at lw_m4 214 rfl) rfl
theorem q1025 : (Jvm.Cond.codeWith ({ cls := "TrailGuideLaw", name := "addWaypoint", desc := "(LTrailGuide;III[J)I" } : Jvm.MethodName) method_3_code (6 : Nat) (Option.some Jvm.ClassFile.FieldType.int) [((0 : Nat), (12 : Nat), (15 : Nat), (13 : Nat)), ((0 : Nat), (12 : Nat), (19 : Nat), (15 : Nat))]) ∈ lw_all := lw_g (lw_at lw_m4 215 rfl) rfl
theorem q1026 : (Jvm.Cond.classLink "TrailGuideLaw" (13 : Nat) "java/lang/IllegalArgumentException") ∈ lw_all := lw_g (lw_at lw_m4 216 rfl) rfl
theorem q1027 : (Jvm.Cond.classLink "TrailGuideLaw" (15 : Nat) "java/lang/IllegalStateException") ∈ lw_all := lw_g (lw_at lw_m4 217 rfl) rfl
theorem q1028 : (Jvm.Cond.methodLink "TrailGuideLaw" (7 : Nat) ({ cls := "TrailGuide", name := "addWaypoint", desc := "(III)I" } : Jvm.MethodName)) ∈ lw_all := lw_g (lw_at lw_m4 218 rfl) rfl
theorem q1170 : (Jvm.Cond.methodLink "TrailGuideLaw" (149 : Nat) ({ cls := "TrailGuideLaw", name := "addTrail", desc := "(LTrailGuide;III[J)I" } : Jvm.MethodName)) ∈ lw_all := lw_g (lw_at lw_m5 120 rfl) rfl
theorem q1171 : (Jvm.Cond.static ({ cls := "TrailGuideLaw", name := "addTrail", desc := "(LTrailGuide;III[J)I" } : Jvm.MethodName)) ∈ lw_all := lw_g (lw_at lw_m5 121 rfl) rfl
theorem q1172 : (Jvm.Cond.codeWith ({ cls := "TrailGuideLaw", name := "addTrail", desc := "(LTrailGuide;III[J)I" } : Jvm.MethodName) method_4_code (6 : Nat) (Option.some Jvm.ClassFile.FieldType.int) [((0 : Nat), (12 : Nat), (15 : Nat), (20 : Nat)), ((0 : Nat), (12 : Nat), (19 : Nat), (13 : Nat)), ((0 : Nat), (12 : Nat), (23 : Nat), (15 : Nat))]) ∈ lw_all := lw_g (lw_at lw_m5 122 rfl) rfl
theorem q1173 : (Jvm.Cond.classLink "TrailGuideLaw" (20 : Nat) "java/lang/IndexOutOfBoundsException") ∈ lw_all := lw_g (lw_at lw_m5 123 rfl) rfl
theorem q1176 : (Jvm.Cond.methodLink "TrailGuideLaw" (17 : Nat) ({ cls := "TrailGuide", name := "addTrail", desc := "(III)I" } : Jvm.MethodName)) ∈ lw_all := lw_g (lw_at lw_m5 126 rfl) rfl
theorem q1213 : (Jvm.Cond.methodLink "TrailGuideLaw" (152 : Nat) ({ cls := "TrailGuideLaw", name := "removeTrail", desc := "(LTrailGuide;II[J)I" } : Jvm.MethodName)) ∈ lw_all := lw_g (lw_at lw_m5 163 rfl) rfl
theorem q1214 : (Jvm.Cond.static ({ cls := "TrailGuideLaw", name := "removeTrail", desc := "(LTrailGuide;II[J)I" } : Jvm.MethodName)) ∈ lw_all := lw_g (lw_at lw_m5 164 rfl) rfl
theorem q1215 : (Jvm.Cond.codeWith ({ cls := "TrailGuideLaw", name := "removeTrail", desc := "(LTrailGuide;II[J)I" } : Jvm.MethodName) method_5_code (5 : Nat) (Option.some Jvm.ClassFile.FieldType.int) [((0 : Nat), (10 : Nat), (13 : Nat), (20 : Nat)), ((0 : Nat), (10 : Nat), (17 : Nat), (26 : Nat))]) ∈ lw_all := lw_g (lw_at lw_m5 165 rfl) rfl
theorem q1216 : (Jvm.Cond.classLink "TrailGuideLaw" (26 : Nat) "java/util/NoSuchElementException") ∈ lw_all := lw_g (lw_at lw_m5 166 rfl) rfl
theorem q1217 : (Jvm.Cond.methodLink "TrailGuideLaw" (22 : Nat) ({ cls := "TrailGuide", name := "removeTrail", desc := "(II)I" } : Jvm.MethodName)) ∈ lw_all := lw_g (lw_at lw_m5 167 rfl) rfl
theorem q1232 : (Jvm.Cond.methodLink "TrailGuideLaw" (156 : Nat) ({ cls := "TrailGuideLaw", name := "startTour", desc := "(LTrailGuide;II[J)I" } : Jvm.MethodName)) ∈ lw_all := lw_g (lw_at lw_m5 182 rfl) rfl
theorem q1233 : (Jvm.Cond.static ({ cls := "TrailGuideLaw", name := "startTour", desc := "(LTrailGuide;II[J)I" } : Jvm.MethodName)) ∈ lw_all := lw_g (lw_at lw_m5 183 rfl) rfl
theorem q1234 : (Jvm.Cond.codeWith ({ cls := "TrailGuideLaw", name := "startTour", desc := "(LTrailGuide;II[J)I" } : Jvm.MethodName) method_6_code (5 : Nat) (Option.some Jvm.ClassFile.FieldType.int) [((0 : Nat), (10 : Nat), (13 : Nat), (20 : Nat)), ((0 : Nat), (10 : Nat), (17 : Nat), (13 : Nat)), ((0 : Nat), (10 : Nat), (21 : Nat), (15 : Nat)), ((0 : Nat), (10 : Nat), (25 : Nat), (26 : Nat))]) ∈ lw_all := lw_g (lw_at lw_m5 184 rfl) rfl
theorem q1235 : (Jvm.Cond.methodLink "TrailGuideLaw" (28 : Nat) ({ cls := "TrailGuide", name := "startTour", desc := "(II)I" } : Jvm.MethodName)) ∈ lw_all := lw_g (lw_at lw_m5 185 rfl) rfl
theorem q1269 : (Jvm.Cond.methodLink "TrailGuideLaw" (159 : Nat) ({ cls := "TrailGuideLaw", name := "stopTour", desc := "(LTrailGuide;[J)I" } : Jvm.MethodName)) ∈ lw_all := lw_g (lw_at lw_m5 219 rfl) rfl
theorem q1270 : (Jvm.Cond.static ({ cls := "TrailGuideLaw", name := "stopTour", desc := "(LTrailGuide;[J)I" } : Jvm.MethodName)) ∈ lw_all := lw_g (lw_at lw_m5 220 rfl) rfl
theorem q1271 : (Jvm.Cond.codeWith ({ cls := "TrailGuideLaw", name := "stopTour", desc := "(LTrailGuide;[J)I" } : Jvm.MethodName) method_7_code (3 : Nat) (Option.some Jvm.ClassFile.FieldType.int) [((0 : Nat), (8 : Nat), (11 : Nat), (15 : Nat))]) ∈ lw_all := lw_g (lw_at lw_m5 221 rfl) rfl
theorem q1272 : (Jvm.Cond.methodLink "TrailGuideLaw" (31 : Nat) ({ cls := "TrailGuide", name := "stopTour", desc := "()I" } : Jvm.MethodName)) ∈ lw_all := lw_g (lw_at lw_m5 222 rfl) rfl
theorem q1291 : (Jvm.Cond.methodLink "TrailGuideLaw" (163 : Nat) ({ cls := "TrailGuideLaw", name := "update", desc := "(LTrailGuide;II[J)I" } : Jvm.MethodName)) ∈ lw_all := lw_g (lw_at lw_m6 1 rfl) rfl
theorem q1292 : (Jvm.Cond.static ({ cls := "TrailGuideLaw", name := "update", desc := "(LTrailGuide;II[J)I" } : Jvm.MethodName)) ∈ lw_all := lw_g (lw_at lw_m6 2 rfl) rfl
theorem q1293 : (Jvm.Cond.codeWith ({ cls := "TrailGuideLaw", name := "update", desc := "(LTrailGuide;II[J)I" } : Jvm.MethodName) method_8_code (5 : Nat) (Option.some Jvm.ClassFile.FieldType.int) [((0 : Nat), (17 : Nat), (20 : Nat), (13 : Nat)), ((0 : Nat), (17 : Nat), (24 : Nat), (15 : Nat)), ((0 : Nat), (17 : Nat), (28 : Nat), (39 : Nat))]) ∈ lw_all := lw_g (lw_at lw_m6 3 rfl) rfl
theorem q1294 : (Jvm.Cond.classLink "TrailGuideLaw" (39 : Nat) "java/lang/UnsupportedOperationException") ∈ lw_all := lw_g (lw_at lw_m6 4 rfl) rfl
theorem q1295 : (Jvm.Cond.methodLink "TrailGuideLaw" (35 : Nat) ({ cls := "TrailGuide", name := "update", desc := "(II)Z" } : Jvm.MethodName)) ∈ lw_all := lw_g (lw_at lw_m6 5 rfl) rfl
theorem q1462 : (Jvm.Cond.methodLink "TrailGuideLaw" (166 : Nat) ({ cls := "TrailGuideLaw", name := "setTolerance", desc := "(LTrailGuide;I[J)I" } : Jvm.MethodName)) ∈ lw_all := lw_g (lw_at lw_m6 172 rfl) rfl
theorem q1463 : (Jvm.Cond.static ({ cls := "TrailGuideLaw", name := "setTolerance", desc := "(LTrailGuide;I[J)I" } : Jvm.MethodName)) ∈ lw_all := lw_g (lw_at lw_m6 173 rfl) rfl
theorem q1464 : (Jvm.Cond.codeWith ({ cls := "TrailGuideLaw", name := "setTolerance", desc := "(LTrailGuide;I[J)I" } : Jvm.MethodName) method_9_code (4 : Nat) (Option.some Jvm.ClassFile.FieldType.int) [((0 : Nat), (9 : Nat), (12 : Nat), (13 : Nat))]) ∈ lw_all := lw_g (lw_at lw_m6 174 rfl) rfl
theorem q1465 : (Jvm.Cond.methodLink "TrailGuideLaw" (41 : Nat) ({ cls := "TrailGuide", name := "setTolerance", desc := "(I)I" } : Jvm.MethodName)) ∈ lw_all := lw_g (lw_at lw_m6 175 rfl) rfl
theorem q1475 : (Jvm.Cond.methodLink "TrailGuideLaw" (170 : Nat) ({ cls := "TrailGuideLaw", name := "setMode", desc := "(LTrailGuide;I[J)I" } : Jvm.MethodName)) ∈ lw_all := lw_g (lw_at lw_m6 185 rfl) rfl
theorem q1476 : (Jvm.Cond.static ({ cls := "TrailGuideLaw", name := "setMode", desc := "(LTrailGuide;I[J)I" } : Jvm.MethodName)) ∈ lw_all := lw_g (lw_at lw_m6 186 rfl) rfl
theorem q1477 : (Jvm.Cond.codeWith ({ cls := "TrailGuideLaw", name := "setMode", desc := "(LTrailGuide;I[J)I" } : Jvm.MethodName) method_10_code (4 : Nat) (Option.some Jvm.ClassFile.FieldType.int) [((0 : Nat), (9 : Nat), (12 : Nat), (13 : Nat))]) ∈ lw_all := lw_g (lw_at lw_m6 187 rfl) rfl
theorem q1478 : (Jvm.Cond.methodLink "TrailGuideLaw" (45 : Nat) ({ cls := "TrailGuide", name := "setMode", desc := "(I)I" } : Jvm.MethodName)) ∈ lw_all := lw_g (lw_at lw_m6 188 rfl) rfl
theorem q1499 : (Jvm.Cond.methodLink "TrailGuideLaw" (173 : Nat) ({ cls := "TrailGuideLaw", name := "charge", desc := "(LTrailGuide;I[J)I" } : Jvm.MethodName)) ∈ lw_all := lw_g (lw_at lw_m6 209 rfl) rfl
theorem q1500 : (Jvm.Cond.static ({ cls := "TrailGuideLaw", name := "charge", desc := "(LTrailGuide;I[J)I" } : Jvm.MethodName)) ∈ lw_all := lw_g (lw_at lw_m6 210 rfl) rfl
theorem q1501 : (Jvm.Cond.codeWith ({ cls := "TrailGuideLaw", name := "charge", desc := "(LTrailGuide;I[J)I" } : Jvm.MethodName) method_11_code (4 : Nat) (Option.some Jvm.ClassFile.FieldType.int) [((0 : Nat), (9 : Nat), (12 : Nat), (13 : Nat))]) ∈ lw_all := lw_g (lw_at lw_m6 211 rfl) rfl
theorem q1502 : (Jvm.Cond.methodLink "TrailGuideLaw" (48 : Nat) ({ cls := "TrailGuide", name := "charge", desc := "(I)I" } : Jvm.MethodName)) ∈ lw_all := lw_g (lw_at lw_m6 212 rfl) rfl
theorem q1512 : (Jvm.Cond.methodLink "TrailGuideLaw" (180 : Nat) ({ cls := "TrailGuideLaw", name := "waypointX", desc := "(LTrailGuide;I[J)I" } : Jvm.MethodName)) ∈ lw_all := lw_g (lw_at lw_m6 222 rfl) rfl
theorem q1513 : (Jvm.Cond.static ({ cls := "TrailGuideLaw", name := "waypointX", desc := "(LTrailGuide;I[J)I" } : Jvm.MethodName)) ∈ lw_all := lw_g (lw_at lw_m6 223 rfl) rfl
theorem q1514 : (Jvm.Cond.codeWith ({ cls := "TrailGuideLaw", name := "waypointX", desc := "(LTrailGuide;I[J)I" } : Jvm.MethodName) method_12_code (4 : Nat) (Option.some Jvm.ClassFile.FieldType.int) [((0 : Nat), (9 : Nat), (12 : Nat), (20 : Nat))]) ∈ lw_all := lw_g (lw_at lw_m6 224 rfl) rfl
theorem q1515 : (Jvm.Cond.methodLink "TrailGuideLaw" (51 : Nat) ({ cls := "TrailGuide", name := "waypointX", desc := "(I)I" } : Jvm.MethodName)) ∈ lw_all := lw_g (lw_at lw_m6 225 rfl) rfl
theorem q1528 : (Jvm.Cond.methodLink "TrailGuideLaw" (183 : Nat) ({ cls := "TrailGuideLaw", name := "waypointY", desc := "(LTrailGuide;I[J)I" } : Jvm.MethodName)) ∈ lw_all := lw_g (lw_at lw_m6 238 rfl) rfl
theorem q1529 : (Jvm.Cond.static ({ cls := "TrailGuideLaw", name := "waypointY", desc := "(LTrailGuide;I[J)I" } : Jvm.MethodName)) ∈ lw_all := lw_g (lw_at lw_m6 239 rfl) rfl
theorem q1530 : (Jvm.Cond.codeWith ({ cls := "TrailGuideLaw", name := "waypointY", desc := "(LTrailGuide;I[J)I" } : Jvm.MethodName) method_13_code (4 : Nat) (Option.some Jvm.ClassFile.FieldType.int) [((0 : Nat), (9 : Nat), (12 : Nat), (20 : Nat))]) ∈ lw_all := lw_g (lw_at lw_m7 0 rfl) rfl
theorem q1531 : (Jvm.Cond.methodLink "TrailGuideLaw" (54 : Nat) ({ cls := "TrailGuide", name := "waypointY", desc := "(I)I" } : Jvm.MethodName)) ∈ lw_all := lw_g (lw_at lw_m7 1 rfl) rfl
theorem q1539 : (Jvm.Cond.methodLink "TrailGuideLaw" (186 : Nat) ({ cls := "TrailGuideLaw", name := "radius", desc := "(LTrailGuide;I[J)I" } : Jvm.MethodName)) ∈ lw_all := lw_g (lw_at lw_m7 9 rfl) rfl
theorem q1540 : (Jvm.Cond.static ({ cls := "TrailGuideLaw", name := "radius", desc := "(LTrailGuide;I[J)I" } : Jvm.MethodName)) ∈ lw_all := lw_g (lw_at lw_m7 10 rfl) rfl
theorem q1541 : (Jvm.Cond.codeWith ({ cls := "TrailGuideLaw", name := "radius", desc := "(LTrailGuide;I[J)I" } : Jvm.MethodName) method_14_code (4 : Nat) (Option.some Jvm.ClassFile.FieldType.int) [((0 : Nat), (9 : Nat), (12 : Nat), (20 : Nat))]) ∈ lw_all := lw_g (lw_at lw_m7 11 rfl) rfl
theorem q1542 : (Jvm.Cond.methodLink "TrailGuideLaw" (57 : Nat) ({ cls := "TrailGuide", name := "radius", desc := "(I)I" } : Jvm.MethodName)) ∈ lw_all := lw_g (lw_at lw_m7 12 rfl) rfl
theorem q1550 : (Jvm.Cond.methodLink "TrailGuideLaw" (193 : Nat) ({ cls := "TrailGuideLaw", name := "hasTrail", desc := "(LTrailGuide;II[J)I" } : Jvm.MethodName)) ∈ lw_all := lw_g (lw_at lw_m7 20 rfl) rfl
theorem q1551 : (Jvm.Cond.static ({ cls := "TrailGuideLaw", name := "hasTrail", desc := "(LTrailGuide;II[J)I" } : Jvm.MethodName)) ∈ lw_all := lw_g (lw_at lw_m7 21 rfl) rfl
theorem q1552 : (Jvm.Cond.codeWith ({ cls := "TrailGuideLaw", name := "hasTrail", desc := "(LTrailGuide;II[J)I" } : Jvm.MethodName) method_15_code (5 : Nat) (Option.some Jvm.ClassFile.FieldType.int) [((0 : Nat), (17 : Nat), (20 : Nat), (20 : Nat))]) ∈ lw_all := lw_g (lw_at lw_m7 22 rfl) rfl
theorem q1553 : (Jvm.Cond.methodLink "TrailGuideLaw" (60 : Nat) ({ cls := "TrailGuide", name := "hasTrail", desc := "(II)Z" } : Jvm.MethodName)) ∈ lw_all := lw_g (lw_at lw_m7 23 rfl) rfl
theorem q1559 : (Jvm.Cond.methodLink "TrailGuideLaw" (196 : Nat) ({ cls := "TrailGuideLaw", name := "trailLength", desc := "(LTrailGuide;II[J)I" } : Jvm.MethodName)) ∈ lw_all := lw_g (lw_at lw_m7 29 rfl) rfl
theorem q1560 : (Jvm.Cond.static ({ cls := "TrailGuideLaw", name := "trailLength", desc := "(LTrailGuide;II[J)I" } : Jvm.MethodName)) ∈ lw_all := lw_g (lw_at lw_m7 30 rfl) rfl
theorem q1561 : (Jvm.Cond.codeWith ({ cls := "TrailGuideLaw", name := "trailLength", desc := "(LTrailGuide;II[J)I" } : Jvm.MethodName) method_16_code (5 : Nat) (Option.some Jvm.ClassFile.FieldType.int) [((0 : Nat), (10 : Nat), (13 : Nat), (20 : Nat)), ((0 : Nat), (10 : Nat), (17 : Nat), (26 : Nat))]) ∈ lw_all := lw_g (lw_at lw_m7 31 rfl) rfl
theorem q1562 : (Jvm.Cond.methodLink "TrailGuideLaw" (63 : Nat) ({ cls := "TrailGuide", name := "trailLength", desc := "(II)I" } : Jvm.MethodName)) ∈ lw_all := lw_g (lw_at lw_m7 32 rfl) rfl
theorem q1567 : (Jvm.Cond.methodLink "TrailGuideLaw" (199 : Nat) ({ cls := "TrailGuideLaw", name := "distance", desc := "(LTrailGuide;II[J)I" } : Jvm.MethodName)) ∈ lw_all := lw_g (lw_at lw_m7 37 rfl) rfl
theorem q1568 : (Jvm.Cond.static ({ cls := "TrailGuideLaw", name := "distance", desc := "(LTrailGuide;II[J)I" } : Jvm.MethodName)) ∈ lw_all := lw_g (lw_at lw_m7 38 rfl) rfl
theorem q1569 : (Jvm.Cond.codeWith ({ cls := "TrailGuideLaw", name := "distance", desc := "(LTrailGuide;II[J)I" } : Jvm.MethodName) method_17_code (5 : Nat) (Option.some Jvm.ClassFile.FieldType.int) [((0 : Nat), (10 : Nat), (13 : Nat), (20 : Nat)), ((0 : Nat), (10 : Nat), (17 : Nat), (26 : Nat))]) ∈ lw_all := lw_g (lw_at lw_m7 39 rfl) rfl
theorem q1570 : (Jvm.Cond.methodLink "TrailGuideLaw" (66 : Nat) ({ cls := "TrailGuide", name := "distance", desc := "(II)I" } : Jvm.MethodName)) ∈ lw_all := lw_g (lw_at lw_m7 40 rfl) rfl
theorem q1578 : (Jvm.Cond.methodLink "TrailGuideLaw" (202 : Nat) ({ cls := "TrailGuideLaw", name := "distanceByRelaxation", desc := "(LTrailGuide;II[J)I" } : Jvm.MethodName)) ∈ lw_all := lw_g (lw_at lw_m7 48 rfl) rfl
theorem q1579 : (Jvm.Cond.static ({ cls := "TrailGuideLaw", name := "distanceByRelaxation", desc := "(LTrailGuide;II[J)I" } : Jvm.MethodName)) ∈ lw_all := lw_g (lw_at lw_m7 49 rfl) rfl
theorem q1580 : (Jvm.Cond.codeWith ({ cls := "TrailGuideLaw", name := "distanceByRelaxation", desc := "(LTrailGuide;II[J)I" } : Jvm.MethodName) method_18_code (5 : Nat) (Option.some Jvm.ClassFile.FieldType.int) [((0 : Nat), (10 : Nat), (13 : Nat), (20 : Nat)), ((0 : Nat), (10 : Nat), (17 : Nat), (26 : Nat))]) ∈ lw_all := lw_g (lw_at lw_m7 50 rfl) rfl
theorem q1581 : (Jvm.Cond.methodLink "TrailGuideLaw" (69 : Nat) ({ cls := "TrailGuide", name := "distanceByRelaxation", desc := "(II)I" } : Jvm.MethodName)) ∈ lw_all := lw_g (lw_at lw_m7 51 rfl) rfl
theorem q1585 : (Jvm.Cond.methodLink "TrailGuideLaw" (213 : Nat) ({ cls := "TrailGuideLaw", name := "nearest", desc := "(LTrailGuide;II[J)I" } : Jvm.MethodName)) ∈ lw_all := lw_g (lw_at lw_m7 55 rfl) rfl
theorem q1586 : (Jvm.Cond.static ({ cls := "TrailGuideLaw", name := "nearest", desc := "(LTrailGuide;II[J)I" } : Jvm.MethodName)) ∈ lw_all := lw_g (lw_at lw_m7 56 rfl) rfl
theorem q1587 : (Jvm.Cond.codeWith ({ cls := "TrailGuideLaw", name := "nearest", desc := "(LTrailGuide;II[J)I" } : Jvm.MethodName) method_19_code (5 : Nat) (Option.some Jvm.ClassFile.FieldType.int) [((0 : Nat), (10 : Nat), (13 : Nat), (13 : Nat)), ((0 : Nat), (10 : Nat), (17 : Nat), (26 : Nat))]) ∈ lw_all := lw_g (lw_at lw_m7 57 rfl) rfl
theorem q1588 : (Jvm.Cond.methodLink "TrailGuideLaw" (72 : Nat) ({ cls := "TrailGuide", name := "nearest", desc := "(II)I" } : Jvm.MethodName)) ∈ lw_all := lw_g (lw_at lw_m7 58 rfl) rfl
theorem q1596 : (Jvm.Cond.methodLink "TrailGuideLaw" (221 : Nat) ({ cls := "TrailGuideLaw", name := "routeLength", desc := "(LTrailGuide;[J)I" } : Jvm.MethodName)) ∈ lw_all := lw_g (lw_at lw_m7 66 rfl) rfl
theorem q1597 : (Jvm.Cond.static ({ cls := "TrailGuideLaw", name := "routeLength", desc := "(LTrailGuide;[J)I" } : Jvm.MethodName)) ∈ lw_all := lw_g (lw_at lw_m7 67 rfl) rfl
theorem q1598 : (Jvm.Cond.codeWith ({ cls := "TrailGuideLaw", name := "routeLength", desc := "(LTrailGuide;[J)I" } : Jvm.MethodName) method_20_code (3 : Nat) (Option.some Jvm.ClassFile.FieldType.int) [((0 : Nat), (8 : Nat), (11 : Nat), (15 : Nat))]) ∈ lw_all := lw_g (lw_at lw_m7 68 rfl) rfl
theorem q1599 : (Jvm.Cond.methodLink "TrailGuideLaw" (75 : Nat) ({ cls := "TrailGuide", name := "routeLength", desc := "()I" } : Jvm.MethodName)) ∈ lw_all := lw_g (lw_at lw_m7 69 rfl) rfl
theorem q1608 : (Jvm.Cond.methodLink "TrailGuideLaw" (224 : Nat) ({ cls := "TrailGuideLaw", name := "routeWaypoint", desc := "(LTrailGuide;I[J)I" } : Jvm.MethodName)) ∈ lw_all := lw_g (lw_at lw_m7 78 rfl) rfl
theorem q1609 : (Jvm.Cond.static ({ cls := "TrailGuideLaw", name := "routeWaypoint", desc := "(LTrailGuide;I[J)I" } : Jvm.MethodName)) ∈ lw_all := lw_g (lw_at lw_m7 79 rfl) rfl
theorem q1610 : (Jvm.Cond.codeWith ({ cls := "TrailGuideLaw", name := "routeWaypoint", desc := "(LTrailGuide;I[J)I" } : Jvm.MethodName) method_21_code (4 : Nat) (Option.some Jvm.ClassFile.FieldType.int) [((0 : Nat), (9 : Nat), (12 : Nat), (15 : Nat)), ((0 : Nat), (9 : Nat), (15 : Nat), (20 : Nat))]) ∈ lw_all := lw_g (lw_at lw_m7 80 rfl) rfl
theorem q1611 : (Jvm.Cond.methodLink "TrailGuideLaw" (78 : Nat) ({ cls := "TrailGuide", name := "routeWaypoint", desc := "(I)I" } : Jvm.MethodName)) ∈ lw_all := lw_g (lw_at lw_m7 81 rfl) rfl
theorem q1616 : (Jvm.Cond.methodLink "TrailGuideLaw" (227 : Nat) ({ cls := "TrailGuideLaw", name := "turn", desc := "(LTrailGuide;I[J)I" } : Jvm.MethodName)) ∈ lw_all := lw_g (lw_at lw_m7 86 rfl) rfl
theorem q1617 : (Jvm.Cond.static ({ cls := "TrailGuideLaw", name := "turn", desc := "(LTrailGuide;I[J)I" } : Jvm.MethodName)) ∈ lw_all := lw_g (lw_at lw_m7 87 rfl) rfl
theorem q1618 : (Jvm.Cond.codeWith ({ cls := "TrailGuideLaw", name := "turn", desc := "(LTrailGuide;I[J)I" } : Jvm.MethodName) method_22_code (4 : Nat) (Option.some Jvm.ClassFile.FieldType.int) [((0 : Nat), (9 : Nat), (12 : Nat), (15 : Nat)), ((0 : Nat), (9 : Nat), (15 : Nat), (20 : Nat)), ((0 : Nat), (9 : Nat), (18 : Nat), (26 : Nat))]) ∈ lw_all := lw_g (lw_at lw_m7 88 rfl) rfl
theorem q1619 : (Jvm.Cond.methodLink "TrailGuideLaw" (81 : Nat) ({ cls := "TrailGuide", name := "turn", desc := "(I)C" } : Jvm.MethodName)) ∈ lw_all := lw_g (lw_at lw_m7 89 rfl) rfl
theorem q1623 : (Jvm.Cond.methodLink "TrailGuideLaw" (230 : Nat) ({ cls := "TrailGuideLaw", name := "target", desc := "(LTrailGuide;[J)I" } : Jvm.MethodName)) ∈ lw_all := lw_g (lw_at lw_m7 93 rfl) rfl
theorem q1624 : (Jvm.Cond.static ({ cls := "TrailGuideLaw", name := "target", desc := "(LTrailGuide;[J)I" } : Jvm.MethodName)) ∈ lw_all := lw_g (lw_at lw_m7 94 rfl) rfl
theorem q1625 : (Jvm.Cond.codeWith ({ cls := "TrailGuideLaw", name := "target", desc := "(LTrailGuide;[J)I" } : Jvm.MethodName) method_23_code (3 : Nat) (Option.some Jvm.ClassFile.FieldType.int) [((0 : Nat), (8 : Nat), (11 : Nat), (15 : Nat))]) ∈ lw_all := lw_g (lw_at lw_m7 95 rfl) rfl
theorem q1626 : (Jvm.Cond.methodLink "TrailGuideLaw" (85 : Nat) ({ cls := "TrailGuide", name := "target", desc := "()I" } : Jvm.MethodName)) ∈ lw_all := lw_g (lw_at lw_m7 96 rfl) rfl
theorem q1631 : (Jvm.Cond.methodLink "TrailGuideLaw" (233 : Nat) ({ cls := "TrailGuideLaw", name := "hikerX", desc := "(LTrailGuide;[J)I" } : Jvm.MethodName)) ∈ lw_all := lw_g (lw_at lw_m7 101 rfl) rfl
theorem q1632 : (Jvm.Cond.static ({ cls := "TrailGuideLaw", name := "hikerX", desc := "(LTrailGuide;[J)I" } : Jvm.MethodName)) ∈ lw_all := lw_g (lw_at lw_m7 102 rfl) rfl
theorem q1633 : (Jvm.Cond.codeWith ({ cls := "TrailGuideLaw", name := "hikerX", desc := "(LTrailGuide;[J)I" } : Jvm.MethodName) method_24_code (3 : Nat) (Option.some Jvm.ClassFile.FieldType.int) [((0 : Nat), (8 : Nat), (11 : Nat), (15 : Nat))]) ∈ lw_all := lw_g (lw_at lw_m7 103 rfl) rfl
theorem q1634 : (Jvm.Cond.methodLink "TrailGuideLaw" (88 : Nat) ({ cls := "TrailGuide", name := "hikerX", desc := "()I" } : Jvm.MethodName)) ∈ lw_all := lw_g (lw_at lw_m7 104 rfl) rfl
theorem q1639 : (Jvm.Cond.methodLink "TrailGuideLaw" (236 : Nat) ({ cls := "TrailGuideLaw", name := "hikerY", desc := "(LTrailGuide;[J)I" } : Jvm.MethodName)) ∈ lw_all := lw_g (lw_at lw_m7 109 rfl) rfl
theorem q1640 : (Jvm.Cond.static ({ cls := "TrailGuideLaw", name := "hikerY", desc := "(LTrailGuide;[J)I" } : Jvm.MethodName)) ∈ lw_all := lw_g (lw_at lw_m7 110 rfl) rfl
theorem q1641 : (Jvm.Cond.codeWith ({ cls := "TrailGuideLaw", name := "hikerY", desc := "(LTrailGuide;[J)I" } : Jvm.MethodName) method_25_code (3 : Nat) (Option.some Jvm.ClassFile.FieldType.int) [((0 : Nat), (8 : Nat), (11 : Nat), (15 : Nat))]) ∈ lw_all := lw_g (lw_at lw_m7 111 rfl) rfl
theorem q1642 : (Jvm.Cond.methodLink "TrailGuideLaw" (91 : Nat) ({ cls := "TrailGuide", name := "hikerY", desc := "()I" } : Jvm.MethodName)) ∈ lw_all := lw_g (lw_at lw_m7 112 rfl) rfl
theorem q1646 : (Jvm.Cond.methodLink "TrailGuideLaw" (239 : Nat) ({ cls := "TrailGuideLaw", name := "drift", desc := "(LTrailGuide;[J)I" } : Jvm.MethodName)) ∈ lw_all := lw_g (lw_at lw_m7 116 rfl) rfl
theorem q1647 : (Jvm.Cond.static ({ cls := "TrailGuideLaw", name := "drift", desc := "(LTrailGuide;[J)I" } : Jvm.MethodName)) ∈ lw_all := lw_g (lw_at lw_m7 117 rfl) rfl
theorem q1648 : (Jvm.Cond.codeWith ({ cls := "TrailGuideLaw", name := "drift", desc := "(LTrailGuide;[J)I" } : Jvm.MethodName) method_26_code (3 : Nat) (Option.some Jvm.ClassFile.FieldType.int) [((0 : Nat), (8 : Nat), (11 : Nat), (15 : Nat))]) ∈ lw_all := lw_g (lw_at lw_m7 118 rfl) rfl
theorem q1649 : (Jvm.Cond.methodLink "TrailGuideLaw" (94 : Nat) ({ cls := "TrailGuide", name := "drift", desc := "()I" } : Jvm.MethodName)) ∈ lw_all := lw_g (lw_at lw_m7 119 rfl) rfl
theorem q1662 : (Jvm.Cond.methodLink "TrailGuideLaw" (246 : Nat) ({ cls := "TrailGuideLaw", name := "forecast", desc := "(LTrailGuide;II[J)I" } : Jvm.MethodName)) ∈ lw_all := lw_g (lw_at lw_m7 132 rfl) rfl
theorem q1663 : (Jvm.Cond.static ({ cls := "TrailGuideLaw", name := "forecast", desc := "(LTrailGuide;II[J)I" } : Jvm.MethodName)) ∈ lw_all := lw_g (lw_at lw_m7 133 rfl) rfl
theorem q1664 : (Jvm.Cond.codeWith ({ cls := "TrailGuideLaw", name := "forecast", desc := "(LTrailGuide;II[J)I" } : Jvm.MethodName) method_27_code (5 : Nat) (Option.some Jvm.ClassFile.FieldType.int) [((0 : Nat), (10 : Nat), (13 : Nat), (13 : Nat)), ((0 : Nat), (10 : Nat), (17 : Nat), (15 : Nat))]) ∈ lw_all := lw_g (lw_at lw_m7 134 rfl) rfl
theorem q1665 : (Jvm.Cond.methodLink "TrailGuideLaw" (97 : Nat) ({ cls := "TrailGuide", name := "forecast", desc := "(II)C" } : Jvm.MethodName)) ∈ lw_all := lw_g (lw_at lw_m7 135 rfl) rfl
theorem q1689 : (Jvm.Cond.methodLink "TrailGuideLaw" (281 : Nat) ({ cls := "TrailGuideLaw", name := "alarmRate", desc := "(LTrailGuide;[D)I" } : Jvm.MethodName)) ∈ lw_all := lw_g (lw_at lw_m7 159 rfl) rfl
theorem q1690 : (Jvm.Cond.static ({ cls := "TrailGuideLaw", name := "alarmRate", desc := "(LTrailGuide;[D)I" } : Jvm.MethodName)) ∈ lw_all := lw_g (lw_at lw_m7 160 rfl) rfl
theorem q1691 : (Jvm.Cond.codeWith ({ cls := "TrailGuideLaw", name := "alarmRate", desc := "(LTrailGuide;[D)I" } : Jvm.MethodName) method_28_code (3 : Nat) (Option.some Jvm.ClassFile.FieldType.int) [((0 : Nat), (8 : Nat), (11 : Nat), (105 : Nat))]) ∈ lw_all := lw_g (lw_at lw_m7 161 rfl) rfl
theorem q1692 : (Jvm.Cond.classLink "TrailGuideLaw" (105 : Nat) "java/lang/ArithmeticException") ∈ lw_all := lw_g (lw_at lw_m7 162 rfl) rfl
theorem q1706 : (Jvm.Cond.methodLink "TrailGuideLaw" (101 : Nat) ({ cls := "TrailGuide", name := "alarmRate", desc := "()F" } : Jvm.MethodName)) ∈ lw_all := lw_g (lw_at lw_m7 176 rfl) rfl
theorem q1715 : (Jvm.Cond.methodLink "TrailGuideLaw" (285 : Nat) ({ cls := "TrailGuideLaw", name := "meanTrailLength", desc := "(LTrailGuide;[D)I" } : Jvm.MethodName)) ∈ lw_all := lw_g (lw_at lw_m7 185 rfl) rfl
theorem q1716 : (Jvm.Cond.static ({ cls := "TrailGuideLaw", name := "meanTrailLength", desc := "(LTrailGuide;[D)I" } : Jvm.MethodName)) ∈ lw_all := lw_g (lw_at lw_m7 186 rfl) rfl
theorem q1717 : (Jvm.Cond.codeWith ({ cls := "TrailGuideLaw", name := "meanTrailLength", desc := "(LTrailGuide;[D)I" } : Jvm.MethodName) method_29_code (3 : Nat) (Option.some Jvm.ClassFile.FieldType.int) [((0 : Nat), (7 : Nat), (10 : Nat), (105 : Nat))]) ∈ lw_all := lw_g (lw_at lw_m7 187 rfl) rfl
theorem q1718 : (Jvm.Cond.methodLink "TrailGuideLaw" (107 : Nat) ({ cls := "TrailGuide", name := "meanTrailLength", desc := "()D" } : Jvm.MethodName)) ∈ lw_all := lw_g (lw_at lw_m7 188 rfl) rfl
theorem q1726 : (Jvm.Cond.methodLink "TrailGuideLaw" (296 : Nat) ({ cls := "TrailGuideLaw", name := "writeTrails", desc := "(LTrailGuide;I[J)I" } : Jvm.MethodName)) ∈ lw_all := lw_g (lw_at lw_m7 196 rfl) rfl
theorem q1727 : (Jvm.Cond.static ({ cls := "TrailGuideLaw", name := "writeTrails", desc := "(LTrailGuide;I[J)I" } : Jvm.MethodName)) ∈ lw_all := lw_g (lw_at lw_m7 197 rfl) rfl
theorem q1728 : (Jvm.Cond.codeWith ({ cls := "TrailGuideLaw", name := "writeTrails", desc := "(LTrailGuide;I[J)I" } : Jvm.MethodName) method_30_code (4 : Nat) (Option.some Jvm.ClassFile.FieldType.int) [((0 : Nat), (9 : Nat), (12 : Nat), (20 : Nat))]) ∈ lw_all := lw_g (lw_at lw_m7 198 rfl) rfl
theorem q1729 : (Jvm.Cond.methodLink "TrailGuideLaw" (111 : Nat) ({ cls := "TrailGuide", name := "writeTrails", desc := "(I)I" } : Jvm.MethodName)) ∈ lw_all := lw_g (lw_at lw_m7 199 rfl) rfl
theorem q1741 : (Jvm.Cond.methodLink "TrailGuideLaw" (299 : Nat) ({ cls := "TrailGuideLaw", name := "charAt", desc := "(LTrailGuide;I[J)I" } : Jvm.MethodName)) ∈ lw_all := lw_g (lw_at lw_m7 211 rfl) rfl
theorem q1742 : (Jvm.Cond.static ({ cls := "TrailGuideLaw", name := "charAt", desc := "(LTrailGuide;I[J)I" } : Jvm.MethodName)) ∈ lw_all := lw_g (lw_at lw_m7 212 rfl) rfl
theorem q1743 : (Jvm.Cond.codeWith ({ cls := "TrailGuideLaw", name := "charAt", desc := "(LTrailGuide;I[J)I" } : Jvm.MethodName) method_31_code (4 : Nat) (Option.some Jvm.ClassFile.FieldType.int) [((0 : Nat), (9 : Nat), (12 : Nat), (20 : Nat))]) ∈ lw_all := lw_g (lw_at lw_m7 213 rfl) rfl
theorem q1744 : (Jvm.Cond.methodLink "TrailGuideLaw" (114 : Nat) ({ cls := "TrailGuide", name := "charAt", desc := "(I)C" } : Jvm.MethodName)) ∈ lw_all := lw_g (lw_at lw_m7 214 rfl) rfl
theorem q1758 : (Jvm.Cond.methodLink "TrailGuideLaw" (302 : Nat) ({ cls := "TrailGuideLaw", name := "type", desc := "(LTrailGuide;C[J)I" } : Jvm.MethodName)) ∈ lw_all := lw_g (lw_at lw_m7 228 rfl) rfl
theorem q1759 : (Jvm.Cond.static ({ cls := "TrailGuideLaw", name := "type", desc := "(LTrailGuide;C[J)I" } : Jvm.MethodName)) ∈ lw_all := lw_g (lw_at lw_m7 229 rfl) rfl
theorem q1760 : (Jvm.Cond.codeWith ({ cls := "TrailGuideLaw", name := "type", desc := "(LTrailGuide;C[J)I" } : Jvm.MethodName) method_32_code (4 : Nat) (Option.some Jvm.ClassFile.FieldType.int) [((0 : Nat), (9 : Nat), (12 : Nat), (15 : Nat))]) ∈ lw_all := lw_g (lw_at lw_m7 230 rfl) rfl
theorem q1761 : (Jvm.Cond.methodLink "TrailGuideLaw" (117 : Nat) ({ cls := "TrailGuide", name := "type", desc := "(C)I" } : Jvm.MethodName)) ∈ lw_all := lw_g (lw_at lw_m7 231 rfl) rfl
theorem q1766 : (Jvm.Cond.methodLink "TrailGuideLaw" (306 : Nat) ({ cls := "TrailGuideLaw", name := "run", desc := "(LTrailGuide;[J)I" } : Jvm.MethodName)) ∈ lw_all := lw_g (lw_at lw_m7 236 rfl) rfl
theorem q1767 : (Jvm.Cond.static ({ cls := "TrailGuideLaw", name := "run", desc := "(LTrailGuide;[J)I" } : Jvm.MethodName)) ∈ lw_all := lw_g (lw_at lw_m7 237 rfl) rfl
theorem q1768 : (Jvm.Cond.codeWith ({ cls := "TrailGuideLaw", name := "run", desc := "(LTrailGuide;[J)I" } : Jvm.MethodName) method_33_code (3 : Nat) (Option.some Jvm.ClassFile.FieldType.int) [((0 : Nat), (8 : Nat), (11 : Nat), (13 : Nat)), ((0 : Nat), (8 : Nat), (14 : Nat), (39 : Nat))]) ∈ lw_all := lw_g (lw_at lw_m7 238 rfl) rfl
theorem q1769 : (Jvm.Cond.methodLink "TrailGuideLaw" (121 : Nat) ({ cls := "TrailGuide", name := "run", desc := "()I" } : Jvm.MethodName)) ∈ lw_all := lw_g (lw_at lw_m7 239 rfl) rfl
theorem q2063 : (Jvm.Cond.methodLink "TrailGuideLaw" (309 : Nat) ({ cls := "TrailGuideLaw", name := "errorPosition", desc := "(LTrailGuide;[J)I" } : Jvm.MethodName)) ∈ lw_all := lw_g (lw_at lw_m9 53 rfl) rfl
theorem q2064 : (Jvm.Cond.static ({ cls := "TrailGuideLaw", name := "errorPosition", desc := "(LTrailGuide;[J)I" } : Jvm.MethodName)) ∈ lw_all := lw_g (lw_at lw_m9 54 rfl) rfl
theorem q2065 : (Jvm.Cond.codeWith ({ cls := "TrailGuideLaw", name := "errorPosition", desc := "(LTrailGuide;[J)I" } : Jvm.MethodName) method_34_code (3 : Nat) (Option.some Jvm.ClassFile.FieldType.int) [((0 : Nat), (8 : Nat), (11 : Nat), (26 : Nat))]) ∈ lw_all := lw_g (lw_at lw_m9 55 rfl) rfl
theorem q2066 : (Jvm.Cond.methodLink "TrailGuideLaw" (124 : Nat) ({ cls := "TrailGuide", name := "errorPosition", desc := "()I" } : Jvm.MethodName)) ∈ lw_all := lw_g (lw_at lw_m9 56 rfl) rfl
theorem q2070 : (Jvm.Cond.methodLink "TrailGuideLaw" (312 : Nat) ({ cls := "TrailGuideLaw", name := "failedCommand", desc := "(LTrailGuide;[J)I" } : Jvm.MethodName)) ∈ lw_all := lw_g (lw_at lw_m9 60 rfl) rfl
theorem q2071 : (Jvm.Cond.static ({ cls := "TrailGuideLaw", name := "failedCommand", desc := "(LTrailGuide;[J)I" } : Jvm.MethodName)) ∈ lw_all := lw_g (lw_at lw_m9 61 rfl) rfl
theorem q2072 : (Jvm.Cond.codeWith ({ cls := "TrailGuideLaw", name := "failedCommand", desc := "(LTrailGuide;[J)I" } : Jvm.MethodName) method_35_code (3 : Nat) (Option.some Jvm.ClassFile.FieldType.int) [((0 : Nat), (8 : Nat), (11 : Nat), (26 : Nat))]) ∈ lw_all := lw_g (lw_at lw_m9 62 rfl) rfl
theorem q2073 : (Jvm.Cond.methodLink "TrailGuideLaw" (127 : Nat) ({ cls := "TrailGuide", name := "failedCommand", desc := "()I" } : Jvm.MethodName)) ∈ lw_all := lw_g (lw_at lw_m9 63 rfl) rfl
theorem q2077 : (Jvm.Cond.methodLink "TrailGuideLaw" (315 : Nat) ({ cls := "TrailGuideLaw", name := "undo", desc := "(LTrailGuide;[J)I" } : Jvm.MethodName)) ∈ lw_all := lw_g (lw_at lw_m9 67 rfl) rfl
theorem q2078 : (Jvm.Cond.static ({ cls := "TrailGuideLaw", name := "undo", desc := "(LTrailGuide;[J)I" } : Jvm.MethodName)) ∈ lw_all := lw_g (lw_at lw_m9 68 rfl) rfl
theorem q2079 : (Jvm.Cond.codeWith ({ cls := "TrailGuideLaw", name := "undo", desc := "(LTrailGuide;[J)I" } : Jvm.MethodName) method_36_code (3 : Nat) (Option.some Jvm.ClassFile.FieldType.int) [((0 : Nat), (8 : Nat), (11 : Nat), (15 : Nat))]) ∈ lw_all := lw_g (lw_at lw_m9 69 rfl) rfl
theorem q2080 : (Jvm.Cond.methodLink "TrailGuideLaw" (130 : Nat) ({ cls := "TrailGuide", name := "undo", desc := "()I" } : Jvm.MethodName)) ∈ lw_all := lw_g (lw_at lw_m9 70 rfl) rfl
theorem q2099 : (Jvm.Cond.methodLink "TrailGuideLaw" (322 : Nat) ({ cls := "TrailGuideLaw", name := "restore", desc := "(LTrailGuide;[J)I" } : Jvm.MethodName)) ∈ lw_all := lw_g (lw_at lw_m9 89 rfl) rfl
theorem q2100 : (Jvm.Cond.static ({ cls := "TrailGuideLaw", name := "restore", desc := "(LTrailGuide;[J)I" } : Jvm.MethodName)) ∈ lw_all := lw_g (lw_at lw_m9 90 rfl) rfl
theorem q2101 : (Jvm.Cond.codeWith ({ cls := "TrailGuideLaw", name := "restore", desc := "(LTrailGuide;[J)I" } : Jvm.MethodName) method_37_code (3 : Nat) (Option.some Jvm.ClassFile.FieldType.int) [((0 : Nat), (8 : Nat), (11 : Nat), (15 : Nat))]) ∈ lw_all := lw_g (lw_at lw_m9 91 rfl) rfl
theorem q2102 : (Jvm.Cond.methodLink "TrailGuideLaw" (133 : Nat) ({ cls := "TrailGuide", name := "restore", desc := "()I" } : Jvm.MethodName)) ∈ lw_all := lw_g (lw_at lw_m9 92 rfl) rfl
theorem q2113 : (Jvm.Cond.classLink "TrailGuideLaw" (137 : Nat) "TrailGuideModel") ∈ lw_all := lw_g (lw_at lw_m9 103 rfl) rfl
theorem q2115 : (Jvm.Cond.methodLink "TrailGuideLaw" (139 : Nat) ({ cls := "TrailGuideModel", name := "<init>", desc := "()V" } : Jvm.MethodName)) ∈ lw_all := lw_g (lw_at lw_m9 105 rfl) rfl
theorem q2174 : (Jvm.Cond.methodLink "TrailGuideLaw" (146 : Nat) ({ cls := "TrailGuideModel", name := "thrown", desc := "()I" } : Jvm.MethodName)) ∈ lw_all := lw_g (lw_at lw_m9 164 rfl) rfl
theorem q2178 : (Jvm.Cond.methodLink "TrailGuideLaw" (145 : Nat) ({ cls := "TrailGuideModel", name := "addWaypoint", desc := "(III)I" } : Jvm.MethodName)) ∈ lw_all := lw_g (lw_at lw_m9 168 rfl) rfl
theorem q2207 : (Jvm.Cond.methodLink "TrailGuideLaw" (151 : Nat) ({ cls := "TrailGuideModel", name := "addTrail", desc := "(III)I" } : Jvm.MethodName)) ∈ lw_all := lw_g (lw_at lw_m9 197 rfl) rfl
theorem q2231 : (Jvm.Cond.methodLink "TrailGuideLaw" (155 : Nat) ({ cls := "TrailGuideModel", name := "removeTrail", desc := "(II)I" } : Jvm.MethodName)) ∈ lw_all := lw_g (lw_at lw_m9 221 rfl) rfl
theorem q2239 : (Jvm.Cond.methodLink "TrailGuideLaw" (158 : Nat) ({ cls := "TrailGuideModel", name := "startTour", desc := "(II)I" } : Jvm.MethodName)) ∈ lw_all := lw_g (lw_at lw_m9 229 rfl) rfl
theorem q2264 : (Jvm.Cond.methodLink "TrailGuideLaw" (162 : Nat) ({ cls := "TrailGuideModel", name := "stopTour", desc := "()I" } : Jvm.MethodName)) ∈ lw_all := lw_g (lw_at lw_m10 14 rfl) rfl
theorem q2276 : (Jvm.Cond.methodLink "TrailGuideLaw" (165 : Nat) ({ cls := "TrailGuideModel", name := "update", desc := "(II)Z" } : Jvm.MethodName)) ∈ lw_all := lw_g (lw_at lw_m10 26 rfl) rfl
theorem q2314 : (Jvm.Cond.methodLink "TrailGuideLaw" (169 : Nat) ({ cls := "TrailGuideModel", name := "setTolerance", desc := "(I)I" } : Jvm.MethodName)) ∈ lw_all := lw_g (lw_at lw_m10 64 rfl) rfl
theorem q2322 : (Jvm.Cond.methodLink "TrailGuideLaw" (172 : Nat) ({ cls := "TrailGuideModel", name := "setMode", desc := "(I)I" } : Jvm.MethodName)) ∈ lw_all := lw_g (lw_at lw_m10 72 rfl) rfl
theorem q2326 : (Jvm.Cond.methodLink "TrailGuideLaw" (175 : Nat) ({ cls := "TrailGuideModel", name := "charge", desc := "(I)I" } : Jvm.MethodName)) ∈ lw_all := lw_g (lw_at lw_m10 76 rfl) rfl
theorem q2334 : (Jvm.Cond.methodLink "TrailGuideLaw" (179 : Nat) ({ cls := "TrailGuideModel", name := "waypoints", desc := "()I" } : Jvm.MethodName)) ∈ lw_all := lw_g (lw_at lw_m10 84 rfl) rfl
theorem q2338 : (Jvm.Cond.methodLink "TrailGuideLaw" (182 : Nat) ({ cls := "TrailGuideModel", name := "waypointX", desc := "(I)I" } : Jvm.MethodName)) ∈ lw_all := lw_g (lw_at lw_m10 88 rfl) rfl
theorem q2346 : (Jvm.Cond.methodLink "TrailGuideLaw" (185 : Nat) ({ cls := "TrailGuideModel", name := "waypointY", desc := "(I)I" } : Jvm.MethodName)) ∈ lw_all := lw_g (lw_at lw_m10 96 rfl) rfl
theorem q2350 : (Jvm.Cond.methodLink "TrailGuideLaw" (188 : Nat) ({ cls := "TrailGuideModel", name := "radius", desc := "(I)I" } : Jvm.MethodName)) ∈ lw_all := lw_g (lw_at lw_m10 100 rfl) rfl
theorem q2354 : (Jvm.Cond.methodLink "TrailGuideLaw" (192 : Nat) ({ cls := "TrailGuideModel", name := "trails", desc := "()I" } : Jvm.MethodName)) ∈ lw_all := lw_g (lw_at lw_m10 104 rfl) rfl
theorem q2358 : (Jvm.Cond.methodLink "TrailGuideLaw" (195 : Nat) ({ cls := "TrailGuideModel", name := "hasTrail", desc := "(II)Z" } : Jvm.MethodName)) ∈ lw_all := lw_g (lw_at lw_m10 108 rfl) rfl
theorem q2362 : (Jvm.Cond.methodLink "TrailGuideLaw" (198 : Nat) ({ cls := "TrailGuideModel", name := "trailLength", desc := "(II)I" } : Jvm.MethodName)) ∈ lw_all := lw_g (lw_at lw_m10 112 rfl) rfl
theorem q2366 : (Jvm.Cond.methodLink "TrailGuideLaw" (201 : Nat) ({ cls := "TrailGuideModel", name := "distance", desc := "(II)I" } : Jvm.MethodName)) ∈ lw_all := lw_g (lw_at lw_m10 116 rfl) rfl
theorem q2370 : (Jvm.Cond.methodLink "TrailGuideLaw" (204 : Nat) ({ cls := "TrailGuideModel", name := "distanceByRelaxation", desc := "(II)I" } : Jvm.MethodName)) ∈ lw_all := lw_g (lw_at lw_m10 120 rfl) rfl
theorem q2375 : (Jvm.Cond.methodLink "TrailGuideLaw" (208 : Nat) ({ cls := "TrailGuideModel", name := "components", desc := "()I" } : Jvm.MethodName)) ∈ lw_all := lw_g (lw_at lw_m10 125 rfl) rfl
theorem q2379 : (Jvm.Cond.methodLink "TrailGuideLaw" (212 : Nat) ({ cls := "TrailGuideModel", name := "componentsByMerging", desc := "()I" } : Jvm.MethodName)) ∈ lw_all := lw_g (lw_at lw_m10 129 rfl) rfl
theorem q2384 : (Jvm.Cond.methodLink "TrailGuideLaw" (215 : Nat) ({ cls := "TrailGuideModel", name := "nearest", desc := "(II)I" } : Jvm.MethodName)) ∈ lw_all := lw_g (lw_at lw_m10 134 rfl) rfl
theorem q2392 : (Jvm.Cond.methodLink "TrailGuideLaw" (220 : Nat) ({ cls := "TrailGuideModel", name := "isTouring", desc := "()Z" } : Jvm.MethodName)) ∈ lw_all := lw_g (lw_at lw_m10 142 rfl) rfl
theorem q2396 : (Jvm.Cond.methodLink "TrailGuideLaw" (223 : Nat) ({ cls := "TrailGuideModel", name := "routeLength", desc := "()I" } : Jvm.MethodName)) ∈ lw_all := lw_g (lw_at lw_m10 146 rfl) rfl
theorem q2404 : (Jvm.Cond.methodLink "TrailGuideLaw" (226 : Nat) ({ cls := "TrailGuideModel", name := "routeWaypoint", desc := "(I)I" } : Jvm.MethodName)) ∈ lw_all := lw_g (lw_at lw_m10 154 rfl) rfl
theorem q2412 : (Jvm.Cond.methodLink "TrailGuideLaw" (229 : Nat) ({ cls := "TrailGuideModel", name := "turn", desc := "(I)C" } : Jvm.MethodName)) ∈ lw_all := lw_g (lw_at lw_m10 162 rfl) rfl
theorem q2420 : (Jvm.Cond.methodLink "TrailGuideLaw" (232 : Nat) ({ cls := "TrailGuideModel", name := "target", desc := "()I" } : Jvm.MethodName)) ∈ lw_all := lw_g (lw_at lw_m10 170 rfl) rfl
theorem q2424 : (Jvm.Cond.methodLink "TrailGuideLaw" (235 : Nat) ({ cls := "TrailGuideModel", name := "hikerX", desc := "()I" } : Jvm.MethodName)) ∈ lw_all := lw_g (lw_at lw_m10 174 rfl) rfl
theorem q2428 : (Jvm.Cond.methodLink "TrailGuideLaw" (238 : Nat) ({ cls := "TrailGuideModel", name := "hikerY", desc := "()I" } : Jvm.MethodName)) ∈ lw_all := lw_g (lw_at lw_m10 178 rfl) rfl
theorem q2432 : (Jvm.Cond.methodLink "TrailGuideLaw" (241 : Nat) ({ cls := "TrailGuideModel", name := "drift", desc := "()I" } : Jvm.MethodName)) ∈ lw_all := lw_g (lw_at lw_m10 182 rfl) rfl
theorem q2440 : (Jvm.Cond.methodLink "TrailGuideLaw" (245 : Nat) ({ cls := "TrailGuideModel", name := "isAlarm", desc := "()Z" } : Jvm.MethodName)) ∈ lw_all := lw_g (lw_at lw_m10 190 rfl) rfl
theorem q2444 : (Jvm.Cond.methodLink "TrailGuideLaw" (248 : Nat) ({ cls := "TrailGuideModel", name := "forecast", desc := "(II)C" } : Jvm.MethodName)) ∈ lw_all := lw_g (lw_at lw_m10 194 rfl) rfl
theorem q2448 : (Jvm.Cond.methodLink "TrailGuideLaw" (252 : Nat) ({ cls := "TrailGuideModel", name := "battery", desc := "()I" } : Jvm.MethodName)) ∈ lw_all := lw_g (lw_at lw_m10 198 rfl) rfl
theorem q2452 : (Jvm.Cond.methodLink "TrailGuideLaw" (256 : Nat) ({ cls := "TrailGuideModel", name := "mode", desc := "()I" } : Jvm.MethodName)) ∈ lw_all := lw_g (lw_at lw_m10 202 rfl) rfl
theorem q2456 : (Jvm.Cond.methodLink "TrailGuideLaw" (260 : Nat) ({ cls := "TrailGuideModel", name := "tolerance", desc := "()I" } : Jvm.MethodName)) ∈ lw_all := lw_g (lw_at lw_m10 206 rfl) rfl
theorem q2460 : (Jvm.Cond.methodLink "TrailGuideLaw" (264 : Nat) ({ cls := "TrailGuideModel", name := "updatesLeft", desc := "()I" } : Jvm.MethodName)) ∈ lw_all := lw_g (lw_at lw_m10 210 rfl) rfl
theorem q2464 : (Jvm.Cond.methodLink "TrailGuideLaw" (268 : Nat) ({ cls := "TrailGuideModel", name := "updatesLeftByCounting", desc := "()I" } : Jvm.MethodName)) ∈ lw_all := lw_g (lw_at lw_m10 214 rfl) rfl
theorem q2469 : (Jvm.Cond.methodLink "TrailGuideLaw" (272 : Nat) ({ cls := "TrailGuideModel", name := "updates", desc := "()I" } : Jvm.MethodName)) ∈ lw_all := lw_g (lw_at lw_m10 219 rfl) rfl
theorem q2473 : (Jvm.Cond.methodLink "TrailGuideLaw" (276 : Nat) ({ cls := "TrailGuideModel", name := "alarms", desc := "()I" } : Jvm.MethodName)) ∈ lw_all := lw_g (lw_at lw_m10 223 rfl) rfl
theorem q2477 : (Jvm.Cond.methodLink "TrailGuideLaw" (280 : Nat) ({ cls := "TrailGuideModel", name := "reached", desc := "()I" } : Jvm.MethodName)) ∈ lw_all := lw_g (lw_at lw_m10 227 rfl) rfl
theorem q2481 : (Jvm.Cond.methodLink "TrailGuideLaw" (284 : Nat) ({ cls := "TrailGuideModel", name := "alarmRate", desc := "()F" } : Jvm.MethodName)) ∈ lw_all := lw_g (lw_at lw_m10 231 rfl) rfl
theorem q2485 : (Jvm.Cond.methodLink "TrailGuideLaw" (287 : Nat) ({ cls := "TrailGuideModel", name := "meanTrailLength", desc := "()D" } : Jvm.MethodName)) ∈ lw_all := lw_g (lw_at lw_m10 235 rfl) rfl
theorem q2489 : (Jvm.Cond.methodLink "TrailGuideLaw" (291 : Nat) ({ cls := "TrailGuideModel", name := "isConsistent", desc := "()Z" } : Jvm.MethodName)) ∈ lw_all := lw_g (lw_at lw_m10 239 rfl) rfl
theorem q2493 : (Jvm.Cond.methodLink "TrailGuideLaw" (295 : Nat) ({ cls := "TrailGuideModel", name := "writeRoute", desc := "()I" } : Jvm.MethodName)) ∈ lw_all := lw_g (lw_at lw_m11 3 rfl) rfl
theorem q2505 : (Jvm.Cond.methodLink "TrailGuideLaw" (298 : Nat) ({ cls := "TrailGuideModel", name := "writeTrails", desc := "(I)I" } : Jvm.MethodName)) ∈ lw_all := lw_g (lw_at lw_m11 15 rfl) rfl
theorem q2509 : (Jvm.Cond.methodLink "TrailGuideLaw" (301 : Nat) ({ cls := "TrailGuideModel", name := "charAt", desc := "(I)C" } : Jvm.MethodName)) ∈ lw_all := lw_g (lw_at lw_m11 19 rfl) rfl
theorem q2513 : (Jvm.Cond.methodLink "TrailGuideLaw" (305 : Nat) ({ cls := "TrailGuideModel", name := "type", desc := "(C)I" } : Jvm.MethodName)) ∈ lw_all := lw_g (lw_at lw_m11 23 rfl) rfl
theorem q2517 : (Jvm.Cond.methodLink "TrailGuideLaw" (308 : Nat) ({ cls := "TrailGuideModel", name := "run", desc := "()I" } : Jvm.MethodName)) ∈ lw_all := lw_g (lw_at lw_m11 27 rfl) rfl
theorem q2588 : (Jvm.Cond.methodLink "TrailGuideLaw" (311 : Nat) ({ cls := "TrailGuideModel", name := "errorPosition", desc := "()I" } : Jvm.MethodName)) ∈ lw_all := lw_g (lw_at lw_m11 98 rfl) rfl
theorem q2592 : (Jvm.Cond.methodLink "TrailGuideLaw" (314 : Nat) ({ cls := "TrailGuideModel", name := "failedCommand", desc := "()I" } : Jvm.MethodName)) ∈ lw_all := lw_g (lw_at lw_m11 102 rfl) rfl
theorem q2596 : (Jvm.Cond.methodLink "TrailGuideLaw" (317 : Nat) ({ cls := "TrailGuideModel", name := "undo", desc := "()I" } : Jvm.MethodName)) ∈ lw_all := lw_g (lw_at lw_m11 106 rfl) rfl
theorem q2600 : (Jvm.Cond.methodLink "TrailGuideLaw" (321 : Nat) ({ cls := "TrailGuideModel", name := "save", desc := "()I" } : Jvm.MethodName)) ∈ lw_all := lw_g (lw_at lw_m11 110 rfl) rfl
theorem q2604 : (Jvm.Cond.methodLink "TrailGuideLaw" (324 : Nat) ({ cls := "TrailGuideModel", name := "restore", desc := "()I" } : Jvm.MethodName)) ∈ lw_all := lw_g (lw_at lw_m11 114 rfl) rfl
/-! TrailGuide -/
def RX1 : String := "TrailGuide"
def TX1 : u_T := fun k => match k with
  | 0 => ("TrailGuide", "state", "LTrailGuide$State;", false)
  | 1 => ("TrailGuide", "saved", "LTrailGuide$State;", false)
  | 2 => ("TrailGuide", "history", "Ljava/util/ArrayDeque;", true)
  | 3 => ("TrailGuide", "line", "Ljava/lang/StringBuilder;", true)
  | 4 => ("TrailGuide", "text", "[C", true)
  | 5 => ("TrailGuide", "textLength", "I", false)
  | 6 => ("TrailGuide", "errorPosition", "I", false)
  | _ => ("TrailGuide", "failedCommand", "I", false)
def tyX1 : Nat → FieldType := fun k => match k with
  | 0 => .object "TrailGuide$State"
  | 1 => .object "TrailGuide$State"
  | 2 => .object "java/util/ArrayDeque"
  | 3 => .object "java/lang/StringBuilder"
  | 4 => .array .char
  | 5 => .int
  | 6 => .int
  | _ => .int
abbrev wsX10 : List Cond := u_ws RX1 TX1 8
theorem nmX1 : ∀ a, a < 8 → ∀ b, b < 8 → a ≠ b → (TX1 a).2.1 ≠ (TX1 b).2.1 := by decide +kernel
theorem tyX1_ok : ∀ k, k < 8 → parseFieldDescriptor (TX1 k).2.2.1 = some (tyX1 k) := by decide +kernel
abbrev cX1_init : ByteArray := prog_1_method_9_code
def yX1_init : MethodName := ⟨RX1, "<init>", "()V"⟩
abbrev cX1_waypoints : ByteArray := prog_1_method_21_code
def yX1_waypoints : MethodName := ⟨RX1, "waypoints", "()I"⟩
abbrev cX1_trails : ByteArray := prog_1_method_25_code
def yX1_trails : MethodName := ⟨RX1, "trails", "()I"⟩
abbrev cX1_components : ByteArray := prog_1_method_31_code
def yX1_components : MethodName := ⟨RX1, "components", "()I"⟩
abbrev cX1_componentsByMerging : ByteArray := prog_1_method_32_code
def yX1_componentsByMerging : MethodName := ⟨RX1, "componentsByMerging", "()I"⟩
abbrev cX1_isTouring : ByteArray := prog_1_method_34_code
def yX1_isTouring : MethodName := ⟨RX1, "isTouring", "()Z"⟩
abbrev cX1_isAlarm : ByteArray := prog_1_method_43_code
def yX1_isAlarm : MethodName := ⟨RX1, "isAlarm", "()Z"⟩
abbrev cX1_battery : ByteArray := prog_1_method_45_code
def yX1_battery : MethodName := ⟨RX1, "battery", "()I"⟩
abbrev cX1_mode : ByteArray := prog_1_method_46_code
def yX1_mode : MethodName := ⟨RX1, "mode", "()I"⟩
abbrev cX1_tolerance : ByteArray := prog_1_method_47_code
def yX1_tolerance : MethodName := ⟨RX1, "tolerance", "()I"⟩
abbrev cX1_updatesLeft : ByteArray := prog_1_method_48_code
def yX1_updatesLeft : MethodName := ⟨RX1, "updatesLeft", "()I"⟩
abbrev cX1_updatesLeftByCounting : ByteArray := prog_1_method_49_code
def yX1_updatesLeftByCounting : MethodName := ⟨RX1, "updatesLeftByCounting", "()I"⟩
abbrev cX1_updates : ByteArray := prog_1_method_50_code
def yX1_updates : MethodName := ⟨RX1, "updates", "()I"⟩
abbrev cX1_alarms : ByteArray := prog_1_method_51_code
def yX1_alarms : MethodName := ⟨RX1, "alarms", "()I"⟩
abbrev cX1_reached : ByteArray := prog_1_method_52_code
def yX1_reached : MethodName := ⟨RX1, "reached", "()I"⟩
abbrev cX1_isConsistent : ByteArray := prog_1_method_56_code
def yX1_isConsistent : MethodName := ⟨RX1, "isConsistent", "()Z"⟩
abbrev cX1_haveEqualDistances : ByteArray := prog_1_method_55_code
def yX1_haveEqualDistances : MethodName := ⟨RX1, "haveEqualDistances", "(I)Z"⟩
abbrev cX1_lambda_haveEqualDistances_9 : ByteArray := prog_1_method_70_code
def yX1_lambda_haveEqualDistances_9 : MethodName := ⟨RX1, "lambda$haveEqualDistances$9", "([I[II)Z"⟩
abbrev cX1_writeRoute : ByteArray := prog_1_method_57_code
def yX1_writeRoute : MethodName := ⟨RX1, "writeRoute", "()I"⟩
abbrev cX1_inRange : ByteArray := prog_1_method_1_code
def yX1_inRange : MethodName := ⟨RX1, "inRange", "(III)Z"⟩
abbrev cX1_save : ByteArray := prog_1_method_67_code
def yX1_save : MethodName := ⟨RX1, "save", "()I"⟩
abbrev cX1_addWaypoint : ByteArray := prog_1_method_12_code
def yX1_addWaypoint : MethodName := ⟨RX1, "addWaypoint", "(III)I"⟩
abbrev cX1_lambda_addWaypoint_0 : ByteArray := prog_1_method_79_code
def yX1_lambda_addWaypoint_0 : MethodName := ⟨RX1, "lambda$addWaypoint$0", "(IIILTrailGuide$State;)I"⟩
abbrev cX1_checkCoordinates : ByteArray := prog_1_method_7_code
def yX1_checkCoordinates : MethodName := ⟨RX1, "checkCoordinates", "(II)V"⟩
abbrev cX1_checkArgument : ByteArray := prog_1_method_2_code
def yX1_checkArgument : MethodName := ⟨RX1, "checkArgument", "(Z)V"⟩
abbrev cX1_checkState : ByteArray := prog_1_method_3_code
def yX1_checkState : MethodName := ⟨RX1, "checkState", "(Z)V"⟩
abbrev cX1_apply : ByteArray := prog_1_method_11_code
def yX1_apply : MethodName := ⟨RX1, "apply", "(LTrailGuide$Change;)I"⟩
abbrev cX1_commit : ByteArray := prog_1_method_10_code
def yX1_commit : MethodName := ⟨RX1, "commit", "(LTrailGuide$State;)V"⟩
abbrev cX1_addTrail : ByteArray := prog_1_method_13_code
def yX1_addTrail : MethodName := ⟨RX1, "addTrail", "(III)I"⟩
abbrev cX1_lambda_addTrail_1 : ByteArray := prog_1_method_78_code
def yX1_lambda_addTrail_1 : MethodName := ⟨RX1, "lambda$addTrail$1", "(IIILTrailGuide$State;)I"⟩
abbrev cX1_checkIndex : ByteArray := prog_1_method_4_code
def yX1_checkIndex : MethodName := ⟨RX1, "checkIndex", "(II)V"⟩
abbrev cX1_removeTrail : ByteArray := prog_1_method_14_code
def yX1_removeTrail : MethodName := ⟨RX1, "removeTrail", "(II)I"⟩
abbrev cX1_lambda_removeTrail_2 : ByteArray := prog_1_method_77_code
def yX1_lambda_removeTrail_2 : MethodName := ⟨RX1, "lambda$removeTrail$2", "(IILTrailGuide$State;)I"⟩
abbrev cX1_checkElement : ByteArray := prog_1_method_5_code
def yX1_checkElement : MethodName := ⟨RX1, "checkElement", "(Z)V"⟩
abbrev cX1_startTour : ByteArray := prog_1_method_15_code
def yX1_startTour : MethodName := ⟨RX1, "startTour", "(II)I"⟩
abbrev cX1_lambda_startTour_3 : ByteArray := prog_1_method_76_code
def yX1_lambda_startTour_3 : MethodName := ⟨RX1, "lambda$startTour$3", "(IILTrailGuide$State;)I"⟩
abbrev cX1_stopTour : ByteArray := prog_1_method_16_code
def yX1_stopTour : MethodName := ⟨RX1, "stopTour", "()I"⟩
abbrev cX1_lambda_stopTour_4 : ByteArray := prog_1_method_75_code
def yX1_lambda_stopTour_4 : MethodName := ⟨RX1, "lambda$stopTour$4", "(LTrailGuide$State;)I"⟩
abbrev cX1_update : ByteArray := prog_1_method_17_code
def yX1_update : MethodName := ⟨RX1, "update", "(II)Z"⟩
abbrev cX1_lambda_update_5 : ByteArray := prog_1_method_74_code
def yX1_lambda_update_5 : MethodName := ⟨RX1, "lambda$update$5", "(IILTrailGuide$State;)I"⟩
abbrev cX1_checkSupported : ByteArray := prog_1_method_6_code
def yX1_checkSupported : MethodName := ⟨RX1, "checkSupported", "(Z)V"⟩
abbrev cX1_squaredDrift : ByteArray := prog_1_method_8_code
def yX1_squaredDrift : MethodName := ⟨RX1, "squaredDrift", "(LTrailGuide$Point;LTrailGuide$Point;LTrailGuide$Point;)LTrailGuide$Square;"⟩
abbrev cX1_setTolerance : ByteArray := prog_1_method_18_code
def yX1_setTolerance : MethodName := ⟨RX1, "setTolerance", "(I)I"⟩
abbrev cX1_lambda_setTolerance_6 : ByteArray := prog_1_method_73_code
def yX1_lambda_setTolerance_6 : MethodName := ⟨RX1, "lambda$setTolerance$6", "(ILTrailGuide$State;)I"⟩
abbrev cX1_setMode : ByteArray := prog_1_method_19_code
def yX1_setMode : MethodName := ⟨RX1, "setMode", "(I)I"⟩
abbrev cX1_lambda_setMode_7 : ByteArray := prog_1_method_72_code
def yX1_lambda_setMode_7 : MethodName := ⟨RX1, "lambda$setMode$7", "(ILTrailGuide$State;)I"⟩
abbrev cX1_charge : ByteArray := prog_1_method_20_code
def yX1_charge : MethodName := ⟨RX1, "charge", "(I)I"⟩
abbrev cX1_lambda_charge_8 : ByteArray := prog_1_method_71_code
def yX1_lambda_charge_8 : MethodName := ⟨RX1, "lambda$charge$8", "(ILTrailGuide$State;)I"⟩
abbrev cX1_waypointX : ByteArray := prog_1_method_22_code
def yX1_waypointX : MethodName := ⟨RX1, "waypointX", "(I)I"⟩
abbrev cX1_waypointY : ByteArray := prog_1_method_23_code
def yX1_waypointY : MethodName := ⟨RX1, "waypointY", "(I)I"⟩
abbrev cX1_radius : ByteArray := prog_1_method_24_code
def yX1_radius : MethodName := ⟨RX1, "radius", "(I)I"⟩
abbrev cX1_hasTrail : ByteArray := prog_1_method_26_code
def yX1_hasTrail : MethodName := ⟨RX1, "hasTrail", "(II)Z"⟩
abbrev cX1_trailLength : ByteArray := prog_1_method_27_code
def yX1_trailLength : MethodName := ⟨RX1, "trailLength", "(II)I"⟩
abbrev cX1_distance : ByteArray := prog_1_method_29_code
def yX1_distance : MethodName := ⟨RX1, "distance", "(II)I"⟩
abbrev cX1_reachable : ByteArray := prog_1_method_28_code
def yX1_reachable : MethodName := ⟨RX1, "reachable", "(I)I"⟩
abbrev cX1_distanceByRelaxation : ByteArray := prog_1_method_30_code
def yX1_distanceByRelaxation : MethodName := ⟨RX1, "distanceByRelaxation", "(II)I"⟩
abbrev cX1_nearest : ByteArray := prog_1_method_33_code
def yX1_nearest : MethodName := ⟨RX1, "nearest", "(II)I"⟩
abbrev cX1_routeLength : ByteArray := prog_1_method_36_code
def yX1_routeLength : MethodName := ⟨RX1, "routeLength", "()I"⟩
abbrev cX1_tour : ByteArray := prog_1_method_35_code
def yX1_tour : MethodName := ⟨RX1, "tour", "()LTrailGuide$Tour;"⟩
abbrev cX1_routeWaypoint : ByteArray := prog_1_method_37_code
def yX1_routeWaypoint : MethodName := ⟨RX1, "routeWaypoint", "(I)I"⟩
abbrev cX1_turn : ByteArray := prog_1_method_38_code
def yX1_turn : MethodName := ⟨RX1, "turn", "(I)C"⟩
abbrev cX1_target : ByteArray := prog_1_method_39_code
def yX1_target : MethodName := ⟨RX1, "target", "()I"⟩
abbrev cX1_hikerX : ByteArray := prog_1_method_40_code
def yX1_hikerX : MethodName := ⟨RX1, "hikerX", "()I"⟩
abbrev cX1_hikerY : ByteArray := prog_1_method_41_code
def yX1_hikerY : MethodName := ⟨RX1, "hikerY", "()I"⟩
abbrev cX1_drift : ByteArray := prog_1_method_42_code
def yX1_drift : MethodName := ⟨RX1, "drift", "()I"⟩
abbrev cX1_forecast : ByteArray := prog_1_method_44_code
def yX1_forecast : MethodName := ⟨RX1, "forecast", "(II)C"⟩
abbrev cX1_alarmRate : ByteArray := prog_1_method_53_code
def yX1_alarmRate : MethodName := ⟨RX1, "alarmRate", "()F"⟩
abbrev cX1_meanTrailLength : ByteArray := prog_1_method_54_code
def yX1_meanTrailLength : MethodName := ⟨RX1, "meanTrailLength", "()D"⟩
abbrev cX1_writeTrails : ByteArray := prog_1_method_59_code
def yX1_writeTrails : MethodName := ⟨RX1, "writeTrails", "(I)I"⟩
abbrev cX1_lambda_writeTrails_10 : ByteArray := prog_1_method_69_code
def yX1_lambda_writeTrails_10 : MethodName := ⟨RX1, "lambda$writeTrails$10", "(II)V"⟩
abbrev cX1_writeTrail : ByteArray := prog_1_method_58_code
def yX1_writeTrail : MethodName := ⟨RX1, "writeTrail", "(II)V"⟩
abbrev cX1_charAt : ByteArray := prog_1_method_60_code
def yX1_charAt : MethodName := ⟨RX1, "charAt", "(I)C"⟩
abbrev cX1_type : ByteArray := prog_1_method_61_code
def yX1_type : MethodName := ⟨RX1, "type", "(C)I"⟩
abbrev cX1_run : ByteArray := prog_1_method_63_code
def yX1_run : MethodName := ⟨RX1, "run", "()I"⟩
abbrev cX1_execute : ByteArray := prog_1_method_62_code
def yX1_execute : MethodName := ⟨RX1, "execute", "(Ljava/util/ArrayList;)I"⟩
abbrev cX1_errorPosition : ByteArray := prog_1_method_64_code
def yX1_errorPosition : MethodName := ⟨RX1, "errorPosition", "()I"⟩
abbrev cX1_failedCommand : ByteArray := prog_1_method_65_code
def yX1_failedCommand : MethodName := ⟨RX1, "failedCommand", "()I"⟩
abbrev cX1_undo : ByteArray := prog_1_method_66_code
def yX1_undo : MethodName := ⟨RX1, "undo", "()I"⟩
abbrev cX1_restore : ByteArray := prog_1_method_68_code
def yX1_restore : MethodName := ⟨RX1, "restore", "()I"⟩
theorem q91 : (Jvm.Cond.initialized "TrailGuide") ∈ lw_all := lw_g (lw_at lw_m1 1 rfl) rfl
theorem q139 : (Jvm.Cond.instantiable "TrailGuide" (8 : Nat)) ∈ lw_all := lw_g (lw_at lw_m1 49 rfl) rfl
theorem q141 : (Jvm.Cond.instanceMethod ({ cls := "TrailGuide", name := "<init>", desc := "()V" } : Jvm.MethodName)) ∈ lw_all := lw_g (lw_at lw_m1 51 rfl) rfl
theorem q142 : (Jvm.Cond.code ({ cls := "TrailGuide", name := "<init>", desc := "()V" } : Jvm.MethodName) prog_1_method_9_code (1 : Nat) (Option.none : Option Jvm.ClassFile.FieldType)) ∈ lw_all := lw_g (lw_at lw_m1 52 rfl) rfl
theorem q143 : (Jvm.Cond.methodLink "TrailGuide" (54 : Nat) ({ cls := "java/lang/Object", name := "<init>", desc := "()V" } : Jvm.MethodName)) ∈ lw_all := lw_g (lw_at lw_m1 53 rfl) rfl
theorem q146 : (Jvm.Cond.classLink "TrailGuide" (57 : Nat) "TrailGuide$State") ∈ lw_all := lw_g (lw_at lw_m1 56 rfl) rfl
theorem q148 : (Jvm.Cond.methodLink "TrailGuide" (59 : Nat) ({ cls := "TrailGuide$State", name := "<init>", desc := "()V" } : Jvm.MethodName)) ∈ lw_all := lw_g (lw_at lw_m1 58 rfl) rfl
theorem q186 : (Jvm.Cond.fieldLinkNest "TrailGuide" (195 : Nat) "TrailGuide$State" "tour" "LTrailGuide$Tour;" "TrailGuide") ∈ lw_tbl := lw_at lw_m1 96 rfl
theorem q188 : (Jvm.Cond.fieldLinkNest "TrailGuide" (241 : Nat) "TrailGuide$State" "isAlarm" "Z" "TrailGuide") ∈ lw_tbl := lw_at lw_m1 98 rfl
theorem q190 : (Jvm.Cond.fieldLinkNest "TrailGuide" (252 : Nat) "TrailGuide$State" "battery" "I" "TrailGuide") ∈ lw_tbl := lw_at lw_m1 100 rfl
theorem q192 : (Jvm.Cond.fieldLinkNest "TrailGuide" (264 : Nat) "TrailGuide$State" "tolerance" "I" "TrailGuide") ∈ lw_tbl := lw_at lw_m1 102 rfl
theorem q194 : (Jvm.Cond.fieldLinkNest "TrailGuide" (255 : Nat) "TrailGuide$State" "mode" "LTrailGuide$Mode;" "TrailGuide") ∈ lw_tbl := lw_at lw_m1 104 rfl
theorem q196 : (Jvm.Cond.fieldLinkNest "TrailGuide" (270 : Nat) "TrailGuide$State" "updates" "I" "TrailGuide") ∈ lw_tbl := lw_at lw_m1 106 rfl
theorem q198 : (Jvm.Cond.fieldLinkNest "TrailGuide" (273 : Nat) "TrailGuide$State" "alarms" "I" "TrailGuide") ∈ lw_tbl := lw_at lw_m1 108 rfl
theorem q200 : (Jvm.Cond.fieldLinkNest "TrailGuide" (276 : Nat) "TrailGuide$State" "reached" "I" "TrailGuide") ∈ lw_tbl := lw_at lw_m1 110 rfl
theorem q223 : (Jvm.Cond.classLink "TrailGuide" (64 : Nat) "java/util/ArrayDeque") ∈ lw_all := lw_g (lw_at lw_m1 133 rfl) rfl
theorem q225 : (Jvm.Cond.methodLink "TrailGuide" (66 : Nat) ({ cls := "java/util/ArrayDeque", name := "<init>", desc := "()V" } : Jvm.MethodName)) ∈ lw_all := lw_g (lw_at lw_m1 135 rfl) rfl
theorem q241 : (Jvm.Cond.classLink "TrailGuide" (71 : Nat) "java/lang/StringBuilder") ∈ lw_all := lw_g (lw_at lw_m1 151 rfl) rfl
theorem q243 : (Jvm.Cond.methodLink "TrailGuide" (73 : Nat) ({ cls := "java/lang/StringBuilder", name := "<init>", desc := "()V" } : Jvm.MethodName)) ∈ lw_all := lw_g (lw_at lw_m1 153 rfl) rfl
theorem q274 : (Jvm.Cond.fieldLink "TrailGuide" (60 : Nat) "TrailGuide" "state" "LTrailGuide$State;") ∈ lw_all := lw_g (lw_at lw_m1 184 rfl) rfl
theorem q275 : (Jvm.Cond.fieldLink "TrailGuide" (395 : Nat) "TrailGuide" "saved" "LTrailGuide$State;") ∈ lw_all := lw_g (lw_at lw_m1 185 rfl) rfl
theorem q276 : (Jvm.Cond.fieldLink "TrailGuide" (67 : Nat) "TrailGuide" "history" "Ljava/util/ArrayDeque;") ∈ lw_all := lw_g (lw_at lw_m1 186 rfl) rfl
theorem q277 : (Jvm.Cond.fieldLink "TrailGuide" (74 : Nat) "TrailGuide" "line" "Ljava/lang/StringBuilder;") ∈ lw_all := lw_g (lw_at lw_m1 187 rfl) rfl
theorem q279 : (Jvm.Cond.fieldLink "TrailGuide" (78 : Nat) "TrailGuide" "text" "[C") ∈ lw_all := lw_g (lw_at lw_m1 189 rfl) rfl
theorem q281 : (Jvm.Cond.fieldLink "TrailGuide" (344 : Nat) "TrailGuide" "textLength" "I") ∈ lw_all := lw_g (lw_at lw_m1 191 rfl) rfl
theorem q282 : (Jvm.Cond.fieldLink "TrailGuide" (82 : Nat) "TrailGuide" "errorPosition" "I") ∈ lw_all := lw_g (lw_at lw_m1 192 rfl) rfl
theorem q283 : (Jvm.Cond.fieldLink "TrailGuide" (86 : Nat) "TrailGuide" "failedCommand" "I") ∈ lw_all := lw_g (lw_at lw_m1 193 rfl) rfl
theorem q284 : (Jvm.Cond.lays "TrailGuide" "TrailGuide" "state" "LTrailGuide$State;") ∈ lw_all := lw_g (lw_at lw_m1 194 rfl) rfl
theorem q285 : (Jvm.Cond.soleField "TrailGuide" "state") ∈ lw_all := lw_g (lw_at lw_m1 195 rfl) rfl
theorem q286 : (Jvm.Cond.lays "TrailGuide" "TrailGuide" "saved" "LTrailGuide$State;") ∈ lw_all := lw_g (lw_at lw_m1 196 rfl) rfl
theorem q287 : (Jvm.Cond.soleField "TrailGuide" "saved") ∈ lw_all := lw_g (lw_at lw_m1 197 rfl) rfl
theorem q288 : (Jvm.Cond.laysFinal "TrailGuide" "TrailGuide" "history" "Ljava/util/ArrayDeque;") ∈ lw_all := lw_g (lw_at lw_m1 198 rfl) rfl
theorem q289 : (Jvm.Cond.soleField "TrailGuide" "history") ∈ lw_all := lw_g (lw_at lw_m1 199 rfl) rfl
theorem q290 : (Jvm.Cond.laysFinal "TrailGuide" "TrailGuide" "line" "Ljava/lang/StringBuilder;") ∈ lw_all := lw_g (lw_at lw_m1 200 rfl) rfl
theorem q291 : (Jvm.Cond.soleField "TrailGuide" "line") ∈ lw_all := lw_g (lw_at lw_m1 201 rfl) rfl
theorem q292 : (Jvm.Cond.laysFinal "TrailGuide" "TrailGuide" "text" "[C") ∈ lw_all := lw_g (lw_at lw_m1 202 rfl) rfl
theorem q293 : (Jvm.Cond.soleField "TrailGuide" "text") ∈ lw_all := lw_g (lw_at lw_m1 203 rfl) rfl
theorem q294 : (Jvm.Cond.lays "TrailGuide" "TrailGuide" "textLength" "I") ∈ lw_all := lw_g (lw_at lw_m1 204 rfl) rfl
theorem q295 : (Jvm.Cond.soleField "TrailGuide" "textLength") ∈ lw_all := lw_g (lw_at lw_m1 205 rfl) rfl
theorem q296 : (Jvm.Cond.lays "TrailGuide" "TrailGuide" "errorPosition" "I") ∈ lw_all := lw_g (lw_at lw_m1 206 rfl) rfl
theorem q297 : (Jvm.Cond.soleField "TrailGuide" "errorPosition") ∈ lw_all := lw_g (lw_at lw_m1 207 rfl) rfl
theorem q298 : (Jvm.Cond.lays "TrailGuide" "TrailGuide" "failedCommand" "I") ∈ lw_all := lw_g (lw_at lw_m1 208 rfl) rfl
theorem q299 : (Jvm.Cond.soleField "TrailGuide" "failedCommand") ∈ lw_all := lw_g (lw_at lw_m1 209 rfl) rfl
theorem q300 : (Jvm.Cond.superclass "TrailGuide" "java/lang/Object") ∈ lw_all := lw_g (lw_at lw_m1 210 rfl) rfl
theorem q303 : (Jvm.Cond.instanceMethod ({ cls := "TrailGuide", name := "waypoints", desc := "()I" } : Jvm.MethodName)) ∈ lw_all := lw_g (lw_at lw_m1 213 rfl) rfl
theorem q304 : (Jvm.Cond.selects "TrailGuide" ({ cls := "TrailGuide", name := "waypoints", desc := "()I" } : Jvm.MethodName) ({ cls := "TrailGuide", name := "waypoints", desc := "()I" } : Jvm.MethodName)) ∈ lw_all := lw_g (lw_at lw_m1 214 rfl) rfl
theorem q305 : (Jvm.Cond.code ({ cls := "TrailGuide", name := "waypoints", desc := "()I" } : Jvm.MethodName) prog_1_method_21_code (1 : Nat) (Option.some Jvm.ClassFile.FieldType.int)) ∈ lw_all := lw_g (lw_at lw_m1 215 rfl) rfl
theorem q306 : (Jvm.Cond.methodLink "TrailGuide" (134 : Nat) ({ cls := "TrailGuide$State", name := "size", desc := "()I" } : Jvm.MethodName)) ∈ lw_all := lw_g (lw_at lw_m1 216 rfl) rfl
theorem q315 : (Jvm.Cond.instanceMethod ({ cls := "TrailGuide", name := "trails", desc := "()I" } : Jvm.MethodName)) ∈ lw_all := lw_g (lw_at lw_m1 225 rfl) rfl
theorem q316 : (Jvm.Cond.selects "TrailGuide" ({ cls := "TrailGuide", name := "trails", desc := "()I" } : Jvm.MethodName) ({ cls := "TrailGuide", name := "trails", desc := "()I" } : Jvm.MethodName)) ∈ lw_all := lw_g (lw_at lw_m1 226 rfl) rfl
theorem q317 : (Jvm.Cond.code ({ cls := "TrailGuide", name := "trails", desc := "()I" } : Jvm.MethodName) prog_1_method_25_code (1 : Nat) (Option.some Jvm.ClassFile.FieldType.int)) ∈ lw_all := lw_g (lw_at lw_m1 227 rfl) rfl
theorem q318 : (Jvm.Cond.methodLink "TrailGuide" (154 : Nat) ({ cls := "TrailGuide$State", name := "countTrails", desc := "()I" } : Jvm.MethodName)) ∈ lw_all := lw_g (lw_at lw_m1 228 rfl) rfl
theorem q323 : (Jvm.Cond.instanceMethod ({ cls := "TrailGuide", name := "components", desc := "()I" } : Jvm.MethodName)) ∈ lw_all := lw_g (lw_at lw_m1 233 rfl) rfl
theorem q324 : (Jvm.Cond.selects "TrailGuide" ({ cls := "TrailGuide", name := "components", desc := "()I" } : Jvm.MethodName) ({ cls := "TrailGuide", name := "components", desc := "()I" } : Jvm.MethodName)) ∈ lw_all := lw_g (lw_at lw_m1 234 rfl) rfl
theorem q325 : (Jvm.Cond.code ({ cls := "TrailGuide", name := "components", desc := "()I" } : Jvm.MethodName) prog_1_method_31_code (1 : Nat) (Option.some Jvm.ClassFile.FieldType.int)) ∈ lw_all := lw_g (lw_at lw_m1 235 rfl) rfl
theorem q326 : (Jvm.Cond.methodLink "TrailGuide" (180 : Nat) ({ cls := "TrailGuide$State", name := "components", desc := "()I" } : Jvm.MethodName)) ∈ lw_all := lw_g (lw_at lw_m1 236 rfl) rfl
theorem q353 : (Jvm.Cond.instanceMethod ({ cls := "TrailGuide", name := "componentsByMerging", desc := "()I" } : Jvm.MethodName)) ∈ lw_all := lw_g (lw_at lw_m2 23 rfl) rfl
theorem q354 : (Jvm.Cond.selects "TrailGuide" ({ cls := "TrailGuide", name := "componentsByMerging", desc := "()I" } : Jvm.MethodName) ({ cls := "TrailGuide", name := "componentsByMerging", desc := "()I" } : Jvm.MethodName)) ∈ lw_all := lw_g (lw_at lw_m2 24 rfl) rfl
theorem q355 : (Jvm.Cond.code ({ cls := "TrailGuide", name := "componentsByMerging", desc := "()I" } : Jvm.MethodName) prog_1_method_32_code (1 : Nat) (Option.some Jvm.ClassFile.FieldType.int)) ∈ lw_all := lw_g (lw_at lw_m2 25 rfl) rfl
theorem q356 : (Jvm.Cond.methodLink "TrailGuide" (183 : Nat) ({ cls := "TrailGuide$State", name := "componentsByMerging", desc := "()I" } : Jvm.MethodName)) ∈ lw_all := lw_g (lw_at lw_m2 26 rfl) rfl
theorem q364 : (Jvm.Cond.instanceMethod ({ cls := "TrailGuide", name := "isTouring", desc := "()Z" } : Jvm.MethodName)) ∈ lw_all := lw_g (lw_at lw_m2 34 rfl) rfl
theorem q365 : (Jvm.Cond.selects "TrailGuide" ({ cls := "TrailGuide", name := "isTouring", desc := "()Z" } : Jvm.MethodName) ({ cls := "TrailGuide", name := "isTouring", desc := "()Z" } : Jvm.MethodName)) ∈ lw_all := lw_g (lw_at lw_m2 35 rfl) rfl
theorem q366 : (Jvm.Cond.code ({ cls := "TrailGuide", name := "isTouring", desc := "()Z" } : Jvm.MethodName) prog_1_method_34_code (1 : Nat) (Option.some Jvm.ClassFile.FieldType.boolean)) ∈ lw_all := lw_g (lw_at lw_m2 36 rfl) rfl
theorem q368 : (Jvm.Cond.instanceMethod ({ cls := "TrailGuide", name := "isAlarm", desc := "()Z" } : Jvm.MethodName)) ∈ lw_all := lw_g (lw_at lw_m2 38 rfl) rfl
theorem q369 : (Jvm.Cond.selects "TrailGuide" ({ cls := "TrailGuide", name := "isAlarm", desc := "()Z" } : Jvm.MethodName) ({ cls := "TrailGuide", name := "isAlarm", desc := "()Z" } : Jvm.MethodName)) ∈ lw_all := lw_g (lw_at lw_m2 39 rfl) rfl
theorem q370 : (Jvm.Cond.code ({ cls := "TrailGuide", name := "isAlarm", desc := "()Z" } : Jvm.MethodName) prog_1_method_43_code (1 : Nat) (Option.some Jvm.ClassFile.FieldType.boolean)) ∈ lw_all := lw_g (lw_at lw_m2 40 rfl) rfl
theorem q372 : (Jvm.Cond.instanceMethod ({ cls := "TrailGuide", name := "battery", desc := "()I" } : Jvm.MethodName)) ∈ lw_all := lw_g (lw_at lw_m2 42 rfl) rfl
theorem q373 : (Jvm.Cond.selects "TrailGuide" ({ cls := "TrailGuide", name := "battery", desc := "()I" } : Jvm.MethodName) ({ cls := "TrailGuide", name := "battery", desc := "()I" } : Jvm.MethodName)) ∈ lw_all := lw_g (lw_at lw_m2 43 rfl) rfl
theorem q374 : (Jvm.Cond.code ({ cls := "TrailGuide", name := "battery", desc := "()I" } : Jvm.MethodName) prog_1_method_45_code (1 : Nat) (Option.some Jvm.ClassFile.FieldType.int)) ∈ lw_all := lw_g (lw_at lw_m2 44 rfl) rfl
theorem q376 : (Jvm.Cond.instanceMethod ({ cls := "TrailGuide", name := "mode", desc := "()I" } : Jvm.MethodName)) ∈ lw_all := lw_g (lw_at lw_m2 46 rfl) rfl
theorem q377 : (Jvm.Cond.selects "TrailGuide" ({ cls := "TrailGuide", name := "mode", desc := "()I" } : Jvm.MethodName) ({ cls := "TrailGuide", name := "mode", desc := "()I" } : Jvm.MethodName)) ∈ lw_all := lw_g (lw_at lw_m2 47 rfl) rfl
theorem q378 : (Jvm.Cond.code ({ cls := "TrailGuide", name := "mode", desc := "()I" } : Jvm.MethodName) prog_1_method_46_code (1 : Nat) (Option.some Jvm.ClassFile.FieldType.int)) ∈ lw_all := lw_g (lw_at lw_m2 48 rfl) rfl
theorem q379 : (Jvm.Cond.methodLink "TrailGuide" (259 : Nat) ({ cls := "TrailGuide$Mode", name := "ordinal", desc := "()I" } : Jvm.MethodName)) ∈ lw_all := lw_g (lw_at lw_m2 49 rfl) rfl
theorem q386 : (Jvm.Cond.instanceMethod ({ cls := "TrailGuide", name := "tolerance", desc := "()I" } : Jvm.MethodName)) ∈ lw_all := lw_g (lw_at lw_m2 56 rfl) rfl
theorem q387 : (Jvm.Cond.selects "TrailGuide" ({ cls := "TrailGuide", name := "tolerance", desc := "()I" } : Jvm.MethodName) ({ cls := "TrailGuide", name := "tolerance", desc := "()I" } : Jvm.MethodName)) ∈ lw_all := lw_g (lw_at lw_m2 57 rfl) rfl
theorem q388 : (Jvm.Cond.code ({ cls := "TrailGuide", name := "tolerance", desc := "()I" } : Jvm.MethodName) prog_1_method_47_code (1 : Nat) (Option.some Jvm.ClassFile.FieldType.int)) ∈ lw_all := lw_g (lw_at lw_m2 58 rfl) rfl
theorem q390 : (Jvm.Cond.instanceMethod ({ cls := "TrailGuide", name := "updatesLeft", desc := "()I" } : Jvm.MethodName)) ∈ lw_all := lw_g (lw_at lw_m2 60 rfl) rfl
theorem q391 : (Jvm.Cond.selects "TrailGuide" ({ cls := "TrailGuide", name := "updatesLeft", desc := "()I" } : Jvm.MethodName) ({ cls := "TrailGuide", name := "updatesLeft", desc := "()I" } : Jvm.MethodName)) ∈ lw_all := lw_g (lw_at lw_m2 61 rfl) rfl
theorem q392 : (Jvm.Cond.code ({ cls := "TrailGuide", name := "updatesLeft", desc := "()I" } : Jvm.MethodName) prog_1_method_48_code (1 : Nat) (Option.some Jvm.ClassFile.FieldType.int)) ∈ lw_all := lw_g (lw_at lw_m2 62 rfl) rfl
theorem q394 : (Jvm.Cond.instanceMethod ({ cls := "TrailGuide", name := "updatesLeftByCounting", desc := "()I" } : Jvm.MethodName)) ∈ lw_all := lw_g (lw_at lw_m2 64 rfl) rfl
theorem q395 : (Jvm.Cond.selects "TrailGuide" ({ cls := "TrailGuide", name := "updatesLeftByCounting", desc := "()I" } : Jvm.MethodName) ({ cls := "TrailGuide", name := "updatesLeftByCounting", desc := "()I" } : Jvm.MethodName)) ∈ lw_all := lw_g (lw_at lw_m2 65 rfl) rfl
theorem q396 : (Jvm.Cond.code ({ cls := "TrailGuide", name := "updatesLeftByCounting", desc := "()I" } : Jvm.MethodName) prog_1_method_49_code (3 : Nat) (Option.some Jvm.ClassFile.FieldType.int)) ∈ lw_all := lw_g (lw_at lw_m2 66 rfl) rfl
theorem q398 : (Jvm.Cond.instanceMethod ({ cls := "TrailGuide", name := "updates", desc := "()I" } : Jvm.MethodName)) ∈ lw_all := lw_g (lw_at lw_m2 68 rfl) rfl
theorem q399 : (Jvm.Cond.selects "TrailGuide" ({ cls := "TrailGuide", name := "updates", desc := "()I" } : Jvm.MethodName) ({ cls := "TrailGuide", name := "updates", desc := "()I" } : Jvm.MethodName)) ∈ lw_all := lw_g (lw_at lw_m2 69 rfl) rfl
theorem q400 : (Jvm.Cond.code ({ cls := "TrailGuide", name := "updates", desc := "()I" } : Jvm.MethodName) prog_1_method_50_code (1 : Nat) (Option.some Jvm.ClassFile.FieldType.int)) ∈ lw_all := lw_g (lw_at lw_m2 70 rfl) rfl
theorem q402 : (Jvm.Cond.instanceMethod ({ cls := "TrailGuide", name := "alarms", desc := "()I" } : Jvm.MethodName)) ∈ lw_all := lw_g (lw_at lw_m2 72 rfl) rfl
theorem q403 : (Jvm.Cond.selects "TrailGuide" ({ cls := "TrailGuide", name := "alarms", desc := "()I" } : Jvm.MethodName) ({ cls := "TrailGuide", name := "alarms", desc := "()I" } : Jvm.MethodName)) ∈ lw_all := lw_g (lw_at lw_m2 73 rfl) rfl
theorem q404 : (Jvm.Cond.code ({ cls := "TrailGuide", name := "alarms", desc := "()I" } : Jvm.MethodName) prog_1_method_51_code (1 : Nat) (Option.some Jvm.ClassFile.FieldType.int)) ∈ lw_all := lw_g (lw_at lw_m2 74 rfl) rfl
theorem q406 : (Jvm.Cond.instanceMethod ({ cls := "TrailGuide", name := "reached", desc := "()I" } : Jvm.MethodName)) ∈ lw_all := lw_g (lw_at lw_m2 76 rfl) rfl
theorem q407 : (Jvm.Cond.selects "TrailGuide" ({ cls := "TrailGuide", name := "reached", desc := "()I" } : Jvm.MethodName) ({ cls := "TrailGuide", name := "reached", desc := "()I" } : Jvm.MethodName)) ∈ lw_all := lw_g (lw_at lw_m2 77 rfl) rfl
theorem q408 : (Jvm.Cond.code ({ cls := "TrailGuide", name := "reached", desc := "()I" } : Jvm.MethodName) prog_1_method_52_code (1 : Nat) (Option.some Jvm.ClassFile.FieldType.int)) ∈ lw_all := lw_g (lw_at lw_m2 78 rfl) rfl
theorem q410 : (Jvm.Cond.instanceMethod ({ cls := "TrailGuide", name := "isConsistent", desc := "()Z" } : Jvm.MethodName)) ∈ lw_all := lw_g (lw_at lw_m2 80 rfl) rfl
theorem q411 : (Jvm.Cond.selects "TrailGuide" ({ cls := "TrailGuide", name := "isConsistent", desc := "()Z" } : Jvm.MethodName) ({ cls := "TrailGuide", name := "isConsistent", desc := "()Z" } : Jvm.MethodName)) ∈ lw_all := lw_g (lw_at lw_m2 81 rfl) rfl
theorem q412 : (Jvm.Cond.code ({ cls := "TrailGuide", name := "isConsistent", desc := "()Z" } : Jvm.MethodName) prog_1_method_56_code (3 : Nat) (Option.some Jvm.ClassFile.FieldType.boolean)) ∈ lw_all := lw_g (lw_at lw_m2 82 rfl) rfl
theorem q413 : (Jvm.Cond.methodLink "TrailGuide" (293 : Nat) ({ cls := "TrailGuide", name := "updatesLeft", desc := "()I" } : Jvm.MethodName)) ∈ lw_all := lw_g (lw_at lw_m2 83 rfl) rfl
theorem q414 : (Jvm.Cond.methodLink "TrailGuide" (296 : Nat) ({ cls := "TrailGuide", name := "updatesLeftByCounting", desc := "()I" } : Jvm.MethodName)) ∈ lw_all := lw_g (lw_at lw_m2 84 rfl) rfl
theorem q415 : (Jvm.Cond.methodLink "TrailGuide" (299 : Nat) ({ cls := "TrailGuide", name := "haveEqualDistances", desc := "(I)Z" } : Jvm.MethodName)) ∈ lw_all := lw_g (lw_at lw_m2 85 rfl) rfl
theorem q416 : (Jvm.Cond.privateMethod ({ cls := "TrailGuide", name := "haveEqualDistances", desc := "(I)Z" } : Jvm.MethodName)) ∈ lw_tbl := lw_at lw_m2 86 rfl
theorem q417 : (Jvm.Cond.instanceMethod ({ cls := "TrailGuide", name := "haveEqualDistances", desc := "(I)Z" } : Jvm.MethodName)) ∈ lw_all := lw_g (lw_at lw_m2 87 rfl) rfl
theorem q418 : (Jvm.Cond.code ({ cls := "TrailGuide", name := "haveEqualDistances", desc := "(I)Z" } : Jvm.MethodName) prog_1_method_55_code (4 : Nat) (Option.some Jvm.ClassFile.FieldType.boolean)) ∈ lw_all := lw_g (lw_at lw_m2 88 rfl) rfl
theorem q419 : (Jvm.Cond.methodLink "TrailGuide" (169 : Nat) ({ cls := "TrailGuide$State", name := "distancesFrom", desc := "(I)[I" } : Jvm.MethodName)) ∈ lw_all := lw_g (lw_at lw_m2 89 rfl) rfl
theorem q448 : (Jvm.Cond.methodLink "TrailGuide" (177 : Nat) ({ cls := "TrailGuide$State", name := "distancesByRelaxation", desc := "(I)[I" } : Jvm.MethodName)) ∈ lw_all := lw_g (lw_at lw_m2 118 rfl) rfl
theorem q458 : (Jvm.Cond.static ({ cls := "TrailGuide", name := "lambda$haveEqualDistances$9", desc := "([I[II)Z" } : Jvm.MethodName)) ∈ lw_all := lw_g (lw_at lw_m2 128 rfl) rfl
theorem q459 : (Jvm.Cond.code ({ cls := "TrailGuide", name := "lambda$haveEqualDistances$9", desc := "([I[II)Z" } : Jvm.MethodName) prog_1_method_70_code (3 : Nat) (Option.some Jvm.ClassFile.FieldType.boolean)) ∈ lw_all := lw_g (lw_at lw_m2 129 rfl) rfl
theorem q460 : (Jvm.Cond.methodLink "TrailGuide" (289 : Nat) ({ cls := "TrailGuide$State", name := "firstWaypoint", desc := "(LTrailGuide$WaypointTest;)I" } : Jvm.MethodName)) ∈ lw_all := lw_g (lw_at lw_m2 130 rfl) rfl
theorem q462 : (Jvm.Cond.instanceMethod ({ cls := "TrailGuide", name := "writeRoute", desc := "()I" } : Jvm.MethodName)) ∈ lw_all := lw_g (lw_at lw_m2 132 rfl) rfl
theorem q463 : (Jvm.Cond.selects "TrailGuide" ({ cls := "TrailGuide", name := "writeRoute", desc := "()I" } : Jvm.MethodName) ({ cls := "TrailGuide", name := "writeRoute", desc := "()I" } : Jvm.MethodName)) ∈ lw_all := lw_g (lw_at lw_m2 133 rfl) rfl
theorem q464 : (Jvm.Cond.code ({ cls := "TrailGuide", name := "writeRoute", desc := "()I" } : Jvm.MethodName) prog_1_method_57_code (3 : Nat) (Option.some Jvm.ClassFile.FieldType.int)) ∈ lw_all := lw_g (lw_at lw_m2 134 rfl) rfl
theorem q465 : (Jvm.Cond.methodLink "TrailGuide" (302 : Nat) ({ cls := "java/lang/StringBuilder", name := "setLength", desc := "(I)V" } : Jvm.MethodName)) ∈ lw_all := lw_g (lw_at lw_m2 135 rfl) rfl
theorem q811 : (Jvm.Cond.methodLink "TrailGuide" (205 : Nat) ({ cls := "TrailGuide$Tour", name := "route", desc := "()[I" } : Jvm.MethodName)) ∈ lw_all := lw_g (lw_at lw_m4 1 rfl) rfl
theorem q815 : (Jvm.Cond.stringRef "TrailGuide" (306 : Nat) " ") ∈ lw_tbl := lw_at lw_m4 5 rfl
theorem q816 : (Jvm.Cond.stringRef "TrailGuide" (308 : Nat) "") ∈ lw_tbl := lw_at lw_m4 6 rfl
theorem q817 : (Jvm.Cond.methodLink "TrailGuide" (310 : Nat) ({ cls := "java/lang/StringBuilder", name := "append", desc := "(Ljava/lang/String;)Ljava/lang/StringBuilder;" } : Jvm.MethodName)) ∈ lw_all := lw_g (lw_at lw_m4 7 rfl) rfl
theorem q818 : (Jvm.Cond.methodLink "TrailGuide" (314 : Nat) ({ cls := "TrailGuide$Tour", name := "targetIndex", desc := "()I" } : Jvm.MethodName)) ∈ lw_all := lw_g (lw_at lw_m4 8 rfl) rfl
theorem q822 : (Jvm.Cond.stringRef "TrailGuide" (317 : Nat) "*") ∈ lw_tbl := lw_at lw_m4 12 rfl
theorem q823 : (Jvm.Cond.methodLink "TrailGuide" (319 : Nat) ({ cls := "java/lang/StringBuilder", name := "append", desc := "(I)Ljava/lang/StringBuilder;" } : Jvm.MethodName)) ∈ lw_all := lw_g (lw_at lw_m4 13 rfl) rfl
theorem q824 : (Jvm.Cond.methodLink "TrailGuide" (214 : Nat) ({ cls := "TrailGuide$State", name := "hasTurn", desc := "(I)Z" } : Jvm.MethodName)) ∈ lw_all := lw_g (lw_at lw_m4 14 rfl) rfl
theorem q830 : (Jvm.Cond.static ({ cls := "TrailGuide", name := "inRange", desc := "(III)Z" } : Jvm.MethodName)) ∈ lw_all := lw_g (lw_at lw_m4 20 rfl) rfl
theorem q831 : (Jvm.Cond.code ({ cls := "TrailGuide", name := "inRange", desc := "(III)Z" } : Jvm.MethodName) prog_1_method_1_code (3 : Nat) (Option.some Jvm.ClassFile.FieldType.boolean)) ∈ lw_all := lw_g (lw_at lw_m4 21 rfl) rfl
theorem q832 : (Jvm.Cond.methodLink "TrailGuide" (218 : Nat) ({ cls := "TrailGuide$State", name := "turnAt", desc := "(I)LTrailGuide$Turn;" } : Jvm.MethodName)) ∈ lw_all := lw_g (lw_at lw_m4 22 rfl) rfl
theorem q898 : (Jvm.Cond.methodLink "TrailGuide" (222 : Nat) ({ cls := "TrailGuide$Turn", name := "letter", desc := "()C" } : Jvm.MethodName)) ∈ lw_all := lw_g (lw_at lw_m4 88 rfl) rfl
theorem q913 : (Jvm.Cond.methodLink "TrailGuide" (322 : Nat) ({ cls := "java/lang/StringBuilder", name := "append", desc := "(C)Ljava/lang/StringBuilder;" } : Jvm.MethodName)) ∈ lw_all := lw_g (lw_at lw_m4 103 rfl) rfl
theorem q933 : (Jvm.Cond.methodLink "TrailGuide" (325 : Nat) ({ cls := "java/lang/StringBuilder", name := "toString", desc := "()Ljava/lang/String;" } : Jvm.MethodName)) ∈ lw_all := lw_g (lw_at lw_m4 123 rfl) rfl
theorem q934 : (Jvm.Cond.methodLink "TrailGuide" (329 : Nat) ({ cls := "java/lang/StringBuilder", name := "length", desc := "()I" } : Jvm.MethodName)) ∈ lw_all := lw_g (lw_at lw_m4 124 rfl) rfl
theorem q936 : (Jvm.Cond.instanceMethod ({ cls := "TrailGuide", name := "save", desc := "()I" } : Jvm.MethodName)) ∈ lw_all := lw_g (lw_at lw_m4 126 rfl) rfl
theorem q937 : (Jvm.Cond.selects "TrailGuide" ({ cls := "TrailGuide", name := "save", desc := "()I" } : Jvm.MethodName) ({ cls := "TrailGuide", name := "save", desc := "()I" } : Jvm.MethodName)) ∈ lw_all := lw_g (lw_at lw_m4 127 rfl) rfl
theorem q938 : (Jvm.Cond.code ({ cls := "TrailGuide", name := "save", desc := "()I" } : Jvm.MethodName) prog_1_method_67_code (1 : Nat) (Option.some Jvm.ClassFile.FieldType.int)) ∈ lw_all := lw_g (lw_at lw_m4 128 rfl) rfl
theorem q939 : (Jvm.Cond.methodLink "TrailGuide" (101 : Nat) ({ cls := "TrailGuide$State", name := "<init>", desc := "(LTrailGuide$State;)V" } : Jvm.MethodName)) ∈ lw_all := lw_g (lw_at lw_m4 129 rfl) rfl
theorem q979 : (Jvm.Cond.selects "TrailGuide" ({ cls := "java/lang/Object", name := "getClass", desc := "()Ljava/lang/Class;" } : Jvm.MethodName) ({ cls := "java/lang/Object", name := "getClass", desc := "()Ljava/lang/Class;" } : Jvm.MethodName)) ∈ lw_all := lw_g (lw_at lw_m4 169 rfl) rfl
theorem q1029 : (Jvm.Cond.instanceMethod ({ cls := "TrailGuide", name := "addWaypoint", desc := "(III)I" } : Jvm.MethodName)) ∈ lw_all := lw_g (lw_at lw_m4 219 rfl) rfl
theorem q1030 : (Jvm.Cond.selects "TrailGuide" ({ cls := "TrailGuide", name := "addWaypoint", desc := "(III)I" } : Jvm.MethodName) ({ cls := "TrailGuide", name := "addWaypoint", desc := "(III)I" } : Jvm.MethodName)) ∈ lw_all := lw_g (lw_at lw_m4 220 rfl) rfl
theorem q1031 : (Jvm.Cond.code ({ cls := "TrailGuide", name := "addWaypoint", desc := "(III)I" } : Jvm.MethodName) prog_1_method_12_code (4 : Nat) (Option.some Jvm.ClassFile.FieldType.int)) ∈ lw_all := lw_g (lw_at lw_m4 221 rfl) rfl
theorem q1032 : (Jvm.Cond.static ({ cls := "TrailGuide", name := "lambda$addWaypoint$0", desc := "(IIILTrailGuide$State;)I" } : Jvm.MethodName)) ∈ lw_all := lw_g (lw_at lw_m4 222 rfl) rfl
theorem q1033 : (Jvm.Cond.code ({ cls := "TrailGuide", name := "lambda$addWaypoint$0", desc := "(IIILTrailGuide$State;)I" } : Jvm.MethodName) prog_1_method_79_code (4 : Nat) (Option.some Jvm.ClassFile.FieldType.int)) ∈ lw_all := lw_g (lw_at lw_m4 223 rfl) rfl
theorem q1034 : (Jvm.Cond.methodLink "TrailGuide" (429 : Nat) ({ cls := "TrailGuide$State", name := "addWaypoint", desc := "(III)I" } : Jvm.MethodName)) ∈ lw_all := lw_g (lw_at lw_m4 224 rfl) rfl
theorem q1039 : (Jvm.Cond.static ({ cls := "TrailGuide", name := "checkCoordinates", desc := "(II)V" } : Jvm.MethodName)) ∈ lw_all := lw_g (lw_at lw_m4 229 rfl) rfl
theorem q1040 : (Jvm.Cond.code ({ cls := "TrailGuide", name := "checkCoordinates", desc := "(II)V" } : Jvm.MethodName) prog_1_method_7_code (2 : Nat) (Option.none : Option Jvm.ClassFile.FieldType)) ∈ lw_all := lw_g (lw_at lw_m4 230 rfl) rfl
theorem q1041 : (Jvm.Cond.methodLink "TrailGuide" (10 : Nat) ({ cls := "TrailGuide", name := "inRange", desc := "(III)Z" } : Jvm.MethodName)) ∈ lw_all := lw_g (lw_at lw_m4 231 rfl) rfl
theorem q1042 : (Jvm.Cond.methodLink "TrailGuide" (25 : Nat) ({ cls := "TrailGuide", name := "checkArgument", desc := "(Z)V" } : Jvm.MethodName)) ∈ lw_all := lw_g (lw_at lw_m4 232 rfl) rfl
theorem q1043 : (Jvm.Cond.static ({ cls := "TrailGuide", name := "checkArgument", desc := "(Z)V" } : Jvm.MethodName)) ∈ lw_all := lw_g (lw_at lw_m4 233 rfl) rfl
theorem q1044 : (Jvm.Cond.code ({ cls := "TrailGuide", name := "checkArgument", desc := "(Z)V" } : Jvm.MethodName) prog_1_method_2_code (1 : Nat) (Option.none : Option Jvm.ClassFile.FieldType)) ∈ lw_all := lw_g (lw_at lw_m4 234 rfl) rfl
theorem q1045 : (Jvm.Cond.classLink "TrailGuide" (1 : Nat) "java/lang/IllegalArgumentException") ∈ lw_all := lw_g (lw_at lw_m4 235 rfl) rfl
theorem q1046 : (Jvm.Cond.methodLink "TrailGuide" (3 : Nat) ({ cls := "java/lang/IllegalArgumentException", name := "<init>", desc := "()V" } : Jvm.MethodName)) ∈ lw_all := lw_g (lw_at lw_m4 236 rfl) rfl
theorem q1058 : (Jvm.Cond.static ({ cls := "TrailGuide", name := "checkState", desc := "(Z)V" } : Jvm.MethodName)) ∈ lw_all := lw_g (lw_at lw_m5 8 rfl) rfl
theorem q1059 : (Jvm.Cond.code ({ cls := "TrailGuide", name := "checkState", desc := "(Z)V" } : Jvm.MethodName) prog_1_method_3_code (1 : Nat) (Option.none : Option Jvm.ClassFile.FieldType)) ∈ lw_all := lw_g (lw_at lw_m5 9 rfl) rfl
theorem q1060 : (Jvm.Cond.classLink "TrailGuide" (7 : Nat) "java/lang/IllegalStateException") ∈ lw_all := lw_g (lw_at lw_m5 10 rfl) rfl
theorem q1069 : (Jvm.Cond.methodLink "TrailGuide" (9 : Nat) ({ cls := "java/lang/IllegalStateException", name := "<init>", desc := "()V" } : Jvm.MethodName)) ∈ lw_all := lw_g (lw_at lw_m5 19 rfl) rfl
theorem q1101 : (Jvm.Cond.methodLink "TrailGuide" (116 : Nat) ({ cls := "TrailGuide", name := "apply", desc := "(LTrailGuide$Change;)I" } : Jvm.MethodName)) ∈ lw_all := lw_g (lw_at lw_m5 51 rfl) rfl
theorem q1102 : (Jvm.Cond.privateMethod ({ cls := "TrailGuide", name := "apply", desc := "(LTrailGuide$Change;)I" } : Jvm.MethodName)) ∈ lw_tbl := lw_at lw_m5 52 rfl
theorem q1103 : (Jvm.Cond.instanceMethod ({ cls := "TrailGuide", name := "apply", desc := "(LTrailGuide$Change;)I" } : Jvm.MethodName)) ∈ lw_all := lw_g (lw_at lw_m5 53 rfl) rfl
theorem q1104 : (Jvm.Cond.code ({ cls := "TrailGuide", name := "apply", desc := "(LTrailGuide$Change;)I" } : Jvm.MethodName) prog_1_method_11_code (4 : Nat) (Option.some Jvm.ClassFile.FieldType.int)) ∈ lw_all := lw_g (lw_at lw_m5 54 rfl) rfl
theorem q1105 : (Jvm.Cond.interfaceEntry "TrailGuide" (104 : Nat)) ∈ lw_tbl := lw_at lw_m5 55 rfl
theorem q1106 : (Jvm.Cond.methodLink "TrailGuide" (104 : Nat) ({ cls := "TrailGuide$Change", name := "applyTo", desc := "(LTrailGuide$State;)I" } : Jvm.MethodName)) ∈ lw_all := lw_g (lw_at lw_m5 56 rfl) rfl
theorem q1109 : (Jvm.Cond.methodLink "TrailGuide" (110 : Nat) ({ cls := "TrailGuide", name := "commit", desc := "(LTrailGuide$State;)V" } : Jvm.MethodName)) ∈ lw_all := lw_g (lw_at lw_m5 59 rfl) rfl
theorem q1110 : (Jvm.Cond.privateMethod ({ cls := "TrailGuide", name := "commit", desc := "(LTrailGuide$State;)V" } : Jvm.MethodName)) ∈ lw_tbl := lw_at lw_m5 60 rfl
theorem q1111 : (Jvm.Cond.instanceMethod ({ cls := "TrailGuide", name := "commit", desc := "(LTrailGuide$State;)V" } : Jvm.MethodName)) ∈ lw_all := lw_g (lw_at lw_m5 61 rfl) rfl
theorem q1112 : (Jvm.Cond.code ({ cls := "TrailGuide", name := "commit", desc := "(LTrailGuide$State;)V" } : Jvm.MethodName) prog_1_method_10_code (3 : Nat) (Option.none : Option Jvm.ClassFile.FieldType)) ∈ lw_all := lw_g (lw_at lw_m5 62 rfl) rfl
theorem q1113 : (Jvm.Cond.methodLink "TrailGuide" (89 : Nat) ({ cls := "java/util/ArrayDeque", name := "size", desc := "()I" } : Jvm.MethodName)) ∈ lw_all := lw_g (lw_at lw_m5 63 rfl) rfl
theorem q1120 : (Jvm.Cond.methodLink "TrailGuide" (93 : Nat) ({ cls := "java/util/ArrayDeque", name := "removeFirst", desc := "()Ljava/lang/Object;" } : Jvm.MethodName)) ∈ lw_all := lw_g (lw_at lw_m5 70 rfl) rfl
theorem q1149 : (Jvm.Cond.methodLink "TrailGuide" (97 : Nat) ({ cls := "java/util/ArrayDeque", name := "addLast", desc := "(Ljava/lang/Object;)V" } : Jvm.MethodName)) ∈ lw_all := lw_g (lw_at lw_m5 99 rfl) rfl
theorem q1177 : (Jvm.Cond.instanceMethod ({ cls := "TrailGuide", name := "addTrail", desc := "(III)I" } : Jvm.MethodName)) ∈ lw_all := lw_g (lw_at lw_m5 127 rfl) rfl
theorem q1178 : (Jvm.Cond.selects "TrailGuide" ({ cls := "TrailGuide", name := "addTrail", desc := "(III)I" } : Jvm.MethodName) ({ cls := "TrailGuide", name := "addTrail", desc := "(III)I" } : Jvm.MethodName)) ∈ lw_all := lw_g (lw_at lw_m5 128 rfl) rfl
theorem q1179 : (Jvm.Cond.code ({ cls := "TrailGuide", name := "addTrail", desc := "(III)I" } : Jvm.MethodName) prog_1_method_13_code (4 : Nat) (Option.some Jvm.ClassFile.FieldType.int)) ∈ lw_all := lw_g (lw_at lw_m5 129 rfl) rfl
theorem q1180 : (Jvm.Cond.static ({ cls := "TrailGuide", name := "lambda$addTrail$1", desc := "(IIILTrailGuide$State;)I" } : Jvm.MethodName)) ∈ lw_all := lw_g (lw_at lw_m5 130 rfl) rfl
theorem q1181 : (Jvm.Cond.code ({ cls := "TrailGuide", name := "lambda$addTrail$1", desc := "(IIILTrailGuide$State;)I" } : Jvm.MethodName) prog_1_method_78_code (4 : Nat) (Option.some Jvm.ClassFile.FieldType.int)) ∈ lw_all := lw_g (lw_at lw_m5 131 rfl) rfl
theorem q1182 : (Jvm.Cond.methodLink "TrailGuide" (425 : Nat) ({ cls := "TrailGuide$State", name := "addTrail", desc := "(III)I" } : Jvm.MethodName)) ∈ lw_all := lw_g (lw_at lw_m5 132 rfl) rfl
theorem q1191 : (Jvm.Cond.static ({ cls := "TrailGuide", name := "checkIndex", desc := "(II)V" } : Jvm.MethodName)) ∈ lw_all := lw_g (lw_at lw_m5 141 rfl) rfl
theorem q1192 : (Jvm.Cond.code ({ cls := "TrailGuide", name := "checkIndex", desc := "(II)V" } : Jvm.MethodName) prog_1_method_4_code (2 : Nat) (Option.none : Option Jvm.ClassFile.FieldType)) ∈ lw_all := lw_g (lw_at lw_m5 142 rfl) rfl
theorem q1193 : (Jvm.Cond.classLink "TrailGuide" (16 : Nat) "java/lang/IndexOutOfBoundsException") ∈ lw_all := lw_g (lw_at lw_m5 143 rfl) rfl
theorem q1202 : (Jvm.Cond.methodLink "TrailGuide" (18 : Nat) ({ cls := "java/lang/IndexOutOfBoundsException", name := "<init>", desc := "()V" } : Jvm.MethodName)) ∈ lw_all := lw_g (lw_at lw_m5 152 rfl) rfl
theorem q1218 : (Jvm.Cond.instanceMethod ({ cls := "TrailGuide", name := "removeTrail", desc := "(II)I" } : Jvm.MethodName)) ∈ lw_all := lw_g (lw_at lw_m5 168 rfl) rfl
theorem q1219 : (Jvm.Cond.selects "TrailGuide" ({ cls := "TrailGuide", name := "removeTrail", desc := "(II)I" } : Jvm.MethodName) ({ cls := "TrailGuide", name := "removeTrail", desc := "(II)I" } : Jvm.MethodName)) ∈ lw_all := lw_g (lw_at lw_m5 169 rfl) rfl
theorem q1220 : (Jvm.Cond.code ({ cls := "TrailGuide", name := "removeTrail", desc := "(II)I" } : Jvm.MethodName) prog_1_method_14_code (3 : Nat) (Option.some Jvm.ClassFile.FieldType.int)) ∈ lw_all := lw_g (lw_at lw_m5 170 rfl) rfl
theorem q1221 : (Jvm.Cond.static ({ cls := "TrailGuide", name := "lambda$removeTrail$2", desc := "(IILTrailGuide$State;)I" } : Jvm.MethodName)) ∈ lw_all := lw_g (lw_at lw_m5 171 rfl) rfl
theorem q1222 : (Jvm.Cond.code ({ cls := "TrailGuide", name := "lambda$removeTrail$2", desc := "(IILTrailGuide$State;)I" } : Jvm.MethodName) prog_1_method_77_code (3 : Nat) (Option.some Jvm.ClassFile.FieldType.int)) ∈ lw_all := lw_g (lw_at lw_m5 172 rfl) rfl
theorem q1223 : (Jvm.Cond.methodLink "TrailGuide" (422 : Nat) ({ cls := "TrailGuide$State", name := "removeTrail", desc := "(II)I" } : Jvm.MethodName)) ∈ lw_all := lw_g (lw_at lw_m5 173 rfl) rfl
theorem q1228 : (Jvm.Cond.static ({ cls := "TrailGuide", name := "checkElement", desc := "(Z)V" } : Jvm.MethodName)) ∈ lw_all := lw_g (lw_at lw_m5 178 rfl) rfl
theorem q1229 : (Jvm.Cond.code ({ cls := "TrailGuide", name := "checkElement", desc := "(Z)V" } : Jvm.MethodName) prog_1_method_5_code (1 : Nat) (Option.none : Option Jvm.ClassFile.FieldType)) ∈ lw_all := lw_g (lw_at lw_m5 179 rfl) rfl
theorem q1230 : (Jvm.Cond.classLink "TrailGuide" (19 : Nat) "java/util/NoSuchElementException") ∈ lw_all := lw_g (lw_at lw_m5 180 rfl) rfl
theorem q1231 : (Jvm.Cond.methodLink "TrailGuide" (21 : Nat) ({ cls := "java/util/NoSuchElementException", name := "<init>", desc := "()V" } : Jvm.MethodName)) ∈ lw_all := lw_g (lw_at lw_m5 181 rfl) rfl
theorem q1236 : (Jvm.Cond.instanceMethod ({ cls := "TrailGuide", name := "startTour", desc := "(II)I" } : Jvm.MethodName)) ∈ lw_all := lw_g (lw_at lw_m5 186 rfl) rfl
theorem q1237 : (Jvm.Cond.selects "TrailGuide" ({ cls := "TrailGuide", name := "startTour", desc := "(II)I" } : Jvm.MethodName) ({ cls := "TrailGuide", name := "startTour", desc := "(II)I" } : Jvm.MethodName)) ∈ lw_all := lw_g (lw_at lw_m5 187 rfl) rfl
theorem q1238 : (Jvm.Cond.code ({ cls := "TrailGuide", name := "startTour", desc := "(II)I" } : Jvm.MethodName) prog_1_method_15_code (3 : Nat) (Option.some Jvm.ClassFile.FieldType.int)) ∈ lw_all := lw_g (lw_at lw_m5 188 rfl) rfl
theorem q1239 : (Jvm.Cond.static ({ cls := "TrailGuide", name := "lambda$startTour$3", desc := "(IILTrailGuide$State;)I" } : Jvm.MethodName)) ∈ lw_all := lw_g (lw_at lw_m5 189 rfl) rfl
theorem q1240 : (Jvm.Cond.code ({ cls := "TrailGuide", name := "lambda$startTour$3", desc := "(IILTrailGuide$State;)I" } : Jvm.MethodName) prog_1_method_76_code (3 : Nat) (Option.some Jvm.ClassFile.FieldType.int)) ∈ lw_all := lw_g (lw_at lw_m5 190 rfl) rfl
theorem q1241 : (Jvm.Cond.methodLink "TrailGuide" (419 : Nat) ({ cls := "TrailGuide$State", name := "startTour", desc := "(II)I" } : Jvm.MethodName)) ∈ lw_all := lw_g (lw_at lw_m5 191 rfl) rfl
theorem q1273 : (Jvm.Cond.instanceMethod ({ cls := "TrailGuide", name := "stopTour", desc := "()I" } : Jvm.MethodName)) ∈ lw_all := lw_g (lw_at lw_m5 223 rfl) rfl
theorem q1274 : (Jvm.Cond.selects "TrailGuide" ({ cls := "TrailGuide", name := "stopTour", desc := "()I" } : Jvm.MethodName) ({ cls := "TrailGuide", name := "stopTour", desc := "()I" } : Jvm.MethodName)) ∈ lw_all := lw_g (lw_at lw_m5 224 rfl) rfl
theorem q1275 : (Jvm.Cond.code ({ cls := "TrailGuide", name := "stopTour", desc := "()I" } : Jvm.MethodName) prog_1_method_16_code (1 : Nat) (Option.some Jvm.ClassFile.FieldType.int)) ∈ lw_all := lw_g (lw_at lw_m5 225 rfl) rfl
theorem q1276 : (Jvm.Cond.static ({ cls := "TrailGuide", name := "lambda$stopTour$4", desc := "(LTrailGuide$State;)I" } : Jvm.MethodName)) ∈ lw_all := lw_g (lw_at lw_m5 226 rfl) rfl
theorem q1277 : (Jvm.Cond.code ({ cls := "TrailGuide", name := "lambda$stopTour$4", desc := "(LTrailGuide$State;)I" } : Jvm.MethodName) prog_1_method_75_code (1 : Nat) (Option.some Jvm.ClassFile.FieldType.int)) ∈ lw_all := lw_g (lw_at lw_m5 227 rfl) rfl
theorem q1278 : (Jvm.Cond.methodLink "TrailGuide" (416 : Nat) ({ cls := "TrailGuide$State", name := "stopTour", desc := "()I" } : Jvm.MethodName)) ∈ lw_all := lw_g (lw_at lw_m5 228 rfl) rfl
theorem q1296 : (Jvm.Cond.instanceMethod ({ cls := "TrailGuide", name := "update", desc := "(II)Z" } : Jvm.MethodName)) ∈ lw_all := lw_g (lw_at lw_m6 6 rfl) rfl
theorem q1297 : (Jvm.Cond.selects "TrailGuide" ({ cls := "TrailGuide", name := "update", desc := "(II)Z" } : Jvm.MethodName) ({ cls := "TrailGuide", name := "update", desc := "(II)Z" } : Jvm.MethodName)) ∈ lw_all := lw_g (lw_at lw_m6 7 rfl) rfl
theorem q1298 : (Jvm.Cond.code ({ cls := "TrailGuide", name := "update", desc := "(II)Z" } : Jvm.MethodName) prog_1_method_17_code (3 : Nat) (Option.some Jvm.ClassFile.FieldType.boolean)) ∈ lw_all := lw_g (lw_at lw_m6 8 rfl) rfl
theorem q1299 : (Jvm.Cond.static ({ cls := "TrailGuide", name := "lambda$update$5", desc := "(IILTrailGuide$State;)I" } : Jvm.MethodName)) ∈ lw_all := lw_g (lw_at lw_m6 9 rfl) rfl
theorem q1300 : (Jvm.Cond.code ({ cls := "TrailGuide", name := "lambda$update$5", desc := "(IILTrailGuide$State;)I" } : Jvm.MethodName) prog_1_method_74_code (3 : Nat) (Option.some Jvm.ClassFile.FieldType.int)) ∈ lw_all := lw_g (lw_at lw_m6 10 rfl) rfl
theorem q1301 : (Jvm.Cond.methodLink "TrailGuide" (413 : Nat) ({ cls := "TrailGuide$State", name := "update", desc := "(II)I" } : Jvm.MethodName)) ∈ lw_all := lw_g (lw_at lw_m6 11 rfl) rfl
theorem q1306 : (Jvm.Cond.static ({ cls := "TrailGuide", name := "checkSupported", desc := "(Z)V" } : Jvm.MethodName)) ∈ lw_all := lw_g (lw_at lw_m6 16 rfl) rfl
theorem q1307 : (Jvm.Cond.code ({ cls := "TrailGuide", name := "checkSupported", desc := "(Z)V" } : Jvm.MethodName) prog_1_method_6_code (1 : Nat) (Option.none : Option Jvm.ClassFile.FieldType)) ∈ lw_all := lw_g (lw_at lw_m6 17 rfl) rfl
theorem q1308 : (Jvm.Cond.classLink "TrailGuide" (22 : Nat) "java/lang/UnsupportedOperationException") ∈ lw_all := lw_g (lw_at lw_m6 18 rfl) rfl
theorem q1317 : (Jvm.Cond.methodLink "TrailGuide" (24 : Nat) ({ cls := "java/lang/UnsupportedOperationException", name := "<init>", desc := "()V" } : Jvm.MethodName)) ∈ lw_all := lw_g (lw_at lw_m6 27 rfl) rfl
theorem q1383 : (Jvm.Cond.static ({ cls := "TrailGuide", name := "squaredDrift", desc := "(LTrailGuide$Point;LTrailGuide$Point;LTrailGuide$Point;)LTrailGuide$Square;" } : Jvm.MethodName)) ∈ lw_all := lw_g (lw_at lw_m6 93 rfl) rfl
theorem q1384 : (Jvm.Cond.code ({ cls := "TrailGuide", name := "squaredDrift", desc := "(LTrailGuide$Point;LTrailGuide$Point;LTrailGuide$Point;)LTrailGuide$Square;" } : Jvm.MethodName) prog_1_method_8_code (9 : Nat) (Option.some (Jvm.ClassFile.FieldType.object "TrailGuide$Square"))) ∈ lw_all := lw_g (lw_at lw_m6 94 rfl) rfl
theorem q1385 : (Jvm.Cond.methodLink "TrailGuide" (29 : Nat) ({ cls := "TrailGuide$Point", name := "minus", desc := "(LTrailGuide$Point;)LTrailGuide$Point;" } : Jvm.MethodName)) ∈ lw_all := lw_g (lw_at lw_m6 95 rfl) rfl
theorem q1386 : (Jvm.Cond.methodLink "TrailGuide" (35 : Nat) ({ cls := "TrailGuide$Point", name := "dot", desc := "(LTrailGuide$Point;)J" } : Jvm.MethodName)) ∈ lw_all := lw_g (lw_at lw_m6 96 rfl) rfl
theorem q1387 : (Jvm.Cond.classLink "TrailGuide" (39 : Nat) "TrailGuide$Square") ∈ lw_all := lw_g (lw_at lw_m6 97 rfl) rfl
theorem q1389 : (Jvm.Cond.methodLink "TrailGuide" (41 : Nat) ({ cls := "TrailGuide$Point", name := "squared", desc := "()J" } : Jvm.MethodName)) ∈ lw_all := lw_g (lw_at lw_m6 99 rfl) rfl
theorem q1390 : (Jvm.Cond.methodLinkNest "TrailGuide" (45 : Nat) ({ cls := "TrailGuide$Square", name := "<init>", desc := "(JJ)V" } : Jvm.MethodName) "TrailGuide") ∈ lw_tbl := lw_at lw_m6 100 rfl
theorem q1401 : (Jvm.Cond.methodLink "TrailGuide" (48 : Nat) ({ cls := "TrailGuide$Point", name := "squaredDistance", desc := "(LTrailGuide$Point;)J" } : Jvm.MethodName)) ∈ lw_all := lw_g (lw_at lw_m6 111 rfl) rfl
theorem q1402 : (Jvm.Cond.methodLink "TrailGuide" (51 : Nat) ({ cls := "TrailGuide$Point", name := "cross", desc := "(LTrailGuide$Point;)J" } : Jvm.MethodName)) ∈ lw_all := lw_g (lw_at lw_m6 112 rfl) rfl
theorem q1466 : (Jvm.Cond.instanceMethod ({ cls := "TrailGuide", name := "setTolerance", desc := "(I)I" } : Jvm.MethodName)) ∈ lw_all := lw_g (lw_at lw_m6 176 rfl) rfl
theorem q1467 : (Jvm.Cond.selects "TrailGuide" ({ cls := "TrailGuide", name := "setTolerance", desc := "(I)I" } : Jvm.MethodName) ({ cls := "TrailGuide", name := "setTolerance", desc := "(I)I" } : Jvm.MethodName)) ∈ lw_all := lw_g (lw_at lw_m6 177 rfl) rfl
theorem q1468 : (Jvm.Cond.code ({ cls := "TrailGuide", name := "setTolerance", desc := "(I)I" } : Jvm.MethodName) prog_1_method_18_code (2 : Nat) (Option.some Jvm.ClassFile.FieldType.int)) ∈ lw_all := lw_g (lw_at lw_m6 178 rfl) rfl
theorem q1469 : (Jvm.Cond.static ({ cls := "TrailGuide", name := "lambda$setTolerance$6", desc := "(ILTrailGuide$State;)I" } : Jvm.MethodName)) ∈ lw_all := lw_g (lw_at lw_m6 179 rfl) rfl
theorem q1470 : (Jvm.Cond.code ({ cls := "TrailGuide", name := "lambda$setTolerance$6", desc := "(ILTrailGuide$State;)I" } : Jvm.MethodName) prog_1_method_73_code (2 : Nat) (Option.some Jvm.ClassFile.FieldType.int)) ∈ lw_all := lw_g (lw_at lw_m6 180 rfl) rfl
theorem q1471 : (Jvm.Cond.methodLink "TrailGuide" (410 : Nat) ({ cls := "TrailGuide$State", name := "setTolerance", desc := "(I)I" } : Jvm.MethodName)) ∈ lw_all := lw_g (lw_at lw_m6 181 rfl) rfl
theorem q1479 : (Jvm.Cond.instanceMethod ({ cls := "TrailGuide", name := "setMode", desc := "(I)I" } : Jvm.MethodName)) ∈ lw_all := lw_g (lw_at lw_m6 189 rfl) rfl
theorem q1480 : (Jvm.Cond.selects "TrailGuide" ({ cls := "TrailGuide", name := "setMode", desc := "(I)I" } : Jvm.MethodName) ({ cls := "TrailGuide", name := "setMode", desc := "(I)I" } : Jvm.MethodName)) ∈ lw_all := lw_g (lw_at lw_m6 190 rfl) rfl
theorem q1481 : (Jvm.Cond.code ({ cls := "TrailGuide", name := "setMode", desc := "(I)I" } : Jvm.MethodName) prog_1_method_19_code (2 : Nat) (Option.some Jvm.ClassFile.FieldType.int)) ∈ lw_all := lw_g (lw_at lw_m6 191 rfl) rfl
theorem q1482 : (Jvm.Cond.static ({ cls := "TrailGuide", name := "lambda$setMode$7", desc := "(ILTrailGuide$State;)I" } : Jvm.MethodName)) ∈ lw_all := lw_g (lw_at lw_m6 192 rfl) rfl
theorem q1483 : (Jvm.Cond.code ({ cls := "TrailGuide", name := "lambda$setMode$7", desc := "(ILTrailGuide$State;)I" } : Jvm.MethodName) prog_1_method_72_code (2 : Nat) (Option.some Jvm.ClassFile.FieldType.int)) ∈ lw_all := lw_g (lw_at lw_m6 193 rfl) rfl
theorem q1484 : (Jvm.Cond.methodLink "TrailGuide" (407 : Nat) ({ cls := "TrailGuide$State", name := "setMode", desc := "(I)I" } : Jvm.MethodName)) ∈ lw_all := lw_g (lw_at lw_m6 194 rfl) rfl
theorem q1503 : (Jvm.Cond.instanceMethod ({ cls := "TrailGuide", name := "charge", desc := "(I)I" } : Jvm.MethodName)) ∈ lw_all := lw_g (lw_at lw_m6 213 rfl) rfl
theorem q1504 : (Jvm.Cond.selects "TrailGuide" ({ cls := "TrailGuide", name := "charge", desc := "(I)I" } : Jvm.MethodName) ({ cls := "TrailGuide", name := "charge", desc := "(I)I" } : Jvm.MethodName)) ∈ lw_all := lw_g (lw_at lw_m6 214 rfl) rfl
theorem q1505 : (Jvm.Cond.code ({ cls := "TrailGuide", name := "charge", desc := "(I)I" } : Jvm.MethodName) prog_1_method_20_code (2 : Nat) (Option.some Jvm.ClassFile.FieldType.int)) ∈ lw_all := lw_g (lw_at lw_m6 215 rfl) rfl
theorem q1506 : (Jvm.Cond.static ({ cls := "TrailGuide", name := "lambda$charge$8", desc := "(ILTrailGuide$State;)I" } : Jvm.MethodName)) ∈ lw_all := lw_g (lw_at lw_m6 216 rfl) rfl
theorem q1507 : (Jvm.Cond.code ({ cls := "TrailGuide", name := "lambda$charge$8", desc := "(ILTrailGuide$State;)I" } : Jvm.MethodName) prog_1_method_71_code (2 : Nat) (Option.some Jvm.ClassFile.FieldType.int)) ∈ lw_all := lw_g (lw_at lw_m6 217 rfl) rfl
theorem q1508 : (Jvm.Cond.methodLink "TrailGuide" (404 : Nat) ({ cls := "TrailGuide$State", name := "charge", desc := "(I)I" } : Jvm.MethodName)) ∈ lw_all := lw_g (lw_at lw_m6 218 rfl) rfl
theorem q1516 : (Jvm.Cond.instanceMethod ({ cls := "TrailGuide", name := "waypointX", desc := "(I)I" } : Jvm.MethodName)) ∈ lw_all := lw_g (lw_at lw_m6 226 rfl) rfl
theorem q1517 : (Jvm.Cond.selects "TrailGuide" ({ cls := "TrailGuide", name := "waypointX", desc := "(I)I" } : Jvm.MethodName) ({ cls := "TrailGuide", name := "waypointX", desc := "(I)I" } : Jvm.MethodName)) ∈ lw_all := lw_g (lw_at lw_m6 227 rfl) rfl
theorem q1518 : (Jvm.Cond.code ({ cls := "TrailGuide", name := "waypointX", desc := "(I)I" } : Jvm.MethodName) prog_1_method_22_code (2 : Nat) (Option.some Jvm.ClassFile.FieldType.int)) ∈ lw_all := lw_g (lw_at lw_m6 228 rfl) rfl
theorem q1519 : (Jvm.Cond.methodLink "TrailGuide" (135 : Nat) ({ cls := "TrailGuide$State", name := "waypoint", desc := "(I)LTrailGuide$Waypoint;" } : Jvm.MethodName)) ∈ lw_all := lw_g (lw_at lw_m6 229 rfl) rfl
theorem q1523 : (Jvm.Cond.methodLink "TrailGuide" (139 : Nat) ({ cls := "TrailGuide$Waypoint", name := "point", desc := "()LTrailGuide$Point;" } : Jvm.MethodName)) ∈ lw_all := lw_g (lw_at lw_m6 233 rfl) rfl
theorem q1524 : (Jvm.Cond.methodLink "TrailGuide" (145 : Nat) ({ cls := "TrailGuide$Point", name := "x", desc := "()I" } : Jvm.MethodName)) ∈ lw_all := lw_g (lw_at lw_m6 234 rfl) rfl
theorem q1532 : (Jvm.Cond.instanceMethod ({ cls := "TrailGuide", name := "waypointY", desc := "(I)I" } : Jvm.MethodName)) ∈ lw_all := lw_g (lw_at lw_m7 2 rfl) rfl
theorem q1533 : (Jvm.Cond.selects "TrailGuide" ({ cls := "TrailGuide", name := "waypointY", desc := "(I)I" } : Jvm.MethodName) ({ cls := "TrailGuide", name := "waypointY", desc := "(I)I" } : Jvm.MethodName)) ∈ lw_all := lw_g (lw_at lw_m7 3 rfl) rfl
theorem q1534 : (Jvm.Cond.code ({ cls := "TrailGuide", name := "waypointY", desc := "(I)I" } : Jvm.MethodName) prog_1_method_23_code (2 : Nat) (Option.some Jvm.ClassFile.FieldType.int)) ∈ lw_all := lw_g (lw_at lw_m7 4 rfl) rfl
theorem q1535 : (Jvm.Cond.methodLink "TrailGuide" (148 : Nat) ({ cls := "TrailGuide$Point", name := "y", desc := "()I" } : Jvm.MethodName)) ∈ lw_all := lw_g (lw_at lw_m7 5 rfl) rfl
theorem q1543 : (Jvm.Cond.instanceMethod ({ cls := "TrailGuide", name := "radius", desc := "(I)I" } : Jvm.MethodName)) ∈ lw_all := lw_g (lw_at lw_m7 13 rfl) rfl
theorem q1544 : (Jvm.Cond.selects "TrailGuide" ({ cls := "TrailGuide", name := "radius", desc := "(I)I" } : Jvm.MethodName) ({ cls := "TrailGuide", name := "radius", desc := "(I)I" } : Jvm.MethodName)) ∈ lw_all := lw_g (lw_at lw_m7 14 rfl) rfl
theorem q1545 : (Jvm.Cond.code ({ cls := "TrailGuide", name := "radius", desc := "(I)I" } : Jvm.MethodName) prog_1_method_24_code (2 : Nat) (Option.some Jvm.ClassFile.FieldType.int)) ∈ lw_all := lw_g (lw_at lw_m7 15 rfl) rfl
theorem q1546 : (Jvm.Cond.methodLink "TrailGuide" (151 : Nat) ({ cls := "TrailGuide$Waypoint", name := "radius", desc := "()I" } : Jvm.MethodName)) ∈ lw_all := lw_g (lw_at lw_m7 16 rfl) rfl
theorem q1554 : (Jvm.Cond.instanceMethod ({ cls := "TrailGuide", name := "hasTrail", desc := "(II)Z" } : Jvm.MethodName)) ∈ lw_all := lw_g (lw_at lw_m7 24 rfl) rfl
theorem q1555 : (Jvm.Cond.selects "TrailGuide" ({ cls := "TrailGuide", name := "hasTrail", desc := "(II)Z" } : Jvm.MethodName) ({ cls := "TrailGuide", name := "hasTrail", desc := "(II)Z" } : Jvm.MethodName)) ∈ lw_all := lw_g (lw_at lw_m7 25 rfl) rfl
theorem q1556 : (Jvm.Cond.code ({ cls := "TrailGuide", name := "hasTrail", desc := "(II)Z" } : Jvm.MethodName) prog_1_method_26_code (3 : Nat) (Option.some Jvm.ClassFile.FieldType.boolean)) ∈ lw_all := lw_g (lw_at lw_m7 26 rfl) rfl
theorem q1557 : (Jvm.Cond.methodLink "TrailGuide" (157 : Nat) ({ cls := "TrailGuide$State", name := "checkPair", desc := "(II)V" } : Jvm.MethodName)) ∈ lw_all := lw_g (lw_at lw_m7 27 rfl) rfl
theorem q1558 : (Jvm.Cond.methodLink "TrailGuide" (161 : Nat) ({ cls := "TrailGuide$State", name := "lengthOf", desc := "(II)I" } : Jvm.MethodName)) ∈ lw_all := lw_g (lw_at lw_m7 28 rfl) rfl
theorem q1563 : (Jvm.Cond.instanceMethod ({ cls := "TrailGuide", name := "trailLength", desc := "(II)I" } : Jvm.MethodName)) ∈ lw_all := lw_g (lw_at lw_m7 33 rfl) rfl
theorem q1564 : (Jvm.Cond.selects "TrailGuide" ({ cls := "TrailGuide", name := "trailLength", desc := "(II)I" } : Jvm.MethodName) ({ cls := "TrailGuide", name := "trailLength", desc := "(II)I" } : Jvm.MethodName)) ∈ lw_all := lw_g (lw_at lw_m7 34 rfl) rfl
theorem q1565 : (Jvm.Cond.code ({ cls := "TrailGuide", name := "trailLength", desc := "(II)I" } : Jvm.MethodName) prog_1_method_27_code (3 : Nat) (Option.some Jvm.ClassFile.FieldType.int)) ∈ lw_all := lw_g (lw_at lw_m7 35 rfl) rfl
theorem q1566 : (Jvm.Cond.methodLink "TrailGuide" (165 : Nat) ({ cls := "TrailGuide", name := "checkElement", desc := "(Z)V" } : Jvm.MethodName)) ∈ lw_all := lw_g (lw_at lw_m7 36 rfl) rfl
theorem q1571 : (Jvm.Cond.instanceMethod ({ cls := "TrailGuide", name := "distance", desc := "(II)I" } : Jvm.MethodName)) ∈ lw_all := lw_g (lw_at lw_m7 41 rfl) rfl
theorem q1572 : (Jvm.Cond.selects "TrailGuide" ({ cls := "TrailGuide", name := "distance", desc := "(II)I" } : Jvm.MethodName) ({ cls := "TrailGuide", name := "distance", desc := "(II)I" } : Jvm.MethodName)) ∈ lw_all := lw_g (lw_at lw_m7 42 rfl) rfl
theorem q1573 : (Jvm.Cond.code ({ cls := "TrailGuide", name := "distance", desc := "(II)I" } : Jvm.MethodName) prog_1_method_29_code (3 : Nat) (Option.some Jvm.ClassFile.FieldType.int)) ∈ lw_all := lw_g (lw_at lw_m7 43 rfl) rfl
theorem q1574 : (Jvm.Cond.methodLink "TrailGuide" (173 : Nat) ({ cls := "TrailGuide", name := "reachable", desc := "(I)I" } : Jvm.MethodName)) ∈ lw_all := lw_g (lw_at lw_m7 44 rfl) rfl
theorem q1575 : (Jvm.Cond.static ({ cls := "TrailGuide", name := "reachable", desc := "(I)I" } : Jvm.MethodName)) ∈ lw_all := lw_g (lw_at lw_m7 45 rfl) rfl
theorem q1576 : (Jvm.Cond.code ({ cls := "TrailGuide", name := "reachable", desc := "(I)I" } : Jvm.MethodName) prog_1_method_28_code (1 : Nat) (Option.some Jvm.ClassFile.FieldType.int)) ∈ lw_all := lw_g (lw_at lw_m7 46 rfl) rfl
theorem q1577 : (Jvm.Cond.constant "TrailGuide" (168 : Nat) (1000000 : Int32)) ∈ lw_all := lw_g (lw_at lw_m7 47 rfl) rfl
theorem q1582 : (Jvm.Cond.instanceMethod ({ cls := "TrailGuide", name := "distanceByRelaxation", desc := "(II)I" } : Jvm.MethodName)) ∈ lw_all := lw_g (lw_at lw_m7 52 rfl) rfl
theorem q1583 : (Jvm.Cond.selects "TrailGuide" ({ cls := "TrailGuide", name := "distanceByRelaxation", desc := "(II)I" } : Jvm.MethodName) ({ cls := "TrailGuide", name := "distanceByRelaxation", desc := "(II)I" } : Jvm.MethodName)) ∈ lw_all := lw_g (lw_at lw_m7 53 rfl) rfl
theorem q1584 : (Jvm.Cond.code ({ cls := "TrailGuide", name := "distanceByRelaxation", desc := "(II)I" } : Jvm.MethodName) prog_1_method_30_code (3 : Nat) (Option.some Jvm.ClassFile.FieldType.int)) ∈ lw_all := lw_g (lw_at lw_m7 54 rfl) rfl
theorem q1589 : (Jvm.Cond.instanceMethod ({ cls := "TrailGuide", name := "nearest", desc := "(II)I" } : Jvm.MethodName)) ∈ lw_all := lw_g (lw_at lw_m7 59 rfl) rfl
theorem q1590 : (Jvm.Cond.selects "TrailGuide" ({ cls := "TrailGuide", name := "nearest", desc := "(II)I" } : Jvm.MethodName) ({ cls := "TrailGuide", name := "nearest", desc := "(II)I" } : Jvm.MethodName)) ∈ lw_all := lw_g (lw_at lw_m7 60 rfl) rfl
theorem q1591 : (Jvm.Cond.code ({ cls := "TrailGuide", name := "nearest", desc := "(II)I" } : Jvm.MethodName) prog_1_method_33_code (7 : Nat) (Option.some Jvm.ClassFile.FieldType.int)) ∈ lw_all := lw_g (lw_at lw_m7 61 rfl) rfl
theorem q1592 : (Jvm.Cond.methodLink "TrailGuide" (186 : Nat) ({ cls := "TrailGuide", name := "checkCoordinates", desc := "(II)V" } : Jvm.MethodName)) ∈ lw_all := lw_g (lw_at lw_m7 62 rfl) rfl
theorem q1593 : (Jvm.Cond.classLink "TrailGuide" (30 : Nat) "TrailGuide$Point") ∈ lw_all := lw_g (lw_at lw_m7 63 rfl) rfl
theorem q1594 : (Jvm.Cond.methodLinkNest "TrailGuide" (189 : Nat) ({ cls := "TrailGuide$Point", name := "<init>", desc := "(II)V" } : Jvm.MethodName) "TrailGuide") ∈ lw_tbl := lw_at lw_m7 64 rfl
theorem q1595 : (Jvm.Cond.methodLinkNest "TrailGuide" (191 : Nat) ({ cls := "TrailGuide$State", name := "pointOf", desc := "(I)LTrailGuide$Point;" } : Jvm.MethodName) "TrailGuide") ∈ lw_tbl := lw_at lw_m7 65 rfl
theorem q1600 : (Jvm.Cond.instanceMethod ({ cls := "TrailGuide", name := "routeLength", desc := "()I" } : Jvm.MethodName)) ∈ lw_all := lw_g (lw_at lw_m7 70 rfl) rfl
theorem q1601 : (Jvm.Cond.selects "TrailGuide" ({ cls := "TrailGuide", name := "routeLength", desc := "()I" } : Jvm.MethodName) ({ cls := "TrailGuide", name := "routeLength", desc := "()I" } : Jvm.MethodName)) ∈ lw_all := lw_g (lw_at lw_m7 71 rfl) rfl
theorem q1602 : (Jvm.Cond.code ({ cls := "TrailGuide", name := "routeLength", desc := "()I" } : Jvm.MethodName) prog_1_method_36_code (1 : Nat) (Option.some Jvm.ClassFile.FieldType.int)) ∈ lw_all := lw_g (lw_at lw_m7 72 rfl) rfl
theorem q1603 : (Jvm.Cond.methodLink "TrailGuide" (202 : Nat) ({ cls := "TrailGuide", name := "tour", desc := "()LTrailGuide$Tour;" } : Jvm.MethodName)) ∈ lw_all := lw_g (lw_at lw_m7 73 rfl) rfl
theorem q1604 : (Jvm.Cond.privateMethod ({ cls := "TrailGuide", name := "tour", desc := "()LTrailGuide$Tour;" } : Jvm.MethodName)) ∈ lw_tbl := lw_at lw_m7 74 rfl
theorem q1605 : (Jvm.Cond.instanceMethod ({ cls := "TrailGuide", name := "tour", desc := "()LTrailGuide$Tour;" } : Jvm.MethodName)) ∈ lw_all := lw_g (lw_at lw_m7 75 rfl) rfl
theorem q1606 : (Jvm.Cond.code ({ cls := "TrailGuide", name := "tour", desc := "()LTrailGuide$Tour;" } : Jvm.MethodName) prog_1_method_35_code (1 : Nat) (Option.some (Jvm.ClassFile.FieldType.object "TrailGuide$Tour"))) ∈ lw_all := lw_g (lw_at lw_m7 76 rfl) rfl
theorem q1607 : (Jvm.Cond.methodLink "TrailGuide" (199 : Nat) ({ cls := "TrailGuide$State", name := "checkTour", desc := "()V" } : Jvm.MethodName)) ∈ lw_all := lw_g (lw_at lw_m7 77 rfl) rfl
theorem q1612 : (Jvm.Cond.instanceMethod ({ cls := "TrailGuide", name := "routeWaypoint", desc := "(I)I" } : Jvm.MethodName)) ∈ lw_all := lw_g (lw_at lw_m7 82 rfl) rfl
theorem q1613 : (Jvm.Cond.selects "TrailGuide" ({ cls := "TrailGuide", name := "routeWaypoint", desc := "(I)I" } : Jvm.MethodName) ({ cls := "TrailGuide", name := "routeWaypoint", desc := "(I)I" } : Jvm.MethodName)) ∈ lw_all := lw_g (lw_at lw_m7 83 rfl) rfl
theorem q1614 : (Jvm.Cond.code ({ cls := "TrailGuide", name := "routeWaypoint", desc := "(I)I" } : Jvm.MethodName) prog_1_method_37_code (2 : Nat) (Option.some Jvm.ClassFile.FieldType.int)) ∈ lw_all := lw_g (lw_at lw_m7 84 rfl) rfl
theorem q1615 : (Jvm.Cond.methodLink "TrailGuide" (211 : Nat) ({ cls := "TrailGuide", name := "checkIndex", desc := "(II)V" } : Jvm.MethodName)) ∈ lw_all := lw_g (lw_at lw_m7 85 rfl) rfl
theorem q1620 : (Jvm.Cond.instanceMethod ({ cls := "TrailGuide", name := "turn", desc := "(I)C" } : Jvm.MethodName)) ∈ lw_all := lw_g (lw_at lw_m7 90 rfl) rfl
theorem q1621 : (Jvm.Cond.selects "TrailGuide" ({ cls := "TrailGuide", name := "turn", desc := "(I)C" } : Jvm.MethodName) ({ cls := "TrailGuide", name := "turn", desc := "(I)C" } : Jvm.MethodName)) ∈ lw_all := lw_g (lw_at lw_m7 91 rfl) rfl
theorem q1622 : (Jvm.Cond.code ({ cls := "TrailGuide", name := "turn", desc := "(I)C" } : Jvm.MethodName) prog_1_method_38_code (2 : Nat) (Option.some Jvm.ClassFile.FieldType.char)) ∈ lw_all := lw_g (lw_at lw_m7 92 rfl) rfl
theorem q1627 : (Jvm.Cond.instanceMethod ({ cls := "TrailGuide", name := "target", desc := "()I" } : Jvm.MethodName)) ∈ lw_all := lw_g (lw_at lw_m7 97 rfl) rfl
theorem q1628 : (Jvm.Cond.selects "TrailGuide" ({ cls := "TrailGuide", name := "target", desc := "()I" } : Jvm.MethodName) ({ cls := "TrailGuide", name := "target", desc := "()I" } : Jvm.MethodName)) ∈ lw_all := lw_g (lw_at lw_m7 98 rfl) rfl
theorem q1629 : (Jvm.Cond.code ({ cls := "TrailGuide", name := "target", desc := "()I" } : Jvm.MethodName) prog_1_method_39_code (1 : Nat) (Option.some Jvm.ClassFile.FieldType.int)) ∈ lw_all := lw_g (lw_at lw_m7 99 rfl) rfl
theorem q1630 : (Jvm.Cond.methodLink "TrailGuide" (228 : Nat) ({ cls := "TrailGuide$Tour", name := "target", desc := "()I" } : Jvm.MethodName)) ∈ lw_all := lw_g (lw_at lw_m7 100 rfl) rfl
theorem q1635 : (Jvm.Cond.instanceMethod ({ cls := "TrailGuide", name := "hikerX", desc := "()I" } : Jvm.MethodName)) ∈ lw_all := lw_g (lw_at lw_m7 105 rfl) rfl
theorem q1636 : (Jvm.Cond.selects "TrailGuide" ({ cls := "TrailGuide", name := "hikerX", desc := "()I" } : Jvm.MethodName) ({ cls := "TrailGuide", name := "hikerX", desc := "()I" } : Jvm.MethodName)) ∈ lw_all := lw_g (lw_at lw_m7 106 rfl) rfl
theorem q1637 : (Jvm.Cond.code ({ cls := "TrailGuide", name := "hikerX", desc := "()I" } : Jvm.MethodName) prog_1_method_40_code (1 : Nat) (Option.some Jvm.ClassFile.FieldType.int)) ∈ lw_all := lw_g (lw_at lw_m7 107 rfl) rfl
theorem q1638 : (Jvm.Cond.methodLink "TrailGuide" (231 : Nat) ({ cls := "TrailGuide$Tour", name := "hiker", desc := "()LTrailGuide$Point;" } : Jvm.MethodName)) ∈ lw_all := lw_g (lw_at lw_m7 108 rfl) rfl
theorem q1643 : (Jvm.Cond.instanceMethod ({ cls := "TrailGuide", name := "hikerY", desc := "()I" } : Jvm.MethodName)) ∈ lw_all := lw_g (lw_at lw_m7 113 rfl) rfl
theorem q1644 : (Jvm.Cond.selects "TrailGuide" ({ cls := "TrailGuide", name := "hikerY", desc := "()I" } : Jvm.MethodName) ({ cls := "TrailGuide", name := "hikerY", desc := "()I" } : Jvm.MethodName)) ∈ lw_all := lw_g (lw_at lw_m7 114 rfl) rfl
theorem q1645 : (Jvm.Cond.code ({ cls := "TrailGuide", name := "hikerY", desc := "()I" } : Jvm.MethodName) prog_1_method_41_code (1 : Nat) (Option.some Jvm.ClassFile.FieldType.int)) ∈ lw_all := lw_g (lw_at lw_m7 115 rfl) rfl
theorem q1650 : (Jvm.Cond.instanceMethod ({ cls := "TrailGuide", name := "drift", desc := "()I" } : Jvm.MethodName)) ∈ lw_all := lw_g (lw_at lw_m7 120 rfl) rfl
theorem q1651 : (Jvm.Cond.selects "TrailGuide" ({ cls := "TrailGuide", name := "drift", desc := "()I" } : Jvm.MethodName) ({ cls := "TrailGuide", name := "drift", desc := "()I" } : Jvm.MethodName)) ∈ lw_all := lw_g (lw_at lw_m7 121 rfl) rfl
theorem q1652 : (Jvm.Cond.code ({ cls := "TrailGuide", name := "drift", desc := "()I" } : Jvm.MethodName) prog_1_method_42_code (1 : Nat) (Option.some Jvm.ClassFile.FieldType.int)) ∈ lw_all := lw_g (lw_at lw_m7 122 rfl) rfl
theorem q1653 : (Jvm.Cond.methodLink "TrailGuide" (234 : Nat) ({ cls := "TrailGuide$State", name := "driftOf", desc := "(LTrailGuide$Point;)LTrailGuide$Square;" } : Jvm.MethodName)) ∈ lw_all := lw_g (lw_at lw_m7 123 rfl) rfl
theorem q1654 : (Jvm.Cond.methodLink "TrailGuide" (238 : Nat) ({ cls := "TrailGuide$Square", name := "root", desc := "()I" } : Jvm.MethodName)) ∈ lw_all := lw_g (lw_at lw_m7 124 rfl) rfl
theorem q1666 : (Jvm.Cond.instanceMethod ({ cls := "TrailGuide", name := "forecast", desc := "(II)C" } : Jvm.MethodName)) ∈ lw_all := lw_g (lw_at lw_m7 136 rfl) rfl
theorem q1667 : (Jvm.Cond.selects "TrailGuide" ({ cls := "TrailGuide", name := "forecast", desc := "(II)C" } : Jvm.MethodName) ({ cls := "TrailGuide", name := "forecast", desc := "(II)C" } : Jvm.MethodName)) ∈ lw_all := lw_g (lw_at lw_m7 137 rfl) rfl
theorem q1668 : (Jvm.Cond.code ({ cls := "TrailGuide", name := "forecast", desc := "(II)C" } : Jvm.MethodName) prog_1_method_44_code (3 : Nat) (Option.some Jvm.ClassFile.FieldType.char)) ∈ lw_all := lw_g (lw_at lw_m7 138 rfl) rfl
theorem q1669 : (Jvm.Cond.methodLink "TrailGuide" (245 : Nat) ({ cls := "TrailGuide$State", name := "eventAt", desc := "(LTrailGuide$Point;)LTrailGuide$Event;" } : Jvm.MethodName)) ∈ lw_all := lw_g (lw_at lw_m7 139 rfl) rfl
theorem q1670 : (Jvm.Cond.interfaceEntry "TrailGuide" (249 : Nat)) ∈ lw_tbl := lw_at lw_m7 140 rfl
theorem q1671 : (Jvm.Cond.methodLink "TrailGuide" (249 : Nat) ({ cls := "TrailGuide$Event", name := "letter", desc := "()C" } : Jvm.MethodName)) ∈ lw_all := lw_g (lw_at lw_m7 141 rfl) rfl
theorem q1707 : (Jvm.Cond.instanceMethod ({ cls := "TrailGuide", name := "alarmRate", desc := "()F" } : Jvm.MethodName)) ∈ lw_all := lw_g (lw_at lw_m7 177 rfl) rfl
theorem q1708 : (Jvm.Cond.selects "TrailGuide" ({ cls := "TrailGuide", name := "alarmRate", desc := "()F" } : Jvm.MethodName) ({ cls := "TrailGuide", name := "alarmRate", desc := "()F" } : Jvm.MethodName)) ∈ lw_all := lw_g (lw_at lw_m7 178 rfl) rfl
theorem q1709 : (Jvm.Cond.code ({ cls := "TrailGuide", name := "alarmRate", desc := "()F" } : Jvm.MethodName) prog_1_method_53_code (1 : Nat) (Option.some Jvm.ClassFile.FieldType.float)) ∈ lw_all := lw_g (lw_at lw_m7 179 rfl) rfl
theorem q1710 : (Jvm.Cond.classLink "TrailGuide" (279 : Nat) "java/lang/ArithmeticException") ∈ lw_all := lw_g (lw_at lw_m7 180 rfl) rfl
theorem q1711 : (Jvm.Cond.methodLink "TrailGuide" (281 : Nat) ({ cls := "java/lang/ArithmeticException", name := "<init>", desc := "()V" } : Jvm.MethodName)) ∈ lw_all := lw_g (lw_at lw_m7 181 rfl) rfl
theorem q1719 : (Jvm.Cond.instanceMethod ({ cls := "TrailGuide", name := "meanTrailLength", desc := "()D" } : Jvm.MethodName)) ∈ lw_all := lw_g (lw_at lw_m7 189 rfl) rfl
theorem q1720 : (Jvm.Cond.selects "TrailGuide" ({ cls := "TrailGuide", name := "meanTrailLength", desc := "()D" } : Jvm.MethodName) ({ cls := "TrailGuide", name := "meanTrailLength", desc := "()D" } : Jvm.MethodName)) ∈ lw_all := lw_g (lw_at lw_m7 190 rfl) rfl
theorem q1721 : (Jvm.Cond.code ({ cls := "TrailGuide", name := "meanTrailLength", desc := "()D" } : Jvm.MethodName) prog_1_method_54_code (1 : Nat) (Option.some Jvm.ClassFile.FieldType.double)) ∈ lw_all := lw_g (lw_at lw_m7 191 rfl) rfl
theorem q1722 : (Jvm.Cond.methodLink "TrailGuide" (282 : Nat) ({ cls := "TrailGuide$State", name := "sumLengths", desc := "()I" } : Jvm.MethodName)) ∈ lw_all := lw_g (lw_at lw_m7 192 rfl) rfl
theorem q1730 : (Jvm.Cond.instanceMethod ({ cls := "TrailGuide", name := "writeTrails", desc := "(I)I" } : Jvm.MethodName)) ∈ lw_all := lw_g (lw_at lw_m7 200 rfl) rfl
theorem q1731 : (Jvm.Cond.selects "TrailGuide" ({ cls := "TrailGuide", name := "writeTrails", desc := "(I)I" } : Jvm.MethodName) ({ cls := "TrailGuide", name := "writeTrails", desc := "(I)I" } : Jvm.MethodName)) ∈ lw_all := lw_g (lw_at lw_m7 201 rfl) rfl
theorem q1732 : (Jvm.Cond.code ({ cls := "TrailGuide", name := "writeTrails", desc := "(I)I" } : Jvm.MethodName) prog_1_method_59_code (2 : Nat) (Option.some Jvm.ClassFile.FieldType.int)) ∈ lw_all := lw_g (lw_at lw_m7 202 rfl) rfl
theorem q1733 : (Jvm.Cond.privateMethod ({ cls := "TrailGuide", name := "lambda$writeTrails$10", desc := "(II)V" } : Jvm.MethodName)) ∈ lw_tbl := lw_at lw_m7 203 rfl
theorem q1734 : (Jvm.Cond.instanceMethod ({ cls := "TrailGuide", name := "lambda$writeTrails$10", desc := "(II)V" } : Jvm.MethodName)) ∈ lw_all := lw_g (lw_at lw_m7 204 rfl) rfl
theorem q1735 : (Jvm.Cond.code ({ cls := "TrailGuide", name := "lambda$writeTrails$10", desc := "(II)V" } : Jvm.MethodName) prog_1_method_69_code (3 : Nat) (Option.none : Option Jvm.ClassFile.FieldType)) ∈ lw_all := lw_g (lw_at lw_m7 205 rfl) rfl
theorem q1736 : (Jvm.Cond.methodLink "TrailGuide" (401 : Nat) ({ cls := "TrailGuide", name := "writeTrail", desc := "(II)V" } : Jvm.MethodName)) ∈ lw_all := lw_g (lw_at lw_m7 206 rfl) rfl
theorem q1737 : (Jvm.Cond.privateMethod ({ cls := "TrailGuide", name := "writeTrail", desc := "(II)V" } : Jvm.MethodName)) ∈ lw_tbl := lw_at lw_m7 207 rfl
theorem q1738 : (Jvm.Cond.instanceMethod ({ cls := "TrailGuide", name := "writeTrail", desc := "(II)V" } : Jvm.MethodName)) ∈ lw_all := lw_g (lw_at lw_m7 208 rfl) rfl
theorem q1739 : (Jvm.Cond.code ({ cls := "TrailGuide", name := "writeTrail", desc := "(II)V" } : Jvm.MethodName) prog_1_method_58_code (4 : Nat) (Option.none : Option Jvm.ClassFile.FieldType)) ∈ lw_all := lw_g (lw_at lw_m7 209 rfl) rfl
theorem q1740 : (Jvm.Cond.methodLink "TrailGuide" (336 : Nat) ({ cls := "TrailGuide$State", name := "visitTrails", desc := "(ILTrailGuide$TrailVisitor;)V" } : Jvm.MethodName)) ∈ lw_all := lw_g (lw_at lw_m7 210 rfl) rfl
theorem q1745 : (Jvm.Cond.instanceMethod ({ cls := "TrailGuide", name := "charAt", desc := "(I)C" } : Jvm.MethodName)) ∈ lw_all := lw_g (lw_at lw_m7 215 rfl) rfl
theorem q1746 : (Jvm.Cond.selects "TrailGuide" ({ cls := "TrailGuide", name := "charAt", desc := "(I)C" } : Jvm.MethodName) ({ cls := "TrailGuide", name := "charAt", desc := "(I)C" } : Jvm.MethodName)) ∈ lw_all := lw_g (lw_at lw_m7 216 rfl) rfl
theorem q1747 : (Jvm.Cond.code ({ cls := "TrailGuide", name := "charAt", desc := "(I)C" } : Jvm.MethodName) prog_1_method_60_code (2 : Nat) (Option.some Jvm.ClassFile.FieldType.char)) ∈ lw_all := lw_g (lw_at lw_m7 217 rfl) rfl
theorem q1748 : (Jvm.Cond.methodLink "TrailGuide" (340 : Nat) ({ cls := "java/lang/StringBuilder", name := "charAt", desc := "(I)C" } : Jvm.MethodName)) ∈ lw_all := lw_g (lw_at lw_m7 218 rfl) rfl
theorem q1762 : (Jvm.Cond.instanceMethod ({ cls := "TrailGuide", name := "type", desc := "(C)I" } : Jvm.MethodName)) ∈ lw_all := lw_g (lw_at lw_m7 232 rfl) rfl
theorem q1763 : (Jvm.Cond.selects "TrailGuide" ({ cls := "TrailGuide", name := "type", desc := "(C)I" } : Jvm.MethodName) ({ cls := "TrailGuide", name := "type", desc := "(C)I" } : Jvm.MethodName)) ∈ lw_all := lw_g (lw_at lw_m7 233 rfl) rfl
theorem q1764 : (Jvm.Cond.code ({ cls := "TrailGuide", name := "type", desc := "(C)I" } : Jvm.MethodName) prog_1_method_61_code (2 : Nat) (Option.some Jvm.ClassFile.FieldType.int)) ∈ lw_all := lw_g (lw_at lw_m7 234 rfl) rfl
theorem q1765 : (Jvm.Cond.methodLink "TrailGuide" (347 : Nat) ({ cls := "TrailGuide", name := "checkState", desc := "(Z)V" } : Jvm.MethodName)) ∈ lw_all := lw_g (lw_at lw_m7 235 rfl) rfl
theorem q1770 : (Jvm.Cond.instanceMethod ({ cls := "TrailGuide", name := "run", desc := "()I" } : Jvm.MethodName)) ∈ lw_all := lw_g (lw_at lw_m8 0 rfl) rfl
theorem q1771 : (Jvm.Cond.selects "TrailGuide" ({ cls := "TrailGuide", name := "run", desc := "()I" } : Jvm.MethodName) ({ cls := "TrailGuide", name := "run", desc := "()I" } : Jvm.MethodName)) ∈ lw_all := lw_g (lw_at lw_m8 1 rfl) rfl
theorem q1772 : (Jvm.Cond.codeWith ({ cls := "TrailGuide", name := "run", desc := "()I" } : Jvm.MethodName) prog_1_method_63_code (3 : Nat) (Option.some Jvm.ClassFile.FieldType.int) [((0 : Nat), (16 : Nat), (23 : Nat), (384 : Nat)), ((0 : Nat), (16 : Nat), (40 : Nat), (0 : Nat)), ((23 : Nat), (41 : Nat), (40 : Nat), (0 : Nat))]) ∈ lw_all := lw_g (lw_at lw_m8 2 rfl) rfl
theorem q1773 : (Jvm.Cond.classLink "TrailGuide" (384 : Nat) "TrailGuide$SyntaxException") ∈ lw_all := lw_g (lw_at lw_m8 3 rfl) rfl
theorem q1774 : (Jvm.Cond.classLink "TrailGuide" (371 : Nat) "TrailGuide$Parser") ∈ lw_all := lw_g (lw_at lw_m8 4 rfl) rfl
theorem q1776 : (Jvm.Cond.methodLinkNest "TrailGuide" (373 : Nat) ({ cls := "TrailGuide$Parser", name := "<init>", desc := "(LTrailGuide;)V" } : Jvm.MethodName) "TrailGuide") ∈ lw_tbl := lw_at lw_m8 6 rfl
theorem q1787 : (Jvm.Cond.methodLink "TrailGuide" (376 : Nat) ({ cls := "TrailGuide$Parser", name := "program", desc := "()Ljava/util/ArrayList;" } : Jvm.MethodName)) ∈ lw_all := lw_g (lw_at lw_m8 17 rfl) rfl
theorem q1875 : (Jvm.Cond.fieldLinkNest "TrailGuide" (386 : Nat) "TrailGuide$SyntaxException" "position" "I" "TrailGuide") ∈ lw_tbl := lw_at lw_m8 105 rfl
theorem q1933 : (Jvm.Cond.fieldLinkNest "TrailGuide" (367 : Nat) "TrailGuide$Command" "change" "LTrailGuide$Change;" "TrailGuide") ∈ lw_tbl := lw_at lw_m8 163 rfl
theorem q2010 : (Jvm.Cond.methodLink "TrailGuide" (380 : Nat) ({ cls := "TrailGuide", name := "execute", desc := "(Ljava/util/ArrayList;)I" } : Jvm.MethodName)) ∈ lw_all := lw_g (lw_at lw_m9 0 rfl) rfl
theorem q2011 : (Jvm.Cond.privateMethod ({ cls := "TrailGuide", name := "execute", desc := "(Ljava/util/ArrayList;)I" } : Jvm.MethodName)) ∈ lw_tbl := lw_at lw_m9 1 rfl
theorem q2012 : (Jvm.Cond.instanceMethod ({ cls := "TrailGuide", name := "execute", desc := "(Ljava/util/ArrayList;)I" } : Jvm.MethodName)) ∈ lw_all := lw_g (lw_at lw_m9 2 rfl) rfl
theorem q2013 : (Jvm.Cond.codeWith ({ cls := "TrailGuide", name := "execute", desc := "(Ljava/util/ArrayList;)I" } : Jvm.MethodName) prog_1_method_62_code (7 : Nat) (Option.some Jvm.ClassFile.FieldType.int) [((17 : Nat), (64 : Nat), (67 : Nat), (16 : Nat)), ((17 : Nat), (64 : Nat), (67 : Nat), (1 : Nat)), ((17 : Nat), (64 : Nat), (67 : Nat), (7 : Nat)), ((17 : Nat), (64 : Nat), (67 : Nat), (19 : Nat)), ((17 : Nat), (64 : Nat), (67 : Nat), (22 : Nat))]) ∈ lw_all := lw_g (lw_at lw_m9 3 rfl) rfl
theorem q2014 : (Jvm.Cond.methodLink "TrailGuide" (350 : Nat) ({ cls := "java/util/ArrayList", name := "iterator", desc := "()Ljava/util/Iterator;" } : Jvm.MethodName)) ∈ lw_all := lw_g (lw_at lw_m9 4 rfl) rfl
theorem q2037 : (Jvm.Cond.interfaceEntry "TrailGuide" (356 : Nat)) ∈ lw_tbl := lw_at lw_m9 27 rfl
theorem q2038 : (Jvm.Cond.methodLink "TrailGuide" (356 : Nat) ({ cls := "java/util/Iterator", name := "hasNext", desc := "()Z" } : Jvm.MethodName)) ∈ lw_all := lw_g (lw_at lw_m9 28 rfl) rfl
theorem q2047 : (Jvm.Cond.interfaceEntry "TrailGuide" (362 : Nat)) ∈ lw_tbl := lw_at lw_m9 37 rfl
theorem q2048 : (Jvm.Cond.methodLink "TrailGuide" (362 : Nat) ({ cls := "java/util/Iterator", name := "next", desc := "()Ljava/lang/Object;" } : Jvm.MethodName)) ∈ lw_all := lw_g (lw_at lw_m9 38 rfl) rfl
theorem q2062 : (Jvm.Cond.classLink "TrailGuide" (365 : Nat) "TrailGuide$Command") ∈ lw_all := lw_g (lw_at lw_m9 52 rfl) rfl
theorem q2067 : (Jvm.Cond.instanceMethod ({ cls := "TrailGuide", name := "errorPosition", desc := "()I" } : Jvm.MethodName)) ∈ lw_all := lw_g (lw_at lw_m9 57 rfl) rfl
theorem q2068 : (Jvm.Cond.selects "TrailGuide" ({ cls := "TrailGuide", name := "errorPosition", desc := "()I" } : Jvm.MethodName) ({ cls := "TrailGuide", name := "errorPosition", desc := "()I" } : Jvm.MethodName)) ∈ lw_all := lw_g (lw_at lw_m9 58 rfl) rfl
theorem q2069 : (Jvm.Cond.code ({ cls := "TrailGuide", name := "errorPosition", desc := "()I" } : Jvm.MethodName) prog_1_method_64_code (1 : Nat) (Option.some Jvm.ClassFile.FieldType.int)) ∈ lw_all := lw_g (lw_at lw_m9 59 rfl) rfl
theorem q2074 : (Jvm.Cond.instanceMethod ({ cls := "TrailGuide", name := "failedCommand", desc := "()I" } : Jvm.MethodName)) ∈ lw_all := lw_g (lw_at lw_m9 64 rfl) rfl
theorem q2075 : (Jvm.Cond.selects "TrailGuide" ({ cls := "TrailGuide", name := "failedCommand", desc := "()I" } : Jvm.MethodName) ({ cls := "TrailGuide", name := "failedCommand", desc := "()I" } : Jvm.MethodName)) ∈ lw_all := lw_g (lw_at lw_m9 65 rfl) rfl
theorem q2076 : (Jvm.Cond.code ({ cls := "TrailGuide", name := "failedCommand", desc := "()I" } : Jvm.MethodName) prog_1_method_65_code (1 : Nat) (Option.some Jvm.ClassFile.FieldType.int)) ∈ lw_all := lw_g (lw_at lw_m9 66 rfl) rfl
theorem q2081 : (Jvm.Cond.instanceMethod ({ cls := "TrailGuide", name := "undo", desc := "()I" } : Jvm.MethodName)) ∈ lw_all := lw_g (lw_at lw_m9 71 rfl) rfl
theorem q2082 : (Jvm.Cond.selects "TrailGuide" ({ cls := "TrailGuide", name := "undo", desc := "()I" } : Jvm.MethodName) ({ cls := "TrailGuide", name := "undo", desc := "()I" } : Jvm.MethodName)) ∈ lw_all := lw_g (lw_at lw_m9 72 rfl) rfl
theorem q2083 : (Jvm.Cond.code ({ cls := "TrailGuide", name := "undo", desc := "()I" } : Jvm.MethodName) prog_1_method_66_code (1 : Nat) (Option.some Jvm.ClassFile.FieldType.int)) ∈ lw_all := lw_g (lw_at lw_m9 73 rfl) rfl
theorem q2084 : (Jvm.Cond.methodLink "TrailGuide" (389 : Nat) ({ cls := "java/util/ArrayDeque", name := "isEmpty", desc := "()Z" } : Jvm.MethodName)) ∈ lw_all := lw_g (lw_at lw_m9 74 rfl) rfl
theorem q2088 : (Jvm.Cond.methodLink "TrailGuide" (392 : Nat) ({ cls := "java/util/ArrayDeque", name := "removeLast", desc := "()Ljava/lang/Object;" } : Jvm.MethodName)) ∈ lw_all := lw_g (lw_at lw_m9 78 rfl) rfl
theorem q2103 : (Jvm.Cond.instanceMethod ({ cls := "TrailGuide", name := "restore", desc := "()I" } : Jvm.MethodName)) ∈ lw_all := lw_g (lw_at lw_m9 93 rfl) rfl
theorem q2104 : (Jvm.Cond.selects "TrailGuide" ({ cls := "TrailGuide", name := "restore", desc := "()I" } : Jvm.MethodName) ({ cls := "TrailGuide", name := "restore", desc := "()I" } : Jvm.MethodName)) ∈ lw_all := lw_g (lw_at lw_m9 94 rfl) rfl
theorem q2105 : (Jvm.Cond.code ({ cls := "TrailGuide", name := "restore", desc := "()I" } : Jvm.MethodName) prog_1_method_68_code (1 : Nat) (Option.some Jvm.ClassFile.FieldType.int)) ∈ lw_all := lw_g (lw_at lw_m9 95 rfl) rfl
theorem q2106 : (Jvm.Cond.methodLink "TrailGuide" (398 : Nat) ({ cls := "java/util/ArrayDeque", name := "clear", desc := "()V" } : Jvm.MethodName)) ∈ lw_all := lw_g (lw_at lw_m9 96 rfl) rfl
theorem q2627 : (Jvm.Cond.castable "TrailGuide" "java/lang/Object") ∈ lw_tbl := lw_at lw_m11 137 rfl
theorem q2672 : (Jvm.Cond.fieldLinkNest "TrailGuide" (267 : Nat) "TrailGuide$Mode" "cost" "I" "TrailGuide") ∈ lw_tbl := lw_at lw_m11 182 rfl
theorem in_X1 : ∀ w ∈ wsX10, w ∈ lw_all := lw_in wsX10 [284, 286, 288, 290, 292, 294, 296, 298] (by decide +kernel) (by decide +kernel)
/-! TrailGuide$Drifted -/
def RX10 : String := "TrailGuide$Drifted"
def TX10 : u_T := fun k => match k with
  | _ => ("TrailGuide$Drifted", "isNew", "Z", true)
def tyX10 : Nat → FieldType := fun k => match k with
  | _ => .boolean
abbrev wsX100 : List Cond := u_ws RX10 TX10 1
theorem nmX10 : ∀ a, a < 1 → ∀ b, b < 1 → a ≠ b → (TX10 a).2.1 ≠ (TX10 b).2.1 := by decide +kernel
theorem tyX10_ok : ∀ k, k < 1 → parseFieldDescriptor (TX10 k).2.2.1 = some (tyX10 k) := by decide +kernel
abbrev cX10_init : ByteArray := prog_4_method_1_code
def yX10_init : MethodName := ⟨RX10, "<init>", "(Z)V"⟩
abbrev cX10_cost : ByteArray := prog_4_method_3_code
def yX10_cost : MethodName := ⟨RX10, "cost", "()I"⟩
abbrev cX10_isNew : ByteArray := prog_4_method_7_code
def yX10_isNew : MethodName := ⟨RX10, "isNew", "()Z"⟩
abbrev cX10_letter : ByteArray := prog_4_method_2_code
def yX10_letter : MethodName := ⟨RX10, "letter", "()C"⟩
theorem q128 : (Jvm.Cond.initialized "TrailGuide$Drifted") ∈ lw_all := lw_g (lw_at lw_m1 38 rfl) rfl
theorem q981 : (Jvm.Cond.selects "TrailGuide$Drifted" ({ cls := "java/lang/Object", name := "getClass", desc := "()Ljava/lang/Class;" } : Jvm.MethodName) ({ cls := "java/lang/Object", name := "getClass", desc := "()Ljava/lang/Class;" } : Jvm.MethodName)) ∈ lw_all := lw_g (lw_at lw_m4 171 rfl) rfl
theorem q1408 : (Jvm.Cond.instantiable "TrailGuide$Drifted" (1 : Nat)) ∈ lw_all := lw_g (lw_at lw_m6 118 rfl) rfl
theorem q1410 : (Jvm.Cond.instanceMethod ({ cls := "TrailGuide$Drifted", name := "<init>", desc := "(Z)V" } : Jvm.MethodName)) ∈ lw_all := lw_g (lw_at lw_m6 120 rfl) rfl
theorem q1411 : (Jvm.Cond.code ({ cls := "TrailGuide$Drifted", name := "<init>", desc := "(Z)V" } : Jvm.MethodName) prog_4_method_1_code (2 : Nat) (Option.none : Option Jvm.ClassFile.FieldType)) ∈ lw_all := lw_g (lw_at lw_m6 121 rfl) rfl
theorem q1412 : (Jvm.Cond.methodLink "TrailGuide$Drifted" (3 : Nat) ({ cls := "java/lang/Record", name := "<init>", desc := "()V" } : Jvm.MethodName)) ∈ lw_all := lw_g (lw_at lw_m6 122 rfl) rfl
theorem q1413 : (Jvm.Cond.fieldLink "TrailGuide$Drifted" (9 : Nat) "TrailGuide$Drifted" "isNew" "Z") ∈ lw_all := lw_g (lw_at lw_m6 123 rfl) rfl
theorem q1414 : (Jvm.Cond.laysFinal "TrailGuide$Drifted" "TrailGuide$Drifted" "isNew" "Z") ∈ lw_all := lw_g (lw_at lw_m6 124 rfl) rfl
theorem q1415 : (Jvm.Cond.soleField "TrailGuide$Drifted" "isNew") ∈ lw_all := lw_g (lw_at lw_m6 125 rfl) rfl
theorem q1416 : (Jvm.Cond.superclass "TrailGuide$Drifted" "java/lang/Record") ∈ lw_all := lw_g (lw_at lw_m6 126 rfl) rfl
theorem q1432 : (Jvm.Cond.castable "TrailGuide$Drifted" "TrailGuide$Event") ∈ lw_tbl := lw_at lw_m6 142 rfl
theorem q1433 : (Jvm.Cond.selects "TrailGuide$Drifted" ({ cls := "TrailGuide$Event", name := "cost", desc := "()I" } : Jvm.MethodName) ({ cls := "TrailGuide$Drifted", name := "cost", desc := "()I" } : Jvm.MethodName)) ∈ lw_all := lw_g (lw_at lw_m6 143 rfl) rfl
theorem q1434 : (Jvm.Cond.unhidden "TrailGuide$Drifted" "cost" "()I") ∈ lw_tbl := lw_at lw_m6 144 rfl
theorem q1435 : (Jvm.Cond.instanceMethod ({ cls := "TrailGuide$Drifted", name := "cost", desc := "()I" } : Jvm.MethodName)) ∈ lw_all := lw_g (lw_at lw_m6 145 rfl) rfl
theorem q1436 : (Jvm.Cond.publicMethod ({ cls := "TrailGuide$Drifted", name := "cost", desc := "()I" } : Jvm.MethodName)) ∈ lw_tbl := lw_at lw_m6 146 rfl
theorem q1437 : (Jvm.Cond.code ({ cls := "TrailGuide$Drifted", name := "cost", desc := "()I" } : Jvm.MethodName) prog_4_method_3_code (1 : Nat) (Option.some Jvm.ClassFile.FieldType.int)) ∈ lw_all := lw_g (lw_at lw_m6 147 rfl) rfl
theorem q1459 : (Jvm.Cond.instanceMethod ({ cls := "TrailGuide$Drifted", name := "isNew", desc := "()Z" } : Jvm.MethodName)) ∈ lw_all := lw_g (lw_at lw_m6 169 rfl) rfl
theorem q1460 : (Jvm.Cond.selects "TrailGuide$Drifted" ({ cls := "TrailGuide$Drifted", name := "isNew", desc := "()Z" } : Jvm.MethodName) ({ cls := "TrailGuide$Drifted", name := "isNew", desc := "()Z" } : Jvm.MethodName)) ∈ lw_all := lw_g (lw_at lw_m6 170 rfl) rfl
theorem q1461 : (Jvm.Cond.code ({ cls := "TrailGuide$Drifted", name := "isNew", desc := "()Z" } : Jvm.MethodName) prog_4_method_7_code (1 : Nat) (Option.some Jvm.ClassFile.FieldType.boolean)) ∈ lw_all := lw_g (lw_at lw_m6 171 rfl) rfl
theorem q1674 : (Jvm.Cond.selects "TrailGuide$Drifted" ({ cls := "TrailGuide$Event", name := "letter", desc := "()C" } : Jvm.MethodName) ({ cls := "TrailGuide$Drifted", name := "letter", desc := "()C" } : Jvm.MethodName)) ∈ lw_all := lw_g (lw_at lw_m7 144 rfl) rfl
theorem q1675 : (Jvm.Cond.unhidden "TrailGuide$Drifted" "letter" "()C") ∈ lw_tbl := lw_at lw_m7 145 rfl
theorem q1676 : (Jvm.Cond.instanceMethod ({ cls := "TrailGuide$Drifted", name := "letter", desc := "()C" } : Jvm.MethodName)) ∈ lw_all := lw_g (lw_at lw_m7 146 rfl) rfl
theorem q1677 : (Jvm.Cond.publicMethod ({ cls := "TrailGuide$Drifted", name := "letter", desc := "()C" } : Jvm.MethodName)) ∈ lw_tbl := lw_at lw_m7 147 rfl
theorem q1678 : (Jvm.Cond.code ({ cls := "TrailGuide$Drifted", name := "letter", desc := "()C" } : Jvm.MethodName) prog_4_method_2_code (1 : Nat) (Option.some Jvm.ClassFile.FieldType.char)) ∈ lw_all := lw_g (lw_at lw_m7 148 rfl) rfl
theorem q2645 : (Jvm.Cond.castable "TrailGuide$Drifted" "java/lang/Object") ∈ lw_tbl := lw_at lw_m11 155 rfl
theorem in_X10 : ∀ w ∈ wsX100, w ∈ lw_all := lw_in wsX100 [1414] (by decide +kernel) (by decide +kernel)
/-! TrailGuide$Quiet -/
def RX11 : String := "TrailGuide$Quiet"
abbrev cX11_init : ByteArray := prog_9_method_1_code
def yX11_init : MethodName := ⟨RX11, "<init>", "()V"⟩
abbrev cX11_cost : ByteArray := prog_9_method_3_code
def yX11_cost : MethodName := ⟨RX11, "cost", "()I"⟩
abbrev cX11_letter : ByteArray := prog_9_method_2_code
def yX11_letter : MethodName := ⟨RX11, "letter", "()C"⟩
theorem q129 : (Jvm.Cond.initialized "TrailGuide$Quiet") ∈ lw_all := lw_g (lw_at lw_m1 39 rfl) rfl
theorem q985 : (Jvm.Cond.selects "TrailGuide$Quiet" ({ cls := "java/lang/Object", name := "getClass", desc := "()Ljava/lang/Class;" } : Jvm.MethodName) ({ cls := "java/lang/Object", name := "getClass", desc := "()Ljava/lang/Class;" } : Jvm.MethodName)) ∈ lw_all := lw_g (lw_at lw_m4 175 rfl) rfl
theorem q1418 : (Jvm.Cond.instantiable "TrailGuide$Quiet" (0 : Nat)) ∈ lw_all := lw_g (lw_at lw_m6 128 rfl) rfl
theorem q1420 : (Jvm.Cond.instanceMethod ({ cls := "TrailGuide$Quiet", name := "<init>", desc := "()V" } : Jvm.MethodName)) ∈ lw_all := lw_g (lw_at lw_m6 130 rfl) rfl
theorem q1421 : (Jvm.Cond.code ({ cls := "TrailGuide$Quiet", name := "<init>", desc := "()V" } : Jvm.MethodName) prog_9_method_1_code (1 : Nat) (Option.none : Option Jvm.ClassFile.FieldType)) ∈ lw_all := lw_g (lw_at lw_m6 131 rfl) rfl
theorem q1422 : (Jvm.Cond.methodLink "TrailGuide$Quiet" (1 : Nat) ({ cls := "java/lang/Record", name := "<init>", desc := "()V" } : Jvm.MethodName)) ∈ lw_all := lw_g (lw_at lw_m6 132 rfl) rfl
theorem q1423 : (Jvm.Cond.superclass "TrailGuide$Quiet" "java/lang/Record") ∈ lw_all := lw_g (lw_at lw_m6 133 rfl) rfl
theorem q1438 : (Jvm.Cond.castable "TrailGuide$Quiet" "TrailGuide$Event") ∈ lw_tbl := lw_at lw_m6 148 rfl
theorem q1439 : (Jvm.Cond.selects "TrailGuide$Quiet" ({ cls := "TrailGuide$Event", name := "cost", desc := "()I" } : Jvm.MethodName) ({ cls := "TrailGuide$Quiet", name := "cost", desc := "()I" } : Jvm.MethodName)) ∈ lw_all := lw_g (lw_at lw_m6 149 rfl) rfl
theorem q1440 : (Jvm.Cond.unhidden "TrailGuide$Quiet" "cost" "()I") ∈ lw_tbl := lw_at lw_m6 150 rfl
theorem q1441 : (Jvm.Cond.instanceMethod ({ cls := "TrailGuide$Quiet", name := "cost", desc := "()I" } : Jvm.MethodName)) ∈ lw_all := lw_g (lw_at lw_m6 151 rfl) rfl
theorem q1442 : (Jvm.Cond.publicMethod ({ cls := "TrailGuide$Quiet", name := "cost", desc := "()I" } : Jvm.MethodName)) ∈ lw_tbl := lw_at lw_m6 152 rfl
theorem q1443 : (Jvm.Cond.code ({ cls := "TrailGuide$Quiet", name := "cost", desc := "()I" } : Jvm.MethodName) prog_9_method_3_code (1 : Nat) (Option.some Jvm.ClassFile.FieldType.int)) ∈ lw_all := lw_g (lw_at lw_m6 153 rfl) rfl
theorem q1679 : (Jvm.Cond.selects "TrailGuide$Quiet" ({ cls := "TrailGuide$Event", name := "letter", desc := "()C" } : Jvm.MethodName) ({ cls := "TrailGuide$Quiet", name := "letter", desc := "()C" } : Jvm.MethodName)) ∈ lw_all := lw_g (lw_at lw_m7 149 rfl) rfl
theorem q1680 : (Jvm.Cond.unhidden "TrailGuide$Quiet" "letter" "()C") ∈ lw_tbl := lw_at lw_m7 150 rfl
theorem q1681 : (Jvm.Cond.instanceMethod ({ cls := "TrailGuide$Quiet", name := "letter", desc := "()C" } : Jvm.MethodName)) ∈ lw_all := lw_g (lw_at lw_m7 151 rfl) rfl
theorem q1682 : (Jvm.Cond.publicMethod ({ cls := "TrailGuide$Quiet", name := "letter", desc := "()C" } : Jvm.MethodName)) ∈ lw_tbl := lw_at lw_m7 152 rfl
theorem q1683 : (Jvm.Cond.code ({ cls := "TrailGuide$Quiet", name := "letter", desc := "()C" } : Jvm.MethodName) prog_9_method_2_code (1 : Nat) (Option.some Jvm.ClassFile.FieldType.char)) ∈ lw_all := lw_g (lw_at lw_m7 153 rfl) rfl
theorem q2646 : (Jvm.Cond.castable "TrailGuide$Quiet" "java/lang/Object") ∈ lw_tbl := lw_at lw_m11 156 rfl
/-! TrailGuide$Turn -/
def RX12 : String := "TrailGuide$Turn"
abbrev cX12_between : ByteArray := prog_16_method_5_code
def yX12_between : MethodName := ⟨RX12, "between", "(LTrailGuide$Point;LTrailGuide$Point;)LTrailGuide$Turn;"⟩
theorem q130 : (Jvm.Cond.initialized "TrailGuide$Turn") ∈ lw_all := lw_g (lw_at lw_m1 40 rfl) rfl
theorem q880 : (Jvm.Cond.static ({ cls := "TrailGuide$Turn", name := "between", desc := "(LTrailGuide$Point;LTrailGuide$Point;)LTrailGuide$Turn;" } : Jvm.MethodName)) ∈ lw_all := lw_g (lw_at lw_m4 70 rfl) rfl
theorem q881 : (Jvm.Cond.code ({ cls := "TrailGuide$Turn", name := "between", desc := "(LTrailGuide$Point;LTrailGuide$Point;)LTrailGuide$Turn;" } : Jvm.MethodName) prog_16_method_5_code (4 : Nat) (Option.some (Jvm.ClassFile.FieldType.object "TrailGuide$Turn"))) ∈ lw_all := lw_g (lw_at lw_m4 71 rfl) rfl
theorem q882 : (Jvm.Cond.methodLink "TrailGuide$Turn" (35 : Nat) ({ cls := "TrailGuide$Point", name := "cross", desc := "(LTrailGuide$Point;)J" } : Jvm.MethodName)) ∈ lw_all := lw_g (lw_at lw_m4 72 rfl) rfl
theorem q886 : (Jvm.Cond.fieldLink "TrailGuide$Turn" (3 : Nat) "TrailGuide$Turn" "LEFT" "LTrailGuide$Turn;") ∈ lw_all := lw_g (lw_at lw_m4 76 rfl) rfl
theorem q887 : (Jvm.Cond.laysStatic "TrailGuide$Turn" "LEFT" "LTrailGuide$Turn;") ∈ lw_tbl := lw_at lw_m4 77 rfl
theorem q888 : (Jvm.Cond.fieldLink "TrailGuide$Turn" (7 : Nat) "TrailGuide$Turn" "RIGHT" "LTrailGuide$Turn;") ∈ lw_all := lw_g (lw_at lw_m4 78 rfl) rfl
theorem q889 : (Jvm.Cond.laysStatic "TrailGuide$Turn" "RIGHT" "LTrailGuide$Turn;") ∈ lw_tbl := lw_at lw_m4 79 rfl
theorem q890 : (Jvm.Cond.methodLink "TrailGuide$Turn" (41 : Nat) ({ cls := "TrailGuide$Point", name := "dot", desc := "(LTrailGuide$Point;)J" } : Jvm.MethodName)) ∈ lw_all := lw_g (lw_at lw_m4 80 rfl) rfl
theorem q894 : (Jvm.Cond.fieldLink "TrailGuide$Turn" (10 : Nat) "TrailGuide$Turn" "STRAIGHT" "LTrailGuide$Turn;") ∈ lw_all := lw_g (lw_at lw_m4 84 rfl) rfl
theorem q895 : (Jvm.Cond.laysStatic "TrailGuide$Turn" "STRAIGHT" "LTrailGuide$Turn;") ∈ lw_tbl := lw_at lw_m4 85 rfl
theorem q896 : (Jvm.Cond.fieldLink "TrailGuide$Turn" (13 : Nat) "TrailGuide$Turn" "BACK" "LTrailGuide$Turn;") ∈ lw_all := lw_g (lw_at lw_m4 86 rfl) rfl
theorem q897 : (Jvm.Cond.laysStatic "TrailGuide$Turn" "BACK" "LTrailGuide$Turn;") ∈ lw_tbl := lw_at lw_m4 87 rfl
theorem q899 : (Jvm.Cond.declares ({ cls := "TrailGuide$Turn", name := "letter", desc := "()C" } : Jvm.MethodName)) ∈ lw_tbl := lw_at lw_m4 89 rfl
theorem q900 : (Jvm.Cond.sameMethod "TrailGuide$Turn" "TrailGuide$Turn" "letter" "()C") ∈ lw_all := lw_g (lw_at lw_m4 90 rfl) rfl
theorem q2661 : (Jvm.Cond.castable "TrailGuide$Turn" "java/lang/Object") ∈ lw_tbl := lw_at lw_m11 171 rfl
/-! TrailGuide$Parser -/
def RX13 : String := "TrailGuide$Parser"
def TX13 : u_T := fun k => match k with
  | 0 => ("TrailGuide$Parser", "position", "I", false)
  | _ => ("TrailGuide$Parser", "this$0", "LTrailGuide;", true)
def tyX13 : Nat → FieldType := fun k => match k with
  | 0 => .int
  | _ => .object "TrailGuide"
abbrev wsX130 : List Cond := u_ws RX13 TX13 2
theorem nmX13 : ∀ a, a < 2 → ∀ b, b < 2 → a ≠ b → (TX13 a).2.1 ≠ (TX13 b).2.1 := by decide +kernel
theorem tyX13_ok : ∀ k, k < 2 → parseFieldDescriptor (TX13 k).2.2.1 = some (tyX13 k) := by decide +kernel
abbrev cX13_init : ByteArray := prog_7_method_1_code
def yX13_init : MethodName := ⟨RX13, "<init>", "(LTrailGuide;)V"⟩
abbrev cX13_program : ByteArray := prog_7_method_18_code
def yX13_program : MethodName := ⟨RX13, "program", "()Ljava/util/ArrayList;"⟩
abbrev cX13_command : ByteArray := prog_7_method_17_code
def yX13_command : MethodName := ⟨RX13, "command", "()LTrailGuide$Command;"⟩
abbrev cX13_peekAt : ByteArray := prog_7_method_3_code
def yX13_peekAt : MethodName := ⟨RX13, "peekAt", "(I)I"⟩
abbrev cX13_require : ByteArray := prog_7_method_2_code
def yX13_require : MethodName := ⟨RX13, "require", "(Z)V"⟩
abbrev cX13_pointed : ByteArray := prog_7_method_11_code
def yX13_pointed : MethodName := ⟨RX13, "pointed", "()LTrailGuide$Command;"⟩
abbrev cX13_numberAfter : ByteArray := prog_7_method_9_code
def yX13_numberAfter : MethodName := ⟨RX13, "numberAfter", "(Ljava/lang/String;)I"⟩
abbrev cX13_expect : ByteArray := prog_7_method_5_code
def yX13_expect : MethodName := ⟨RX13, "expect", "(Ljava/lang/String;)V"⟩
abbrev cX13_accept : ByteArray := prog_7_method_4_code
def yX13_accept : MethodName := ⟨RX13, "accept", "(C)Z"⟩
abbrev cX13_number : ByteArray := prog_7_method_8_code
def yX13_number : MethodName := ⟨RX13, "number", "()I"⟩
abbrev cX13_digit : ByteArray := prog_7_method_7_code
def yX13_digit : MethodName := ⟨RX13, "digit", "()I"⟩
abbrev cX13_isDigit : ByteArray := prog_7_method_6_code
def yX13_isDigit : MethodName := ⟨RX13, "isDigit", "()Z"⟩
abbrev cX13_lambda_pointed_0 : ByteArray := prog_7_method_27_code
def yX13_lambda_pointed_0 : MethodName := ⟨RX13, "lambda$pointed$0", "(IIILTrailGuide$State;)I"⟩
abbrev cX13_trailOrTour : ByteArray := prog_7_method_12_code
def yX13_trailOrTour : MethodName := ⟨RX13, "trailOrTour", "()LTrailGuide$Command;"⟩
abbrev cX13_lambda_trailOrTour_1 : ByteArray := prog_7_method_26_code
def yX13_lambda_trailOrTour_1 : MethodName := ⟨RX13, "lambda$trailOrTour$1", "(IIILTrailGuide$State;)I"⟩
abbrev cX13_lambda_trailOrTour_2 : ByteArray := prog_7_method_25_code
def yX13_lambda_trailOrTour_2 : MethodName := ⟨RX13, "lambda$trailOrTour$2", "(IILTrailGuide$State;)I"⟩
abbrev cX13_cutOrCharge : ByteArray := prog_7_method_13_code
def yX13_cutOrCharge : MethodName := ⟨RX13, "cutOrCharge", "()LTrailGuide$Command;"⟩
abbrev cX13_lambda_cutOrCharge_3 : ByteArray := prog_7_method_24_code
def yX13_lambda_cutOrCharge_3 : MethodName := ⟨RX13, "lambda$cutOrCharge$3", "(IILTrailGuide$State;)I"⟩
abbrev cX13_lambda_cutOrCharge_4 : ByteArray := prog_7_method_23_code
def yX13_lambda_cutOrCharge_4 : MethodName := ⟨RX13, "lambda$cutOrCharge$4", "(ILTrailGuide$State;)I"⟩
abbrev cX13_modeOrMove : ByteArray := prog_7_method_14_code
def yX13_modeOrMove : MethodName := ⟨RX13, "modeOrMove", "()LTrailGuide$Command;"⟩
abbrev cX13_mode : ByteArray := prog_7_method_10_code
def yX13_mode : MethodName := ⟨RX13, "mode", "()I"⟩
abbrev cX13_lambda_modeOrMove_5 : ByteArray := prog_7_method_22_code
def yX13_lambda_modeOrMove_5 : MethodName := ⟨RX13, "lambda$modeOrMove$5", "(ILTrailGuide$State;)I"⟩
abbrev cX13_lambda_modeOrMove_6 : ByteArray := prog_7_method_21_code
def yX13_lambda_modeOrMove_6 : MethodName := ⟨RX13, "lambda$modeOrMove$6", "(IILTrailGuide$State;)I"⟩
abbrev cX13_limited : ByteArray := prog_7_method_15_code
def yX13_limited : MethodName := ⟨RX13, "limited", "()LTrailGuide$Command;"⟩
abbrev cX13_lambda_limited_7 : ByteArray := prog_7_method_20_code
def yX13_lambda_limited_7 : MethodName := ⟨RX13, "lambda$limited$7", "(ILTrailGuide$State;)I"⟩
abbrev cX13_stopped : ByteArray := prog_7_method_16_code
def yX13_stopped : MethodName := ⟨RX13, "stopped", "()LTrailGuide$Command;"⟩
abbrev cX13_lambda_stopped_8 : ByteArray := prog_7_method_19_code
def yX13_lambda_stopped_8 : MethodName := ⟨RX13, "lambda$stopped$8", "(LTrailGuide$State;)I"⟩
theorem q133 : (Jvm.Cond.initialized "TrailGuide$Parser") ∈ lw_all := lw_g (lw_at lw_m1 43 rfl) rfl
theorem q278 : (Jvm.Cond.fieldLinkNest "TrailGuide$Parser" (27 : Nat) "TrailGuide" "text" "[C" "TrailGuide") ∈ lw_tbl := lw_at lw_m1 188 rfl
theorem q280 : (Jvm.Cond.fieldLinkNest "TrailGuide$Parser" (24 : Nat) "TrailGuide" "textLength" "I" "TrailGuide") ∈ lw_tbl := lw_at lw_m1 190 rfl
theorem q983 : (Jvm.Cond.selects "TrailGuide$Parser" ({ cls := "java/lang/Object", name := "getClass", desc := "()Ljava/lang/Class;" } : Jvm.MethodName) ({ cls := "java/lang/Object", name := "getClass", desc := "()Ljava/lang/Class;" } : Jvm.MethodName)) ∈ lw_all := lw_g (lw_at lw_m4 173 rfl) rfl
theorem q1775 : (Jvm.Cond.instantiable "TrailGuide$Parser" (2 : Nat)) ∈ lw_all := lw_g (lw_at lw_m8 5 rfl) rfl
theorem q1777 : (Jvm.Cond.instanceMethod ({ cls := "TrailGuide$Parser", name := "<init>", desc := "(LTrailGuide;)V" } : Jvm.MethodName)) ∈ lw_all := lw_g (lw_at lw_m8 7 rfl) rfl
theorem q1778 : (Jvm.Cond.code ({ cls := "TrailGuide$Parser", name := "<init>", desc := "(LTrailGuide;)V" } : Jvm.MethodName) prog_7_method_1_code (2 : Nat) (Option.none : Option Jvm.ClassFile.FieldType)) ∈ lw_all := lw_g (lw_at lw_m8 8 rfl) rfl
theorem q1779 : (Jvm.Cond.methodLink "TrailGuide$Parser" (9 : Nat) ({ cls := "java/lang/Object", name := "<init>", desc := "()V" } : Jvm.MethodName)) ∈ lw_all := lw_g (lw_at lw_m8 9 rfl) rfl
theorem q1780 : (Jvm.Cond.fieldLink "TrailGuide$Parser" (17 : Nat) "TrailGuide$Parser" "position" "I") ∈ lw_all := lw_g (lw_at lw_m8 10 rfl) rfl
theorem q1781 : (Jvm.Cond.fieldLink "TrailGuide$Parser" (3 : Nat) "TrailGuide$Parser" "this$0" "LTrailGuide;") ∈ lw_all := lw_g (lw_at lw_m8 11 rfl) rfl
theorem q1782 : (Jvm.Cond.lays "TrailGuide$Parser" "TrailGuide$Parser" "position" "I") ∈ lw_all := lw_g (lw_at lw_m8 12 rfl) rfl
theorem q1783 : (Jvm.Cond.soleField "TrailGuide$Parser" "position") ∈ lw_all := lw_g (lw_at lw_m8 13 rfl) rfl
theorem q1784 : (Jvm.Cond.laysFinal "TrailGuide$Parser" "TrailGuide$Parser" "this$0" "LTrailGuide;") ∈ lw_all := lw_g (lw_at lw_m8 14 rfl) rfl
theorem q1785 : (Jvm.Cond.soleField "TrailGuide$Parser" "this$0") ∈ lw_all := lw_g (lw_at lw_m8 15 rfl) rfl
theorem q1786 : (Jvm.Cond.superclass "TrailGuide$Parser" "java/lang/Object") ∈ lw_all := lw_g (lw_at lw_m8 16 rfl) rfl
theorem q1788 : (Jvm.Cond.instanceMethod ({ cls := "TrailGuide$Parser", name := "program", desc := "()Ljava/util/ArrayList;" } : Jvm.MethodName)) ∈ lw_all := lw_g (lw_at lw_m8 18 rfl) rfl
theorem q1789 : (Jvm.Cond.selects "TrailGuide$Parser" ({ cls := "TrailGuide$Parser", name := "program", desc := "()Ljava/util/ArrayList;" } : Jvm.MethodName) ({ cls := "TrailGuide$Parser", name := "program", desc := "()Ljava/util/ArrayList;" } : Jvm.MethodName)) ∈ lw_all := lw_g (lw_at lw_m8 19 rfl) rfl
theorem q1790 : (Jvm.Cond.code ({ cls := "TrailGuide$Parser", name := "program", desc := "()Ljava/util/ArrayList;" } : Jvm.MethodName) prog_7_method_18_code (3 : Nat) (Option.some (Jvm.ClassFile.FieldType.object "java/util/ArrayList"))) ∈ lw_all := lw_g (lw_at lw_m8 20 rfl) rfl
theorem q1791 : (Jvm.Cond.classLink "TrailGuide$Parser" (166 : Nat) "java/util/ArrayList") ∈ lw_all := lw_g (lw_at lw_m8 21 rfl) rfl
theorem q1792 : (Jvm.Cond.methodLink "TrailGuide$Parser" (168 : Nat) ({ cls := "java/util/ArrayList", name := "<init>", desc := "()V" } : Jvm.MethodName)) ∈ lw_all := lw_g (lw_at lw_m8 22 rfl) rfl
theorem q1793 : (Jvm.Cond.methodLink "TrailGuide$Parser" (169 : Nat) ({ cls := "TrailGuide$Parser", name := "command", desc := "()LTrailGuide$Command;" } : Jvm.MethodName)) ∈ lw_all := lw_g (lw_at lw_m8 23 rfl) rfl
theorem q1794 : (Jvm.Cond.privateMethod ({ cls := "TrailGuide$Parser", name := "command", desc := "()LTrailGuide$Command;" } : Jvm.MethodName)) ∈ lw_tbl := lw_at lw_m8 24 rfl
theorem q1795 : (Jvm.Cond.instanceMethod ({ cls := "TrailGuide$Parser", name := "command", desc := "()LTrailGuide$Command;" } : Jvm.MethodName)) ∈ lw_all := lw_g (lw_at lw_m8 25 rfl) rfl
theorem q1796 : (Jvm.Cond.code ({ cls := "TrailGuide$Parser", name := "command", desc := "()LTrailGuide$Command;" } : Jvm.MethodName) prog_7_method_17_code (2 : Nat) (Option.some (Jvm.ClassFile.FieldType.object "TrailGuide$Command"))) ∈ lw_all := lw_g (lw_at lw_m8 26 rfl) rfl
theorem q1797 : (Jvm.Cond.methodLink "TrailGuide$Parser" (31 : Nat) ({ cls := "TrailGuide$Parser", name := "peekAt", desc := "(I)I" } : Jvm.MethodName)) ∈ lw_all := lw_g (lw_at lw_m8 27 rfl) rfl
theorem q1798 : (Jvm.Cond.privateMethod ({ cls := "TrailGuide$Parser", name := "peekAt", desc := "(I)I" } : Jvm.MethodName)) ∈ lw_tbl := lw_at lw_m8 28 rfl
theorem q1799 : (Jvm.Cond.instanceMethod ({ cls := "TrailGuide$Parser", name := "peekAt", desc := "(I)I" } : Jvm.MethodName)) ∈ lw_all := lw_g (lw_at lw_m8 29 rfl) rfl
theorem q1800 : (Jvm.Cond.code ({ cls := "TrailGuide$Parser", name := "peekAt", desc := "(I)I" } : Jvm.MethodName) prog_7_method_3_code (2 : Nat) (Option.some Jvm.ClassFile.FieldType.int)) ∈ lw_all := lw_g (lw_at lw_m8 30 rfl) rfl
theorem q1801 : (Jvm.Cond.stringRef "TrailGuide$Parser" (142 : Nat) "ptcmls") ∈ lw_tbl := lw_at lw_m8 31 rfl
theorem q1802 : (Jvm.Cond.methodLink "TrailGuide$Parser" (144 : Nat) ({ cls := "java/lang/String", name := "indexOf", desc := "(I)I" } : Jvm.MethodName)) ∈ lw_all := lw_g (lw_at lw_m8 32 rfl) rfl
theorem q1852 : (Jvm.Cond.methodLink "TrailGuide$Parser" (49 : Nat) ({ cls := "TrailGuide$Parser", name := "require", desc := "(Z)V" } : Jvm.MethodName)) ∈ lw_all := lw_g (lw_at lw_m8 82 rfl) rfl
theorem q1853 : (Jvm.Cond.privateMethod ({ cls := "TrailGuide$Parser", name := "require", desc := "(Z)V" } : Jvm.MethodName)) ∈ lw_tbl := lw_at lw_m8 83 rfl
theorem q1854 : (Jvm.Cond.instanceMethod ({ cls := "TrailGuide$Parser", name := "require", desc := "(Z)V" } : Jvm.MethodName)) ∈ lw_all := lw_g (lw_at lw_m8 84 rfl) rfl
theorem q1855 : (Jvm.Cond.code ({ cls := "TrailGuide$Parser", name := "require", desc := "(Z)V" } : Jvm.MethodName) prog_7_method_2_code (2 : Nat) (Option.none : Option Jvm.ClassFile.FieldType)) ∈ lw_all := lw_g (lw_at lw_m8 85 rfl) rfl
theorem q1856 : (Jvm.Cond.classLink "TrailGuide$Parser" (15 : Nat) "TrailGuide$SyntaxException") ∈ lw_all := lw_g (lw_at lw_m8 86 rfl) rfl
theorem q1865 : (Jvm.Cond.methodLink "TrailGuide$Parser" (21 : Nat) ({ cls := "TrailGuide$SyntaxException", name := "<init>", desc := "(I)V" } : Jvm.MethodName)) ∈ lw_all := lw_g (lw_at lw_m8 95 rfl) rfl
theorem q1880 : (Jvm.Cond.methodLink "TrailGuide$Parser" (147 : Nat) ({ cls := "TrailGuide$Parser", name := "pointed", desc := "()LTrailGuide$Command;" } : Jvm.MethodName)) ∈ lw_all := lw_g (lw_at lw_m8 110 rfl) rfl
theorem q1881 : (Jvm.Cond.privateMethod ({ cls := "TrailGuide$Parser", name := "pointed", desc := "()LTrailGuide$Command;" } : Jvm.MethodName)) ∈ lw_tbl := lw_at lw_m8 111 rfl
theorem q1882 : (Jvm.Cond.instanceMethod ({ cls := "TrailGuide$Parser", name := "pointed", desc := "()LTrailGuide$Command;" } : Jvm.MethodName)) ∈ lw_all := lw_g (lw_at lw_m8 112 rfl) rfl
theorem q1883 : (Jvm.Cond.code ({ cls := "TrailGuide$Parser", name := "pointed", desc := "()LTrailGuide$Command;" } : Jvm.MethodName) prog_7_method_11_code (4 : Nat) (Option.some (Jvm.ClassFile.FieldType.object "TrailGuide$Command"))) ∈ lw_all := lw_g (lw_at lw_m8 113 rfl) rfl
theorem q1884 : (Jvm.Cond.stringRef "TrailGuide$Parser" (84 : Nat) "oint ") ∈ lw_tbl := lw_at lw_m8 114 rfl
theorem q1885 : (Jvm.Cond.methodLink "TrailGuide$Parser" (86 : Nat) ({ cls := "TrailGuide$Parser", name := "numberAfter", desc := "(Ljava/lang/String;)I" } : Jvm.MethodName)) ∈ lw_all := lw_g (lw_at lw_m8 115 rfl) rfl
theorem q1886 : (Jvm.Cond.privateMethod ({ cls := "TrailGuide$Parser", name := "numberAfter", desc := "(Ljava/lang/String;)I" } : Jvm.MethodName)) ∈ lw_tbl := lw_at lw_m8 116 rfl
theorem q1887 : (Jvm.Cond.instanceMethod ({ cls := "TrailGuide$Parser", name := "numberAfter", desc := "(Ljava/lang/String;)I" } : Jvm.MethodName)) ∈ lw_all := lw_g (lw_at lw_m8 117 rfl) rfl
theorem q1888 : (Jvm.Cond.code ({ cls := "TrailGuide$Parser", name := "numberAfter", desc := "(Ljava/lang/String;)I" } : Jvm.MethodName) prog_7_method_9_code (2 : Nat) (Option.some Jvm.ClassFile.FieldType.int)) ∈ lw_all := lw_g (lw_at lw_m8 118 rfl) rfl
theorem q1889 : (Jvm.Cond.methodLink "TrailGuide$Parser" (64 : Nat) ({ cls := "TrailGuide$Parser", name := "expect", desc := "(Ljava/lang/String;)V" } : Jvm.MethodName)) ∈ lw_all := lw_g (lw_at lw_m8 119 rfl) rfl
theorem q1890 : (Jvm.Cond.privateMethod ({ cls := "TrailGuide$Parser", name := "expect", desc := "(Ljava/lang/String;)V" } : Jvm.MethodName)) ∈ lw_tbl := lw_at lw_m8 120 rfl
theorem q1891 : (Jvm.Cond.instanceMethod ({ cls := "TrailGuide$Parser", name := "expect", desc := "(Ljava/lang/String;)V" } : Jvm.MethodName)) ∈ lw_all := lw_g (lw_at lw_m8 121 rfl) rfl
theorem q1892 : (Jvm.Cond.code ({ cls := "TrailGuide$Parser", name := "expect", desc := "(Ljava/lang/String;)V" } : Jvm.MethodName) prog_7_method_5_code (3 : Nat) (Option.none : Option Jvm.ClassFile.FieldType)) ∈ lw_all := lw_g (lw_at lw_m8 122 rfl) rfl
theorem q1893 : (Jvm.Cond.methodLink "TrailGuide$Parser" (35 : Nat) ({ cls := "java/lang/String", name := "length", desc := "()I" } : Jvm.MethodName)) ∈ lw_all := lw_g (lw_at lw_m8 123 rfl) rfl
theorem q1894 : (Jvm.Cond.methodLink "TrailGuide$Parser" (41 : Nat) ({ cls := "java/lang/String", name := "charAt", desc := "(I)C" } : Jvm.MethodName)) ∈ lw_all := lw_g (lw_at lw_m8 124 rfl) rfl
theorem q1905 : (Jvm.Cond.methodLink "TrailGuide$Parser" (45 : Nat) ({ cls := "TrailGuide$Parser", name := "accept", desc := "(C)Z" } : Jvm.MethodName)) ∈ lw_all := lw_g (lw_at lw_m8 135 rfl) rfl
theorem q1906 : (Jvm.Cond.privateMethod ({ cls := "TrailGuide$Parser", name := "accept", desc := "(C)Z" } : Jvm.MethodName)) ∈ lw_tbl := lw_at lw_m8 136 rfl
theorem q1907 : (Jvm.Cond.instanceMethod ({ cls := "TrailGuide$Parser", name := "accept", desc := "(C)Z" } : Jvm.MethodName)) ∈ lw_all := lw_g (lw_at lw_m8 137 rfl) rfl
theorem q1908 : (Jvm.Cond.code ({ cls := "TrailGuide$Parser", name := "accept", desc := "(C)Z" } : Jvm.MethodName) prog_7_method_4_code (3 : Nat) (Option.some Jvm.ClassFile.FieldType.boolean)) ∈ lw_all := lw_g (lw_at lw_m8 138 rfl) rfl
theorem q1909 : (Jvm.Cond.methodLink "TrailGuide$Parser" (68 : Nat) ({ cls := "TrailGuide$Parser", name := "number", desc := "()I" } : Jvm.MethodName)) ∈ lw_all := lw_g (lw_at lw_m8 139 rfl) rfl
theorem q1910 : (Jvm.Cond.privateMethod ({ cls := "TrailGuide$Parser", name := "number", desc := "()I" } : Jvm.MethodName)) ∈ lw_tbl := lw_at lw_m8 140 rfl
theorem q1911 : (Jvm.Cond.instanceMethod ({ cls := "TrailGuide$Parser", name := "number", desc := "()I" } : Jvm.MethodName)) ∈ lw_all := lw_g (lw_at lw_m8 141 rfl) rfl
theorem q1912 : (Jvm.Cond.code ({ cls := "TrailGuide$Parser", name := "number", desc := "()I" } : Jvm.MethodName) prog_7_method_8_code (3 : Nat) (Option.some Jvm.ClassFile.FieldType.int)) ∈ lw_all := lw_g (lw_at lw_m8 142 rfl) rfl
theorem q1913 : (Jvm.Cond.methodLink "TrailGuide$Parser" (61 : Nat) ({ cls := "TrailGuide$Parser", name := "digit", desc := "()I" } : Jvm.MethodName)) ∈ lw_all := lw_g (lw_at lw_m8 143 rfl) rfl
theorem q1914 : (Jvm.Cond.privateMethod ({ cls := "TrailGuide$Parser", name := "digit", desc := "()I" } : Jvm.MethodName)) ∈ lw_tbl := lw_at lw_m8 144 rfl
theorem q1915 : (Jvm.Cond.instanceMethod ({ cls := "TrailGuide$Parser", name := "digit", desc := "()I" } : Jvm.MethodName)) ∈ lw_all := lw_g (lw_at lw_m8 145 rfl) rfl
theorem q1916 : (Jvm.Cond.code ({ cls := "TrailGuide$Parser", name := "digit", desc := "()I" } : Jvm.MethodName) prog_7_method_7_code (1 : Nat) (Option.some Jvm.ClassFile.FieldType.int)) ∈ lw_all := lw_g (lw_at lw_m8 146 rfl) rfl
theorem q1917 : (Jvm.Cond.methodLink "TrailGuide$Parser" (57 : Nat) ({ cls := "TrailGuide$Parser", name := "isDigit", desc := "()Z" } : Jvm.MethodName)) ∈ lw_all := lw_g (lw_at lw_m8 147 rfl) rfl
theorem q1918 : (Jvm.Cond.privateMethod ({ cls := "TrailGuide$Parser", name := "isDigit", desc := "()Z" } : Jvm.MethodName)) ∈ lw_tbl := lw_at lw_m8 148 rfl
theorem q1919 : (Jvm.Cond.instanceMethod ({ cls := "TrailGuide$Parser", name := "isDigit", desc := "()Z" } : Jvm.MethodName)) ∈ lw_all := lw_g (lw_at lw_m8 149 rfl) rfl
theorem q1920 : (Jvm.Cond.code ({ cls := "TrailGuide$Parser", name := "isDigit", desc := "()Z" } : Jvm.MethodName) prog_7_method_6_code (1 : Nat) (Option.some Jvm.ClassFile.FieldType.boolean)) ∈ lw_all := lw_g (lw_at lw_m8 150 rfl) rfl
theorem q1921 : (Jvm.Cond.methodLinkNest "TrailGuide$Parser" (53 : Nat) ({ cls := "TrailGuide", name := "inRange", desc := "(III)Z" } : Jvm.MethodName) "TrailGuide") ∈ lw_tbl := lw_at lw_m8 151 rfl
theorem q1922 : (Jvm.Cond.stringRef "TrailGuide$Parser" (90 : Nat) ",") ∈ lw_tbl := lw_at lw_m8 152 rfl
theorem q1923 : (Jvm.Cond.classLink "TrailGuide$Parser" (92 : Nat) "TrailGuide$Command") ∈ lw_all := lw_g (lw_at lw_m8 153 rfl) rfl
theorem q1925 : (Jvm.Cond.static ({ cls := "TrailGuide$Parser", name := "lambda$pointed$0", desc := "(IIILTrailGuide$State;)I" } : Jvm.MethodName)) ∈ lw_all := lw_g (lw_at lw_m8 155 rfl) rfl
theorem q1926 : (Jvm.Cond.code ({ cls := "TrailGuide$Parser", name := "lambda$pointed$0", desc := "(IIILTrailGuide$State;)I" } : Jvm.MethodName) prog_7_method_27_code (4 : Nat) (Option.some Jvm.ClassFile.FieldType.int)) ∈ lw_all := lw_g (lw_at lw_m8 156 rfl) rfl
theorem q1927 : (Jvm.Cond.methodLink "TrailGuide$Parser" (204 : Nat) ({ cls := "TrailGuide$State", name := "addWaypoint", desc := "(III)I" } : Jvm.MethodName)) ∈ lw_all := lw_g (lw_at lw_m8 157 rfl) rfl
theorem q1928 : (Jvm.Cond.methodLink "TrailGuide$Parser" (98 : Nat) ({ cls := "TrailGuide$Command", name := "<init>", desc := "(LTrailGuide$Change;)V" } : Jvm.MethodName)) ∈ lw_all := lw_g (lw_at lw_m8 158 rfl) rfl
theorem q1937 : (Jvm.Cond.methodLink "TrailGuide$Parser" (151 : Nat) ({ cls := "TrailGuide$Parser", name := "trailOrTour", desc := "()LTrailGuide$Command;" } : Jvm.MethodName)) ∈ lw_all := lw_g (lw_at lw_m8 167 rfl) rfl
theorem q1938 : (Jvm.Cond.privateMethod ({ cls := "TrailGuide$Parser", name := "trailOrTour", desc := "()LTrailGuide$Command;" } : Jvm.MethodName)) ∈ lw_tbl := lw_at lw_m8 168 rfl
theorem q1939 : (Jvm.Cond.instanceMethod ({ cls := "TrailGuide$Parser", name := "trailOrTour", desc := "()LTrailGuide$Command;" } : Jvm.MethodName)) ∈ lw_all := lw_g (lw_at lw_m8 169 rfl) rfl
theorem q1940 : (Jvm.Cond.code ({ cls := "TrailGuide$Parser", name := "trailOrTour", desc := "()LTrailGuide$Command;" } : Jvm.MethodName) prog_7_method_12_code (4 : Nat) (Option.some (Jvm.ClassFile.FieldType.object "TrailGuide$Command"))) ∈ lw_all := lw_g (lw_at lw_m8 170 rfl) rfl
theorem q1941 : (Jvm.Cond.stringRef "TrailGuide$Parser" (101 : Nat) "ail ") ∈ lw_tbl := lw_at lw_m8 171 rfl
theorem q1942 : (Jvm.Cond.stringRef "TrailGuide$Parser" (103 : Nat) "-") ∈ lw_tbl := lw_at lw_m8 172 rfl
theorem q1943 : (Jvm.Cond.stringRef "TrailGuide$Parser" (105 : Nat) "=") ∈ lw_tbl := lw_at lw_m8 173 rfl
theorem q1944 : (Jvm.Cond.static ({ cls := "TrailGuide$Parser", name := "lambda$trailOrTour$1", desc := "(IIILTrailGuide$State;)I" } : Jvm.MethodName)) ∈ lw_all := lw_g (lw_at lw_m8 174 rfl) rfl
theorem q1945 : (Jvm.Cond.code ({ cls := "TrailGuide$Parser", name := "lambda$trailOrTour$1", desc := "(IIILTrailGuide$State;)I" } : Jvm.MethodName) prog_7_method_26_code (4 : Nat) (Option.some Jvm.ClassFile.FieldType.int)) ∈ lw_all := lw_g (lw_at lw_m8 175 rfl) rfl
theorem q1946 : (Jvm.Cond.methodLink "TrailGuide$Parser" (200 : Nat) ({ cls := "TrailGuide$State", name := "addTrail", desc := "(III)I" } : Jvm.MethodName)) ∈ lw_all := lw_g (lw_at lw_m8 176 rfl) rfl
theorem q1947 : (Jvm.Cond.stringRef "TrailGuide$Parser" (108 : Nat) "our ") ∈ lw_tbl := lw_at lw_m8 177 rfl
theorem q1948 : (Jvm.Cond.stringRef "TrailGuide$Parser" (110 : Nat) ">") ∈ lw_tbl := lw_at lw_m8 178 rfl
theorem q1949 : (Jvm.Cond.static ({ cls := "TrailGuide$Parser", name := "lambda$trailOrTour$2", desc := "(IILTrailGuide$State;)I" } : Jvm.MethodName)) ∈ lw_all := lw_g (lw_at lw_m8 179 rfl) rfl
theorem q1950 : (Jvm.Cond.code ({ cls := "TrailGuide$Parser", name := "lambda$trailOrTour$2", desc := "(IILTrailGuide$State;)I" } : Jvm.MethodName) prog_7_method_25_code (3 : Nat) (Option.some Jvm.ClassFile.FieldType.int)) ∈ lw_all := lw_g (lw_at lw_m8 180 rfl) rfl
theorem q1951 : (Jvm.Cond.methodLink "TrailGuide$Parser" (197 : Nat) ({ cls := "TrailGuide$State", name := "startTour", desc := "(II)I" } : Jvm.MethodName)) ∈ lw_all := lw_g (lw_at lw_m8 181 rfl) rfl
theorem q1952 : (Jvm.Cond.methodLink "TrailGuide$Parser" (154 : Nat) ({ cls := "TrailGuide$Parser", name := "cutOrCharge", desc := "()LTrailGuide$Command;" } : Jvm.MethodName)) ∈ lw_all := lw_g (lw_at lw_m8 182 rfl) rfl
theorem q1953 : (Jvm.Cond.privateMethod ({ cls := "TrailGuide$Parser", name := "cutOrCharge", desc := "()LTrailGuide$Command;" } : Jvm.MethodName)) ∈ lw_tbl := lw_at lw_m8 183 rfl
theorem q1954 : (Jvm.Cond.instanceMethod ({ cls := "TrailGuide$Parser", name := "cutOrCharge", desc := "()LTrailGuide$Command;" } : Jvm.MethodName)) ∈ lw_all := lw_g (lw_at lw_m8 184 rfl) rfl
theorem q1955 : (Jvm.Cond.code ({ cls := "TrailGuide$Parser", name := "cutOrCharge", desc := "()LTrailGuide$Command;" } : Jvm.MethodName) prog_7_method_13_code (3 : Nat) (Option.some (Jvm.ClassFile.FieldType.object "TrailGuide$Command"))) ∈ lw_all := lw_g (lw_at lw_m8 185 rfl) rfl
theorem q1956 : (Jvm.Cond.stringRef "TrailGuide$Parser" (115 : Nat) "t ") ∈ lw_tbl := lw_at lw_m8 186 rfl
theorem q1957 : (Jvm.Cond.static ({ cls := "TrailGuide$Parser", name := "lambda$cutOrCharge$3", desc := "(IILTrailGuide$State;)I" } : Jvm.MethodName)) ∈ lw_all := lw_g (lw_at lw_m8 187 rfl) rfl
theorem q1958 : (Jvm.Cond.code ({ cls := "TrailGuide$Parser", name := "lambda$cutOrCharge$3", desc := "(IILTrailGuide$State;)I" } : Jvm.MethodName) prog_7_method_24_code (3 : Nat) (Option.some Jvm.ClassFile.FieldType.int)) ∈ lw_all := lw_g (lw_at lw_m8 188 rfl) rfl
theorem q1959 : (Jvm.Cond.methodLink "TrailGuide$Parser" (194 : Nat) ({ cls := "TrailGuide$State", name := "removeTrail", desc := "(II)I" } : Jvm.MethodName)) ∈ lw_all := lw_g (lw_at lw_m8 189 rfl) rfl
theorem q1960 : (Jvm.Cond.stringRef "TrailGuide$Parser" (118 : Nat) "harge ") ∈ lw_tbl := lw_at lw_m8 190 rfl
theorem q1961 : (Jvm.Cond.static ({ cls := "TrailGuide$Parser", name := "lambda$cutOrCharge$4", desc := "(ILTrailGuide$State;)I" } : Jvm.MethodName)) ∈ lw_all := lw_g (lw_at lw_m8 191 rfl) rfl
theorem q1962 : (Jvm.Cond.code ({ cls := "TrailGuide$Parser", name := "lambda$cutOrCharge$4", desc := "(ILTrailGuide$State;)I" } : Jvm.MethodName) prog_7_method_23_code (2 : Nat) (Option.some Jvm.ClassFile.FieldType.int)) ∈ lw_all := lw_g (lw_at lw_m8 192 rfl) rfl
theorem q1963 : (Jvm.Cond.methodLink "TrailGuide$Parser" (191 : Nat) ({ cls := "TrailGuide$State", name := "charge", desc := "(I)I" } : Jvm.MethodName)) ∈ lw_all := lw_g (lw_at lw_m8 193 rfl) rfl
theorem q1964 : (Jvm.Cond.methodLink "TrailGuide$Parser" (157 : Nat) ({ cls := "TrailGuide$Parser", name := "modeOrMove", desc := "()LTrailGuide$Command;" } : Jvm.MethodName)) ∈ lw_all := lw_g (lw_at lw_m8 194 rfl) rfl
theorem q1965 : (Jvm.Cond.privateMethod ({ cls := "TrailGuide$Parser", name := "modeOrMove", desc := "()LTrailGuide$Command;" } : Jvm.MethodName)) ∈ lw_tbl := lw_at lw_m8 195 rfl
theorem q1966 : (Jvm.Cond.instanceMethod ({ cls := "TrailGuide$Parser", name := "modeOrMove", desc := "()LTrailGuide$Command;" } : Jvm.MethodName)) ∈ lw_all := lw_g (lw_at lw_m8 196 rfl) rfl
theorem q1967 : (Jvm.Cond.code ({ cls := "TrailGuide$Parser", name := "modeOrMove", desc := "()LTrailGuide$Command;" } : Jvm.MethodName) prog_7_method_14_code (3 : Nat) (Option.some (Jvm.ClassFile.FieldType.object "TrailGuide$Command"))) ∈ lw_all := lw_g (lw_at lw_m8 197 rfl) rfl
theorem q1968 : (Jvm.Cond.stringRef "TrailGuide$Parser" (123 : Nat) "o") ∈ lw_tbl := lw_at lw_m8 198 rfl
theorem q1969 : (Jvm.Cond.stringRef "TrailGuide$Parser" (125 : Nat) "e ") ∈ lw_tbl := lw_at lw_m8 199 rfl
theorem q1970 : (Jvm.Cond.methodLink "TrailGuide$Parser" (127 : Nat) ({ cls := "TrailGuide$Parser", name := "mode", desc := "()I" } : Jvm.MethodName)) ∈ lw_all := lw_g (lw_at lw_m8 200 rfl) rfl
theorem q1971 : (Jvm.Cond.privateMethod ({ cls := "TrailGuide$Parser", name := "mode", desc := "()I" } : Jvm.MethodName)) ∈ lw_tbl := lw_at lw_m8 201 rfl
theorem q1972 : (Jvm.Cond.instanceMethod ({ cls := "TrailGuide$Parser", name := "mode", desc := "()I" } : Jvm.MethodName)) ∈ lw_all := lw_g (lw_at lw_m8 202 rfl) rfl
theorem q1973 : (Jvm.Cond.code ({ cls := "TrailGuide$Parser", name := "mode", desc := "()I" } : Jvm.MethodName) prog_7_method_10_code (5 : Nat) (Option.some Jvm.ClassFile.FieldType.int)) ∈ lw_all := lw_g (lw_at lw_m8 203 rfl) rfl
theorem q1974 : (Jvm.Cond.methodLink "TrailGuide$Parser" (71 : Nat) ({ cls := "TrailGuide$Mode", name := "values", desc := "()[LTrailGuide$Mode;" } : Jvm.MethodName)) ∈ lw_all := lw_g (lw_at lw_m8 204 rfl) rfl
theorem q1985 : (Jvm.Cond.methodLink "TrailGuide$Parser" (81 : Nat) ({ cls := "TrailGuide$Mode", name := "ordinal", desc := "()I" } : Jvm.MethodName)) ∈ lw_all := lw_g (lw_at lw_m8 215 rfl) rfl
theorem q1986 : (Jvm.Cond.static ({ cls := "TrailGuide$Parser", name := "lambda$modeOrMove$5", desc := "(ILTrailGuide$State;)I" } : Jvm.MethodName)) ∈ lw_all := lw_g (lw_at lw_m8 216 rfl) rfl
theorem q1987 : (Jvm.Cond.code ({ cls := "TrailGuide$Parser", name := "lambda$modeOrMove$5", desc := "(ILTrailGuide$State;)I" } : Jvm.MethodName) prog_7_method_22_code (2 : Nat) (Option.some Jvm.ClassFile.FieldType.int)) ∈ lw_all := lw_g (lw_at lw_m8 217 rfl) rfl
theorem q1988 : (Jvm.Cond.methodLink "TrailGuide$Parser" (188 : Nat) ({ cls := "TrailGuide$State", name := "setMode", desc := "(I)I" } : Jvm.MethodName)) ∈ lw_all := lw_g (lw_at lw_m8 218 rfl) rfl
theorem q1989 : (Jvm.Cond.stringRef "TrailGuide$Parser" (131 : Nat) "ve ") ∈ lw_tbl := lw_at lw_m8 219 rfl
theorem q1990 : (Jvm.Cond.static ({ cls := "TrailGuide$Parser", name := "lambda$modeOrMove$6", desc := "(IILTrailGuide$State;)I" } : Jvm.MethodName)) ∈ lw_all := lw_g (lw_at lw_m8 220 rfl) rfl
theorem q1991 : (Jvm.Cond.code ({ cls := "TrailGuide$Parser", name := "lambda$modeOrMove$6", desc := "(IILTrailGuide$State;)I" } : Jvm.MethodName) prog_7_method_21_code (3 : Nat) (Option.some Jvm.ClassFile.FieldType.int)) ∈ lw_all := lw_g (lw_at lw_m8 221 rfl) rfl
theorem q1992 : (Jvm.Cond.methodLink "TrailGuide$Parser" (184 : Nat) ({ cls := "TrailGuide$State", name := "update", desc := "(II)I" } : Jvm.MethodName)) ∈ lw_all := lw_g (lw_at lw_m8 222 rfl) rfl
theorem q1993 : (Jvm.Cond.methodLink "TrailGuide$Parser" (160 : Nat) ({ cls := "TrailGuide$Parser", name := "limited", desc := "()LTrailGuide$Command;" } : Jvm.MethodName)) ∈ lw_all := lw_g (lw_at lw_m8 223 rfl) rfl
theorem q1994 : (Jvm.Cond.privateMethod ({ cls := "TrailGuide$Parser", name := "limited", desc := "()LTrailGuide$Command;" } : Jvm.MethodName)) ∈ lw_tbl := lw_at lw_m8 224 rfl
theorem q1995 : (Jvm.Cond.instanceMethod ({ cls := "TrailGuide$Parser", name := "limited", desc := "()LTrailGuide$Command;" } : Jvm.MethodName)) ∈ lw_all := lw_g (lw_at lw_m8 225 rfl) rfl
theorem q1996 : (Jvm.Cond.code ({ cls := "TrailGuide$Parser", name := "limited", desc := "()LTrailGuide$Command;" } : Jvm.MethodName) prog_7_method_15_code (2 : Nat) (Option.some (Jvm.ClassFile.FieldType.object "TrailGuide$Command"))) ∈ lw_all := lw_g (lw_at lw_m8 226 rfl) rfl
theorem q1997 : (Jvm.Cond.stringRef "TrailGuide$Parser" (134 : Nat) "imit ") ∈ lw_tbl := lw_at lw_m8 227 rfl
theorem q1998 : (Jvm.Cond.static ({ cls := "TrailGuide$Parser", name := "lambda$limited$7", desc := "(ILTrailGuide$State;)I" } : Jvm.MethodName)) ∈ lw_all := lw_g (lw_at lw_m8 228 rfl) rfl
theorem q1999 : (Jvm.Cond.code ({ cls := "TrailGuide$Parser", name := "lambda$limited$7", desc := "(ILTrailGuide$State;)I" } : Jvm.MethodName) prog_7_method_20_code (2 : Nat) (Option.some Jvm.ClassFile.FieldType.int)) ∈ lw_all := lw_g (lw_at lw_m8 229 rfl) rfl
theorem q2000 : (Jvm.Cond.methodLink "TrailGuide$Parser" (181 : Nat) ({ cls := "TrailGuide$State", name := "setTolerance", desc := "(I)I" } : Jvm.MethodName)) ∈ lw_all := lw_g (lw_at lw_m8 230 rfl) rfl
theorem q2001 : (Jvm.Cond.methodLink "TrailGuide$Parser" (163 : Nat) ({ cls := "TrailGuide$Parser", name := "stopped", desc := "()LTrailGuide$Command;" } : Jvm.MethodName)) ∈ lw_all := lw_g (lw_at lw_m8 231 rfl) rfl
theorem q2002 : (Jvm.Cond.privateMethod ({ cls := "TrailGuide$Parser", name := "stopped", desc := "()LTrailGuide$Command;" } : Jvm.MethodName)) ∈ lw_tbl := lw_at lw_m8 232 rfl
theorem q2003 : (Jvm.Cond.instanceMethod ({ cls := "TrailGuide$Parser", name := "stopped", desc := "()LTrailGuide$Command;" } : Jvm.MethodName)) ∈ lw_all := lw_g (lw_at lw_m8 233 rfl) rfl
theorem q2004 : (Jvm.Cond.code ({ cls := "TrailGuide$Parser", name := "stopped", desc := "()LTrailGuide$Command;" } : Jvm.MethodName) prog_7_method_16_code (1 : Nat) (Option.some (Jvm.ClassFile.FieldType.object "TrailGuide$Command"))) ∈ lw_all := lw_g (lw_at lw_m8 234 rfl) rfl
theorem q2005 : (Jvm.Cond.stringRef "TrailGuide$Parser" (137 : Nat) "top") ∈ lw_tbl := lw_at lw_m8 235 rfl
theorem q2006 : (Jvm.Cond.static ({ cls := "TrailGuide$Parser", name := "lambda$stopped$8", desc := "(LTrailGuide$State;)I" } : Jvm.MethodName)) ∈ lw_all := lw_g (lw_at lw_m8 236 rfl) rfl
theorem q2007 : (Jvm.Cond.code ({ cls := "TrailGuide$Parser", name := "lambda$stopped$8", desc := "(LTrailGuide$State;)I" } : Jvm.MethodName) prog_7_method_19_code (1 : Nat) (Option.some Jvm.ClassFile.FieldType.int)) ∈ lw_all := lw_g (lw_at lw_m8 237 rfl) rfl
theorem q2008 : (Jvm.Cond.methodLink "TrailGuide$Parser" (176 : Nat) ({ cls := "TrailGuide$State", name := "stopTour", desc := "()I" } : Jvm.MethodName)) ∈ lw_all := lw_g (lw_at lw_m8 238 rfl) rfl
theorem q2009 : (Jvm.Cond.methodLink "TrailGuide$Parser" (172 : Nat) ({ cls := "java/util/ArrayList", name := "add", desc := "(Ljava/lang/Object;)Z" } : Jvm.MethodName)) ∈ lw_all := lw_g (lw_at lw_m8 239 rfl) rfl
theorem q2653 : (Jvm.Cond.castable "TrailGuide$Parser" "java/lang/Object") ∈ lw_tbl := lw_at lw_m11 163 rfl
theorem q2673 : (Jvm.Cond.fieldLinkNest "TrailGuide$Parser" (77 : Nat) "TrailGuide$Mode" "letter" "C" "TrailGuide") ∈ lw_tbl := lw_at lw_m11 183 rfl
theorem in_X13 : ∀ w ∈ wsX130, w ∈ lw_all := lw_in wsX130 [1782, 1784] (by decide +kernel) (by decide +kernel)
/-! TrailGuide$SyntaxException -/
def RX14 : String := "TrailGuide$SyntaxException"
def TX14 : u_T := fun k => match k with
  | 0 => ("java/lang/Throwable", "cause", "Ljava/lang/Throwable;", false)
  | 1 => ("java/lang/Throwable", "stackTrace", "[Ljava/lang/StackTraceElement;", false)
  | 2 => ("java/lang/Throwable", "suppressedExceptions", "Ljava/util/List;", false)
  | 3 => ("java/lang/Throwable", "detailMessage", "Ljava/lang/String;", false)
  | 4 => ("java/lang/Throwable", "backtrace", "Ljava/lang/Object;", false)
  | 5 => ("java/lang/Throwable", "depth", "I", false)
  | _ => ("TrailGuide$SyntaxException", "position", "I", true)
def tyX14 : Nat → FieldType := fun k => match k with
  | 0 => .object "java/lang/Throwable"
  | 1 => .array (.object "java/lang/StackTraceElement")
  | 2 => .object "java/util/List"
  | 3 => .object "java/lang/String"
  | 4 => .object "java/lang/Object"
  | 5 => .int
  | _ => .int
abbrev wsX140 : List Cond := u_ws RX14 TX14 7
theorem nmX14 : ∀ a, a < 7 → ∀ b, b < 7 → a ≠ b → (TX14 a).2.1 ≠ (TX14 b).2.1 := by decide +kernel
theorem tyX14_ok : ∀ k, k < 7 → parseFieldDescriptor (TX14 k).2.2.1 = some (tyX14 k) := by decide +kernel
abbrev cX14_init : ByteArray := prog_13_method_1_code
def yX14_init : MethodName := ⟨RX14, "<init>", "(I)V"⟩
theorem q135 : (Jvm.Cond.initialized "TrailGuide$SyntaxException") ∈ lw_all := lw_g (lw_at lw_m1 45 rfl) rfl
theorem q692 : (Jvm.Cond.selects "TrailGuide$SyntaxException" ({ cls := "java/lang/Throwable", name := "fillInStackTrace", desc := "()Ljava/lang/Throwable;" } : Jvm.MethodName) ({ cls := "java/lang/Throwable", name := "fillInStackTrace", desc := "()Ljava/lang/Throwable;" } : Jvm.MethodName)) ∈ lw_all := lw_g (lw_at lw_m3 122 rfl) rfl
theorem q989 : (Jvm.Cond.selects "TrailGuide$SyntaxException" ({ cls := "java/lang/Object", name := "getClass", desc := "()Ljava/lang/Class;" } : Jvm.MethodName) ({ cls := "java/lang/Object", name := "getClass", desc := "()Ljava/lang/Class;" } : Jvm.MethodName)) ∈ lw_all := lw_g (lw_at lw_m4 179 rfl) rfl
theorem q1857 : (Jvm.Cond.instantiable "TrailGuide$SyntaxException" (7 : Nat)) ∈ lw_all := lw_g (lw_at lw_m8 87 rfl) rfl
theorem q1858 : (Jvm.Cond.castable "TrailGuide$SyntaxException" "TrailGuide$SyntaxException") ∈ lw_tbl := lw_at lw_m8 88 rfl
theorem q1859 : (Jvm.Cond.selects "TrailGuide$SyntaxException" ({ cls := "java/lang/Throwable", name := "fillInStackTrace", desc := "(I)Ljava/lang/Throwable;" } : Jvm.MethodName) ({ cls := "java/lang/Throwable", name := "fillInStackTrace", desc := "(I)Ljava/lang/Throwable;" } : Jvm.MethodName)) ∈ lw_all := lw_g (lw_at lw_m8 89 rfl) rfl
theorem q1860 : (Jvm.Cond.lays "TrailGuide$SyntaxException" "java/lang/Throwable" "cause" "Ljava/lang/Throwable;") ∈ lw_all := lw_g (lw_at lw_m8 90 rfl) rfl
theorem q1861 : (Jvm.Cond.lays "TrailGuide$SyntaxException" "java/lang/Throwable" "stackTrace" "[Ljava/lang/StackTraceElement;") ∈ lw_all := lw_g (lw_at lw_m8 91 rfl) rfl
theorem q1862 : (Jvm.Cond.lays "TrailGuide$SyntaxException" "java/lang/Throwable" "suppressedExceptions" "Ljava/util/List;") ∈ lw_all := lw_g (lw_at lw_m8 92 rfl) rfl
theorem q1863 : (Jvm.Cond.lays "TrailGuide$SyntaxException" "java/lang/Throwable" "detailMessage" "Ljava/lang/String;") ∈ lw_all := lw_g (lw_at lw_m8 93 rfl) rfl
theorem q1864 : (Jvm.Cond.lays "TrailGuide$SyntaxException" "java/lang/Throwable" "backtrace" "Ljava/lang/Object;") ∈ lw_all := lw_g (lw_at lw_m8 94 rfl) rfl
theorem q1866 : (Jvm.Cond.instanceMethod ({ cls := "TrailGuide$SyntaxException", name := "<init>", desc := "(I)V" } : Jvm.MethodName)) ∈ lw_all := lw_g (lw_at lw_m8 96 rfl) rfl
theorem q1867 : (Jvm.Cond.code ({ cls := "TrailGuide$SyntaxException", name := "<init>", desc := "(I)V" } : Jvm.MethodName) prog_13_method_1_code (2 : Nat) (Option.none : Option Jvm.ClassFile.FieldType)) ∈ lw_all := lw_g (lw_at lw_m8 97 rfl) rfl
theorem q1868 : (Jvm.Cond.methodLink "TrailGuide$SyntaxException" (1 : Nat) ({ cls := "java/lang/Exception", name := "<init>", desc := "(Ljava/lang/String;Ljava/lang/Throwable;ZZ)V" } : Jvm.MethodName)) ∈ lw_all := lw_g (lw_at lw_m8 98 rfl) rfl
theorem q1874 : (Jvm.Cond.fieldLink "TrailGuide$SyntaxException" (7 : Nat) "TrailGuide$SyntaxException" "position" "I") ∈ lw_all := lw_g (lw_at lw_m8 104 rfl) rfl
theorem q1876 : (Jvm.Cond.laysFinal "TrailGuide$SyntaxException" "TrailGuide$SyntaxException" "position" "I") ∈ lw_all := lw_g (lw_at lw_m8 106 rfl) rfl
theorem q1877 : (Jvm.Cond.soleField "TrailGuide$SyntaxException" "position") ∈ lw_all := lw_g (lw_at lw_m8 107 rfl) rfl
theorem q1878 : (Jvm.Cond.lays "TrailGuide$SyntaxException" "java/lang/Throwable" "depth" "I") ∈ lw_all := lw_g (lw_at lw_m8 108 rfl) rfl
theorem q1879 : (Jvm.Cond.superclass "TrailGuide$SyntaxException" "java/lang/Exception") ∈ lw_all := lw_g (lw_at lw_m8 109 rfl) rfl
theorem q2654 : (Jvm.Cond.castable "TrailGuide$SyntaxException" "java/lang/Object") ∈ lw_tbl := lw_at lw_m11 164 rfl
theorem in_X14 : ∀ w ∈ wsX140, w ∈ lw_all := lw_in wsX140 [1860, 1861, 1862, 1863, 1864, 1878, 1876] (by decide +kernel) (by decide +kernel)
/-! TrailGuide$Command -/
def RX15 : String := "TrailGuide$Command"
def TX15 : u_T := fun k => match k with
  | _ => ("TrailGuide$Command", "change", "LTrailGuide$Change;", true)
def tyX15 : Nat → FieldType := fun k => match k with
  | _ => .object "TrailGuide$Change"
abbrev wsX150 : List Cond := u_ws RX15 TX15 1
theorem nmX15 : ∀ a, a < 1 → ∀ b, b < 1 → a ≠ b → (TX15 a).2.1 ≠ (TX15 b).2.1 := by decide +kernel
theorem tyX15_ok : ∀ k, k < 1 → parseFieldDescriptor (TX15 k).2.2.1 = some (tyX15 k) := by decide +kernel
abbrev cX15_init : ByteArray := prog_3_method_1_code
def yX15_init : MethodName := ⟨RX15, "<init>", "(LTrailGuide$Change;)V"⟩
theorem q136 : (Jvm.Cond.initialized "TrailGuide$Command") ∈ lw_all := lw_g (lw_at lw_m1 46 rfl) rfl
theorem q980 : (Jvm.Cond.selects "TrailGuide$Command" ({ cls := "java/lang/Object", name := "getClass", desc := "()Ljava/lang/Class;" } : Jvm.MethodName) ({ cls := "java/lang/Object", name := "getClass", desc := "()Ljava/lang/Class;" } : Jvm.MethodName)) ∈ lw_all := lw_g (lw_at lw_m4 170 rfl) rfl
theorem q1924 : (Jvm.Cond.instantiable "TrailGuide$Command" (1 : Nat)) ∈ lw_all := lw_g (lw_at lw_m8 154 rfl) rfl
theorem q1929 : (Jvm.Cond.instanceMethod ({ cls := "TrailGuide$Command", name := "<init>", desc := "(LTrailGuide$Change;)V" } : Jvm.MethodName)) ∈ lw_all := lw_g (lw_at lw_m8 159 rfl) rfl
theorem q1930 : (Jvm.Cond.code ({ cls := "TrailGuide$Command", name := "<init>", desc := "(LTrailGuide$Change;)V" } : Jvm.MethodName) prog_3_method_1_code (2 : Nat) (Option.none : Option Jvm.ClassFile.FieldType)) ∈ lw_all := lw_g (lw_at lw_m8 160 rfl) rfl
theorem q1931 : (Jvm.Cond.methodLink "TrailGuide$Command" (1 : Nat) ({ cls := "java/lang/Object", name := "<init>", desc := "()V" } : Jvm.MethodName)) ∈ lw_all := lw_g (lw_at lw_m8 161 rfl) rfl
theorem q1932 : (Jvm.Cond.fieldLink "TrailGuide$Command" (7 : Nat) "TrailGuide$Command" "change" "LTrailGuide$Change;") ∈ lw_all := lw_g (lw_at lw_m8 162 rfl) rfl
theorem q1934 : (Jvm.Cond.laysFinal "TrailGuide$Command" "TrailGuide$Command" "change" "LTrailGuide$Change;") ∈ lw_all := lw_g (lw_at lw_m8 164 rfl) rfl
theorem q1935 : (Jvm.Cond.soleField "TrailGuide$Command" "change") ∈ lw_all := lw_g (lw_at lw_m8 165 rfl) rfl
theorem q1936 : (Jvm.Cond.superclass "TrailGuide$Command" "java/lang/Object") ∈ lw_all := lw_g (lw_at lw_m8 166 rfl) rfl
theorem q2655 : (Jvm.Cond.castable "TrailGuide$Command" "java/lang/Object") ∈ lw_tbl := lw_at lw_m11 165 rfl
theorem in_X15 : ∀ w ∈ wsX150, w ∈ lw_all := lw_in wsX150 [1934] (by decide +kernel) (by decide +kernel)
/-! TrailGuide$Turn$1 -/
def RX16 : String := "TrailGuide$Turn$1"
abbrev cX16_letter : ByteArray := prog_17_method_2_code
def yX16_letter : MethodName := ⟨RX16, "letter", "()C"⟩
theorem q901 : (Jvm.Cond.selects "TrailGuide$Turn$1" ({ cls := "TrailGuide$Turn", name := "letter", desc := "()C" } : Jvm.MethodName) ({ cls := "TrailGuide$Turn$1", name := "letter", desc := "()C" } : Jvm.MethodName)) ∈ lw_all := lw_g (lw_at lw_m4 91 rfl) rfl
theorem q902 : (Jvm.Cond.instanceMethod ({ cls := "TrailGuide$Turn$1", name := "letter", desc := "()C" } : Jvm.MethodName)) ∈ lw_all := lw_g (lw_at lw_m4 92 rfl) rfl
theorem q903 : (Jvm.Cond.code ({ cls := "TrailGuide$Turn$1", name := "letter", desc := "()C" } : Jvm.MethodName) prog_17_method_2_code (1 : Nat) (Option.some Jvm.ClassFile.FieldType.char)) ∈ lw_all := lw_g (lw_at lw_m4 93 rfl) rfl
theorem q991 : (Jvm.Cond.selects "TrailGuide$Turn$1" ({ cls := "java/lang/Object", name := "getClass", desc := "()Ljava/lang/Class;" } : Jvm.MethodName) ({ cls := "java/lang/Object", name := "getClass", desc := "()Ljava/lang/Class;" } : Jvm.MethodName)) ∈ lw_all := lw_g (lw_at lw_m4 181 rfl) rfl
theorem q2647 : (Jvm.Cond.castable "TrailGuide$Turn$1" "java/lang/Object") ∈ lw_tbl := lw_at lw_m11 157 rfl
/-! TrailGuide$Turn$2 -/
def RX17 : String := "TrailGuide$Turn$2"
abbrev cX17_letter : ByteArray := prog_18_method_2_code
def yX17_letter : MethodName := ⟨RX17, "letter", "()C"⟩
theorem q904 : (Jvm.Cond.selects "TrailGuide$Turn$2" ({ cls := "TrailGuide$Turn", name := "letter", desc := "()C" } : Jvm.MethodName) ({ cls := "TrailGuide$Turn$2", name := "letter", desc := "()C" } : Jvm.MethodName)) ∈ lw_all := lw_g (lw_at lw_m4 94 rfl) rfl
theorem q905 : (Jvm.Cond.instanceMethod ({ cls := "TrailGuide$Turn$2", name := "letter", desc := "()C" } : Jvm.MethodName)) ∈ lw_all := lw_g (lw_at lw_m4 95 rfl) rfl
theorem q906 : (Jvm.Cond.code ({ cls := "TrailGuide$Turn$2", name := "letter", desc := "()C" } : Jvm.MethodName) prog_18_method_2_code (1 : Nat) (Option.some Jvm.ClassFile.FieldType.char)) ∈ lw_all := lw_g (lw_at lw_m4 96 rfl) rfl
theorem q992 : (Jvm.Cond.selects "TrailGuide$Turn$2" ({ cls := "java/lang/Object", name := "getClass", desc := "()Ljava/lang/Class;" } : Jvm.MethodName) ({ cls := "java/lang/Object", name := "getClass", desc := "()Ljava/lang/Class;" } : Jvm.MethodName)) ∈ lw_all := lw_g (lw_at lw_m4 182 rfl) rfl
theorem q2648 : (Jvm.Cond.castable "TrailGuide$Turn$2" "java/lang/Object") ∈ lw_tbl := lw_at lw_m11 158 rfl
/-! TrailGuide$Turn$3 -/
def RX18 : String := "TrailGuide$Turn$3"
abbrev cX18_letter : ByteArray := prog_19_method_2_code
def yX18_letter : MethodName := ⟨RX18, "letter", "()C"⟩
theorem q907 : (Jvm.Cond.selects "TrailGuide$Turn$3" ({ cls := "TrailGuide$Turn", name := "letter", desc := "()C" } : Jvm.MethodName) ({ cls := "TrailGuide$Turn$3", name := "letter", desc := "()C" } : Jvm.MethodName)) ∈ lw_all := lw_g (lw_at lw_m4 97 rfl) rfl
theorem q908 : (Jvm.Cond.instanceMethod ({ cls := "TrailGuide$Turn$3", name := "letter", desc := "()C" } : Jvm.MethodName)) ∈ lw_all := lw_g (lw_at lw_m4 98 rfl) rfl
theorem q909 : (Jvm.Cond.code ({ cls := "TrailGuide$Turn$3", name := "letter", desc := "()C" } : Jvm.MethodName) prog_19_method_2_code (1 : Nat) (Option.some Jvm.ClassFile.FieldType.char)) ∈ lw_all := lw_g (lw_at lw_m4 99 rfl) rfl
theorem q993 : (Jvm.Cond.selects "TrailGuide$Turn$3" ({ cls := "java/lang/Object", name := "getClass", desc := "()Ljava/lang/Class;" } : Jvm.MethodName) ({ cls := "java/lang/Object", name := "getClass", desc := "()Ljava/lang/Class;" } : Jvm.MethodName)) ∈ lw_all := lw_g (lw_at lw_m4 183 rfl) rfl
theorem q2649 : (Jvm.Cond.castable "TrailGuide$Turn$3" "java/lang/Object") ∈ lw_tbl := lw_at lw_m11 159 rfl
/-! TrailGuide$Turn$4 -/
def RX19 : String := "TrailGuide$Turn$4"
abbrev cX19_letter : ByteArray := prog_20_method_2_code
def yX19_letter : MethodName := ⟨RX19, "letter", "()C"⟩
theorem q910 : (Jvm.Cond.selects "TrailGuide$Turn$4" ({ cls := "TrailGuide$Turn", name := "letter", desc := "()C" } : Jvm.MethodName) ({ cls := "TrailGuide$Turn$4", name := "letter", desc := "()C" } : Jvm.MethodName)) ∈ lw_all := lw_g (lw_at lw_m4 100 rfl) rfl
theorem q911 : (Jvm.Cond.instanceMethod ({ cls := "TrailGuide$Turn$4", name := "letter", desc := "()C" } : Jvm.MethodName)) ∈ lw_all := lw_g (lw_at lw_m4 101 rfl) rfl
theorem q912 : (Jvm.Cond.code ({ cls := "TrailGuide$Turn$4", name := "letter", desc := "()C" } : Jvm.MethodName) prog_20_method_2_code (1 : Nat) (Option.some Jvm.ClassFile.FieldType.char)) ∈ lw_all := lw_g (lw_at lw_m4 102 rfl) rfl
theorem q994 : (Jvm.Cond.selects "TrailGuide$Turn$4" ({ cls := "java/lang/Object", name := "getClass", desc := "()Ljava/lang/Class;" } : Jvm.MethodName) ({ cls := "java/lang/Object", name := "getClass", desc := "()Ljava/lang/Class;" } : Jvm.MethodName)) ∈ lw_all := lw_g (lw_at lw_m4 184 rfl) rfl
theorem q2650 : (Jvm.Cond.castable "TrailGuide$Turn$4" "java/lang/Object") ∈ lw_tbl := lw_at lw_m11 160 rfl
/-! TrailGuide$State -/
def RX2 : String := "TrailGuide$State"
def TX2 : u_T := fun k => match k with
  | 0 => ("TrailGuide$State", "waypoints", "Ljava/util/ArrayList;", true)
  | 1 => ("TrailGuide$State", "lengths", "[I", true)
  | 2 => ("TrailGuide$State", "tour", "LTrailGuide$Tour;", false)
  | 3 => ("TrailGuide$State", "isAlarm", "Z", false)
  | 4 => ("TrailGuide$State", "battery", "I", false)
  | 5 => ("TrailGuide$State", "tolerance", "I", false)
  | 6 => ("TrailGuide$State", "mode", "LTrailGuide$Mode;", false)
  | 7 => ("TrailGuide$State", "updates", "I", false)
  | 8 => ("TrailGuide$State", "alarms", "I", false)
  | _ => ("TrailGuide$State", "reached", "I", false)
def tyX2 : Nat → FieldType := fun k => match k with
  | 0 => .object "java/util/ArrayList"
  | 1 => .array .int
  | 2 => .object "TrailGuide$Tour"
  | 3 => .boolean
  | 4 => .int
  | 5 => .int
  | 6 => .object "TrailGuide$Mode"
  | 7 => .int
  | 8 => .int
  | _ => .int
abbrev wsX20 : List Cond := u_ws RX2 TX2 10
theorem nmX2 : ∀ a, a < 10 → ∀ b, b < 10 → a ≠ b → (TX2 a).2.1 ≠ (TX2 b).2.1 := by decide +kernel
theorem tyX2_ok : ∀ k, k < 10 → parseFieldDescriptor (TX2 k).2.2.1 = some (tyX2 k) := by decide +kernel
abbrev cX2_init : ByteArray := prog_12_method_1_code
def yX2_init : MethodName := ⟨RX2, "<init>", "()V"⟩
abbrev cX2_size : ByteArray := prog_12_method_3_code
def yX2_size : MethodName := ⟨RX2, "size", "()I"⟩
abbrev cX2_countTrails : ByteArray := prog_12_method_8_code
def yX2_countTrails : MethodName := ⟨RX2, "countTrails", "()I"⟩
abbrev cX2_components : ByteArray := prog_12_method_19_code
def yX2_components : MethodName := ⟨RX2, "components", "()I"⟩
abbrev cX2_lambda_components_2 : ByteArray := prog_12_method_44_code
def yX2_lambda_components_2 : MethodName := ⟨RX2, "lambda$components$2", "([ZI)Z"⟩
abbrev cX2_firstWaypoint : ByteArray := prog_12_method_11_code
def yX2_firstWaypoint : MethodName := ⟨RX2, "firstWaypoint", "(LTrailGuide$WaypointTest;)I"⟩
abbrev cX2_mark : ByteArray := prog_12_method_18_code
def yX2_mark : MethodName := ⟨RX2, "mark", "(I[Z)V"⟩
abbrev cX2_lengthOf : ByteArray := prog_12_method_6_code
def yX2_lengthOf : MethodName := ⟨RX2, "lengthOf", "(II)I"⟩
abbrev cX2_lambda_components_3 : ByteArray := prog_12_method_43_code
def yX2_lambda_components_3 : MethodName := ⟨RX2, "lambda$components$3", "([ZI)Z"⟩
abbrev cX2_componentsByMerging : ByteArray := prog_12_method_21_code
def yX2_componentsByMerging : MethodName := ⟨RX2, "componentsByMerging", "()I"⟩
abbrev cX2_leaderOf : ByteArray := prog_12_method_20_code
def yX2_leaderOf : MethodName := ⟨RX2, "leaderOf", "([II)I"⟩
abbrev cX2_distancesFrom : ByteArray := prog_12_method_15_code
def yX2_distancesFrom : MethodName := ⟨RX2, "distancesFrom", "(I)[I"⟩
abbrev cX2_startingAt : ByteArray := prog_12_method_13_code
def yX2_startingAt : MethodName := ⟨RX2, "startingAt", "(I)[I"⟩
abbrev cX2_lambda_distancesFrom_0 : ByteArray := prog_12_method_46_code
def yX2_lambda_distancesFrom_0 : MethodName := ⟨RX2, "lambda$distancesFrom$0", "([IIII)V"⟩
abbrev cX2_shorten : ByteArray := prog_12_method_12_code
def yX2_shorten : MethodName := ⟨RX2, "shorten", "([III)V"⟩
abbrev cX2_visitTrails : ByteArray := prog_12_method_10_code
def yX2_visitTrails : MethodName := ⟨RX2, "visitTrails", "(ILTrailGuide$TrailVisitor;)V"⟩
abbrev cX2_closest : ByteArray := prog_12_method_14_code
def yX2_closest : MethodName := ⟨RX2, "closest", "([I[Z)I"⟩
abbrev cX2_distancesByRelaxation : ByteArray := prog_12_method_17_code
def yX2_distancesByRelaxation : MethodName := ⟨RX2, "distancesByRelaxation", "(I)[I"⟩
abbrev cX2_sumOf : ByteArray := prog_12_method_16_code
def yX2_sumOf : MethodName := ⟨RX2, "sumOf", "([I)I"⟩
abbrev cX2_lambda_distancesByRelaxation_1 : ByteArray := prog_12_method_45_code
def yX2_lambda_distancesByRelaxation_1 : MethodName := ⟨RX2, "lambda$distancesByRelaxation$1", "([IIII)V"⟩
abbrev cX2_hasTurn : ByteArray := prog_12_method_38_code
def yX2_hasTurn : MethodName := ⟨RX2, "hasTurn", "(I)Z"⟩
abbrev cX2_turnAt : ByteArray := prog_12_method_37_code
def yX2_turnAt : MethodName := ⟨RX2, "turnAt", "(I)LTrailGuide$Turn;"⟩
abbrev cX2_pointOf : ByteArray := prog_12_method_25_code
def yX2_pointOf : MethodName := ⟨RX2, "pointOf", "(I)LTrailGuide$Point;"⟩
abbrev cX2_init_2 : ByteArray := prog_12_method_2_code
def yX2_init_2 : MethodName := ⟨RX2, "<init>", "(LTrailGuide$State;)V"⟩
abbrev cX2_addWaypoint : ByteArray := prog_12_method_22_code
def yX2_addWaypoint : MethodName := ⟨RX2, "addWaypoint", "(III)I"⟩
abbrev cX2_addTrail : ByteArray := prog_12_method_23_code
def yX2_addTrail : MethodName := ⟨RX2, "addTrail", "(III)I"⟩
abbrev cX2_checkPair : ByteArray := prog_12_method_5_code
def yX2_checkPair : MethodName := ⟨RX2, "checkPair", "(II)V"⟩
abbrev cX2_setLength : ByteArray := prog_12_method_7_code
def yX2_setLength : MethodName := ⟨RX2, "setLength", "(III)V"⟩
abbrev cX2_removeTrail : ByteArray := prog_12_method_24_code
def yX2_removeTrail : MethodName := ⟨RX2, "removeTrail", "(II)I"⟩
abbrev cX2_startTour : ByteArray := prog_12_method_27_code
def yX2_startTour : MethodName := ⟨RX2, "startTour", "(II)I"⟩
abbrev cX2_successor : ByteArray := prog_12_method_26_code
def yX2_successor : MethodName := ⟨RX2, "successor", "(I[I)I"⟩
abbrev cX2_lambda_successor_4 : ByteArray := prog_12_method_42_code
def yX2_lambda_successor_4 : MethodName := ⟨RX2, "lambda$successor$4", "(I[II)Z"⟩
abbrev cX2_stopTour : ByteArray := prog_12_method_29_code
def yX2_stopTour : MethodName := ⟨RX2, "stopTour", "()I"⟩
abbrev cX2_checkTour : ByteArray := prog_12_method_28_code
def yX2_checkTour : MethodName := ⟨RX2, "checkTour", "()V"⟩
abbrev cX2_endTour : ByteArray := prog_12_method_30_code
def yX2_endTour : MethodName := ⟨RX2, "endTour", "()V"⟩
abbrev cX2_update : ByteArray := prog_12_method_36_code
def yX2_update : MethodName := ⟨RX2, "update", "(II)I"⟩
abbrev cX2_consume : ByteArray := prog_12_method_34_code
def yX2_consume : MethodName := ⟨RX2, "consume", "(I)V"⟩
abbrev cX2_eventAt : ByteArray := prog_12_method_33_code
def yX2_eventAt : MethodName := ⟨RX2, "eventAt", "(LTrailGuide$Point;)LTrailGuide$Event;"⟩
abbrev cX2_driftEvent : ByteArray := prog_12_method_32_code
def yX2_driftEvent : MethodName := ⟨RX2, "driftEvent", "(LTrailGuide$Point;)LTrailGuide$Event;"⟩
abbrev cX2_driftOf : ByteArray := prog_12_method_31_code
def yX2_driftOf : MethodName := ⟨RX2, "driftOf", "(LTrailGuide$Point;)LTrailGuide$Square;"⟩
abbrev cX2_happen : ByteArray := prog_12_method_35_code
def yX2_happen : MethodName := ⟨RX2, "happen", "(LTrailGuide$Event;)V"⟩
abbrev cX2_setTolerance : ByteArray := prog_12_method_39_code
def yX2_setTolerance : MethodName := ⟨RX2, "setTolerance", "(I)I"⟩
abbrev cX2_setMode : ByteArray := prog_12_method_40_code
def yX2_setMode : MethodName := ⟨RX2, "setMode", "(I)I"⟩
abbrev cX2_charge : ByteArray := prog_12_method_41_code
def yX2_charge : MethodName := ⟨RX2, "charge", "(I)I"⟩
abbrev cX2_waypoint : ByteArray := prog_12_method_4_code
def yX2_waypoint : MethodName := ⟨RX2, "waypoint", "(I)LTrailGuide$Waypoint;"⟩
abbrev cX2_sumLengths : ByteArray := prog_12_method_9_code
def yX2_sumLengths : MethodName := ⟨RX2, "sumLengths", "()I"⟩
theorem q92 : (Jvm.Cond.initialized "TrailGuide$State") ∈ lw_all := lw_g (lw_at lw_m1 2 rfl) rfl
theorem q147 : (Jvm.Cond.instantiable "TrailGuide$State" (10 : Nat)) ∈ lw_all := lw_g (lw_at lw_m1 57 rfl) rfl
theorem q149 : (Jvm.Cond.instanceMethod ({ cls := "TrailGuide$State", name := "<init>", desc := "()V" } : Jvm.MethodName)) ∈ lw_all := lw_g (lw_at lw_m1 59 rfl) rfl
theorem q150 : (Jvm.Cond.code ({ cls := "TrailGuide$State", name := "<init>", desc := "()V" } : Jvm.MethodName) prog_12_method_1_code (1 : Nat) (Option.none : Option Jvm.ClassFile.FieldType)) ∈ lw_all := lw_g (lw_at lw_m1 60 rfl) rfl
theorem q151 : (Jvm.Cond.methodLink "TrailGuide$State" (3 : Nat) ({ cls := "java/lang/Object", name := "<init>", desc := "()V" } : Jvm.MethodName)) ∈ lw_all := lw_g (lw_at lw_m1 61 rfl) rfl
theorem q152 : (Jvm.Cond.classLink "TrailGuide$State" (9 : Nat) "java/util/ArrayList") ∈ lw_all := lw_g (lw_at lw_m1 62 rfl) rfl
theorem q154 : (Jvm.Cond.methodLink "TrailGuide$State" (11 : Nat) ({ cls := "java/util/ArrayList", name := "<init>", desc := "()V" } : Jvm.MethodName)) ∈ lw_all := lw_g (lw_at lw_m1 64 rfl) rfl
theorem q181 : (Jvm.Cond.fieldLink "TrailGuide$State" (29 : Nat) "TrailGuide$Mode" "NORMAL" "LTrailGuide$Mode;") ∈ lw_all := lw_g (lw_at lw_m1 91 rfl) rfl
theorem q183 : (Jvm.Cond.fieldLink "TrailGuide$State" (12 : Nat) "TrailGuide$State" "waypoints" "Ljava/util/ArrayList;") ∈ lw_all := lw_g (lw_at lw_m1 93 rfl) rfl
theorem q184 : (Jvm.Cond.fieldLink "TrailGuide$State" (18 : Nat) "TrailGuide$State" "lengths" "[I") ∈ lw_all := lw_g (lw_at lw_m1 94 rfl) rfl
theorem q185 : (Jvm.Cond.fieldLink "TrailGuide$State" (48 : Nat) "TrailGuide$State" "tour" "LTrailGuide$Tour;") ∈ lw_all := lw_g (lw_at lw_m1 95 rfl) rfl
theorem q187 : (Jvm.Cond.fieldLink "TrailGuide$State" (52 : Nat) "TrailGuide$State" "isAlarm" "Z") ∈ lw_all := lw_g (lw_at lw_m1 97 rfl) rfl
theorem q189 : (Jvm.Cond.fieldLink "TrailGuide$State" (22 : Nat) "TrailGuide$State" "battery" "I") ∈ lw_all := lw_g (lw_at lw_m1 99 rfl) rfl
theorem q191 : (Jvm.Cond.fieldLink "TrailGuide$State" (26 : Nat) "TrailGuide$State" "tolerance" "I") ∈ lw_all := lw_g (lw_at lw_m1 101 rfl) rfl
theorem q193 : (Jvm.Cond.fieldLink "TrailGuide$State" (35 : Nat) "TrailGuide$State" "mode" "LTrailGuide$Mode;") ∈ lw_all := lw_g (lw_at lw_m1 103 rfl) rfl
theorem q195 : (Jvm.Cond.fieldLink "TrailGuide$State" (56 : Nat) "TrailGuide$State" "updates" "I") ∈ lw_all := lw_g (lw_at lw_m1 105 rfl) rfl
theorem q197 : (Jvm.Cond.fieldLink "TrailGuide$State" (59 : Nat) "TrailGuide$State" "alarms" "I") ∈ lw_all := lw_g (lw_at lw_m1 107 rfl) rfl
theorem q199 : (Jvm.Cond.fieldLink "TrailGuide$State" (62 : Nat) "TrailGuide$State" "reached" "I") ∈ lw_all := lw_g (lw_at lw_m1 109 rfl) rfl
theorem q201 : (Jvm.Cond.laysFinal "TrailGuide$State" "TrailGuide$State" "waypoints" "Ljava/util/ArrayList;") ∈ lw_all := lw_g (lw_at lw_m1 111 rfl) rfl
theorem q202 : (Jvm.Cond.soleField "TrailGuide$State" "waypoints") ∈ lw_all := lw_g (lw_at lw_m1 112 rfl) rfl
theorem q203 : (Jvm.Cond.laysFinal "TrailGuide$State" "TrailGuide$State" "lengths" "[I") ∈ lw_all := lw_g (lw_at lw_m1 113 rfl) rfl
theorem q204 : (Jvm.Cond.soleField "TrailGuide$State" "lengths") ∈ lw_all := lw_g (lw_at lw_m1 114 rfl) rfl
theorem q205 : (Jvm.Cond.lays "TrailGuide$State" "TrailGuide$State" "tour" "LTrailGuide$Tour;") ∈ lw_all := lw_g (lw_at lw_m1 115 rfl) rfl
theorem q206 : (Jvm.Cond.soleField "TrailGuide$State" "tour") ∈ lw_all := lw_g (lw_at lw_m1 116 rfl) rfl
theorem q207 : (Jvm.Cond.lays "TrailGuide$State" "TrailGuide$State" "isAlarm" "Z") ∈ lw_all := lw_g (lw_at lw_m1 117 rfl) rfl
theorem q208 : (Jvm.Cond.soleField "TrailGuide$State" "isAlarm") ∈ lw_all := lw_g (lw_at lw_m1 118 rfl) rfl
theorem q209 : (Jvm.Cond.lays "TrailGuide$State" "TrailGuide$State" "battery" "I") ∈ lw_all := lw_g (lw_at lw_m1 119 rfl) rfl
theorem q210 : (Jvm.Cond.soleField "TrailGuide$State" "battery") ∈ lw_all := lw_g (lw_at lw_m1 120 rfl) rfl
theorem q211 : (Jvm.Cond.lays "TrailGuide$State" "TrailGuide$State" "tolerance" "I") ∈ lw_all := lw_g (lw_at lw_m1 121 rfl) rfl
theorem q212 : (Jvm.Cond.soleField "TrailGuide$State" "tolerance") ∈ lw_all := lw_g (lw_at lw_m1 122 rfl) rfl
theorem q213 : (Jvm.Cond.lays "TrailGuide$State" "TrailGuide$State" "mode" "LTrailGuide$Mode;") ∈ lw_all := lw_g (lw_at lw_m1 123 rfl) rfl
theorem q214 : (Jvm.Cond.soleField "TrailGuide$State" "mode") ∈ lw_all := lw_g (lw_at lw_m1 124 rfl) rfl
theorem q215 : (Jvm.Cond.lays "TrailGuide$State" "TrailGuide$State" "updates" "I") ∈ lw_all := lw_g (lw_at lw_m1 125 rfl) rfl
theorem q216 : (Jvm.Cond.soleField "TrailGuide$State" "updates") ∈ lw_all := lw_g (lw_at lw_m1 126 rfl) rfl
theorem q217 : (Jvm.Cond.lays "TrailGuide$State" "TrailGuide$State" "alarms" "I") ∈ lw_all := lw_g (lw_at lw_m1 127 rfl) rfl
theorem q218 : (Jvm.Cond.soleField "TrailGuide$State" "alarms") ∈ lw_all := lw_g (lw_at lw_m1 128 rfl) rfl
theorem q219 : (Jvm.Cond.lays "TrailGuide$State" "TrailGuide$State" "reached" "I") ∈ lw_all := lw_g (lw_at lw_m1 129 rfl) rfl
theorem q220 : (Jvm.Cond.soleField "TrailGuide$State" "reached") ∈ lw_all := lw_g (lw_at lw_m1 130 rfl) rfl
theorem q221 : (Jvm.Cond.superclass "TrailGuide$State" "java/lang/Object") ∈ lw_all := lw_g (lw_at lw_m1 131 rfl) rfl
theorem q307 : (Jvm.Cond.instanceMethod ({ cls := "TrailGuide$State", name := "size", desc := "()I" } : Jvm.MethodName)) ∈ lw_all := lw_g (lw_at lw_m1 217 rfl) rfl
theorem q308 : (Jvm.Cond.selects "TrailGuide$State" ({ cls := "TrailGuide$State", name := "size", desc := "()I" } : Jvm.MethodName) ({ cls := "TrailGuide$State", name := "size", desc := "()I" } : Jvm.MethodName)) ∈ lw_all := lw_g (lw_at lw_m1 218 rfl) rfl
theorem q309 : (Jvm.Cond.code ({ cls := "TrailGuide$State", name := "size", desc := "()I" } : Jvm.MethodName) prog_12_method_3_code (1 : Nat) (Option.some Jvm.ClassFile.FieldType.int)) ∈ lw_all := lw_g (lw_at lw_m1 219 rfl) rfl
theorem q310 : (Jvm.Cond.methodLink "TrailGuide$State" (65 : Nat) ({ cls := "java/util/ArrayList", name := "size", desc := "()I" } : Jvm.MethodName)) ∈ lw_all := lw_g (lw_at lw_m1 220 rfl) rfl
theorem q319 : (Jvm.Cond.instanceMethod ({ cls := "TrailGuide$State", name := "countTrails", desc := "()I" } : Jvm.MethodName)) ∈ lw_all := lw_g (lw_at lw_m1 229 rfl) rfl
theorem q320 : (Jvm.Cond.selects "TrailGuide$State" ({ cls := "TrailGuide$State", name := "countTrails", desc := "()I" } : Jvm.MethodName) ({ cls := "TrailGuide$State", name := "countTrails", desc := "()I" } : Jvm.MethodName)) ∈ lw_all := lw_g (lw_at lw_m1 230 rfl) rfl
theorem q321 : (Jvm.Cond.code ({ cls := "TrailGuide$State", name := "countTrails", desc := "()I" } : Jvm.MethodName) prog_12_method_8_code (6 : Nat) (Option.some Jvm.ClassFile.FieldType.int)) ∈ lw_all := lw_g (lw_at lw_m1 231 rfl) rfl
theorem q327 : (Jvm.Cond.instanceMethod ({ cls := "TrailGuide$State", name := "components", desc := "()I" } : Jvm.MethodName)) ∈ lw_all := lw_g (lw_at lw_m1 237 rfl) rfl
theorem q328 : (Jvm.Cond.selects "TrailGuide$State" ({ cls := "TrailGuide$State", name := "components", desc := "()I" } : Jvm.MethodName) ({ cls := "TrailGuide$State", name := "components", desc := "()I" } : Jvm.MethodName)) ∈ lw_all := lw_g (lw_at lw_m1 238 rfl) rfl
theorem q329 : (Jvm.Cond.code ({ cls := "TrailGuide$State", name := "components", desc := "()I" } : Jvm.MethodName) prog_12_method_19_code (4 : Nat) (Option.some Jvm.ClassFile.FieldType.int)) ∈ lw_all := lw_g (lw_at lw_m1 239 rfl) rfl
theorem q330 : (Jvm.Cond.static ({ cls := "TrailGuide$State", name := "lambda$components$2", desc := "([ZI)Z" } : Jvm.MethodName)) ∈ lw_all := lw_g (lw_at lw_m2 0 rfl) rfl
theorem q331 : (Jvm.Cond.code ({ cls := "TrailGuide$State", name := "lambda$components$2", desc := "([ZI)Z" } : Jvm.MethodName) prog_12_method_44_code (2 : Nat) (Option.some Jvm.ClassFile.FieldType.boolean)) ∈ lw_all := lw_g (lw_at lw_m2 1 rfl) rfl
theorem q332 : (Jvm.Cond.methodLink "TrailGuide$State" (128 : Nat) ({ cls := "TrailGuide$State", name := "firstWaypoint", desc := "(LTrailGuide$WaypointTest;)I" } : Jvm.MethodName)) ∈ lw_all := lw_g (lw_at lw_m2 2 rfl) rfl
theorem q333 : (Jvm.Cond.instanceMethod ({ cls := "TrailGuide$State", name := "firstWaypoint", desc := "(LTrailGuide$WaypointTest;)I" } : Jvm.MethodName)) ∈ lw_all := lw_g (lw_at lw_m2 3 rfl) rfl
theorem q334 : (Jvm.Cond.selects "TrailGuide$State" ({ cls := "TrailGuide$State", name := "firstWaypoint", desc := "(LTrailGuide$WaypointTest;)I" } : Jvm.MethodName) ({ cls := "TrailGuide$State", name := "firstWaypoint", desc := "(LTrailGuide$WaypointTest;)I" } : Jvm.MethodName)) ∈ lw_all := lw_g (lw_at lw_m2 4 rfl) rfl
theorem q335 : (Jvm.Cond.code ({ cls := "TrailGuide$State", name := "firstWaypoint", desc := "(LTrailGuide$WaypointTest;)I" } : Jvm.MethodName) prog_12_method_11_code (3 : Nat) (Option.some Jvm.ClassFile.FieldType.int)) ∈ lw_all := lw_g (lw_at lw_m2 5 rfl) rfl
theorem q336 : (Jvm.Cond.methodLink "TrailGuide$State" (69 : Nat) ({ cls := "TrailGuide$State", name := "size", desc := "()I" } : Jvm.MethodName)) ∈ lw_all := lw_g (lw_at lw_m2 6 rfl) rfl
theorem q337 : (Jvm.Cond.interfaceEntry "TrailGuide$State" (89 : Nat)) ∈ lw_tbl := lw_at lw_m2 7 rfl
theorem q338 : (Jvm.Cond.methodLink "TrailGuide$State" (89 : Nat) ({ cls := "TrailGuide$WaypointTest", name := "isSo", desc := "(I)Z" } : Jvm.MethodName)) ∈ lw_all := lw_g (lw_at lw_m2 8 rfl) rfl
theorem q341 : (Jvm.Cond.methodLink "TrailGuide$State" (121 : Nat) ({ cls := "TrailGuide$State", name := "mark", desc := "(I[Z)V" } : Jvm.MethodName)) ∈ lw_all := lw_g (lw_at lw_m2 11 rfl) rfl
theorem q342 : (Jvm.Cond.privateMethod ({ cls := "TrailGuide$State", name := "mark", desc := "(I[Z)V" } : Jvm.MethodName)) ∈ lw_tbl := lw_at lw_m2 12 rfl
theorem q343 : (Jvm.Cond.instanceMethod ({ cls := "TrailGuide$State", name := "mark", desc := "(I[Z)V" } : Jvm.MethodName)) ∈ lw_all := lw_g (lw_at lw_m2 13 rfl) rfl
theorem q344 : (Jvm.Cond.code ({ cls := "TrailGuide$State", name := "mark", desc := "(I[Z)V" } : Jvm.MethodName) prog_12_method_18_code (4 : Nat) (Option.none : Option Jvm.ClassFile.FieldType)) ∈ lw_all := lw_g (lw_at lw_m2 14 rfl) rfl
theorem q345 : (Jvm.Cond.methodLink "TrailGuide$State" (80 : Nat) ({ cls := "TrailGuide$State", name := "lengthOf", desc := "(II)I" } : Jvm.MethodName)) ∈ lw_all := lw_g (lw_at lw_m2 15 rfl) rfl
theorem q346 : (Jvm.Cond.instanceMethod ({ cls := "TrailGuide$State", name := "lengthOf", desc := "(II)I" } : Jvm.MethodName)) ∈ lw_all := lw_g (lw_at lw_m2 16 rfl) rfl
theorem q347 : (Jvm.Cond.selects "TrailGuide$State" ({ cls := "TrailGuide$State", name := "lengthOf", desc := "(II)I" } : Jvm.MethodName) ({ cls := "TrailGuide$State", name := "lengthOf", desc := "(II)I" } : Jvm.MethodName)) ∈ lw_all := lw_g (lw_at lw_m2 17 rfl) rfl
theorem q348 : (Jvm.Cond.code ({ cls := "TrailGuide$State", name := "lengthOf", desc := "(II)I" } : Jvm.MethodName) prog_12_method_6_code (3 : Nat) (Option.some Jvm.ClassFile.FieldType.int)) ∈ lw_all := lw_g (lw_at lw_m2 18 rfl) rfl
theorem q349 : (Jvm.Cond.static ({ cls := "TrailGuide$State", name := "lambda$components$3", desc := "([ZI)Z" } : Jvm.MethodName)) ∈ lw_all := lw_g (lw_at lw_m2 19 rfl) rfl
theorem q350 : (Jvm.Cond.code ({ cls := "TrailGuide$State", name := "lambda$components$3", desc := "([ZI)Z" } : Jvm.MethodName) prog_12_method_43_code (2 : Nat) (Option.some Jvm.ClassFile.FieldType.boolean)) ∈ lw_all := lw_g (lw_at lw_m2 20 rfl) rfl
theorem q357 : (Jvm.Cond.instanceMethod ({ cls := "TrailGuide$State", name := "componentsByMerging", desc := "()I" } : Jvm.MethodName)) ∈ lw_all := lw_g (lw_at lw_m2 27 rfl) rfl
theorem q358 : (Jvm.Cond.selects "TrailGuide$State" ({ cls := "TrailGuide$State", name := "componentsByMerging", desc := "()I" } : Jvm.MethodName) ({ cls := "TrailGuide$State", name := "componentsByMerging", desc := "()I" } : Jvm.MethodName)) ∈ lw_all := lw_g (lw_at lw_m2 28 rfl) rfl
theorem q359 : (Jvm.Cond.code ({ cls := "TrailGuide$State", name := "componentsByMerging", desc := "()I" } : Jvm.MethodName) prog_12_method_21_code (6 : Nat) (Option.some Jvm.ClassFile.FieldType.int)) ∈ lw_all := lw_g (lw_at lw_m2 29 rfl) rfl
theorem q360 : (Jvm.Cond.methodLink "TrailGuide$State" (133 : Nat) ({ cls := "TrailGuide$State", name := "leaderOf", desc := "([II)I" } : Jvm.MethodName)) ∈ lw_all := lw_g (lw_at lw_m2 30 rfl) rfl
theorem q361 : (Jvm.Cond.static ({ cls := "TrailGuide$State", name := "leaderOf", desc := "([II)I" } : Jvm.MethodName)) ∈ lw_all := lw_g (lw_at lw_m2 31 rfl) rfl
theorem q362 : (Jvm.Cond.code ({ cls := "TrailGuide$State", name := "leaderOf", desc := "([II)I" } : Jvm.MethodName) prog_12_method_20_code (2 : Nat) (Option.some Jvm.ClassFile.FieldType.int)) ∈ lw_all := lw_g (lw_at lw_m2 32 rfl) rfl
theorem q420 : (Jvm.Cond.instanceMethod ({ cls := "TrailGuide$State", name := "distancesFrom", desc := "(I)[I" } : Jvm.MethodName)) ∈ lw_all := lw_g (lw_at lw_m2 90 rfl) rfl
theorem q421 : (Jvm.Cond.selects "TrailGuide$State" ({ cls := "TrailGuide$State", name := "distancesFrom", desc := "(I)[I" } : Jvm.MethodName) ({ cls := "TrailGuide$State", name := "distancesFrom", desc := "(I)[I" } : Jvm.MethodName)) ∈ lw_all := lw_g (lw_at lw_m2 91 rfl) rfl
theorem q422 : (Jvm.Cond.code ({ cls := "TrailGuide$State", name := "distancesFrom", desc := "(I)[I" } : Jvm.MethodName) prog_12_method_15_code (6 : Nat) (Option.some (Jvm.ClassFile.FieldType.array Jvm.ClassFile.FieldType.int))) ∈ lw_all := lw_g (lw_at lw_m2 92 rfl) rfl
theorem q423 : (Jvm.Cond.methodLink "TrailGuide$State" (101 : Nat) ({ cls := "TrailGuide$State", name := "startingAt", desc := "(I)[I" } : Jvm.MethodName)) ∈ lw_all := lw_g (lw_at lw_m2 93 rfl) rfl
theorem q424 : (Jvm.Cond.privateMethod ({ cls := "TrailGuide$State", name := "startingAt", desc := "(I)[I" } : Jvm.MethodName)) ∈ lw_tbl := lw_at lw_m2 94 rfl
theorem q425 : (Jvm.Cond.instanceMethod ({ cls := "TrailGuide$State", name := "startingAt", desc := "(I)[I" } : Jvm.MethodName)) ∈ lw_all := lw_g (lw_at lw_m2 95 rfl) rfl
theorem q426 : (Jvm.Cond.code ({ cls := "TrailGuide$State", name := "startingAt", desc := "(I)[I" } : Jvm.MethodName) prog_12_method_13_code (4 : Nat) (Option.some (Jvm.ClassFile.FieldType.array Jvm.ClassFile.FieldType.int))) ∈ lw_all := lw_g (lw_at lw_m2 96 rfl) rfl
theorem q427 : (Jvm.Cond.constant "TrailGuide$State" (100 : Nat) (1000000 : Int32)) ∈ lw_all := lw_g (lw_at lw_m2 97 rfl) rfl
theorem q428 : (Jvm.Cond.static ({ cls := "TrailGuide$State", name := "lambda$distancesFrom$0", desc := "([IIII)V" } : Jvm.MethodName)) ∈ lw_all := lw_g (lw_at lw_m2 98 rfl) rfl
theorem q429 : (Jvm.Cond.code ({ cls := "TrailGuide$State", name := "lambda$distancesFrom$0", desc := "([IIII)V" } : Jvm.MethodName) prog_12_method_46_code (4 : Nat) (Option.none : Option Jvm.ClassFile.FieldType)) ∈ lw_all := lw_g (lw_at lw_m2 99 rfl) rfl
theorem q430 : (Jvm.Cond.methodLink "TrailGuide$State" (306 : Nat) ({ cls := "TrailGuide$State", name := "shorten", desc := "([III)V" } : Jvm.MethodName)) ∈ lw_all := lw_g (lw_at lw_m2 100 rfl) rfl
theorem q431 : (Jvm.Cond.static ({ cls := "TrailGuide$State", name := "shorten", desc := "([III)V" } : Jvm.MethodName)) ∈ lw_all := lw_g (lw_at lw_m2 101 rfl) rfl
theorem q432 : (Jvm.Cond.code ({ cls := "TrailGuide$State", name := "shorten", desc := "([III)V" } : Jvm.MethodName) prog_12_method_12_code (3 : Nat) (Option.none : Option Jvm.ClassFile.FieldType)) ∈ lw_all := lw_g (lw_at lw_m2 102 rfl) rfl
theorem q433 : (Jvm.Cond.methodLink "TrailGuide$State" (95 : Nat) ({ cls := "java/lang/Math", name := "min", desc := "(II)I" } : Jvm.MethodName)) ∈ lw_all := lw_g (lw_at lw_m2 103 rfl) rfl
theorem q436 : (Jvm.Cond.methodLink "TrailGuide$State" (108 : Nat) ({ cls := "TrailGuide$State", name := "visitTrails", desc := "(ILTrailGuide$TrailVisitor;)V" } : Jvm.MethodName)) ∈ lw_all := lw_g (lw_at lw_m2 106 rfl) rfl
theorem q437 : (Jvm.Cond.instanceMethod ({ cls := "TrailGuide$State", name := "visitTrails", desc := "(ILTrailGuide$TrailVisitor;)V" } : Jvm.MethodName)) ∈ lw_all := lw_g (lw_at lw_m2 107 rfl) rfl
theorem q438 : (Jvm.Cond.selects "TrailGuide$State" ({ cls := "TrailGuide$State", name := "visitTrails", desc := "(ILTrailGuide$TrailVisitor;)V" } : Jvm.MethodName) ({ cls := "TrailGuide$State", name := "visitTrails", desc := "(ILTrailGuide$TrailVisitor;)V" } : Jvm.MethodName)) ∈ lw_all := lw_g (lw_at lw_m2 108 rfl) rfl
theorem q439 : (Jvm.Cond.code ({ cls := "TrailGuide$State", name := "visitTrails", desc := "(ILTrailGuide$TrailVisitor;)V" } : Jvm.MethodName) prog_12_method_10_code (4 : Nat) (Option.none : Option Jvm.ClassFile.FieldType)) ∈ lw_all := lw_g (lw_at lw_m2 109 rfl) rfl
theorem q440 : (Jvm.Cond.interfaceEntry "TrailGuide$State" (84 : Nat)) ∈ lw_tbl := lw_at lw_m2 110 rfl
theorem q441 : (Jvm.Cond.methodLink "TrailGuide$State" (84 : Nat) ({ cls := "TrailGuide$TrailVisitor", name := "visit", desc := "(II)V" } : Jvm.MethodName)) ∈ lw_all := lw_g (lw_at lw_m2 111 rfl) rfl
theorem q444 : (Jvm.Cond.methodLink "TrailGuide$State" (112 : Nat) ({ cls := "TrailGuide$State", name := "closest", desc := "([I[Z)I" } : Jvm.MethodName)) ∈ lw_all := lw_g (lw_at lw_m2 114 rfl) rfl
theorem q445 : (Jvm.Cond.privateMethod ({ cls := "TrailGuide$State", name := "closest", desc := "([I[Z)I" } : Jvm.MethodName)) ∈ lw_tbl := lw_at lw_m2 115 rfl
theorem q446 : (Jvm.Cond.instanceMethod ({ cls := "TrailGuide$State", name := "closest", desc := "([I[Z)I" } : Jvm.MethodName)) ∈ lw_all := lw_g (lw_at lw_m2 116 rfl) rfl
theorem q447 : (Jvm.Cond.code ({ cls := "TrailGuide$State", name := "closest", desc := "([I[Z)I" } : Jvm.MethodName) prog_12_method_14_code (6 : Nat) (Option.some Jvm.ClassFile.FieldType.int)) ∈ lw_all := lw_g (lw_at lw_m2 117 rfl) rfl
theorem q449 : (Jvm.Cond.instanceMethod ({ cls := "TrailGuide$State", name := "distancesByRelaxation", desc := "(I)[I" } : Jvm.MethodName)) ∈ lw_all := lw_g (lw_at lw_m2 119 rfl) rfl
theorem q450 : (Jvm.Cond.selects "TrailGuide$State" ({ cls := "TrailGuide$State", name := "distancesByRelaxation", desc := "(I)[I" } : Jvm.MethodName) ({ cls := "TrailGuide$State", name := "distancesByRelaxation", desc := "(I)[I" } : Jvm.MethodName)) ∈ lw_all := lw_g (lw_at lw_m2 120 rfl) rfl
theorem q451 : (Jvm.Cond.code ({ cls := "TrailGuide$State", name := "distancesByRelaxation", desc := "(I)[I" } : Jvm.MethodName) prog_12_method_17_code (6 : Nat) (Option.some (Jvm.ClassFile.FieldType.array Jvm.ClassFile.FieldType.int))) ∈ lw_all := lw_g (lw_at lw_m2 121 rfl) rfl
theorem q452 : (Jvm.Cond.methodLink "TrailGuide$State" (116 : Nat) ({ cls := "TrailGuide$State", name := "sumOf", desc := "([I)I" } : Jvm.MethodName)) ∈ lw_all := lw_g (lw_at lw_m2 122 rfl) rfl
theorem q453 : (Jvm.Cond.privateMethod ({ cls := "TrailGuide$State", name := "sumOf", desc := "([I)I" } : Jvm.MethodName)) ∈ lw_tbl := lw_at lw_m2 123 rfl
theorem q454 : (Jvm.Cond.instanceMethod ({ cls := "TrailGuide$State", name := "sumOf", desc := "([I)I" } : Jvm.MethodName)) ∈ lw_all := lw_g (lw_at lw_m2 124 rfl) rfl
theorem q455 : (Jvm.Cond.code ({ cls := "TrailGuide$State", name := "sumOf", desc := "([I)I" } : Jvm.MethodName) prog_12_method_16_code (7 : Nat) (Option.some Jvm.ClassFile.FieldType.int)) ∈ lw_all := lw_g (lw_at lw_m2 125 rfl) rfl
theorem q456 : (Jvm.Cond.static ({ cls := "TrailGuide$State", name := "lambda$distancesByRelaxation$1", desc := "([IIII)V" } : Jvm.MethodName)) ∈ lw_all := lw_g (lw_at lw_m2 126 rfl) rfl
theorem q457 : (Jvm.Cond.code ({ cls := "TrailGuide$State", name := "lambda$distancesByRelaxation$1", desc := "([IIII)V" } : Jvm.MethodName) prog_12_method_45_code (4 : Nat) (Option.none : Option Jvm.ClassFile.FieldType)) ∈ lw_all := lw_g (lw_at lw_m2 127 rfl) rfl
theorem q825 : (Jvm.Cond.instanceMethod ({ cls := "TrailGuide$State", name := "hasTurn", desc := "(I)Z" } : Jvm.MethodName)) ∈ lw_all := lw_g (lw_at lw_m4 15 rfl) rfl
theorem q826 : (Jvm.Cond.selects "TrailGuide$State" ({ cls := "TrailGuide$State", name := "hasTurn", desc := "(I)Z" } : Jvm.MethodName) ({ cls := "TrailGuide$State", name := "hasTurn", desc := "(I)Z" } : Jvm.MethodName)) ∈ lw_all := lw_g (lw_at lw_m4 16 rfl) rfl
theorem q827 : (Jvm.Cond.code ({ cls := "TrailGuide$State", name := "hasTurn", desc := "(I)Z" } : Jvm.MethodName) prog_12_method_38_code (2 : Nat) (Option.some Jvm.ClassFile.FieldType.boolean)) ∈ lw_all := lw_g (lw_at lw_m4 17 rfl) rfl
theorem q828 : (Jvm.Cond.methodLink "TrailGuide$State" (201 : Nat) ({ cls := "TrailGuide$Tour", name := "route", desc := "()[I" } : Jvm.MethodName)) ∈ lw_all := lw_g (lw_at lw_m4 18 rfl) rfl
theorem q829 : (Jvm.Cond.methodLinkNest "TrailGuide$State" (140 : Nat) ({ cls := "TrailGuide", name := "inRange", desc := "(III)Z" } : Jvm.MethodName) "TrailGuide") ∈ lw_tbl := lw_at lw_m4 19 rfl
theorem q833 : (Jvm.Cond.instanceMethod ({ cls := "TrailGuide$State", name := "turnAt", desc := "(I)LTrailGuide$Turn;" } : Jvm.MethodName)) ∈ lw_all := lw_g (lw_at lw_m4 23 rfl) rfl
theorem q834 : (Jvm.Cond.selects "TrailGuide$State" ({ cls := "TrailGuide$State", name := "turnAt", desc := "(I)LTrailGuide$Turn;" } : Jvm.MethodName) ({ cls := "TrailGuide$State", name := "turnAt", desc := "(I)LTrailGuide$Turn;" } : Jvm.MethodName)) ∈ lw_all := lw_g (lw_at lw_m4 24 rfl) rfl
theorem q835 : (Jvm.Cond.code ({ cls := "TrailGuide$State", name := "turnAt", desc := "(I)LTrailGuide$Turn;" } : Jvm.MethodName) prog_12_method_37_code (3 : Nat) (Option.some (Jvm.ClassFile.FieldType.object "TrailGuide$Turn"))) ∈ lw_all := lw_g (lw_at lw_m4 25 rfl) rfl
theorem q836 : (Jvm.Cond.methodLink "TrailGuide$State" (191 : Nat) ({ cls := "TrailGuide$State", name := "pointOf", desc := "(I)LTrailGuide$Point;" } : Jvm.MethodName)) ∈ lw_all := lw_g (lw_at lw_m4 26 rfl) rfl
theorem q837 : (Jvm.Cond.privateMethod ({ cls := "TrailGuide$State", name := "pointOf", desc := "(I)LTrailGuide$Point;" } : Jvm.MethodName)) ∈ lw_tbl := lw_at lw_m4 27 rfl
theorem q838 : (Jvm.Cond.instanceMethod ({ cls := "TrailGuide$State", name := "pointOf", desc := "(I)LTrailGuide$Point;" } : Jvm.MethodName)) ∈ lw_all := lw_g (lw_at lw_m4 28 rfl) rfl
theorem q839 : (Jvm.Cond.code ({ cls := "TrailGuide$State", name := "pointOf", desc := "(I)LTrailGuide$Point;" } : Jvm.MethodName) prog_12_method_25_code (2 : Nat) (Option.some (Jvm.ClassFile.FieldType.object "TrailGuide$Point"))) ∈ lw_all := lw_g (lw_at lw_m4 29 rfl) rfl
theorem q840 : (Jvm.Cond.methodLink "TrailGuide$State" (74 : Nat) ({ cls := "java/util/ArrayList", name := "get", desc := "(I)Ljava/lang/Object;" } : Jvm.MethodName)) ∈ lw_all := lw_g (lw_at lw_m4 30 rfl) rfl
theorem q854 : (Jvm.Cond.classLink "TrailGuide$State" (78 : Nat) "TrailGuide$Waypoint") ∈ lw_all := lw_g (lw_at lw_m4 44 rfl) rfl
theorem q855 : (Jvm.Cond.methodLink "TrailGuide$State" (175 : Nat) ({ cls := "TrailGuide$Waypoint", name := "point", desc := "()LTrailGuide$Point;" } : Jvm.MethodName)) ∈ lw_all := lw_g (lw_at lw_m4 45 rfl) rfl
theorem q859 : (Jvm.Cond.methodLink "TrailGuide$State" (289 : Nat) ({ cls := "TrailGuide$Point", name := "minus", desc := "(LTrailGuide$Point;)LTrailGuide$Point;" } : Jvm.MethodName)) ∈ lw_all := lw_g (lw_at lw_m4 49 rfl) rfl
theorem q879 : (Jvm.Cond.methodLink "TrailGuide$State" (293 : Nat) ({ cls := "TrailGuide$Turn", name := "between", desc := "(LTrailGuide$Point;LTrailGuide$Point;)LTrailGuide$Turn;" } : Jvm.MethodName)) ∈ lw_all := lw_g (lw_at lw_m4 69 rfl) rfl
theorem q940 : (Jvm.Cond.instanceMethod ({ cls := "TrailGuide$State", name := "<init>", desc := "(LTrailGuide$State;)V" } : Jvm.MethodName)) ∈ lw_all := lw_g (lw_at lw_m4 130 rfl) rfl
theorem q941 : (Jvm.Cond.code ({ cls := "TrailGuide$State", name := "<init>", desc := "(LTrailGuide$State;)V" } : Jvm.MethodName) prog_12_method_2_code (3 : Nat) (Option.none : Option Jvm.ClassFile.FieldType)) ∈ lw_all := lw_g (lw_at lw_m4 131 rfl) rfl
theorem q942 : (Jvm.Cond.methodLink "TrailGuide$State" (38 : Nat) ({ cls := "java/util/ArrayList", name := "addAll", desc := "(Ljava/util/Collection;)Z" } : Jvm.MethodName)) ∈ lw_all := lw_g (lw_at lw_m4 132 rfl) rfl
theorem q988 : (Jvm.Cond.selects "TrailGuide$State" ({ cls := "java/lang/Object", name := "getClass", desc := "()Ljava/lang/Class;" } : Jvm.MethodName) ({ cls := "java/lang/Object", name := "getClass", desc := "()Ljava/lang/Class;" } : Jvm.MethodName)) ∈ lw_all := lw_g (lw_at lw_m4 178 rfl) rfl
theorem q1022 : (Jvm.Cond.methodLink "TrailGuide$State" (42 : Nat) ({ cls := "java/lang/System", name := "arraycopy", desc := "(Ljava/lang/Object;ILjava/lang/Object;II)V" } : Jvm.MethodName)) ∈ lw_all := lw_g (lw_at lw_m4 212 rfl) rfl
theorem q1035 : (Jvm.Cond.instanceMethod ({ cls := "TrailGuide$State", name := "addWaypoint", desc := "(III)I" } : Jvm.MethodName)) ∈ lw_all := lw_g (lw_at lw_m4 225 rfl) rfl
theorem q1036 : (Jvm.Cond.selects "TrailGuide$State" ({ cls := "TrailGuide$State", name := "addWaypoint", desc := "(III)I" } : Jvm.MethodName) ({ cls := "TrailGuide$State", name := "addWaypoint", desc := "(III)I" } : Jvm.MethodName)) ∈ lw_all := lw_g (lw_at lw_m4 226 rfl) rfl
theorem q1037 : (Jvm.Cond.code ({ cls := "TrailGuide$State", name := "addWaypoint", desc := "(III)I" } : Jvm.MethodName) prog_12_method_22_code (5 : Nat) (Option.some Jvm.ClassFile.FieldType.int)) ∈ lw_all := lw_g (lw_at lw_m4 227 rfl) rfl
theorem q1038 : (Jvm.Cond.methodLinkNest "TrailGuide$State" (137 : Nat) ({ cls := "TrailGuide", name := "checkCoordinates", desc := "(II)V" } : Jvm.MethodName) "TrailGuide") ∈ lw_tbl := lw_at lw_m4 228 rfl
theorem q1056 : (Jvm.Cond.methodLinkNest "TrailGuide$State" (144 : Nat) ({ cls := "TrailGuide", name := "checkArgument", desc := "(Z)V" } : Jvm.MethodName) "TrailGuide") ∈ lw_tbl := lw_at lw_m5 6 rfl
theorem q1057 : (Jvm.Cond.methodLinkNest "TrailGuide$State" (148 : Nat) ({ cls := "TrailGuide", name := "checkState", desc := "(Z)V" } : Jvm.MethodName) "TrailGuide") ∈ lw_tbl := lw_at lw_m5 7 rfl
theorem q1076 : (Jvm.Cond.classLink "TrailGuide$State" (151 : Nat) "TrailGuide$Point") ∈ lw_all := lw_g (lw_at lw_m5 26 rfl) rfl
theorem q1077 : (Jvm.Cond.methodLinkNest "TrailGuide$State" (153 : Nat) ({ cls := "TrailGuide$Point", name := "<init>", desc := "(II)V" } : Jvm.MethodName) "TrailGuide") ∈ lw_tbl := lw_at lw_m5 27 rfl
theorem q1078 : (Jvm.Cond.methodLinkNest "TrailGuide$State" (155 : Nat) ({ cls := "TrailGuide$Waypoint", name := "<init>", desc := "(LTrailGuide$Point;I)V" } : Jvm.MethodName) "TrailGuide") ∈ lw_tbl := lw_at lw_m5 28 rfl
theorem q1089 : (Jvm.Cond.methodLink "TrailGuide$State" (158 : Nat) ({ cls := "java/util/ArrayList", name := "add", desc := "(Ljava/lang/Object;)Z" } : Jvm.MethodName)) ∈ lw_all := lw_g (lw_at lw_m5 39 rfl) rfl
theorem q1183 : (Jvm.Cond.instanceMethod ({ cls := "TrailGuide$State", name := "addTrail", desc := "(III)I" } : Jvm.MethodName)) ∈ lw_all := lw_g (lw_at lw_m5 133 rfl) rfl
theorem q1184 : (Jvm.Cond.selects "TrailGuide$State" ({ cls := "TrailGuide$State", name := "addTrail", desc := "(III)I" } : Jvm.MethodName) ({ cls := "TrailGuide$State", name := "addTrail", desc := "(III)I" } : Jvm.MethodName)) ∈ lw_all := lw_g (lw_at lw_m5 134 rfl) rfl
theorem q1185 : (Jvm.Cond.code ({ cls := "TrailGuide$State", name := "addTrail", desc := "(III)I" } : Jvm.MethodName) prog_12_method_23_code (4 : Nat) (Option.some Jvm.ClassFile.FieldType.int)) ∈ lw_all := lw_g (lw_at lw_m5 135 rfl) rfl
theorem q1186 : (Jvm.Cond.methodLink "TrailGuide$State" (162 : Nat) ({ cls := "TrailGuide$State", name := "checkPair", desc := "(II)V" } : Jvm.MethodName)) ∈ lw_all := lw_g (lw_at lw_m5 136 rfl) rfl
theorem q1187 : (Jvm.Cond.instanceMethod ({ cls := "TrailGuide$State", name := "checkPair", desc := "(II)V" } : Jvm.MethodName)) ∈ lw_all := lw_g (lw_at lw_m5 137 rfl) rfl
theorem q1188 : (Jvm.Cond.selects "TrailGuide$State" ({ cls := "TrailGuide$State", name := "checkPair", desc := "(II)V" } : Jvm.MethodName) ({ cls := "TrailGuide$State", name := "checkPair", desc := "(II)V" } : Jvm.MethodName)) ∈ lw_all := lw_g (lw_at lw_m5 138 rfl) rfl
theorem q1189 : (Jvm.Cond.code ({ cls := "TrailGuide$State", name := "checkPair", desc := "(II)V" } : Jvm.MethodName) prog_12_method_5_code (3 : Nat) (Option.none : Option Jvm.ClassFile.FieldType)) ∈ lw_all := lw_g (lw_at lw_m5 139 rfl) rfl
theorem q1190 : (Jvm.Cond.methodLinkNest "TrailGuide$State" (70 : Nat) ({ cls := "TrailGuide", name := "checkIndex", desc := "(II)V" } : Jvm.MethodName) "TrailGuide") ∈ lw_tbl := lw_at lw_m5 140 rfl
theorem q1208 : (Jvm.Cond.methodLink "TrailGuide$State" (165 : Nat) ({ cls := "TrailGuide$State", name := "setLength", desc := "(III)V" } : Jvm.MethodName)) ∈ lw_all := lw_g (lw_at lw_m5 158 rfl) rfl
theorem q1209 : (Jvm.Cond.privateMethod ({ cls := "TrailGuide$State", name := "setLength", desc := "(III)V" } : Jvm.MethodName)) ∈ lw_tbl := lw_at lw_m5 159 rfl
theorem q1210 : (Jvm.Cond.instanceMethod ({ cls := "TrailGuide$State", name := "setLength", desc := "(III)V" } : Jvm.MethodName)) ∈ lw_all := lw_g (lw_at lw_m5 160 rfl) rfl
theorem q1211 : (Jvm.Cond.code ({ cls := "TrailGuide$State", name := "setLength", desc := "(III)V" } : Jvm.MethodName) prog_12_method_7_code (4 : Nat) (Option.none : Option Jvm.ClassFile.FieldType)) ∈ lw_all := lw_g (lw_at lw_m5 161 rfl) rfl
theorem q1212 : (Jvm.Cond.methodLink "TrailGuide$State" (169 : Nat) ({ cls := "TrailGuide$State", name := "countTrails", desc := "()I" } : Jvm.MethodName)) ∈ lw_all := lw_g (lw_at lw_m5 162 rfl) rfl
theorem q1224 : (Jvm.Cond.instanceMethod ({ cls := "TrailGuide$State", name := "removeTrail", desc := "(II)I" } : Jvm.MethodName)) ∈ lw_all := lw_g (lw_at lw_m5 174 rfl) rfl
theorem q1225 : (Jvm.Cond.selects "TrailGuide$State" ({ cls := "TrailGuide$State", name := "removeTrail", desc := "(II)I" } : Jvm.MethodName) ({ cls := "TrailGuide$State", name := "removeTrail", desc := "(II)I" } : Jvm.MethodName)) ∈ lw_all := lw_g (lw_at lw_m5 175 rfl) rfl
theorem q1226 : (Jvm.Cond.code ({ cls := "TrailGuide$State", name := "removeTrail", desc := "(II)I" } : Jvm.MethodName) prog_12_method_24_code (4 : Nat) (Option.some Jvm.ClassFile.FieldType.int)) ∈ lw_all := lw_g (lw_at lw_m5 176 rfl) rfl
theorem q1227 : (Jvm.Cond.methodLinkNest "TrailGuide$State" (172 : Nat) ({ cls := "TrailGuide", name := "checkElement", desc := "(Z)V" } : Jvm.MethodName) "TrailGuide") ∈ lw_tbl := lw_at lw_m5 177 rfl
theorem q1242 : (Jvm.Cond.instanceMethod ({ cls := "TrailGuide$State", name := "startTour", desc := "(II)I" } : Jvm.MethodName)) ∈ lw_all := lw_g (lw_at lw_m5 192 rfl) rfl
theorem q1243 : (Jvm.Cond.selects "TrailGuide$State" ({ cls := "TrailGuide$State", name := "startTour", desc := "(II)I" } : Jvm.MethodName) ({ cls := "TrailGuide$State", name := "startTour", desc := "(II)I" } : Jvm.MethodName)) ∈ lw_all := lw_g (lw_at lw_m5 193 rfl) rfl
theorem q1244 : (Jvm.Cond.code ({ cls := "TrailGuide$State", name := "startTour", desc := "(II)I" } : Jvm.MethodName) prog_12_method_27_code (7 : Nat) (Option.some Jvm.ClassFile.FieldType.int)) ∈ lw_all := lw_g (lw_at lw_m5 194 rfl) rfl
theorem q1245 : (Jvm.Cond.methodLink "TrailGuide$State" (182 : Nat) ({ cls := "TrailGuide$State", name := "distancesFrom", desc := "(I)[I" } : Jvm.MethodName)) ∈ lw_all := lw_g (lw_at lw_m5 195 rfl) rfl
theorem q1246 : (Jvm.Cond.methodLink "TrailGuide$State" (185 : Nat) ({ cls := "TrailGuide$State", name := "successor", desc := "(I[I)I" } : Jvm.MethodName)) ∈ lw_all := lw_g (lw_at lw_m5 196 rfl) rfl
theorem q1247 : (Jvm.Cond.privateMethod ({ cls := "TrailGuide$State", name := "successor", desc := "(I[I)I" } : Jvm.MethodName)) ∈ lw_tbl := lw_at lw_m5 197 rfl
theorem q1248 : (Jvm.Cond.instanceMethod ({ cls := "TrailGuide$State", name := "successor", desc := "(I[I)I" } : Jvm.MethodName)) ∈ lw_all := lw_g (lw_at lw_m5 198 rfl) rfl
theorem q1249 : (Jvm.Cond.code ({ cls := "TrailGuide$State", name := "successor", desc := "(I[I)I" } : Jvm.MethodName) prog_12_method_26_code (3 : Nat) (Option.some Jvm.ClassFile.FieldType.int)) ∈ lw_all := lw_g (lw_at lw_m5 199 rfl) rfl
theorem q1250 : (Jvm.Cond.privateMethod ({ cls := "TrailGuide$State", name := "lambda$successor$4", desc := "(I[II)Z" } : Jvm.MethodName)) ∈ lw_tbl := lw_at lw_m5 200 rfl
theorem q1251 : (Jvm.Cond.instanceMethod ({ cls := "TrailGuide$State", name := "lambda$successor$4", desc := "(I[II)Z" } : Jvm.MethodName)) ∈ lw_all := lw_g (lw_at lw_m5 201 rfl) rfl
theorem q1252 : (Jvm.Cond.code ({ cls := "TrailGuide$State", name := "lambda$successor$4", desc := "(I[II)Z" } : Jvm.MethodName) prog_12_method_42_code (4 : Nat) (Option.some Jvm.ClassFile.FieldType.boolean)) ∈ lw_all := lw_g (lw_at lw_m5 202 rfl) rfl
theorem q1253 : (Jvm.Cond.classLink "TrailGuide$State" (189 : Nat) "TrailGuide$Tour") ∈ lw_all := lw_g (lw_at lw_m5 203 rfl) rfl
theorem q1255 : (Jvm.Cond.methodLinkNest "TrailGuide$State" (195 : Nat) ({ cls := "TrailGuide$Tour", name := "<init>", desc := "([IILTrailGuide$Point;)V" } : Jvm.MethodName) "TrailGuide") ∈ lw_tbl := lw_at lw_m5 205 rfl
theorem q1279 : (Jvm.Cond.instanceMethod ({ cls := "TrailGuide$State", name := "stopTour", desc := "()I" } : Jvm.MethodName)) ∈ lw_all := lw_g (lw_at lw_m5 229 rfl) rfl
theorem q1280 : (Jvm.Cond.selects "TrailGuide$State" ({ cls := "TrailGuide$State", name := "stopTour", desc := "()I" } : Jvm.MethodName) ({ cls := "TrailGuide$State", name := "stopTour", desc := "()I" } : Jvm.MethodName)) ∈ lw_all := lw_g (lw_at lw_m5 230 rfl) rfl
theorem q1281 : (Jvm.Cond.code ({ cls := "TrailGuide$State", name := "stopTour", desc := "()I" } : Jvm.MethodName) prog_12_method_29_code (2 : Nat) (Option.some Jvm.ClassFile.FieldType.int)) ∈ lw_all := lw_g (lw_at lw_m5 231 rfl) rfl
theorem q1282 : (Jvm.Cond.methodLink "TrailGuide$State" (198 : Nat) ({ cls := "TrailGuide$State", name := "checkTour", desc := "()V" } : Jvm.MethodName)) ∈ lw_all := lw_g (lw_at lw_m5 232 rfl) rfl
theorem q1283 : (Jvm.Cond.instanceMethod ({ cls := "TrailGuide$State", name := "checkTour", desc := "()V" } : Jvm.MethodName)) ∈ lw_all := lw_g (lw_at lw_m5 233 rfl) rfl
theorem q1284 : (Jvm.Cond.selects "TrailGuide$State" ({ cls := "TrailGuide$State", name := "checkTour", desc := "()V" } : Jvm.MethodName) ({ cls := "TrailGuide$State", name := "checkTour", desc := "()V" } : Jvm.MethodName)) ∈ lw_all := lw_g (lw_at lw_m5 234 rfl) rfl
theorem q1285 : (Jvm.Cond.code ({ cls := "TrailGuide$State", name := "checkTour", desc := "()V" } : Jvm.MethodName) prog_12_method_28_code (1 : Nat) (Option.none : Option Jvm.ClassFile.FieldType)) ∈ lw_all := lw_g (lw_at lw_m5 235 rfl) rfl
theorem q1286 : (Jvm.Cond.methodLink "TrailGuide$State" (205 : Nat) ({ cls := "TrailGuide$Tour", name := "targetIndex", desc := "()I" } : Jvm.MethodName)) ∈ lw_all := lw_g (lw_at lw_m5 236 rfl) rfl
theorem q1287 : (Jvm.Cond.methodLink "TrailGuide$State" (208 : Nat) ({ cls := "TrailGuide$State", name := "endTour", desc := "()V" } : Jvm.MethodName)) ∈ lw_all := lw_g (lw_at lw_m5 237 rfl) rfl
theorem q1288 : (Jvm.Cond.privateMethod ({ cls := "TrailGuide$State", name := "endTour", desc := "()V" } : Jvm.MethodName)) ∈ lw_tbl := lw_at lw_m5 238 rfl
theorem q1289 : (Jvm.Cond.instanceMethod ({ cls := "TrailGuide$State", name := "endTour", desc := "()V" } : Jvm.MethodName)) ∈ lw_all := lw_g (lw_at lw_m5 239 rfl) rfl
theorem q1290 : (Jvm.Cond.code ({ cls := "TrailGuide$State", name := "endTour", desc := "()V" } : Jvm.MethodName) prog_12_method_30_code (1 : Nat) (Option.none : Option Jvm.ClassFile.FieldType)) ∈ lw_all := lw_g (lw_at lw_m6 0 rfl) rfl
theorem q1302 : (Jvm.Cond.instanceMethod ({ cls := "TrailGuide$State", name := "update", desc := "(II)I" } : Jvm.MethodName)) ∈ lw_all := lw_g (lw_at lw_m6 12 rfl) rfl
theorem q1303 : (Jvm.Cond.selects "TrailGuide$State" ({ cls := "TrailGuide$State", name := "update", desc := "(II)I" } : Jvm.MethodName) ({ cls := "TrailGuide$State", name := "update", desc := "(II)I" } : Jvm.MethodName)) ∈ lw_all := lw_g (lw_at lw_m6 13 rfl) rfl
theorem q1304 : (Jvm.Cond.code ({ cls := "TrailGuide$State", name := "update", desc := "(II)I" } : Jvm.MethodName) prog_12_method_36_code (4 : Nat) (Option.some Jvm.ClassFile.FieldType.int)) ∈ lw_all := lw_g (lw_at lw_m6 14 rfl) rfl
theorem q1305 : (Jvm.Cond.methodLinkNest "TrailGuide$State" (277 : Nat) ({ cls := "TrailGuide", name := "checkSupported", desc := "(Z)V" } : Jvm.MethodName) "TrailGuide") ∈ lw_tbl := lw_at lw_m6 15 rfl
theorem q1323 : (Jvm.Cond.methodLink "TrailGuide$State" (258 : Nat) ({ cls := "TrailGuide$State", name := "consume", desc := "(I)V" } : Jvm.MethodName)) ∈ lw_all := lw_g (lw_at lw_m6 33 rfl) rfl
theorem q1324 : (Jvm.Cond.privateMethod ({ cls := "TrailGuide$State", name := "consume", desc := "(I)V" } : Jvm.MethodName)) ∈ lw_tbl := lw_at lw_m6 34 rfl
theorem q1325 : (Jvm.Cond.instanceMethod ({ cls := "TrailGuide$State", name := "consume", desc := "(I)V" } : Jvm.MethodName)) ∈ lw_all := lw_g (lw_at lw_m6 35 rfl) rfl
theorem q1326 : (Jvm.Cond.code ({ cls := "TrailGuide$State", name := "consume", desc := "(I)V" } : Jvm.MethodName) prog_12_method_34_code (2 : Nat) (Option.none : Option Jvm.ClassFile.FieldType)) ∈ lw_all := lw_g (lw_at lw_m6 36 rfl) rfl
theorem q1327 : (Jvm.Cond.methodLink "TrailGuide$State" (250 : Nat) ({ cls := "java/lang/Math", name := "max", desc := "(II)I" } : Jvm.MethodName)) ∈ lw_all := lw_g (lw_at lw_m6 37 rfl) rfl
theorem q1328 : (Jvm.Cond.methodLink "TrailGuide$State" (282 : Nat) ({ cls := "TrailGuide$Tour", name := "withHiker", desc := "(LTrailGuide$Point;)LTrailGuide$Tour;" } : Jvm.MethodName)) ∈ lw_all := lw_g (lw_at lw_m6 38 rfl) rfl
theorem q1334 : (Jvm.Cond.methodLink "TrailGuide$State" (267 : Nat) ({ cls := "TrailGuide$Tour", name := "hiker", desc := "()LTrailGuide$Point;" } : Jvm.MethodName)) ∈ lw_all := lw_g (lw_at lw_m6 44 rfl) rfl
theorem q1338 : (Jvm.Cond.methodLink "TrailGuide$State" (286 : Nat) ({ cls := "TrailGuide$State", name := "eventAt", desc := "(LTrailGuide$Point;)LTrailGuide$Event;" } : Jvm.MethodName)) ∈ lw_all := lw_g (lw_at lw_m6 48 rfl) rfl
theorem q1339 : (Jvm.Cond.instanceMethod ({ cls := "TrailGuide$State", name := "eventAt", desc := "(LTrailGuide$Point;)LTrailGuide$Event;" } : Jvm.MethodName)) ∈ lw_all := lw_g (lw_at lw_m6 49 rfl) rfl
theorem q1340 : (Jvm.Cond.selects "TrailGuide$State" ({ cls := "TrailGuide$State", name := "eventAt", desc := "(LTrailGuide$Point;)LTrailGuide$Event;" } : Jvm.MethodName) ({ cls := "TrailGuide$State", name := "eventAt", desc := "(LTrailGuide$Point;)LTrailGuide$Event;" } : Jvm.MethodName)) ∈ lw_all := lw_g (lw_at lw_m6 50 rfl) rfl
theorem q1341 : (Jvm.Cond.code ({ cls := "TrailGuide$State", name := "eventAt", desc := "(LTrailGuide$Point;)LTrailGuide$Event;" } : Jvm.MethodName) prog_12_method_33_code (2 : Nat) (Option.some (Jvm.ClassFile.FieldType.object "TrailGuide$Event"))) ∈ lw_all := lw_g (lw_at lw_m6 51 rfl) rfl
theorem q1342 : (Jvm.Cond.methodLink "TrailGuide$State" (211 : Nat) ({ cls := "TrailGuide$Tour", name := "target", desc := "()I" } : Jvm.MethodName)) ∈ lw_all := lw_g (lw_at lw_m6 52 rfl) rfl
theorem q1346 : (Jvm.Cond.methodLink "TrailGuide$State" (235 : Nat) ({ cls := "TrailGuide$Waypoint", name := "contains", desc := "(LTrailGuide$Point;)Z" } : Jvm.MethodName)) ∈ lw_all := lw_g (lw_at lw_m6 56 rfl) rfl
theorem q1360 : (Jvm.Cond.classLink "TrailGuide$State" (239 : Nat) "TrailGuide$Reached") ∈ lw_all := lw_g (lw_at lw_m6 70 rfl) rfl
theorem q1362 : (Jvm.Cond.methodLink "TrailGuide$State" (241 : Nat) ({ cls := "TrailGuide$Tour", name := "isLast", desc := "()Z" } : Jvm.MethodName)) ∈ lw_all := lw_g (lw_at lw_m6 72 rfl) rfl
theorem q1366 : (Jvm.Cond.methodLinkNest "TrailGuide$State" (245 : Nat) ({ cls := "TrailGuide$Reached", name := "<init>", desc := "(Z)V" } : Jvm.MethodName) "TrailGuide") ∈ lw_tbl := lw_at lw_m6 76 rfl
theorem q1374 : (Jvm.Cond.methodLink "TrailGuide$State" (246 : Nat) ({ cls := "TrailGuide$State", name := "driftEvent", desc := "(LTrailGuide$Point;)LTrailGuide$Event;" } : Jvm.MethodName)) ∈ lw_all := lw_g (lw_at lw_m6 84 rfl) rfl
theorem q1375 : (Jvm.Cond.privateMethod ({ cls := "TrailGuide$State", name := "driftEvent", desc := "(LTrailGuide$Point;)LTrailGuide$Event;" } : Jvm.MethodName)) ∈ lw_tbl := lw_at lw_m6 85 rfl
theorem q1376 : (Jvm.Cond.instanceMethod ({ cls := "TrailGuide$State", name := "driftEvent", desc := "(LTrailGuide$Point;)LTrailGuide$Event;" } : Jvm.MethodName)) ∈ lw_all := lw_g (lw_at lw_m6 86 rfl) rfl
theorem q1377 : (Jvm.Cond.code ({ cls := "TrailGuide$State", name := "driftEvent", desc := "(LTrailGuide$Point;)LTrailGuide$Event;" } : Jvm.MethodName) prog_12_method_32_code (2 : Nat) (Option.some (Jvm.ClassFile.FieldType.object "TrailGuide$Event"))) ∈ lw_all := lw_g (lw_at lw_m6 87 rfl) rfl
theorem q1378 : (Jvm.Cond.methodLink "TrailGuide$State" (218 : Nat) ({ cls := "TrailGuide$State", name := "driftOf", desc := "(LTrailGuide$Point;)LTrailGuide$Square;" } : Jvm.MethodName)) ∈ lw_all := lw_g (lw_at lw_m6 88 rfl) rfl
theorem q1379 : (Jvm.Cond.instanceMethod ({ cls := "TrailGuide$State", name := "driftOf", desc := "(LTrailGuide$Point;)LTrailGuide$Square;" } : Jvm.MethodName)) ∈ lw_all := lw_g (lw_at lw_m6 89 rfl) rfl
theorem q1380 : (Jvm.Cond.selects "TrailGuide$State" ({ cls := "TrailGuide$State", name := "driftOf", desc := "(LTrailGuide$Point;)LTrailGuide$Square;" } : Jvm.MethodName) ({ cls := "TrailGuide$State", name := "driftOf", desc := "(LTrailGuide$Point;)LTrailGuide$Square;" } : Jvm.MethodName)) ∈ lw_all := lw_g (lw_at lw_m6 90 rfl) rfl
theorem q1381 : (Jvm.Cond.code ({ cls := "TrailGuide$State", name := "driftOf", desc := "(LTrailGuide$Point;)LTrailGuide$Square;" } : Jvm.MethodName) prog_12_method_31_code (2 : Nat) (Option.some (Jvm.ClassFile.FieldType.object "TrailGuide$Square"))) ∈ lw_all := lw_g (lw_at lw_m6 91 rfl) rfl
theorem q1382 : (Jvm.Cond.methodLinkNest "TrailGuide$State" (214 : Nat) ({ cls := "TrailGuide", name := "squaredDrift", desc := "(LTrailGuide$Point;LTrailGuide$Point;LTrailGuide$Point;)LTrailGuide$Square;" } : Jvm.MethodName) "TrailGuide") ∈ lw_tbl := lw_at lw_m6 92 rfl
theorem q1403 : (Jvm.Cond.methodLink "TrailGuide$State" (222 : Nat) ({ cls := "TrailGuide$Square", name := "isGreaterThan", desc := "(J)Z" } : Jvm.MethodName)) ∈ lw_all := lw_g (lw_at lw_m6 113 rfl) rfl
theorem q1407 : (Jvm.Cond.classLink "TrailGuide$State" (228 : Nat) "TrailGuide$Drifted") ∈ lw_all := lw_g (lw_at lw_m6 117 rfl) rfl
theorem q1409 : (Jvm.Cond.methodLinkNest "TrailGuide$State" (230 : Nat) ({ cls := "TrailGuide$Drifted", name := "<init>", desc := "(Z)V" } : Jvm.MethodName) "TrailGuide") ∈ lw_tbl := lw_at lw_m6 119 rfl
theorem q1417 : (Jvm.Cond.classLink "TrailGuide$State" (232 : Nat) "TrailGuide$Quiet") ∈ lw_all := lw_g (lw_at lw_m6 127 rfl) rfl
theorem q1419 : (Jvm.Cond.methodLinkNest "TrailGuide$State" (234 : Nat) ({ cls := "TrailGuide$Quiet", name := "<init>", desc := "()V" } : Jvm.MethodName) "TrailGuide") ∈ lw_tbl := lw_at lw_m6 129 rfl
theorem q1424 : (Jvm.Cond.methodLink "TrailGuide$State" (270 : Nat) ({ cls := "TrailGuide$State", name := "happen", desc := "(LTrailGuide$Event;)V" } : Jvm.MethodName)) ∈ lw_all := lw_g (lw_at lw_m6 134 rfl) rfl
theorem q1425 : (Jvm.Cond.privateMethod ({ cls := "TrailGuide$State", name := "happen", desc := "(LTrailGuide$Event;)V" } : Jvm.MethodName)) ∈ lw_tbl := lw_at lw_m6 135 rfl
theorem q1426 : (Jvm.Cond.instanceMethod ({ cls := "TrailGuide$State", name := "happen", desc := "(LTrailGuide$Event;)V" } : Jvm.MethodName)) ∈ lw_all := lw_g (lw_at lw_m6 136 rfl) rfl
theorem q1427 : (Jvm.Cond.code ({ cls := "TrailGuide$State", name := "happen", desc := "(LTrailGuide$Event;)V" } : Jvm.MethodName) prog_12_method_35_code (4 : Nat) (Option.none : Option Jvm.ClassFile.FieldType)) ∈ lw_all := lw_g (lw_at lw_m6 137 rfl) rfl
theorem q1428 : (Jvm.Cond.interfaceEntry "TrailGuide$State" (253 : Nat)) ∈ lw_tbl := lw_at lw_m6 138 rfl
theorem q1429 : (Jvm.Cond.methodLink "TrailGuide$State" (253 : Nat) ({ cls := "TrailGuide$Event", name := "cost", desc := "()I" } : Jvm.MethodName)) ∈ lw_all := lw_g (lw_at lw_m6 139 rfl) rfl
theorem q1450 : (Jvm.Cond.methodLink "TrailGuide$State" (262 : Nat) ({ cls := "TrailGuide$Reached", name := "isLast", desc := "()Z" } : Jvm.MethodName)) ∈ lw_all := lw_g (lw_at lw_m6 160 rfl) rfl
theorem q1454 : (Jvm.Cond.methodLink "TrailGuide$State" (263 : Nat) ({ cls := "TrailGuide$Tour", name := "withNextTarget", desc := "()LTrailGuide$Tour;" } : Jvm.MethodName)) ∈ lw_all := lw_g (lw_at lw_m6 164 rfl) rfl
theorem q1458 : (Jvm.Cond.methodLink "TrailGuide$State" (274 : Nat) ({ cls := "TrailGuide$Drifted", name := "isNew", desc := "()Z" } : Jvm.MethodName)) ∈ lw_all := lw_g (lw_at lw_m6 168 rfl) rfl
theorem q1472 : (Jvm.Cond.instanceMethod ({ cls := "TrailGuide$State", name := "setTolerance", desc := "(I)I" } : Jvm.MethodName)) ∈ lw_all := lw_g (lw_at lw_m6 182 rfl) rfl
theorem q1473 : (Jvm.Cond.selects "TrailGuide$State" ({ cls := "TrailGuide$State", name := "setTolerance", desc := "(I)I" } : Jvm.MethodName) ({ cls := "TrailGuide$State", name := "setTolerance", desc := "(I)I" } : Jvm.MethodName)) ∈ lw_all := lw_g (lw_at lw_m6 183 rfl) rfl
theorem q1474 : (Jvm.Cond.code ({ cls := "TrailGuide$State", name := "setTolerance", desc := "(I)I" } : Jvm.MethodName) prog_12_method_39_code (3 : Nat) (Option.some Jvm.ClassFile.FieldType.int)) ∈ lw_all := lw_g (lw_at lw_m6 184 rfl) rfl
theorem q1485 : (Jvm.Cond.instanceMethod ({ cls := "TrailGuide$State", name := "setMode", desc := "(I)I" } : Jvm.MethodName)) ∈ lw_all := lw_g (lw_at lw_m6 195 rfl) rfl
theorem q1486 : (Jvm.Cond.selects "TrailGuide$State" ({ cls := "TrailGuide$State", name := "setMode", desc := "(I)I" } : Jvm.MethodName) ({ cls := "TrailGuide$State", name := "setMode", desc := "(I)I" } : Jvm.MethodName)) ∈ lw_all := lw_g (lw_at lw_m6 196 rfl) rfl
theorem q1487 : (Jvm.Cond.code ({ cls := "TrailGuide$State", name := "setMode", desc := "(I)I" } : Jvm.MethodName) prog_12_method_40_code (4 : Nat) (Option.some Jvm.ClassFile.FieldType.int)) ∈ lw_all := lw_g (lw_at lw_m6 197 rfl) rfl
theorem q1488 : (Jvm.Cond.methodLink "TrailGuide$State" (299 : Nat) ({ cls := "TrailGuide$Mode", name := "of", desc := "(I)LTrailGuide$Mode;" } : Jvm.MethodName)) ∈ lw_all := lw_g (lw_at lw_m6 198 rfl) rfl
theorem q1498 : (Jvm.Cond.methodLink "TrailGuide$State" (303 : Nat) ({ cls := "TrailGuide$Mode", name := "ordinal", desc := "()I" } : Jvm.MethodName)) ∈ lw_all := lw_g (lw_at lw_m6 208 rfl) rfl
theorem q1509 : (Jvm.Cond.instanceMethod ({ cls := "TrailGuide$State", name := "charge", desc := "(I)I" } : Jvm.MethodName)) ∈ lw_all := lw_g (lw_at lw_m6 219 rfl) rfl
theorem q1510 : (Jvm.Cond.selects "TrailGuide$State" ({ cls := "TrailGuide$State", name := "charge", desc := "(I)I" } : Jvm.MethodName) ({ cls := "TrailGuide$State", name := "charge", desc := "(I)I" } : Jvm.MethodName)) ∈ lw_all := lw_g (lw_at lw_m6 220 rfl) rfl
theorem q1511 : (Jvm.Cond.code ({ cls := "TrailGuide$State", name := "charge", desc := "(I)I" } : Jvm.MethodName) prog_12_method_41_code (2 : Nat) (Option.some Jvm.ClassFile.FieldType.int)) ∈ lw_all := lw_g (lw_at lw_m6 221 rfl) rfl
theorem q1520 : (Jvm.Cond.instanceMethod ({ cls := "TrailGuide$State", name := "waypoint", desc := "(I)LTrailGuide$Waypoint;" } : Jvm.MethodName)) ∈ lw_all := lw_g (lw_at lw_m6 230 rfl) rfl
theorem q1521 : (Jvm.Cond.selects "TrailGuide$State" ({ cls := "TrailGuide$State", name := "waypoint", desc := "(I)LTrailGuide$Waypoint;" } : Jvm.MethodName) ({ cls := "TrailGuide$State", name := "waypoint", desc := "(I)LTrailGuide$Waypoint;" } : Jvm.MethodName)) ∈ lw_all := lw_g (lw_at lw_m6 231 rfl) rfl
theorem q1522 : (Jvm.Cond.code ({ cls := "TrailGuide$State", name := "waypoint", desc := "(I)LTrailGuide$Waypoint;" } : Jvm.MethodName) prog_12_method_4_code (2 : Nat) (Option.some (Jvm.ClassFile.FieldType.object "TrailGuide$Waypoint"))) ∈ lw_all := lw_g (lw_at lw_m6 232 rfl) rfl
theorem q1723 : (Jvm.Cond.instanceMethod ({ cls := "TrailGuide$State", name := "sumLengths", desc := "()I" } : Jvm.MethodName)) ∈ lw_all := lw_g (lw_at lw_m7 193 rfl) rfl
theorem q1724 : (Jvm.Cond.selects "TrailGuide$State" ({ cls := "TrailGuide$State", name := "sumLengths", desc := "()I" } : Jvm.MethodName) ({ cls := "TrailGuide$State", name := "sumLengths", desc := "()I" } : Jvm.MethodName)) ∈ lw_all := lw_g (lw_at lw_m7 194 rfl) rfl
theorem q1725 : (Jvm.Cond.code ({ cls := "TrailGuide$State", name := "sumLengths", desc := "()I" } : Jvm.MethodName) prog_12_method_9_code (6 : Nat) (Option.some Jvm.ClassFile.FieldType.int)) ∈ lw_all := lw_g (lw_at lw_m7 195 rfl) rfl
theorem q2628 : (Jvm.Cond.castable "TrailGuide$State" "java/lang/Object") ∈ lw_tbl := lw_at lw_m11 138 rfl
theorem q2670 : (Jvm.Cond.fieldLinkNest "TrailGuide$State" (280 : Nat) "TrailGuide$Mode" "cost" "I" "TrailGuide") ∈ lw_tbl := lw_at lw_m11 180 rfl
theorem in_X2 : ∀ w ∈ wsX20, w ∈ lw_all := lw_in wsX20 [201, 203, 205, 207, 209, 211, 213, 215, 217, 219] (by decide +kernel) (by decide +kernel)
/-! TrailGuide$Mode -/
def RX3 : String := "TrailGuide$Mode"
abbrev cX3_of : ByteArray := prog_6_method_4_code
def yX3_of : MethodName := ⟨RX3, "of", "(I)LTrailGuide$Mode;"⟩
abbrev cX3_values : ByteArray := prog_6_method_1_code
def yX3_values : MethodName := ⟨RX3, "values", "()[LTrailGuide$Mode;"⟩
theorem q97 : (Jvm.Cond.initialized "TrailGuide$Mode") ∈ lw_all := lw_g (lw_at lw_m1 7 rfl) rfl
theorem q182 : (Jvm.Cond.laysStatic "TrailGuide$Mode" "NORMAL" "LTrailGuide$Mode;") ∈ lw_tbl := lw_at lw_m1 92 rfl
theorem q380 : (Jvm.Cond.sameMethod "TrailGuide$Mode" "java/lang/Enum" "ordinal" "()I") ∈ lw_all := lw_g (lw_at lw_m2 50 rfl) rfl
theorem q382 : (Jvm.Cond.selects "TrailGuide$Mode" ({ cls := "TrailGuide$Mode", name := "ordinal", desc := "()I" } : Jvm.MethodName) ({ cls := "java/lang/Enum", name := "ordinal", desc := "()I" } : Jvm.MethodName)) ∈ lw_all := lw_g (lw_at lw_m2 52 rfl) rfl
theorem q982 : (Jvm.Cond.selects "TrailGuide$Mode" ({ cls := "java/lang/Object", name := "getClass", desc := "()Ljava/lang/Class;" } : Jvm.MethodName) ({ cls := "java/lang/Object", name := "getClass", desc := "()Ljava/lang/Class;" } : Jvm.MethodName)) ∈ lw_all := lw_g (lw_at lw_m4 172 rfl) rfl
theorem q1489 : (Jvm.Cond.static ({ cls := "TrailGuide$Mode", name := "of", desc := "(I)LTrailGuide$Mode;" } : Jvm.MethodName)) ∈ lw_all := lw_g (lw_at lw_m6 199 rfl) rfl
theorem q1490 : (Jvm.Cond.code ({ cls := "TrailGuide$Mode", name := "of", desc := "(I)LTrailGuide$Mode;" } : Jvm.MethodName) prog_6_method_4_code (1 : Nat) (Option.some (Jvm.ClassFile.FieldType.object "TrailGuide$Mode"))) ∈ lw_all := lw_g (lw_at lw_m6 200 rfl) rfl
theorem q1491 : (Jvm.Cond.methodLinkNest "TrailGuide$Mode" (40 : Nat) ({ cls := "TrailGuide", name := "inRange", desc := "(III)Z" } : Jvm.MethodName) "TrailGuide") ∈ lw_tbl := lw_at lw_m6 201 rfl
theorem q1492 : (Jvm.Cond.methodLinkNest "TrailGuide$Mode" (46 : Nat) ({ cls := "TrailGuide", name := "checkArgument", desc := "(Z)V" } : Jvm.MethodName) "TrailGuide") ∈ lw_tbl := lw_at lw_m6 202 rfl
theorem q1493 : (Jvm.Cond.fieldLink "TrailGuide$Mode" (3 : Nat) "TrailGuide$Mode" "ECO" "LTrailGuide$Mode;") ∈ lw_all := lw_g (lw_at lw_m6 203 rfl) rfl
theorem q1494 : (Jvm.Cond.laysStatic "TrailGuide$Mode" "ECO" "LTrailGuide$Mode;") ∈ lw_tbl := lw_at lw_m6 204 rfl
theorem q1495 : (Jvm.Cond.fieldLink "TrailGuide$Mode" (7 : Nat) "TrailGuide$Mode" "NORMAL" "LTrailGuide$Mode;") ∈ lw_all := lw_g (lw_at lw_m6 205 rfl) rfl
theorem q1496 : (Jvm.Cond.fieldLink "TrailGuide$Mode" (10 : Nat) "TrailGuide$Mode" "FULL" "LTrailGuide$Mode;") ∈ lw_all := lw_g (lw_at lw_m6 206 rfl) rfl
theorem q1497 : (Jvm.Cond.laysStatic "TrailGuide$Mode" "FULL" "LTrailGuide$Mode;") ∈ lw_tbl := lw_at lw_m6 207 rfl
theorem q1975 : (Jvm.Cond.static ({ cls := "TrailGuide$Mode", name := "values", desc := "()[LTrailGuide$Mode;" } : Jvm.MethodName)) ∈ lw_all := lw_g (lw_at lw_m8 205 rfl) rfl
theorem q1976 : (Jvm.Cond.code ({ cls := "TrailGuide$Mode", name := "values", desc := "()[LTrailGuide$Mode;" } : Jvm.MethodName) prog_6_method_1_code (0 : Nat) (Option.some (Jvm.ClassFile.FieldType.array (Jvm.ClassFile.FieldType.object "TrailGuide$Mode")))) ∈ lw_all := lw_g (lw_at lw_m8 206 rfl) rfl
theorem q1977 : (Jvm.Cond.fieldLink "TrailGuide$Mode" (13 : Nat) "TrailGuide$Mode" "$VALUES" "[LTrailGuide$Mode;") ∈ lw_all := lw_g (lw_at lw_m8 207 rfl) rfl
theorem q1978 : (Jvm.Cond.laysStatic "TrailGuide$Mode" "$VALUES" "[LTrailGuide$Mode;") ∈ lw_tbl := lw_at lw_m8 208 rfl
theorem q1979 : (Jvm.Cond.methodLink "TrailGuide$Mode" (17 : Nat) ({ cls := "[LTrailGuide$Mode;", name := "clone", desc := "()Ljava/lang/Object;" } : Jvm.MethodName)) ∈ lw_all := lw_g (lw_at lw_m8 209 rfl) rfl
theorem q1984 : (Jvm.Cond.classLink "TrailGuide$Mode" (18 : Nat) "[LTrailGuide$Mode;") ∈ lw_all := lw_g (lw_at lw_m8 214 rfl) rfl
theorem q2626 : (Jvm.Cond.castable "TrailGuide$Mode" "java/lang/Object") ∈ lw_tbl := lw_at lw_m11 136 rfl
/-! TrailGuideModel -/
def RX4 : String := "TrailGuideModel"
def TX4 : u_T := fun k => match k with
  | 0 => ("TrailGuideModel", "s", "[I", true)
  | 1 => ("TrailGuideModel", "was", "[I", true)
  | 2 => ("TrailGuideModel", "saved", "[I", true)
  | 3 => ("TrailGuideModel", "past", "[I", true)
  | 4 => ("TrailGuideModel", "far", "[I", true)
  | 5 => ("TrailGuideModel", "changes", "I", false)
  | 6 => ("TrailGuideModel", "thrown", "I", false)
  | 7 => ("TrailGuideModel", "errorAt", "I", false)
  | 8 => ("TrailGuideModel", "failedAt", "I", false)
  | 9 => ("TrailGuideModel", "answer", "I", false)
  | 10 => ("TrailGuideModel", "isSaved", "Z", false)
  | 11 => ("TrailGuideModel", "line", "[I", true)
  | 12 => ("TrailGuideModel", "lined", "I", false)
  | 13 => ("TrailGuideModel", "tape", "[I", true)
  | 14 => ("TrailGuideModel", "commands", "[I", true)
  | 15 => ("TrailGuideModel", "taped", "I", false)
  | 16 => ("TrailGuideModel", "here", "I", false)
  | _ => ("TrailGuideModel", "commandMany", "I", false)
def tyX4 : Nat → FieldType := fun k => match k with
  | 0 => .array .int
  | 1 => .array .int
  | 2 => .array .int
  | 3 => .array .int
  | 4 => .array .int
  | 5 => .int
  | 6 => .int
  | 7 => .int
  | 8 => .int
  | 9 => .int
  | 10 => .boolean
  | 11 => .array .int
  | 12 => .int
  | 13 => .array .int
  | 14 => .array .int
  | 15 => .int
  | 16 => .int
  | _ => .int
abbrev wsX40 : List Cond := u_ws RX4 TX4 18
theorem nmX4 : ∀ a, a < 18 → ∀ b, b < 18 → a ≠ b → (TX4 a).2.1 ≠ (TX4 b).2.1 := by decide +kernel
theorem tyX4_ok : ∀ k, k < 18 → parseFieldDescriptor (TX4 k).2.2.1 = some (tyX4 k) := by decide +kernel
abbrev cX4_init : ByteArray := prog_24_method_1_code
def yX4_init : MethodName := ⟨RX4, "<init>", "()V"⟩
abbrev cX4_thrown : ByteArray := prog_24_method_2_code
def yX4_thrown : MethodName := ⟨RX4, "thrown", "()I"⟩
abbrev cX4_addWaypoint : ByteArray := prog_24_method_15_code
def yX4_addWaypoint : MethodName := ⟨RX4, "addWaypoint", "(III)I"⟩
abbrev cX4_keeps : ByteArray := prog_24_method_5_code
def yX4_keeps : MethodName := ⟨RX4, "keeps", "()V"⟩
abbrev cX4_copies : ByteArray := prog_24_method_4_code
def yX4_copies : MethodName := ⟨RX4, "copies", "([II[II)V"⟩
abbrev cX4_points : ByteArray := prog_24_method_14_code
def yX4_points : MethodName := ⟨RX4, "points", "(III)I"⟩
abbrev cX4_isPlace : ByteArray := prog_24_method_10_code
def yX4_isPlace : MethodName := ⟨RX4, "isPlace", "(II)Z"⟩
abbrev cX4_isIn : ByteArray := prog_24_method_3_code
def yX4_isIn : MethodName := ⟨RX4, "isIn", "(III)Z"⟩
abbrev cX4_isThrown : ByteArray := prog_24_method_7_code
def yX4_isThrown : MethodName := ⟨RX4, "isThrown", "(ZI)Z"⟩
abbrev cX4_ends : ByteArray := prog_24_method_6_code
def yX4_ends : MethodName := ⟨RX4, "ends", "(I)I"⟩
abbrev cX4_addTrail : ByteArray := prog_24_method_17_code
def yX4_addTrail : MethodName := ⟨RX4, "addTrail", "(III)I"⟩
abbrev cX4_joins : ByteArray := prog_24_method_16_code
def yX4_joins : MethodName := ⟨RX4, "joins", "(III)I"⟩
abbrev cX4_isPoint : ByteArray := prog_24_method_9_code
def yX4_isPoint : MethodName := ⟨RX4, "isPoint", "(I)Z"⟩
abbrev cX4_trail : ByteArray := prog_24_method_11_code
def yX4_trail : MethodName := ⟨RX4, "trail", "(II)I"⟩
abbrev cX4_setsTrail : ByteArray := prog_24_method_12_code
def yX4_setsTrail : MethodName := ⟨RX4, "setsTrail", "(III)V"⟩
abbrev cX4_manyTrails : ByteArray := prog_24_method_13_code
def yX4_manyTrails : MethodName := ⟨RX4, "manyTrails", "()I"⟩
abbrev cX4_removeTrail : ByteArray := prog_24_method_19_code
def yX4_removeTrail : MethodName := ⟨RX4, "removeTrail", "(II)I"⟩
abbrev cX4_cuts : ByteArray := prog_24_method_18_code
def yX4_cuts : MethodName := ⟨RX4, "cuts", "(II)I"⟩
abbrev cX4_startTour : ByteArray := prog_24_method_24_code
def yX4_startTour : MethodName := ⟨RX4, "startTour", "(II)I"⟩
abbrev cX4_tours : ByteArray := prog_24_method_23_code
def yX4_tours : MethodName := ⟨RX4, "tours", "(II)I"⟩
abbrev cX4_isOnTour : ByteArray := prog_24_method_21_code
def yX4_isOnTour : MethodName := ⟨RX4, "isOnTour", "()Z"⟩
abbrev cX4_finds : ByteArray := prog_24_method_20_code
def yX4_finds : MethodName := ⟨RX4, "finds", "(I)V"⟩
abbrev cX4_following : ByteArray := prog_24_method_22_code
def yX4_following : MethodName := ⟨RX4, "following", "(I)I"⟩
abbrev cX4_of : ByteArray := prog_24_method_8_code
def yX4_of : MethodName := ⟨RX4, "of", "(II)I"⟩
abbrev cX4_stopTour : ByteArray := prog_24_method_27_code
def yX4_stopTour : MethodName := ⟨RX4, "stopTour", "()I"⟩
abbrev cX4_stops : ByteArray := prog_24_method_26_code
def yX4_stops : MethodName := ⟨RX4, "stops", "()I"⟩
abbrev cX4_over : ByteArray := prog_24_method_25_code
def yX4_over : MethodName := ⟨RX4, "over", "()V"⟩
abbrev cX4_update : ByteArray := prog_24_method_38_code
def yX4_update : MethodName := ⟨RX4, "update", "(II)Z"⟩
abbrev cX4_updated : ByteArray := prog_24_method_37_code
def yX4_updated : MethodName := ⟨RX4, "updated", "(II)I"⟩
abbrev cX4_costOf : ByteArray := prog_24_method_34_code
def yX4_costOf : MethodName := ⟨RX4, "costOf", "(I)I"⟩
abbrev cX4_drains : ByteArray := prog_24_method_35_code
def yX4_drains : MethodName := ⟨RX4, "drains", "(I)V"⟩
abbrev cX4_reaches : ByteArray := prog_24_method_30_code
def yX4_reaches : MethodName := ⟨RX4, "reaches", "(II)Z"⟩
abbrev cX4_aim : ByteArray := prog_24_method_28_code
def yX4_aim : MethodName := ⟨RX4, "aim", "()I"⟩
abbrev cX4_square : ByteArray := prog_24_method_29_code
def yX4_square : MethodName := ⟨RX4, "square", "(II)I"⟩
abbrev cX4_watches : ByteArray := prog_24_method_36_code
def yX4_watches : MethodName := ⟨RX4, "watches", "()V"⟩
abbrev cX4_isWithin : ByteArray := prog_24_method_33_code
def yX4_isWithin : MethodName := ⟨RX4, "isWithin", "(III)Z"⟩
abbrev cX4_compared : ByteArray := prog_24_method_31_code
def yX4_compared : MethodName := ⟨RX4, "compared", "(III)I"⟩
abbrev cX4_setTolerance : ByteArray := prog_24_method_40_code
def yX4_setTolerance : MethodName := ⟨RX4, "setTolerance", "(I)I"⟩
abbrev cX4_tells : ByteArray := prog_24_method_39_code
def yX4_tells : MethodName := ⟨RX4, "tells", "(IIII)I"⟩
abbrev cX4_setMode : ByteArray := prog_24_method_41_code
def yX4_setMode : MethodName := ⟨RX4, "setMode", "(I)I"⟩
abbrev cX4_charge : ByteArray := prog_24_method_43_code
def yX4_charge : MethodName := ⟨RX4, "charge", "(I)I"⟩
abbrev cX4_charges : ByteArray := prog_24_method_42_code
def yX4_charges : MethodName := ⟨RX4, "charges", "(I)I"⟩
abbrev cX4_waypoints : ByteArray := prog_24_method_44_code
def yX4_waypoints : MethodName := ⟨RX4, "waypoints", "()I"⟩
abbrev cX4_waypointX : ByteArray := prog_24_method_46_code
def yX4_waypointX : MethodName := ⟨RX4, "waypointX", "(I)I"⟩
abbrev cX4_ofPoint : ByteArray := prog_24_method_45_code
def yX4_ofPoint : MethodName := ⟨RX4, "ofPoint", "(II)I"⟩
abbrev cX4_waypointY : ByteArray := prog_24_method_47_code
def yX4_waypointY : MethodName := ⟨RX4, "waypointY", "(I)I"⟩
abbrev cX4_radius : ByteArray := prog_24_method_48_code
def yX4_radius : MethodName := ⟨RX4, "radius", "(I)I"⟩
abbrev cX4_trails : ByteArray := prog_24_method_49_code
def yX4_trails : MethodName := ⟨RX4, "trails", "()I"⟩
abbrev cX4_hasTrail : ByteArray := prog_24_method_50_code
def yX4_hasTrail : MethodName := ⟨RX4, "hasTrail", "(II)Z"⟩
abbrev cX4_trailLength : ByteArray := prog_24_method_51_code
def yX4_trailLength : MethodName := ⟨RX4, "trailLength", "(II)I"⟩
abbrev cX4_distance : ByteArray := prog_24_method_52_code
def yX4_distance : MethodName := ⟨RX4, "distance", "(II)I"⟩
abbrev cX4_distanceByRelaxation : ByteArray := prog_24_method_53_code
def yX4_distanceByRelaxation : MethodName := ⟨RX4, "distanceByRelaxation", "(II)I"⟩
abbrev cX4_components : ByteArray := prog_24_method_54_code
def yX4_components : MethodName := ⟨RX4, "components", "()I"⟩
abbrev cX4_componentsByMerging : ByteArray := prog_24_method_55_code
def yX4_componentsByMerging : MethodName := ⟨RX4, "componentsByMerging", "()I"⟩
abbrev cX4_nearest : ByteArray := prog_24_method_57_code
def yX4_nearest : MethodName := ⟨RX4, "nearest", "(II)I"⟩
abbrev cX4_away : ByteArray := prog_24_method_56_code
def yX4_away : MethodName := ⟨RX4, "away", "(III)I"⟩
abbrev cX4_isTouring : ByteArray := prog_24_method_58_code
def yX4_isTouring : MethodName := ⟨RX4, "isTouring", "()Z"⟩
abbrev cX4_routeLength : ByteArray := prog_24_method_60_code
def yX4_routeLength : MethodName := ⟨RX4, "routeLength", "()I"⟩
abbrev cX4_ofTour : ByteArray := prog_24_method_59_code
def yX4_ofTour : MethodName := ⟨RX4, "ofTour", "(I)I"⟩
abbrev cX4_routeWaypoint : ByteArray := prog_24_method_62_code
def yX4_routeWaypoint : MethodName := ⟨RX4, "routeWaypoint", "(I)I"⟩
abbrev cX4_isNoIndex : ByteArray := prog_24_method_61_code
def yX4_isNoIndex : MethodName := ⟨RX4, "isNoIndex", "(I)Z"⟩
abbrev cX4_turn : ByteArray := prog_24_method_64_code
def yX4_turn : MethodName := ⟨RX4, "turn", "(I)C"⟩
abbrev cX4_turnAt : ByteArray := prog_24_method_63_code
def yX4_turnAt : MethodName := ⟨RX4, "turnAt", "(I)I"⟩
abbrev cX4_target : ByteArray := prog_24_method_65_code
def yX4_target : MethodName := ⟨RX4, "target", "()I"⟩
abbrev cX4_hikerX : ByteArray := prog_24_method_66_code
def yX4_hikerX : MethodName := ⟨RX4, "hikerX", "()I"⟩
abbrev cX4_hikerY : ByteArray := prog_24_method_67_code
def yX4_hikerY : MethodName := ⟨RX4, "hikerY", "()I"⟩
abbrev cX4_drift : ByteArray := prog_24_method_68_code
def yX4_drift : MethodName := ⟨RX4, "drift", "()I"⟩
abbrev cX4_isBeyond : ByteArray := prog_24_method_32_code
def yX4_isBeyond : MethodName := ⟨RX4, "isBeyond", "(III)Z"⟩
abbrev cX4_isAlarm : ByteArray := prog_24_method_69_code
def yX4_isAlarm : MethodName := ⟨RX4, "isAlarm", "()Z"⟩
abbrev cX4_forecast : ByteArray := prog_24_method_70_code
def yX4_forecast : MethodName := ⟨RX4, "forecast", "(II)C"⟩
abbrev cX4_battery : ByteArray := prog_24_method_71_code
def yX4_battery : MethodName := ⟨RX4, "battery", "()I"⟩
abbrev cX4_mode : ByteArray := prog_24_method_72_code
def yX4_mode : MethodName := ⟨RX4, "mode", "()I"⟩
abbrev cX4_tolerance : ByteArray := prog_24_method_73_code
def yX4_tolerance : MethodName := ⟨RX4, "tolerance", "()I"⟩
abbrev cX4_updatesLeft : ByteArray := prog_24_method_74_code
def yX4_updatesLeft : MethodName := ⟨RX4, "updatesLeft", "()I"⟩
abbrev cX4_updatesLeftByCounting : ByteArray := prog_24_method_75_code
def yX4_updatesLeftByCounting : MethodName := ⟨RX4, "updatesLeftByCounting", "()I"⟩
abbrev cX4_updates : ByteArray := prog_24_method_76_code
def yX4_updates : MethodName := ⟨RX4, "updates", "()I"⟩
abbrev cX4_alarms : ByteArray := prog_24_method_77_code
def yX4_alarms : MethodName := ⟨RX4, "alarms", "()I"⟩
abbrev cX4_reached : ByteArray := prog_24_method_78_code
def yX4_reached : MethodName := ⟨RX4, "reached", "()I"⟩
abbrev cX4_alarmRate : ByteArray := prog_24_method_79_code
def yX4_alarmRate : MethodName := ⟨RX4, "alarmRate", "()F"⟩
abbrev cX4_meanTrailLength : ByteArray := prog_24_method_80_code
def yX4_meanTrailLength : MethodName := ⟨RX4, "meanTrailLength", "()D"⟩
abbrev cX4_isConsistent : ByteArray := prog_24_method_81_code
def yX4_isConsistent : MethodName := ⟨RX4, "isConsistent", "()Z"⟩
abbrev cX4_writeRoute : ByteArray := prog_24_method_84_code
def yX4_writeRoute : MethodName := ⟨RX4, "writeRoute", "()I"⟩
abbrev cX4_puts : ByteArray := prog_24_method_82_code
def yX4_puts : MethodName := ⟨RX4, "puts", "(I)V"⟩
abbrev cX4_number : ByteArray := prog_24_method_83_code
def yX4_number : MethodName := ⟨RX4, "number", "(I)V"⟩
abbrev cX4_writeTrails : ByteArray := prog_24_method_85_code
def yX4_writeTrails : MethodName := ⟨RX4, "writeTrails", "(I)I"⟩
abbrev cX4_charAt : ByteArray := prog_24_method_86_code
def yX4_charAt : MethodName := ⟨RX4, "charAt", "(I)C"⟩
abbrev cX4_type : ByteArray := prog_24_method_87_code
def yX4_type : MethodName := ⟨RX4, "type", "(C)I"⟩
abbrev cX4_run : ByteArray := prog_24_method_102_code
def yX4_run : MethodName := ⟨RX4, "run", "()I"⟩
abbrev cX4_isProgram : ByteArray := prog_24_method_100_code
def yX4_isProgram : MethodName := ⟨RX4, "isProgram", "()Z"⟩
abbrev cX4_readsCommand : ByteArray := prog_24_method_99_code
def yX4_readsCommand : MethodName := ⟨RX4, "readsCommand", "()Z"⟩
abbrev cX4_sign : ByteArray := prog_24_method_88_code
def yX4_sign : MethodName := ⟨RX4, "sign", "()I"⟩
abbrev cX4_isFirst : ByteArray := prog_24_method_98_code
def yX4_isFirst : MethodName := ⟨RX4, "isFirst", "(I)Z"⟩
abbrev cX4_readsRest : ByteArray := prog_24_method_97_code
def yX4_readsRest : MethodName := ⟨RX4, "readsRest", "(II)Z"⟩
abbrev cX4_isWord : ByteArray := prog_24_method_91_code
def yX4_isWord : MethodName := ⟨RX4, "isWord", "(Ljava/lang/String;)Z"⟩
abbrev cX4_isSign : ByteArray := prog_24_method_89_code
def yX4_isSign : MethodName := ⟨RX4, "isSign", "(I)Z"⟩
abbrev cX4_isPair : ByteArray := prog_24_method_93_code
def yX4_isPair : MethodName := ⟨RX4, "isPair", "(II)Z"⟩
abbrev cX4_isNumber : ByteArray := prog_24_method_90_code
def yX4_isNumber : MethodName := ⟨RX4, "isNumber", "(II)Z"⟩
abbrev cX4_readsT : ByteArray := prog_24_method_94_code
def yX4_readsT : MethodName := ⟨RX4, "readsT", "(I)Z"⟩
abbrev cX4_readsC : ByteArray := prog_24_method_95_code
def yX4_readsC : MethodName := ⟨RX4, "readsC", "(I)Z"⟩
abbrev cX4_readsM : ByteArray := prog_24_method_96_code
def yX4_readsM : MethodName := ⟨RX4, "readsM", "(I)Z"⟩
abbrev cX4_isMode : ByteArray := prog_24_method_92_code
def yX4_isMode : MethodName := ⟨RX4, "isMode", "(I)Z"⟩
abbrev cX4_does : ByteArray := prog_24_method_101_code
def yX4_does : MethodName := ⟨RX4, "does", "(I)I"⟩
abbrev cX4_errorPosition : ByteArray := prog_24_method_103_code
def yX4_errorPosition : MethodName := ⟨RX4, "errorPosition", "()I"⟩
abbrev cX4_failedCommand : ByteArray := prog_24_method_104_code
def yX4_failedCommand : MethodName := ⟨RX4, "failedCommand", "()I"⟩
abbrev cX4_undo : ByteArray := prog_24_method_105_code
def yX4_undo : MethodName := ⟨RX4, "undo", "()I"⟩
abbrev cX4_save : ByteArray := prog_24_method_106_code
def yX4_save : MethodName := ⟨RX4, "save", "()I"⟩
abbrev cX4_restore : ByteArray := prog_24_method_107_code
def yX4_restore : MethodName := ⟨RX4, "restore", "()I"⟩
theorem q103 : (Jvm.Cond.initialized "TrailGuideModel") ∈ lw_all := lw_g (lw_at lw_m1 13 rfl) rfl
theorem q996 : (Jvm.Cond.selects "TrailGuideModel" ({ cls := "java/lang/Object", name := "getClass", desc := "()Ljava/lang/Class;" } : Jvm.MethodName) ({ cls := "java/lang/Object", name := "getClass", desc := "()Ljava/lang/Class;" } : Jvm.MethodName)) ∈ lw_all := lw_g (lw_at lw_m4 186 rfl) rfl
theorem q2114 : (Jvm.Cond.instantiable "TrailGuideModel" (18 : Nat)) ∈ lw_all := lw_g (lw_at lw_m9 104 rfl) rfl
theorem q2116 : (Jvm.Cond.instanceMethod ({ cls := "TrailGuideModel", name := "<init>", desc := "()V" } : Jvm.MethodName)) ∈ lw_all := lw_g (lw_at lw_m9 106 rfl) rfl
theorem q2117 : (Jvm.Cond.code ({ cls := "TrailGuideModel", name := "<init>", desc := "()V" } : Jvm.MethodName) prog_24_method_1_code (1 : Nat) (Option.none : Option Jvm.ClassFile.FieldType)) ∈ lw_all := lw_g (lw_at lw_m9 107 rfl) rfl
theorem q2118 : (Jvm.Cond.methodLink "TrailGuideModel" (3 : Nat) ({ cls := "java/lang/Object", name := "<init>", desc := "()V" } : Jvm.MethodName)) ∈ lw_all := lw_g (lw_at lw_m9 108 rfl) rfl
theorem q2119 : (Jvm.Cond.fieldLink "TrailGuideModel" (9 : Nat) "TrailGuideModel" "s" "[I") ∈ lw_all := lw_g (lw_at lw_m9 109 rfl) rfl
theorem q2120 : (Jvm.Cond.fieldLink "TrailGuideModel" (13 : Nat) "TrailGuideModel" "was" "[I") ∈ lw_all := lw_g (lw_at lw_m9 110 rfl) rfl
theorem q2121 : (Jvm.Cond.fieldLink "TrailGuideModel" (16 : Nat) "TrailGuideModel" "saved" "[I") ∈ lw_all := lw_g (lw_at lw_m9 111 rfl) rfl
theorem q2122 : (Jvm.Cond.fieldLink "TrailGuideModel" (19 : Nat) "TrailGuideModel" "past" "[I") ∈ lw_all := lw_g (lw_at lw_m9 112 rfl) rfl
theorem q2123 : (Jvm.Cond.fieldLink "TrailGuideModel" (22 : Nat) "TrailGuideModel" "far" "[I") ∈ lw_all := lw_g (lw_at lw_m9 113 rfl) rfl
theorem q2124 : (Jvm.Cond.fieldLink "TrailGuideModel" (48 : Nat) "TrailGuideModel" "changes" "I") ∈ lw_all := lw_g (lw_at lw_m9 114 rfl) rfl
theorem q2125 : (Jvm.Cond.fieldLink "TrailGuideModel" (41 : Nat) "TrailGuideModel" "thrown" "I") ∈ lw_all := lw_g (lw_at lw_m9 115 rfl) rfl
theorem q2126 : (Jvm.Cond.fieldLink "TrailGuideModel" (25 : Nat) "TrailGuideModel" "errorAt" "I") ∈ lw_all := lw_g (lw_at lw_m9 116 rfl) rfl
theorem q2127 : (Jvm.Cond.fieldLink "TrailGuideModel" (29 : Nat) "TrailGuideModel" "failedAt" "I") ∈ lw_all := lw_g (lw_at lw_m9 117 rfl) rfl
theorem q2128 : (Jvm.Cond.fieldLink "TrailGuideModel" (271 : Nat) "TrailGuideModel" "answer" "I") ∈ lw_all := lw_g (lw_at lw_m9 118 rfl) rfl
theorem q2129 : (Jvm.Cond.fieldLink "TrailGuideModel" (274 : Nat) "TrailGuideModel" "isSaved" "Z") ∈ lw_all := lw_g (lw_at lw_m9 119 rfl) rfl
theorem q2130 : (Jvm.Cond.fieldLink "TrailGuideModel" (32 : Nat) "TrailGuideModel" "line" "[I") ∈ lw_all := lw_g (lw_at lw_m9 120 rfl) rfl
theorem q2131 : (Jvm.Cond.fieldLink "TrailGuideModel" (181 : Nat) "TrailGuideModel" "lined" "I") ∈ lw_all := lw_g (lw_at lw_m9 121 rfl) rfl
theorem q2132 : (Jvm.Cond.fieldLink "TrailGuideModel" (35 : Nat) "TrailGuideModel" "tape" "[I") ∈ lw_all := lw_g (lw_at lw_m9 122 rfl) rfl
theorem q2133 : (Jvm.Cond.fieldLink "TrailGuideModel" (38 : Nat) "TrailGuideModel" "commands" "[I") ∈ lw_all := lw_g (lw_at lw_m9 123 rfl) rfl
theorem q2134 : (Jvm.Cond.fieldLink "TrailGuideModel" (190 : Nat) "TrailGuideModel" "taped" "I") ∈ lw_all := lw_g (lw_at lw_m9 124 rfl) rfl
theorem q2135 : (Jvm.Cond.fieldLink "TrailGuideModel" (193 : Nat) "TrailGuideModel" "here" "I") ∈ lw_all := lw_g (lw_at lw_m9 125 rfl) rfl
theorem q2136 : (Jvm.Cond.fieldLink "TrailGuideModel" (253 : Nat) "TrailGuideModel" "commandMany" "I") ∈ lw_all := lw_g (lw_at lw_m9 126 rfl) rfl
theorem q2137 : (Jvm.Cond.laysFinal "TrailGuideModel" "TrailGuideModel" "s" "[I") ∈ lw_all := lw_g (lw_at lw_m9 127 rfl) rfl
theorem q2138 : (Jvm.Cond.soleField "TrailGuideModel" "s") ∈ lw_all := lw_g (lw_at lw_m9 128 rfl) rfl
theorem q2139 : (Jvm.Cond.laysFinal "TrailGuideModel" "TrailGuideModel" "was" "[I") ∈ lw_all := lw_g (lw_at lw_m9 129 rfl) rfl
theorem q2140 : (Jvm.Cond.soleField "TrailGuideModel" "was") ∈ lw_all := lw_g (lw_at lw_m9 130 rfl) rfl
theorem q2141 : (Jvm.Cond.laysFinal "TrailGuideModel" "TrailGuideModel" "saved" "[I") ∈ lw_all := lw_g (lw_at lw_m9 131 rfl) rfl
theorem q2142 : (Jvm.Cond.soleField "TrailGuideModel" "saved") ∈ lw_all := lw_g (lw_at lw_m9 132 rfl) rfl
theorem q2143 : (Jvm.Cond.laysFinal "TrailGuideModel" "TrailGuideModel" "past" "[I") ∈ lw_all := lw_g (lw_at lw_m9 133 rfl) rfl
theorem q2144 : (Jvm.Cond.soleField "TrailGuideModel" "past") ∈ lw_all := lw_g (lw_at lw_m9 134 rfl) rfl
theorem q2145 : (Jvm.Cond.laysFinal "TrailGuideModel" "TrailGuideModel" "far" "[I") ∈ lw_all := lw_g (lw_at lw_m9 135 rfl) rfl
theorem q2146 : (Jvm.Cond.soleField "TrailGuideModel" "far") ∈ lw_all := lw_g (lw_at lw_m9 136 rfl) rfl
theorem q2147 : (Jvm.Cond.lays "TrailGuideModel" "TrailGuideModel" "changes" "I") ∈ lw_all := lw_g (lw_at lw_m9 137 rfl) rfl
theorem q2148 : (Jvm.Cond.soleField "TrailGuideModel" "changes") ∈ lw_all := lw_g (lw_at lw_m9 138 rfl) rfl
theorem q2149 : (Jvm.Cond.lays "TrailGuideModel" "TrailGuideModel" "thrown" "I") ∈ lw_all := lw_g (lw_at lw_m9 139 rfl) rfl
theorem q2150 : (Jvm.Cond.soleField "TrailGuideModel" "thrown") ∈ lw_all := lw_g (lw_at lw_m9 140 rfl) rfl
theorem q2151 : (Jvm.Cond.lays "TrailGuideModel" "TrailGuideModel" "errorAt" "I") ∈ lw_all := lw_g (lw_at lw_m9 141 rfl) rfl
theorem q2152 : (Jvm.Cond.soleField "TrailGuideModel" "errorAt") ∈ lw_all := lw_g (lw_at lw_m9 142 rfl) rfl
theorem q2153 : (Jvm.Cond.lays "TrailGuideModel" "TrailGuideModel" "failedAt" "I") ∈ lw_all := lw_g (lw_at lw_m9 143 rfl) rfl
theorem q2154 : (Jvm.Cond.soleField "TrailGuideModel" "failedAt") ∈ lw_all := lw_g (lw_at lw_m9 144 rfl) rfl
theorem q2155 : (Jvm.Cond.lays "TrailGuideModel" "TrailGuideModel" "answer" "I") ∈ lw_all := lw_g (lw_at lw_m9 145 rfl) rfl
theorem q2156 : (Jvm.Cond.soleField "TrailGuideModel" "answer") ∈ lw_all := lw_g (lw_at lw_m9 146 rfl) rfl
theorem q2157 : (Jvm.Cond.lays "TrailGuideModel" "TrailGuideModel" "isSaved" "Z") ∈ lw_all := lw_g (lw_at lw_m9 147 rfl) rfl
theorem q2158 : (Jvm.Cond.soleField "TrailGuideModel" "isSaved") ∈ lw_all := lw_g (lw_at lw_m9 148 rfl) rfl
theorem q2159 : (Jvm.Cond.laysFinal "TrailGuideModel" "TrailGuideModel" "line" "[I") ∈ lw_all := lw_g (lw_at lw_m9 149 rfl) rfl
theorem q2160 : (Jvm.Cond.soleField "TrailGuideModel" "line") ∈ lw_all := lw_g (lw_at lw_m9 150 rfl) rfl
theorem q2161 : (Jvm.Cond.lays "TrailGuideModel" "TrailGuideModel" "lined" "I") ∈ lw_all := lw_g (lw_at lw_m9 151 rfl) rfl
theorem q2162 : (Jvm.Cond.soleField "TrailGuideModel" "lined") ∈ lw_all := lw_g (lw_at lw_m9 152 rfl) rfl
theorem q2163 : (Jvm.Cond.laysFinal "TrailGuideModel" "TrailGuideModel" "tape" "[I") ∈ lw_all := lw_g (lw_at lw_m9 153 rfl) rfl
theorem q2164 : (Jvm.Cond.soleField "TrailGuideModel" "tape") ∈ lw_all := lw_g (lw_at lw_m9 154 rfl) rfl
theorem q2165 : (Jvm.Cond.laysFinal "TrailGuideModel" "TrailGuideModel" "commands" "[I") ∈ lw_all := lw_g (lw_at lw_m9 155 rfl) rfl
theorem q2166 : (Jvm.Cond.soleField "TrailGuideModel" "commands") ∈ lw_all := lw_g (lw_at lw_m9 156 rfl) rfl
theorem q2167 : (Jvm.Cond.lays "TrailGuideModel" "TrailGuideModel" "taped" "I") ∈ lw_all := lw_g (lw_at lw_m9 157 rfl) rfl
theorem q2168 : (Jvm.Cond.soleField "TrailGuideModel" "taped") ∈ lw_all := lw_g (lw_at lw_m9 158 rfl) rfl
theorem q2169 : (Jvm.Cond.lays "TrailGuideModel" "TrailGuideModel" "here" "I") ∈ lw_all := lw_g (lw_at lw_m9 159 rfl) rfl
theorem q2170 : (Jvm.Cond.soleField "TrailGuideModel" "here") ∈ lw_all := lw_g (lw_at lw_m9 160 rfl) rfl
theorem q2171 : (Jvm.Cond.lays "TrailGuideModel" "TrailGuideModel" "commandMany" "I") ∈ lw_all := lw_g (lw_at lw_m9 161 rfl) rfl
theorem q2172 : (Jvm.Cond.soleField "TrailGuideModel" "commandMany") ∈ lw_all := lw_g (lw_at lw_m9 162 rfl) rfl
theorem q2173 : (Jvm.Cond.superclass "TrailGuideModel" "java/lang/Object") ∈ lw_all := lw_g (lw_at lw_m9 163 rfl) rfl
theorem q2175 : (Jvm.Cond.instanceMethod ({ cls := "TrailGuideModel", name := "thrown", desc := "()I" } : Jvm.MethodName)) ∈ lw_all := lw_g (lw_at lw_m9 165 rfl) rfl
theorem q2176 : (Jvm.Cond.selects "TrailGuideModel" ({ cls := "TrailGuideModel", name := "thrown", desc := "()I" } : Jvm.MethodName) ({ cls := "TrailGuideModel", name := "thrown", desc := "()I" } : Jvm.MethodName)) ∈ lw_all := lw_g (lw_at lw_m9 166 rfl) rfl
theorem q2177 : (Jvm.Cond.code ({ cls := "TrailGuideModel", name := "thrown", desc := "()I" } : Jvm.MethodName) prog_24_method_2_code (1 : Nat) (Option.some Jvm.ClassFile.FieldType.int)) ∈ lw_all := lw_g (lw_at lw_m9 167 rfl) rfl
theorem q2179 : (Jvm.Cond.instanceMethod ({ cls := "TrailGuideModel", name := "addWaypoint", desc := "(III)I" } : Jvm.MethodName)) ∈ lw_all := lw_g (lw_at lw_m9 169 rfl) rfl
theorem q2180 : (Jvm.Cond.selects "TrailGuideModel" ({ cls := "TrailGuideModel", name := "addWaypoint", desc := "(III)I" } : Jvm.MethodName) ({ cls := "TrailGuideModel", name := "addWaypoint", desc := "(III)I" } : Jvm.MethodName)) ∈ lw_all := lw_g (lw_at lw_m9 170 rfl) rfl
theorem q2181 : (Jvm.Cond.code ({ cls := "TrailGuideModel", name := "addWaypoint", desc := "(III)I" } : Jvm.MethodName) prog_24_method_15_code (4 : Nat) (Option.some Jvm.ClassFile.FieldType.int)) ∈ lw_all := lw_g (lw_at lw_m9 171 rfl) rfl
theorem q2182 : (Jvm.Cond.methodLink "TrailGuideModel" (67 : Nat) ({ cls := "TrailGuideModel", name := "keeps", desc := "()V" } : Jvm.MethodName)) ∈ lw_all := lw_g (lw_at lw_m9 172 rfl) rfl
theorem q2183 : (Jvm.Cond.privateMethod ({ cls := "TrailGuideModel", name := "keeps", desc := "()V" } : Jvm.MethodName)) ∈ lw_tbl := lw_at lw_m9 173 rfl
theorem q2184 : (Jvm.Cond.instanceMethod ({ cls := "TrailGuideModel", name := "keeps", desc := "()V" } : Jvm.MethodName)) ∈ lw_all := lw_g (lw_at lw_m9 174 rfl) rfl
theorem q2185 : (Jvm.Cond.code ({ cls := "TrailGuideModel", name := "keeps", desc := "()V" } : Jvm.MethodName) prog_24_method_5_code (1 : Nat) (Option.none : Option Jvm.ClassFile.FieldType)) ∈ lw_all := lw_g (lw_at lw_m9 175 rfl) rfl
theorem q2186 : (Jvm.Cond.methodLink "TrailGuideModel" (44 : Nat) ({ cls := "TrailGuideModel", name := "copies", desc := "([II[II)V" } : Jvm.MethodName)) ∈ lw_all := lw_g (lw_at lw_m9 176 rfl) rfl
theorem q2187 : (Jvm.Cond.static ({ cls := "TrailGuideModel", name := "copies", desc := "([II[II)V" } : Jvm.MethodName)) ∈ lw_all := lw_g (lw_at lw_m9 177 rfl) rfl
theorem q2188 : (Jvm.Cond.code ({ cls := "TrailGuideModel", name := "copies", desc := "([II[II)V" } : Jvm.MethodName) prog_24_method_4_code (5 : Nat) (Option.none : Option Jvm.ClassFile.FieldType)) ∈ lw_all := lw_g (lw_at lw_m9 178 rfl) rfl
theorem q2189 : (Jvm.Cond.methodLink "TrailGuideModel" (70 : Nat) ({ cls := "TrailGuideModel", name := "points", desc := "(III)I" } : Jvm.MethodName)) ∈ lw_all := lw_g (lw_at lw_m9 179 rfl) rfl
theorem q2190 : (Jvm.Cond.privateMethod ({ cls := "TrailGuideModel", name := "points", desc := "(III)I" } : Jvm.MethodName)) ∈ lw_tbl := lw_at lw_m9 180 rfl
theorem q2191 : (Jvm.Cond.instanceMethod ({ cls := "TrailGuideModel", name := "points", desc := "(III)I" } : Jvm.MethodName)) ∈ lw_all := lw_g (lw_at lw_m9 181 rfl) rfl
theorem q2192 : (Jvm.Cond.code ({ cls := "TrailGuideModel", name := "points", desc := "(III)I" } : Jvm.MethodName) prog_24_method_14_code (5 : Nat) (Option.some Jvm.ClassFile.FieldType.int)) ∈ lw_all := lw_g (lw_at lw_m9 182 rfl) rfl
theorem q2193 : (Jvm.Cond.methodLink "TrailGuideModel" (59 : Nat) ({ cls := "TrailGuideModel", name := "isPlace", desc := "(II)Z" } : Jvm.MethodName)) ∈ lw_all := lw_g (lw_at lw_m9 183 rfl) rfl
theorem q2194 : (Jvm.Cond.static ({ cls := "TrailGuideModel", name := "isPlace", desc := "(II)Z" } : Jvm.MethodName)) ∈ lw_all := lw_g (lw_at lw_m9 184 rfl) rfl
theorem q2195 : (Jvm.Cond.code ({ cls := "TrailGuideModel", name := "isPlace", desc := "(II)Z" } : Jvm.MethodName) prog_24_method_10_code (2 : Nat) (Option.some Jvm.ClassFile.FieldType.boolean)) ∈ lw_all := lw_g (lw_at lw_m9 185 rfl) rfl
theorem q2196 : (Jvm.Cond.methodLink "TrailGuideModel" (51 : Nat) ({ cls := "TrailGuideModel", name := "isIn", desc := "(III)Z" } : Jvm.MethodName)) ∈ lw_all := lw_g (lw_at lw_m9 186 rfl) rfl
theorem q2197 : (Jvm.Cond.static ({ cls := "TrailGuideModel", name := "isIn", desc := "(III)Z" } : Jvm.MethodName)) ∈ lw_all := lw_g (lw_at lw_m9 187 rfl) rfl
theorem q2198 : (Jvm.Cond.code ({ cls := "TrailGuideModel", name := "isIn", desc := "(III)Z" } : Jvm.MethodName) prog_24_method_3_code (3 : Nat) (Option.some Jvm.ClassFile.FieldType.boolean)) ∈ lw_all := lw_g (lw_at lw_m9 188 rfl) rfl
theorem q2199 : (Jvm.Cond.methodLink "TrailGuideModel" (63 : Nat) ({ cls := "TrailGuideModel", name := "isThrown", desc := "(ZI)Z" } : Jvm.MethodName)) ∈ lw_all := lw_g (lw_at lw_m9 189 rfl) rfl
theorem q2200 : (Jvm.Cond.privateMethod ({ cls := "TrailGuideModel", name := "isThrown", desc := "(ZI)Z" } : Jvm.MethodName)) ∈ lw_tbl := lw_at lw_m9 190 rfl
theorem q2201 : (Jvm.Cond.instanceMethod ({ cls := "TrailGuideModel", name := "isThrown", desc := "(ZI)Z" } : Jvm.MethodName)) ∈ lw_all := lw_g (lw_at lw_m9 191 rfl) rfl
theorem q2202 : (Jvm.Cond.code ({ cls := "TrailGuideModel", name := "isThrown", desc := "(ZI)Z" } : Jvm.MethodName) prog_24_method_7_code (3 : Nat) (Option.some Jvm.ClassFile.FieldType.boolean)) ∈ lw_all := lw_g (lw_at lw_m9 192 rfl) rfl
theorem q2203 : (Jvm.Cond.methodLink "TrailGuideModel" (74 : Nat) ({ cls := "TrailGuideModel", name := "ends", desc := "(I)I" } : Jvm.MethodName)) ∈ lw_all := lw_g (lw_at lw_m9 193 rfl) rfl
theorem q2204 : (Jvm.Cond.privateMethod ({ cls := "TrailGuideModel", name := "ends", desc := "(I)I" } : Jvm.MethodName)) ∈ lw_tbl := lw_at lw_m9 194 rfl
theorem q2205 : (Jvm.Cond.instanceMethod ({ cls := "TrailGuideModel", name := "ends", desc := "(I)I" } : Jvm.MethodName)) ∈ lw_all := lw_g (lw_at lw_m9 195 rfl) rfl
theorem q2206 : (Jvm.Cond.code ({ cls := "TrailGuideModel", name := "ends", desc := "(I)I" } : Jvm.MethodName) prog_24_method_6_code (3 : Nat) (Option.some Jvm.ClassFile.FieldType.int)) ∈ lw_all := lw_g (lw_at lw_m9 196 rfl) rfl
theorem q2208 : (Jvm.Cond.instanceMethod ({ cls := "TrailGuideModel", name := "addTrail", desc := "(III)I" } : Jvm.MethodName)) ∈ lw_all := lw_g (lw_at lw_m9 198 rfl) rfl
theorem q2209 : (Jvm.Cond.selects "TrailGuideModel" ({ cls := "TrailGuideModel", name := "addTrail", desc := "(III)I" } : Jvm.MethodName) ({ cls := "TrailGuideModel", name := "addTrail", desc := "(III)I" } : Jvm.MethodName)) ∈ lw_all := lw_g (lw_at lw_m9 199 rfl) rfl
theorem q2210 : (Jvm.Cond.code ({ cls := "TrailGuideModel", name := "addTrail", desc := "(III)I" } : Jvm.MethodName) prog_24_method_17_code (4 : Nat) (Option.some Jvm.ClassFile.FieldType.int)) ∈ lw_all := lw_g (lw_at lw_m9 200 rfl) rfl
theorem q2211 : (Jvm.Cond.methodLink "TrailGuideModel" (90 : Nat) ({ cls := "TrailGuideModel", name := "joins", desc := "(III)I" } : Jvm.MethodName)) ∈ lw_all := lw_g (lw_at lw_m9 201 rfl) rfl
theorem q2212 : (Jvm.Cond.privateMethod ({ cls := "TrailGuideModel", name := "joins", desc := "(III)I" } : Jvm.MethodName)) ∈ lw_tbl := lw_at lw_m9 202 rfl
theorem q2213 : (Jvm.Cond.instanceMethod ({ cls := "TrailGuideModel", name := "joins", desc := "(III)I" } : Jvm.MethodName)) ∈ lw_all := lw_g (lw_at lw_m9 203 rfl) rfl
theorem q2214 : (Jvm.Cond.code ({ cls := "TrailGuideModel", name := "joins", desc := "(III)I" } : Jvm.MethodName) prog_24_method_16_code (4 : Nat) (Option.some Jvm.ClassFile.FieldType.int)) ∈ lw_all := lw_g (lw_at lw_m9 204 rfl) rfl
theorem q2215 : (Jvm.Cond.methodLink "TrailGuideModel" (78 : Nat) ({ cls := "TrailGuideModel", name := "isPoint", desc := "(I)Z" } : Jvm.MethodName)) ∈ lw_all := lw_g (lw_at lw_m9 205 rfl) rfl
theorem q2216 : (Jvm.Cond.privateMethod ({ cls := "TrailGuideModel", name := "isPoint", desc := "(I)Z" } : Jvm.MethodName)) ∈ lw_tbl := lw_at lw_m9 206 rfl
theorem q2217 : (Jvm.Cond.instanceMethod ({ cls := "TrailGuideModel", name := "isPoint", desc := "(I)Z" } : Jvm.MethodName)) ∈ lw_all := lw_g (lw_at lw_m9 207 rfl) rfl
theorem q2218 : (Jvm.Cond.code ({ cls := "TrailGuideModel", name := "isPoint", desc := "(I)Z" } : Jvm.MethodName) prog_24_method_9_code (2 : Nat) (Option.some Jvm.ClassFile.FieldType.boolean)) ∈ lw_all := lw_g (lw_at lw_m9 208 rfl) rfl
theorem q2219 : (Jvm.Cond.methodLink "TrailGuideModel" (55 : Nat) ({ cls := "TrailGuideModel", name := "trail", desc := "(II)I" } : Jvm.MethodName)) ∈ lw_all := lw_g (lw_at lw_m9 209 rfl) rfl
theorem q2220 : (Jvm.Cond.privateMethod ({ cls := "TrailGuideModel", name := "trail", desc := "(II)I" } : Jvm.MethodName)) ∈ lw_tbl := lw_at lw_m9 210 rfl
theorem q2221 : (Jvm.Cond.instanceMethod ({ cls := "TrailGuideModel", name := "trail", desc := "(II)I" } : Jvm.MethodName)) ∈ lw_all := lw_g (lw_at lw_m9 211 rfl) rfl
theorem q2222 : (Jvm.Cond.code ({ cls := "TrailGuideModel", name := "trail", desc := "(II)I" } : Jvm.MethodName) prog_24_method_11_code (3 : Nat) (Option.some Jvm.ClassFile.FieldType.int)) ∈ lw_all := lw_g (lw_at lw_m9 212 rfl) rfl
theorem q2223 : (Jvm.Cond.methodLink "TrailGuideModel" (82 : Nat) ({ cls := "TrailGuideModel", name := "setsTrail", desc := "(III)V" } : Jvm.MethodName)) ∈ lw_all := lw_g (lw_at lw_m9 213 rfl) rfl
theorem q2224 : (Jvm.Cond.privateMethod ({ cls := "TrailGuideModel", name := "setsTrail", desc := "(III)V" } : Jvm.MethodName)) ∈ lw_tbl := lw_at lw_m9 214 rfl
theorem q2225 : (Jvm.Cond.instanceMethod ({ cls := "TrailGuideModel", name := "setsTrail", desc := "(III)V" } : Jvm.MethodName)) ∈ lw_all := lw_g (lw_at lw_m9 215 rfl) rfl
theorem q2226 : (Jvm.Cond.code ({ cls := "TrailGuideModel", name := "setsTrail", desc := "(III)V" } : Jvm.MethodName) prog_24_method_12_code (4 : Nat) (Option.none : Option Jvm.ClassFile.FieldType)) ∈ lw_all := lw_g (lw_at lw_m9 216 rfl) rfl
theorem q2227 : (Jvm.Cond.methodLink "TrailGuideModel" (86 : Nat) ({ cls := "TrailGuideModel", name := "manyTrails", desc := "()I" } : Jvm.MethodName)) ∈ lw_all := lw_g (lw_at lw_m9 217 rfl) rfl
theorem q2228 : (Jvm.Cond.privateMethod ({ cls := "TrailGuideModel", name := "manyTrails", desc := "()I" } : Jvm.MethodName)) ∈ lw_tbl := lw_at lw_m9 218 rfl
theorem q2229 : (Jvm.Cond.instanceMethod ({ cls := "TrailGuideModel", name := "manyTrails", desc := "()I" } : Jvm.MethodName)) ∈ lw_all := lw_g (lw_at lw_m9 219 rfl) rfl
theorem q2230 : (Jvm.Cond.code ({ cls := "TrailGuideModel", name := "manyTrails", desc := "()I" } : Jvm.MethodName) prog_24_method_13_code (4 : Nat) (Option.some Jvm.ClassFile.FieldType.int)) ∈ lw_all := lw_g (lw_at lw_m9 220 rfl) rfl
theorem q2232 : (Jvm.Cond.instanceMethod ({ cls := "TrailGuideModel", name := "removeTrail", desc := "(II)I" } : Jvm.MethodName)) ∈ lw_all := lw_g (lw_at lw_m9 222 rfl) rfl
theorem q2233 : (Jvm.Cond.selects "TrailGuideModel" ({ cls := "TrailGuideModel", name := "removeTrail", desc := "(II)I" } : Jvm.MethodName) ({ cls := "TrailGuideModel", name := "removeTrail", desc := "(II)I" } : Jvm.MethodName)) ∈ lw_all := lw_g (lw_at lw_m9 223 rfl) rfl
theorem q2234 : (Jvm.Cond.code ({ cls := "TrailGuideModel", name := "removeTrail", desc := "(II)I" } : Jvm.MethodName) prog_24_method_19_code (3 : Nat) (Option.some Jvm.ClassFile.FieldType.int)) ∈ lw_all := lw_g (lw_at lw_m9 224 rfl) rfl
theorem q2235 : (Jvm.Cond.methodLink "TrailGuideModel" (93 : Nat) ({ cls := "TrailGuideModel", name := "cuts", desc := "(II)I" } : Jvm.MethodName)) ∈ lw_all := lw_g (lw_at lw_m9 225 rfl) rfl
theorem q2236 : (Jvm.Cond.privateMethod ({ cls := "TrailGuideModel", name := "cuts", desc := "(II)I" } : Jvm.MethodName)) ∈ lw_tbl := lw_at lw_m9 226 rfl
theorem q2237 : (Jvm.Cond.instanceMethod ({ cls := "TrailGuideModel", name := "cuts", desc := "(II)I" } : Jvm.MethodName)) ∈ lw_all := lw_g (lw_at lw_m9 227 rfl) rfl
theorem q2238 : (Jvm.Cond.code ({ cls := "TrailGuideModel", name := "cuts", desc := "(II)I" } : Jvm.MethodName) prog_24_method_18_code (4 : Nat) (Option.some Jvm.ClassFile.FieldType.int)) ∈ lw_all := lw_g (lw_at lw_m9 228 rfl) rfl
theorem q2240 : (Jvm.Cond.instanceMethod ({ cls := "TrailGuideModel", name := "startTour", desc := "(II)I" } : Jvm.MethodName)) ∈ lw_all := lw_g (lw_at lw_m9 230 rfl) rfl
theorem q2241 : (Jvm.Cond.selects "TrailGuideModel" ({ cls := "TrailGuideModel", name := "startTour", desc := "(II)I" } : Jvm.MethodName) ({ cls := "TrailGuideModel", name := "startTour", desc := "(II)I" } : Jvm.MethodName)) ∈ lw_all := lw_g (lw_at lw_m9 231 rfl) rfl
theorem q2242 : (Jvm.Cond.code ({ cls := "TrailGuideModel", name := "startTour", desc := "(II)I" } : Jvm.MethodName) prog_24_method_24_code (3 : Nat) (Option.some Jvm.ClassFile.FieldType.int)) ∈ lw_all := lw_g (lw_at lw_m9 232 rfl) rfl
theorem q2243 : (Jvm.Cond.methodLink "TrailGuideModel" (111 : Nat) ({ cls := "TrailGuideModel", name := "tours", desc := "(II)I" } : Jvm.MethodName)) ∈ lw_all := lw_g (lw_at lw_m9 233 rfl) rfl
theorem q2244 : (Jvm.Cond.privateMethod ({ cls := "TrailGuideModel", name := "tours", desc := "(II)I" } : Jvm.MethodName)) ∈ lw_tbl := lw_at lw_m9 234 rfl
theorem q2245 : (Jvm.Cond.instanceMethod ({ cls := "TrailGuideModel", name := "tours", desc := "(II)I" } : Jvm.MethodName)) ∈ lw_all := lw_g (lw_at lw_m9 235 rfl) rfl
theorem q2246 : (Jvm.Cond.code ({ cls := "TrailGuideModel", name := "tours", desc := "(II)I" } : Jvm.MethodName) prog_24_method_23_code (4 : Nat) (Option.some Jvm.ClassFile.FieldType.int)) ∈ lw_all := lw_g (lw_at lw_m9 236 rfl) rfl
theorem q2247 : (Jvm.Cond.methodLink "TrailGuideModel" (97 : Nat) ({ cls := "TrailGuideModel", name := "isOnTour", desc := "()Z" } : Jvm.MethodName)) ∈ lw_all := lw_g (lw_at lw_m9 237 rfl) rfl
theorem q2248 : (Jvm.Cond.privateMethod ({ cls := "TrailGuideModel", name := "isOnTour", desc := "()Z" } : Jvm.MethodName)) ∈ lw_tbl := lw_at lw_m9 238 rfl
theorem q2249 : (Jvm.Cond.instanceMethod ({ cls := "TrailGuideModel", name := "isOnTour", desc := "()Z" } : Jvm.MethodName)) ∈ lw_all := lw_g (lw_at lw_m9 239 rfl) rfl
theorem q2250 : (Jvm.Cond.code ({ cls := "TrailGuideModel", name := "isOnTour", desc := "()Z" } : Jvm.MethodName) prog_24_method_21_code (1 : Nat) (Option.some Jvm.ClassFile.FieldType.boolean)) ∈ lw_all := lw_g (lw_at lw_m10 0 rfl) rfl
theorem q2251 : (Jvm.Cond.methodLink "TrailGuideModel" (101 : Nat) ({ cls := "TrailGuideModel", name := "finds", desc := "(I)V" } : Jvm.MethodName)) ∈ lw_all := lw_g (lw_at lw_m10 1 rfl) rfl
theorem q2252 : (Jvm.Cond.privateMethod ({ cls := "TrailGuideModel", name := "finds", desc := "(I)V" } : Jvm.MethodName)) ∈ lw_tbl := lw_at lw_m10 2 rfl
theorem q2253 : (Jvm.Cond.instanceMethod ({ cls := "TrailGuideModel", name := "finds", desc := "(I)V" } : Jvm.MethodName)) ∈ lw_all := lw_g (lw_at lw_m10 3 rfl) rfl
theorem q2254 : (Jvm.Cond.code ({ cls := "TrailGuideModel", name := "finds", desc := "(I)V" } : Jvm.MethodName) prog_24_method_20_code (7 : Nat) (Option.none : Option Jvm.ClassFile.FieldType)) ∈ lw_all := lw_g (lw_at lw_m10 4 rfl) rfl
theorem q2255 : (Jvm.Cond.constant "TrailGuideModel" (96 : Nat) (99999 : Int32)) ∈ lw_all := lw_g (lw_at lw_m10 5 rfl) rfl
theorem q2256 : (Jvm.Cond.methodLink "TrailGuideModel" (105 : Nat) ({ cls := "TrailGuideModel", name := "following", desc := "(I)I" } : Jvm.MethodName)) ∈ lw_all := lw_g (lw_at lw_m10 6 rfl) rfl
theorem q2257 : (Jvm.Cond.privateMethod ({ cls := "TrailGuideModel", name := "following", desc := "(I)I" } : Jvm.MethodName)) ∈ lw_tbl := lw_at lw_m10 7 rfl
theorem q2258 : (Jvm.Cond.instanceMethod ({ cls := "TrailGuideModel", name := "following", desc := "(I)I" } : Jvm.MethodName)) ∈ lw_all := lw_g (lw_at lw_m10 8 rfl) rfl
theorem q2259 : (Jvm.Cond.code ({ cls := "TrailGuideModel", name := "following", desc := "(I)I" } : Jvm.MethodName) prog_24_method_22_code (3 : Nat) (Option.some Jvm.ClassFile.FieldType.int)) ∈ lw_all := lw_g (lw_at lw_m10 9 rfl) rfl
theorem q2260 : (Jvm.Cond.methodLink "TrailGuideModel" (108 : Nat) ({ cls := "TrailGuideModel", name := "of", desc := "(II)I" } : Jvm.MethodName)) ∈ lw_all := lw_g (lw_at lw_m10 10 rfl) rfl
theorem q2261 : (Jvm.Cond.privateMethod ({ cls := "TrailGuideModel", name := "of", desc := "(II)I" } : Jvm.MethodName)) ∈ lw_tbl := lw_at lw_m10 11 rfl
theorem q2262 : (Jvm.Cond.instanceMethod ({ cls := "TrailGuideModel", name := "of", desc := "(II)I" } : Jvm.MethodName)) ∈ lw_all := lw_g (lw_at lw_m10 12 rfl) rfl
theorem q2263 : (Jvm.Cond.code ({ cls := "TrailGuideModel", name := "of", desc := "(II)I" } : Jvm.MethodName) prog_24_method_8_code (3 : Nat) (Option.some Jvm.ClassFile.FieldType.int)) ∈ lw_all := lw_g (lw_at lw_m10 13 rfl) rfl
theorem q2265 : (Jvm.Cond.instanceMethod ({ cls := "TrailGuideModel", name := "stopTour", desc := "()I" } : Jvm.MethodName)) ∈ lw_all := lw_g (lw_at lw_m10 15 rfl) rfl
theorem q2266 : (Jvm.Cond.selects "TrailGuideModel" ({ cls := "TrailGuideModel", name := "stopTour", desc := "()I" } : Jvm.MethodName) ({ cls := "TrailGuideModel", name := "stopTour", desc := "()I" } : Jvm.MethodName)) ∈ lw_all := lw_g (lw_at lw_m10 16 rfl) rfl
theorem q2267 : (Jvm.Cond.code ({ cls := "TrailGuideModel", name := "stopTour", desc := "()I" } : Jvm.MethodName) prog_24_method_27_code (1 : Nat) (Option.some Jvm.ClassFile.FieldType.int)) ∈ lw_all := lw_g (lw_at lw_m10 17 rfl) rfl
theorem q2268 : (Jvm.Cond.methodLink "TrailGuideModel" (117 : Nat) ({ cls := "TrailGuideModel", name := "stops", desc := "()I" } : Jvm.MethodName)) ∈ lw_all := lw_g (lw_at lw_m10 18 rfl) rfl
theorem q2269 : (Jvm.Cond.privateMethod ({ cls := "TrailGuideModel", name := "stops", desc := "()I" } : Jvm.MethodName)) ∈ lw_tbl := lw_at lw_m10 19 rfl
theorem q2270 : (Jvm.Cond.instanceMethod ({ cls := "TrailGuideModel", name := "stops", desc := "()I" } : Jvm.MethodName)) ∈ lw_all := lw_g (lw_at lw_m10 20 rfl) rfl
theorem q2271 : (Jvm.Cond.code ({ cls := "TrailGuideModel", name := "stops", desc := "()I" } : Jvm.MethodName) prog_24_method_26_code (2 : Nat) (Option.some Jvm.ClassFile.FieldType.int)) ∈ lw_all := lw_g (lw_at lw_m10 21 rfl) rfl
theorem q2272 : (Jvm.Cond.methodLink "TrailGuideModel" (114 : Nat) ({ cls := "TrailGuideModel", name := "over", desc := "()V" } : Jvm.MethodName)) ∈ lw_all := lw_g (lw_at lw_m10 22 rfl) rfl
theorem q2273 : (Jvm.Cond.privateMethod ({ cls := "TrailGuideModel", name := "over", desc := "()V" } : Jvm.MethodName)) ∈ lw_tbl := lw_at lw_m10 23 rfl
theorem q2274 : (Jvm.Cond.instanceMethod ({ cls := "TrailGuideModel", name := "over", desc := "()V" } : Jvm.MethodName)) ∈ lw_all := lw_g (lw_at lw_m10 24 rfl) rfl
theorem q2275 : (Jvm.Cond.code ({ cls := "TrailGuideModel", name := "over", desc := "()V" } : Jvm.MethodName) prog_24_method_25_code (2 : Nat) (Option.none : Option Jvm.ClassFile.FieldType)) ∈ lw_all := lw_g (lw_at lw_m10 25 rfl) rfl
theorem q2277 : (Jvm.Cond.instanceMethod ({ cls := "TrailGuideModel", name := "update", desc := "(II)Z" } : Jvm.MethodName)) ∈ lw_all := lw_g (lw_at lw_m10 27 rfl) rfl
theorem q2278 : (Jvm.Cond.selects "TrailGuideModel" ({ cls := "TrailGuideModel", name := "update", desc := "(II)Z" } : Jvm.MethodName) ({ cls := "TrailGuideModel", name := "update", desc := "(II)Z" } : Jvm.MethodName)) ∈ lw_all := lw_g (lw_at lw_m10 28 rfl) rfl
theorem q2279 : (Jvm.Cond.code ({ cls := "TrailGuideModel", name := "update", desc := "(II)Z" } : Jvm.MethodName) prog_24_method_38_code (3 : Nat) (Option.some Jvm.ClassFile.FieldType.boolean)) ∈ lw_all := lw_g (lw_at lw_m10 29 rfl) rfl
theorem q2280 : (Jvm.Cond.methodLink "TrailGuideModel" (144 : Nat) ({ cls := "TrailGuideModel", name := "updated", desc := "(II)I" } : Jvm.MethodName)) ∈ lw_all := lw_g (lw_at lw_m10 30 rfl) rfl
theorem q2281 : (Jvm.Cond.privateMethod ({ cls := "TrailGuideModel", name := "updated", desc := "(II)I" } : Jvm.MethodName)) ∈ lw_tbl := lw_at lw_m10 31 rfl
theorem q2282 : (Jvm.Cond.instanceMethod ({ cls := "TrailGuideModel", name := "updated", desc := "(II)I" } : Jvm.MethodName)) ∈ lw_all := lw_g (lw_at lw_m10 32 rfl) rfl
theorem q2283 : (Jvm.Cond.code ({ cls := "TrailGuideModel", name := "updated", desc := "(II)I" } : Jvm.MethodName) prog_24_method_37_code (4 : Nat) (Option.some Jvm.ClassFile.FieldType.int)) ∈ lw_all := lw_g (lw_at lw_m10 33 rfl) rfl
theorem q2284 : (Jvm.Cond.methodLink "TrailGuideModel" (135 : Nat) ({ cls := "TrailGuideModel", name := "costOf", desc := "(I)I" } : Jvm.MethodName)) ∈ lw_all := lw_g (lw_at lw_m10 34 rfl) rfl
theorem q2285 : (Jvm.Cond.static ({ cls := "TrailGuideModel", name := "costOf", desc := "(I)I" } : Jvm.MethodName)) ∈ lw_all := lw_g (lw_at lw_m10 35 rfl) rfl
theorem q2286 : (Jvm.Cond.code ({ cls := "TrailGuideModel", name := "costOf", desc := "(I)I" } : Jvm.MethodName) prog_24_method_34_code (1 : Nat) (Option.some Jvm.ClassFile.FieldType.int)) ∈ lw_all := lw_g (lw_at lw_m10 36 rfl) rfl
theorem q2287 : (Jvm.Cond.methodLink "TrailGuideModel" (132 : Nat) ({ cls := "TrailGuideModel", name := "drains", desc := "(I)V" } : Jvm.MethodName)) ∈ lw_all := lw_g (lw_at lw_m10 37 rfl) rfl
theorem q2288 : (Jvm.Cond.privateMethod ({ cls := "TrailGuideModel", name := "drains", desc := "(I)V" } : Jvm.MethodName)) ∈ lw_tbl := lw_at lw_m10 38 rfl
theorem q2289 : (Jvm.Cond.instanceMethod ({ cls := "TrailGuideModel", name := "drains", desc := "(I)V" } : Jvm.MethodName)) ∈ lw_all := lw_g (lw_at lw_m10 39 rfl) rfl
theorem q2290 : (Jvm.Cond.code ({ cls := "TrailGuideModel", name := "drains", desc := "(I)V" } : Jvm.MethodName) prog_24_method_35_code (2 : Nat) (Option.none : Option Jvm.ClassFile.FieldType)) ∈ lw_all := lw_g (lw_at lw_m10 40 rfl) rfl
theorem q2291 : (Jvm.Cond.methodLink "TrailGuideModel" (138 : Nat) ({ cls := "TrailGuideModel", name := "reaches", desc := "(II)Z" } : Jvm.MethodName)) ∈ lw_all := lw_g (lw_at lw_m10 41 rfl) rfl
theorem q2292 : (Jvm.Cond.privateMethod ({ cls := "TrailGuideModel", name := "reaches", desc := "(II)Z" } : Jvm.MethodName)) ∈ lw_tbl := lw_at lw_m10 42 rfl
theorem q2293 : (Jvm.Cond.instanceMethod ({ cls := "TrailGuideModel", name := "reaches", desc := "(II)Z" } : Jvm.MethodName)) ∈ lw_all := lw_g (lw_at lw_m10 43 rfl) rfl
theorem q2294 : (Jvm.Cond.code ({ cls := "TrailGuideModel", name := "reaches", desc := "(II)Z" } : Jvm.MethodName) prog_24_method_30_code (4 : Nat) (Option.some Jvm.ClassFile.FieldType.boolean)) ∈ lw_all := lw_g (lw_at lw_m10 44 rfl) rfl
theorem q2295 : (Jvm.Cond.methodLink "TrailGuideModel" (120 : Nat) ({ cls := "TrailGuideModel", name := "aim", desc := "()I" } : Jvm.MethodName)) ∈ lw_all := lw_g (lw_at lw_m10 45 rfl) rfl
theorem q2296 : (Jvm.Cond.privateMethod ({ cls := "TrailGuideModel", name := "aim", desc := "()I" } : Jvm.MethodName)) ∈ lw_tbl := lw_at lw_m10 46 rfl
theorem q2297 : (Jvm.Cond.instanceMethod ({ cls := "TrailGuideModel", name := "aim", desc := "()I" } : Jvm.MethodName)) ∈ lw_all := lw_g (lw_at lw_m10 47 rfl) rfl
theorem q2298 : (Jvm.Cond.code ({ cls := "TrailGuideModel", name := "aim", desc := "()I" } : Jvm.MethodName) prog_24_method_28_code (1 : Nat) (Option.some Jvm.ClassFile.FieldType.int)) ∈ lw_all := lw_g (lw_at lw_m10 48 rfl) rfl
theorem q2299 : (Jvm.Cond.methodLink "TrailGuideModel" (123 : Nat) ({ cls := "TrailGuideModel", name := "square", desc := "(II)I" } : Jvm.MethodName)) ∈ lw_all := lw_g (lw_at lw_m10 49 rfl) rfl
theorem q2300 : (Jvm.Cond.static ({ cls := "TrailGuideModel", name := "square", desc := "(II)I" } : Jvm.MethodName)) ∈ lw_all := lw_g (lw_at lw_m10 50 rfl) rfl
theorem q2301 : (Jvm.Cond.code ({ cls := "TrailGuideModel", name := "square", desc := "(II)I" } : Jvm.MethodName) prog_24_method_29_code (2 : Nat) (Option.some Jvm.ClassFile.FieldType.int)) ∈ lw_all := lw_g (lw_at lw_m10 51 rfl) rfl
theorem q2302 : (Jvm.Cond.methodLink "TrailGuideModel" (141 : Nat) ({ cls := "TrailGuideModel", name := "watches", desc := "()V" } : Jvm.MethodName)) ∈ lw_all := lw_g (lw_at lw_m10 52 rfl) rfl
theorem q2303 : (Jvm.Cond.privateMethod ({ cls := "TrailGuideModel", name := "watches", desc := "()V" } : Jvm.MethodName)) ∈ lw_tbl := lw_at lw_m10 53 rfl
theorem q2304 : (Jvm.Cond.instanceMethod ({ cls := "TrailGuideModel", name := "watches", desc := "()V" } : Jvm.MethodName)) ∈ lw_all := lw_g (lw_at lw_m10 54 rfl) rfl
theorem q2305 : (Jvm.Cond.code ({ cls := "TrailGuideModel", name := "watches", desc := "()V" } : Jvm.MethodName) prog_24_method_36_code (2 : Nat) (Option.none : Option Jvm.ClassFile.FieldType)) ∈ lw_all := lw_g (lw_at lw_m10 55 rfl) rfl
theorem q2306 : (Jvm.Cond.methodLink "TrailGuideModel" (129 : Nat) ({ cls := "TrailGuideModel", name := "isWithin", desc := "(III)Z" } : Jvm.MethodName)) ∈ lw_all := lw_g (lw_at lw_m10 56 rfl) rfl
theorem q2307 : (Jvm.Cond.privateMethod ({ cls := "TrailGuideModel", name := "isWithin", desc := "(III)Z" } : Jvm.MethodName)) ∈ lw_tbl := lw_at lw_m10 57 rfl
theorem q2308 : (Jvm.Cond.instanceMethod ({ cls := "TrailGuideModel", name := "isWithin", desc := "(III)Z" } : Jvm.MethodName)) ∈ lw_all := lw_g (lw_at lw_m10 58 rfl) rfl
theorem q2309 : (Jvm.Cond.code ({ cls := "TrailGuideModel", name := "isWithin", desc := "(III)Z" } : Jvm.MethodName) prog_24_method_33_code (4 : Nat) (Option.some Jvm.ClassFile.FieldType.boolean)) ∈ lw_all := lw_g (lw_at lw_m10 59 rfl) rfl
theorem q2310 : (Jvm.Cond.methodLink "TrailGuideModel" (126 : Nat) ({ cls := "TrailGuideModel", name := "compared", desc := "(III)I" } : Jvm.MethodName)) ∈ lw_all := lw_g (lw_at lw_m10 60 rfl) rfl
theorem q2311 : (Jvm.Cond.privateMethod ({ cls := "TrailGuideModel", name := "compared", desc := "(III)I" } : Jvm.MethodName)) ∈ lw_tbl := lw_at lw_m10 61 rfl
theorem q2312 : (Jvm.Cond.instanceMethod ({ cls := "TrailGuideModel", name := "compared", desc := "(III)I" } : Jvm.MethodName)) ∈ lw_all := lw_g (lw_at lw_m10 62 rfl) rfl
theorem q2313 : (Jvm.Cond.code ({ cls := "TrailGuideModel", name := "compared", desc := "(III)I" } : Jvm.MethodName) prog_24_method_31_code (13 : Nat) (Option.some Jvm.ClassFile.FieldType.int)) ∈ lw_all := lw_g (lw_at lw_m10 63 rfl) rfl
theorem q2315 : (Jvm.Cond.instanceMethod ({ cls := "TrailGuideModel", name := "setTolerance", desc := "(I)I" } : Jvm.MethodName)) ∈ lw_all := lw_g (lw_at lw_m10 65 rfl) rfl
theorem q2316 : (Jvm.Cond.selects "TrailGuideModel" ({ cls := "TrailGuideModel", name := "setTolerance", desc := "(I)I" } : Jvm.MethodName) ({ cls := "TrailGuideModel", name := "setTolerance", desc := "(I)I" } : Jvm.MethodName)) ∈ lw_all := lw_g (lw_at lw_m10 66 rfl) rfl
theorem q2317 : (Jvm.Cond.code ({ cls := "TrailGuideModel", name := "setTolerance", desc := "(I)I" } : Jvm.MethodName) prog_24_method_40_code (2 : Nat) (Option.some Jvm.ClassFile.FieldType.int)) ∈ lw_all := lw_g (lw_at lw_m10 67 rfl) rfl
theorem q2318 : (Jvm.Cond.methodLink "TrailGuideModel" (147 : Nat) ({ cls := "TrailGuideModel", name := "tells", desc := "(IIII)I" } : Jvm.MethodName)) ∈ lw_all := lw_g (lw_at lw_m10 68 rfl) rfl
theorem q2319 : (Jvm.Cond.privateMethod ({ cls := "TrailGuideModel", name := "tells", desc := "(IIII)I" } : Jvm.MethodName)) ∈ lw_tbl := lw_at lw_m10 69 rfl
theorem q2320 : (Jvm.Cond.instanceMethod ({ cls := "TrailGuideModel", name := "tells", desc := "(IIII)I" } : Jvm.MethodName)) ∈ lw_all := lw_g (lw_at lw_m10 70 rfl) rfl
theorem q2321 : (Jvm.Cond.code ({ cls := "TrailGuideModel", name := "tells", desc := "(IIII)I" } : Jvm.MethodName) prog_24_method_39_code (6 : Nat) (Option.some Jvm.ClassFile.FieldType.int)) ∈ lw_all := lw_g (lw_at lw_m10 71 rfl) rfl
theorem q2323 : (Jvm.Cond.instanceMethod ({ cls := "TrailGuideModel", name := "setMode", desc := "(I)I" } : Jvm.MethodName)) ∈ lw_all := lw_g (lw_at lw_m10 73 rfl) rfl
theorem q2324 : (Jvm.Cond.selects "TrailGuideModel" ({ cls := "TrailGuideModel", name := "setMode", desc := "(I)I" } : Jvm.MethodName) ({ cls := "TrailGuideModel", name := "setMode", desc := "(I)I" } : Jvm.MethodName)) ∈ lw_all := lw_g (lw_at lw_m10 74 rfl) rfl
theorem q2325 : (Jvm.Cond.code ({ cls := "TrailGuideModel", name := "setMode", desc := "(I)I" } : Jvm.MethodName) prog_24_method_41_code (2 : Nat) (Option.some Jvm.ClassFile.FieldType.int)) ∈ lw_all := lw_g (lw_at lw_m10 75 rfl) rfl
theorem q2327 : (Jvm.Cond.instanceMethod ({ cls := "TrailGuideModel", name := "charge", desc := "(I)I" } : Jvm.MethodName)) ∈ lw_all := lw_g (lw_at lw_m10 77 rfl) rfl
theorem q2328 : (Jvm.Cond.selects "TrailGuideModel" ({ cls := "TrailGuideModel", name := "charge", desc := "(I)I" } : Jvm.MethodName) ({ cls := "TrailGuideModel", name := "charge", desc := "(I)I" } : Jvm.MethodName)) ∈ lw_all := lw_g (lw_at lw_m10 78 rfl) rfl
theorem q2329 : (Jvm.Cond.code ({ cls := "TrailGuideModel", name := "charge", desc := "(I)I" } : Jvm.MethodName) prog_24_method_43_code (2 : Nat) (Option.some Jvm.ClassFile.FieldType.int)) ∈ lw_all := lw_g (lw_at lw_m10 79 rfl) rfl
theorem q2330 : (Jvm.Cond.methodLink "TrailGuideModel" (151 : Nat) ({ cls := "TrailGuideModel", name := "charges", desc := "(I)I" } : Jvm.MethodName)) ∈ lw_all := lw_g (lw_at lw_m10 80 rfl) rfl
theorem q2331 : (Jvm.Cond.privateMethod ({ cls := "TrailGuideModel", name := "charges", desc := "(I)I" } : Jvm.MethodName)) ∈ lw_tbl := lw_at lw_m10 81 rfl
theorem q2332 : (Jvm.Cond.instanceMethod ({ cls := "TrailGuideModel", name := "charges", desc := "(I)I" } : Jvm.MethodName)) ∈ lw_all := lw_g (lw_at lw_m10 82 rfl) rfl
theorem q2333 : (Jvm.Cond.code ({ cls := "TrailGuideModel", name := "charges", desc := "(I)I" } : Jvm.MethodName) prog_24_method_42_code (2 : Nat) (Option.some Jvm.ClassFile.FieldType.int)) ∈ lw_all := lw_g (lw_at lw_m10 83 rfl) rfl
theorem q2335 : (Jvm.Cond.instanceMethod ({ cls := "TrailGuideModel", name := "waypoints", desc := "()I" } : Jvm.MethodName)) ∈ lw_all := lw_g (lw_at lw_m10 85 rfl) rfl
theorem q2336 : (Jvm.Cond.selects "TrailGuideModel" ({ cls := "TrailGuideModel", name := "waypoints", desc := "()I" } : Jvm.MethodName) ({ cls := "TrailGuideModel", name := "waypoints", desc := "()I" } : Jvm.MethodName)) ∈ lw_all := lw_g (lw_at lw_m10 86 rfl) rfl
theorem q2337 : (Jvm.Cond.code ({ cls := "TrailGuideModel", name := "waypoints", desc := "()I" } : Jvm.MethodName) prog_24_method_44_code (1 : Nat) (Option.some Jvm.ClassFile.FieldType.int)) ∈ lw_all := lw_g (lw_at lw_m10 87 rfl) rfl
theorem q2339 : (Jvm.Cond.instanceMethod ({ cls := "TrailGuideModel", name := "waypointX", desc := "(I)I" } : Jvm.MethodName)) ∈ lw_all := lw_g (lw_at lw_m10 89 rfl) rfl
theorem q2340 : (Jvm.Cond.selects "TrailGuideModel" ({ cls := "TrailGuideModel", name := "waypointX", desc := "(I)I" } : Jvm.MethodName) ({ cls := "TrailGuideModel", name := "waypointX", desc := "(I)I" } : Jvm.MethodName)) ∈ lw_all := lw_g (lw_at lw_m10 90 rfl) rfl
theorem q2341 : (Jvm.Cond.code ({ cls := "TrailGuideModel", name := "waypointX", desc := "(I)I" } : Jvm.MethodName) prog_24_method_46_code (2 : Nat) (Option.some Jvm.ClassFile.FieldType.int)) ∈ lw_all := lw_g (lw_at lw_m10 91 rfl) rfl
theorem q2342 : (Jvm.Cond.methodLink "TrailGuideModel" (154 : Nat) ({ cls := "TrailGuideModel", name := "ofPoint", desc := "(II)I" } : Jvm.MethodName)) ∈ lw_all := lw_g (lw_at lw_m10 92 rfl) rfl
theorem q2343 : (Jvm.Cond.privateMethod ({ cls := "TrailGuideModel", name := "ofPoint", desc := "(II)I" } : Jvm.MethodName)) ∈ lw_tbl := lw_at lw_m10 93 rfl
theorem q2344 : (Jvm.Cond.instanceMethod ({ cls := "TrailGuideModel", name := "ofPoint", desc := "(II)I" } : Jvm.MethodName)) ∈ lw_all := lw_g (lw_at lw_m10 94 rfl) rfl
theorem q2345 : (Jvm.Cond.code ({ cls := "TrailGuideModel", name := "ofPoint", desc := "(II)I" } : Jvm.MethodName) prog_24_method_45_code (3 : Nat) (Option.some Jvm.ClassFile.FieldType.int)) ∈ lw_all := lw_g (lw_at lw_m10 95 rfl) rfl
theorem q2347 : (Jvm.Cond.instanceMethod ({ cls := "TrailGuideModel", name := "waypointY", desc := "(I)I" } : Jvm.MethodName)) ∈ lw_all := lw_g (lw_at lw_m10 97 rfl) rfl
theorem q2348 : (Jvm.Cond.selects "TrailGuideModel" ({ cls := "TrailGuideModel", name := "waypointY", desc := "(I)I" } : Jvm.MethodName) ({ cls := "TrailGuideModel", name := "waypointY", desc := "(I)I" } : Jvm.MethodName)) ∈ lw_all := lw_g (lw_at lw_m10 98 rfl) rfl
theorem q2349 : (Jvm.Cond.code ({ cls := "TrailGuideModel", name := "waypointY", desc := "(I)I" } : Jvm.MethodName) prog_24_method_47_code (2 : Nat) (Option.some Jvm.ClassFile.FieldType.int)) ∈ lw_all := lw_g (lw_at lw_m10 99 rfl) rfl
theorem q2351 : (Jvm.Cond.instanceMethod ({ cls := "TrailGuideModel", name := "radius", desc := "(I)I" } : Jvm.MethodName)) ∈ lw_all := lw_g (lw_at lw_m10 101 rfl) rfl
theorem q2352 : (Jvm.Cond.selects "TrailGuideModel" ({ cls := "TrailGuideModel", name := "radius", desc := "(I)I" } : Jvm.MethodName) ({ cls := "TrailGuideModel", name := "radius", desc := "(I)I" } : Jvm.MethodName)) ∈ lw_all := lw_g (lw_at lw_m10 102 rfl) rfl
theorem q2353 : (Jvm.Cond.code ({ cls := "TrailGuideModel", name := "radius", desc := "(I)I" } : Jvm.MethodName) prog_24_method_48_code (2 : Nat) (Option.some Jvm.ClassFile.FieldType.int)) ∈ lw_all := lw_g (lw_at lw_m10 103 rfl) rfl
theorem q2355 : (Jvm.Cond.instanceMethod ({ cls := "TrailGuideModel", name := "trails", desc := "()I" } : Jvm.MethodName)) ∈ lw_all := lw_g (lw_at lw_m10 105 rfl) rfl
theorem q2356 : (Jvm.Cond.selects "TrailGuideModel" ({ cls := "TrailGuideModel", name := "trails", desc := "()I" } : Jvm.MethodName) ({ cls := "TrailGuideModel", name := "trails", desc := "()I" } : Jvm.MethodName)) ∈ lw_all := lw_g (lw_at lw_m10 106 rfl) rfl
theorem q2357 : (Jvm.Cond.code ({ cls := "TrailGuideModel", name := "trails", desc := "()I" } : Jvm.MethodName) prog_24_method_49_code (1 : Nat) (Option.some Jvm.ClassFile.FieldType.int)) ∈ lw_all := lw_g (lw_at lw_m10 107 rfl) rfl
theorem q2359 : (Jvm.Cond.instanceMethod ({ cls := "TrailGuideModel", name := "hasTrail", desc := "(II)Z" } : Jvm.MethodName)) ∈ lw_all := lw_g (lw_at lw_m10 109 rfl) rfl
theorem q2360 : (Jvm.Cond.selects "TrailGuideModel" ({ cls := "TrailGuideModel", name := "hasTrail", desc := "(II)Z" } : Jvm.MethodName) ({ cls := "TrailGuideModel", name := "hasTrail", desc := "(II)Z" } : Jvm.MethodName)) ∈ lw_all := lw_g (lw_at lw_m10 110 rfl) rfl
theorem q2361 : (Jvm.Cond.code ({ cls := "TrailGuideModel", name := "hasTrail", desc := "(II)Z" } : Jvm.MethodName) prog_24_method_50_code (3 : Nat) (Option.some Jvm.ClassFile.FieldType.boolean)) ∈ lw_all := lw_g (lw_at lw_m10 111 rfl) rfl
theorem q2363 : (Jvm.Cond.instanceMethod ({ cls := "TrailGuideModel", name := "trailLength", desc := "(II)I" } : Jvm.MethodName)) ∈ lw_all := lw_g (lw_at lw_m10 113 rfl) rfl
theorem q2364 : (Jvm.Cond.selects "TrailGuideModel" ({ cls := "TrailGuideModel", name := "trailLength", desc := "(II)I" } : Jvm.MethodName) ({ cls := "TrailGuideModel", name := "trailLength", desc := "(II)I" } : Jvm.MethodName)) ∈ lw_all := lw_g (lw_at lw_m10 114 rfl) rfl
theorem q2365 : (Jvm.Cond.code ({ cls := "TrailGuideModel", name := "trailLength", desc := "(II)I" } : Jvm.MethodName) prog_24_method_51_code (3 : Nat) (Option.some Jvm.ClassFile.FieldType.int)) ∈ lw_all := lw_g (lw_at lw_m10 115 rfl) rfl
theorem q2367 : (Jvm.Cond.instanceMethod ({ cls := "TrailGuideModel", name := "distance", desc := "(II)I" } : Jvm.MethodName)) ∈ lw_all := lw_g (lw_at lw_m10 117 rfl) rfl
theorem q2368 : (Jvm.Cond.selects "TrailGuideModel" ({ cls := "TrailGuideModel", name := "distance", desc := "(II)I" } : Jvm.MethodName) ({ cls := "TrailGuideModel", name := "distance", desc := "(II)I" } : Jvm.MethodName)) ∈ lw_all := lw_g (lw_at lw_m10 118 rfl) rfl
theorem q2369 : (Jvm.Cond.code ({ cls := "TrailGuideModel", name := "distance", desc := "(II)I" } : Jvm.MethodName) prog_24_method_52_code (3 : Nat) (Option.some Jvm.ClassFile.FieldType.int)) ∈ lw_all := lw_g (lw_at lw_m10 119 rfl) rfl
theorem q2371 : (Jvm.Cond.instanceMethod ({ cls := "TrailGuideModel", name := "distanceByRelaxation", desc := "(II)I" } : Jvm.MethodName)) ∈ lw_all := lw_g (lw_at lw_m10 121 rfl) rfl
theorem q2372 : (Jvm.Cond.selects "TrailGuideModel" ({ cls := "TrailGuideModel", name := "distanceByRelaxation", desc := "(II)I" } : Jvm.MethodName) ({ cls := "TrailGuideModel", name := "distanceByRelaxation", desc := "(II)I" } : Jvm.MethodName)) ∈ lw_all := lw_g (lw_at lw_m10 122 rfl) rfl
theorem q2373 : (Jvm.Cond.code ({ cls := "TrailGuideModel", name := "distanceByRelaxation", desc := "(II)I" } : Jvm.MethodName) prog_24_method_53_code (3 : Nat) (Option.some Jvm.ClassFile.FieldType.int)) ∈ lw_all := lw_g (lw_at lw_m10 123 rfl) rfl
theorem q2374 : (Jvm.Cond.methodLink "TrailGuideModel" (157 : Nat) ({ cls := "TrailGuideModel", name := "distance", desc := "(II)I" } : Jvm.MethodName)) ∈ lw_all := lw_g (lw_at lw_m10 124 rfl) rfl
theorem q2376 : (Jvm.Cond.instanceMethod ({ cls := "TrailGuideModel", name := "components", desc := "()I" } : Jvm.MethodName)) ∈ lw_all := lw_g (lw_at lw_m10 126 rfl) rfl
theorem q2377 : (Jvm.Cond.selects "TrailGuideModel" ({ cls := "TrailGuideModel", name := "components", desc := "()I" } : Jvm.MethodName) ({ cls := "TrailGuideModel", name := "components", desc := "()I" } : Jvm.MethodName)) ∈ lw_all := lw_g (lw_at lw_m10 127 rfl) rfl
theorem q2378 : (Jvm.Cond.code ({ cls := "TrailGuideModel", name := "components", desc := "()I" } : Jvm.MethodName) prog_24_method_54_code (5 : Nat) (Option.some Jvm.ClassFile.FieldType.int)) ∈ lw_all := lw_g (lw_at lw_m10 128 rfl) rfl
theorem q2380 : (Jvm.Cond.instanceMethod ({ cls := "TrailGuideModel", name := "componentsByMerging", desc := "()I" } : Jvm.MethodName)) ∈ lw_all := lw_g (lw_at lw_m10 130 rfl) rfl
theorem q2381 : (Jvm.Cond.selects "TrailGuideModel" ({ cls := "TrailGuideModel", name := "componentsByMerging", desc := "()I" } : Jvm.MethodName) ({ cls := "TrailGuideModel", name := "componentsByMerging", desc := "()I" } : Jvm.MethodName)) ∈ lw_all := lw_g (lw_at lw_m10 131 rfl) rfl
theorem q2382 : (Jvm.Cond.code ({ cls := "TrailGuideModel", name := "componentsByMerging", desc := "()I" } : Jvm.MethodName) prog_24_method_55_code (1 : Nat) (Option.some Jvm.ClassFile.FieldType.int)) ∈ lw_all := lw_g (lw_at lw_m10 132 rfl) rfl
theorem q2383 : (Jvm.Cond.methodLink "TrailGuideModel" (160 : Nat) ({ cls := "TrailGuideModel", name := "components", desc := "()I" } : Jvm.MethodName)) ∈ lw_all := lw_g (lw_at lw_m10 133 rfl) rfl
theorem q2385 : (Jvm.Cond.instanceMethod ({ cls := "TrailGuideModel", name := "nearest", desc := "(II)I" } : Jvm.MethodName)) ∈ lw_all := lw_g (lw_at lw_m10 135 rfl) rfl
theorem q2386 : (Jvm.Cond.selects "TrailGuideModel" ({ cls := "TrailGuideModel", name := "nearest", desc := "(II)I" } : Jvm.MethodName) ({ cls := "TrailGuideModel", name := "nearest", desc := "(II)I" } : Jvm.MethodName)) ∈ lw_all := lw_g (lw_at lw_m10 136 rfl) rfl
theorem q2387 : (Jvm.Cond.code ({ cls := "TrailGuideModel", name := "nearest", desc := "(II)I" } : Jvm.MethodName) prog_24_method_57_code (5 : Nat) (Option.some Jvm.ClassFile.FieldType.int)) ∈ lw_all := lw_g (lw_at lw_m10 137 rfl) rfl
theorem q2388 : (Jvm.Cond.methodLink "TrailGuideModel" (163 : Nat) ({ cls := "TrailGuideModel", name := "away", desc := "(III)I" } : Jvm.MethodName)) ∈ lw_all := lw_g (lw_at lw_m10 138 rfl) rfl
theorem q2389 : (Jvm.Cond.privateMethod ({ cls := "TrailGuideModel", name := "away", desc := "(III)I" } : Jvm.MethodName)) ∈ lw_tbl := lw_at lw_m10 139 rfl
theorem q2390 : (Jvm.Cond.instanceMethod ({ cls := "TrailGuideModel", name := "away", desc := "(III)I" } : Jvm.MethodName)) ∈ lw_all := lw_g (lw_at lw_m10 140 rfl) rfl
theorem q2391 : (Jvm.Cond.code ({ cls := "TrailGuideModel", name := "away", desc := "(III)I" } : Jvm.MethodName) prog_24_method_56_code (4 : Nat) (Option.some Jvm.ClassFile.FieldType.int)) ∈ lw_all := lw_g (lw_at lw_m10 141 rfl) rfl
theorem q2393 : (Jvm.Cond.instanceMethod ({ cls := "TrailGuideModel", name := "isTouring", desc := "()Z" } : Jvm.MethodName)) ∈ lw_all := lw_g (lw_at lw_m10 143 rfl) rfl
theorem q2394 : (Jvm.Cond.selects "TrailGuideModel" ({ cls := "TrailGuideModel", name := "isTouring", desc := "()Z" } : Jvm.MethodName) ({ cls := "TrailGuideModel", name := "isTouring", desc := "()Z" } : Jvm.MethodName)) ∈ lw_all := lw_g (lw_at lw_m10 144 rfl) rfl
theorem q2395 : (Jvm.Cond.code ({ cls := "TrailGuideModel", name := "isTouring", desc := "()Z" } : Jvm.MethodName) prog_24_method_58_code (1 : Nat) (Option.some Jvm.ClassFile.FieldType.boolean)) ∈ lw_all := lw_g (lw_at lw_m10 145 rfl) rfl
theorem q2397 : (Jvm.Cond.instanceMethod ({ cls := "TrailGuideModel", name := "routeLength", desc := "()I" } : Jvm.MethodName)) ∈ lw_all := lw_g (lw_at lw_m10 147 rfl) rfl
theorem q2398 : (Jvm.Cond.selects "TrailGuideModel" ({ cls := "TrailGuideModel", name := "routeLength", desc := "()I" } : Jvm.MethodName) ({ cls := "TrailGuideModel", name := "routeLength", desc := "()I" } : Jvm.MethodName)) ∈ lw_all := lw_g (lw_at lw_m10 148 rfl) rfl
theorem q2399 : (Jvm.Cond.code ({ cls := "TrailGuideModel", name := "routeLength", desc := "()I" } : Jvm.MethodName) prog_24_method_60_code (1 : Nat) (Option.some Jvm.ClassFile.FieldType.int)) ∈ lw_all := lw_g (lw_at lw_m10 149 rfl) rfl
theorem q2400 : (Jvm.Cond.methodLink "TrailGuideModel" (166 : Nat) ({ cls := "TrailGuideModel", name := "ofTour", desc := "(I)I" } : Jvm.MethodName)) ∈ lw_all := lw_g (lw_at lw_m10 150 rfl) rfl
theorem q2401 : (Jvm.Cond.privateMethod ({ cls := "TrailGuideModel", name := "ofTour", desc := "(I)I" } : Jvm.MethodName)) ∈ lw_tbl := lw_at lw_m10 151 rfl
theorem q2402 : (Jvm.Cond.instanceMethod ({ cls := "TrailGuideModel", name := "ofTour", desc := "(I)I" } : Jvm.MethodName)) ∈ lw_all := lw_g (lw_at lw_m10 152 rfl) rfl
theorem q2403 : (Jvm.Cond.code ({ cls := "TrailGuideModel", name := "ofTour", desc := "(I)I" } : Jvm.MethodName) prog_24_method_59_code (2 : Nat) (Option.some Jvm.ClassFile.FieldType.int)) ∈ lw_all := lw_g (lw_at lw_m10 153 rfl) rfl
theorem q2405 : (Jvm.Cond.instanceMethod ({ cls := "TrailGuideModel", name := "routeWaypoint", desc := "(I)I" } : Jvm.MethodName)) ∈ lw_all := lw_g (lw_at lw_m10 155 rfl) rfl
theorem q2406 : (Jvm.Cond.selects "TrailGuideModel" ({ cls := "TrailGuideModel", name := "routeWaypoint", desc := "(I)I" } : Jvm.MethodName) ({ cls := "TrailGuideModel", name := "routeWaypoint", desc := "(I)I" } : Jvm.MethodName)) ∈ lw_all := lw_g (lw_at lw_m10 156 rfl) rfl
theorem q2407 : (Jvm.Cond.code ({ cls := "TrailGuideModel", name := "routeWaypoint", desc := "(I)I" } : Jvm.MethodName) prog_24_method_62_code (2 : Nat) (Option.some Jvm.ClassFile.FieldType.int)) ∈ lw_all := lw_g (lw_at lw_m10 157 rfl) rfl
theorem q2408 : (Jvm.Cond.methodLink "TrailGuideModel" (169 : Nat) ({ cls := "TrailGuideModel", name := "isNoIndex", desc := "(I)Z" } : Jvm.MethodName)) ∈ lw_all := lw_g (lw_at lw_m10 158 rfl) rfl
theorem q2409 : (Jvm.Cond.privateMethod ({ cls := "TrailGuideModel", name := "isNoIndex", desc := "(I)Z" } : Jvm.MethodName)) ∈ lw_tbl := lw_at lw_m10 159 rfl
theorem q2410 : (Jvm.Cond.instanceMethod ({ cls := "TrailGuideModel", name := "isNoIndex", desc := "(I)Z" } : Jvm.MethodName)) ∈ lw_all := lw_g (lw_at lw_m10 160 rfl) rfl
theorem q2411 : (Jvm.Cond.code ({ cls := "TrailGuideModel", name := "isNoIndex", desc := "(I)Z" } : Jvm.MethodName) prog_24_method_61_code (2 : Nat) (Option.some Jvm.ClassFile.FieldType.boolean)) ∈ lw_all := lw_g (lw_at lw_m10 161 rfl) rfl
theorem q2413 : (Jvm.Cond.instanceMethod ({ cls := "TrailGuideModel", name := "turn", desc := "(I)C" } : Jvm.MethodName)) ∈ lw_all := lw_g (lw_at lw_m10 163 rfl) rfl
theorem q2414 : (Jvm.Cond.selects "TrailGuideModel" ({ cls := "TrailGuideModel", name := "turn", desc := "(I)C" } : Jvm.MethodName) ({ cls := "TrailGuideModel", name := "turn", desc := "(I)C" } : Jvm.MethodName)) ∈ lw_all := lw_g (lw_at lw_m10 164 rfl) rfl
theorem q2415 : (Jvm.Cond.code ({ cls := "TrailGuideModel", name := "turn", desc := "(I)C" } : Jvm.MethodName) prog_24_method_64_code (2 : Nat) (Option.some Jvm.ClassFile.FieldType.char)) ∈ lw_all := lw_g (lw_at lw_m10 165 rfl) rfl
theorem q2416 : (Jvm.Cond.methodLink "TrailGuideModel" (172 : Nat) ({ cls := "TrailGuideModel", name := "turnAt", desc := "(I)I" } : Jvm.MethodName)) ∈ lw_all := lw_g (lw_at lw_m10 166 rfl) rfl
theorem q2417 : (Jvm.Cond.privateMethod ({ cls := "TrailGuideModel", name := "turnAt", desc := "(I)I" } : Jvm.MethodName)) ∈ lw_tbl := lw_at lw_m10 167 rfl
theorem q2418 : (Jvm.Cond.instanceMethod ({ cls := "TrailGuideModel", name := "turnAt", desc := "(I)I" } : Jvm.MethodName)) ∈ lw_all := lw_g (lw_at lw_m10 168 rfl) rfl
theorem q2419 : (Jvm.Cond.code ({ cls := "TrailGuideModel", name := "turnAt", desc := "(I)I" } : Jvm.MethodName) prog_24_method_63_code (11 : Nat) (Option.some Jvm.ClassFile.FieldType.int)) ∈ lw_all := lw_g (lw_at lw_m10 169 rfl) rfl
theorem q2421 : (Jvm.Cond.instanceMethod ({ cls := "TrailGuideModel", name := "target", desc := "()I" } : Jvm.MethodName)) ∈ lw_all := lw_g (lw_at lw_m10 171 rfl) rfl
theorem q2422 : (Jvm.Cond.selects "TrailGuideModel" ({ cls := "TrailGuideModel", name := "target", desc := "()I" } : Jvm.MethodName) ({ cls := "TrailGuideModel", name := "target", desc := "()I" } : Jvm.MethodName)) ∈ lw_all := lw_g (lw_at lw_m10 172 rfl) rfl
theorem q2423 : (Jvm.Cond.code ({ cls := "TrailGuideModel", name := "target", desc := "()I" } : Jvm.MethodName) prog_24_method_65_code (1 : Nat) (Option.some Jvm.ClassFile.FieldType.int)) ∈ lw_all := lw_g (lw_at lw_m10 173 rfl) rfl
theorem q2425 : (Jvm.Cond.instanceMethod ({ cls := "TrailGuideModel", name := "hikerX", desc := "()I" } : Jvm.MethodName)) ∈ lw_all := lw_g (lw_at lw_m10 175 rfl) rfl
theorem q2426 : (Jvm.Cond.selects "TrailGuideModel" ({ cls := "TrailGuideModel", name := "hikerX", desc := "()I" } : Jvm.MethodName) ({ cls := "TrailGuideModel", name := "hikerX", desc := "()I" } : Jvm.MethodName)) ∈ lw_all := lw_g (lw_at lw_m10 176 rfl) rfl
theorem q2427 : (Jvm.Cond.code ({ cls := "TrailGuideModel", name := "hikerX", desc := "()I" } : Jvm.MethodName) prog_24_method_66_code (1 : Nat) (Option.some Jvm.ClassFile.FieldType.int)) ∈ lw_all := lw_g (lw_at lw_m10 177 rfl) rfl
theorem q2429 : (Jvm.Cond.instanceMethod ({ cls := "TrailGuideModel", name := "hikerY", desc := "()I" } : Jvm.MethodName)) ∈ lw_all := lw_g (lw_at lw_m10 179 rfl) rfl
theorem q2430 : (Jvm.Cond.selects "TrailGuideModel" ({ cls := "TrailGuideModel", name := "hikerY", desc := "()I" } : Jvm.MethodName) ({ cls := "TrailGuideModel", name := "hikerY", desc := "()I" } : Jvm.MethodName)) ∈ lw_all := lw_g (lw_at lw_m10 180 rfl) rfl
theorem q2431 : (Jvm.Cond.code ({ cls := "TrailGuideModel", name := "hikerY", desc := "()I" } : Jvm.MethodName) prog_24_method_67_code (1 : Nat) (Option.some Jvm.ClassFile.FieldType.int)) ∈ lw_all := lw_g (lw_at lw_m10 181 rfl) rfl
theorem q2433 : (Jvm.Cond.instanceMethod ({ cls := "TrailGuideModel", name := "drift", desc := "()I" } : Jvm.MethodName)) ∈ lw_all := lw_g (lw_at lw_m10 183 rfl) rfl
theorem q2434 : (Jvm.Cond.selects "TrailGuideModel" ({ cls := "TrailGuideModel", name := "drift", desc := "()I" } : Jvm.MethodName) ({ cls := "TrailGuideModel", name := "drift", desc := "()I" } : Jvm.MethodName)) ∈ lw_all := lw_g (lw_at lw_m10 184 rfl) rfl
theorem q2435 : (Jvm.Cond.code ({ cls := "TrailGuideModel", name := "drift", desc := "()I" } : Jvm.MethodName) prog_24_method_68_code (2 : Nat) (Option.some Jvm.ClassFile.FieldType.int)) ∈ lw_all := lw_g (lw_at lw_m10 185 rfl) rfl
theorem q2436 : (Jvm.Cond.methodLink "TrailGuideModel" (175 : Nat) ({ cls := "TrailGuideModel", name := "isBeyond", desc := "(III)Z" } : Jvm.MethodName)) ∈ lw_all := lw_g (lw_at lw_m10 186 rfl) rfl
theorem q2437 : (Jvm.Cond.privateMethod ({ cls := "TrailGuideModel", name := "isBeyond", desc := "(III)Z" } : Jvm.MethodName)) ∈ lw_tbl := lw_at lw_m10 187 rfl
theorem q2438 : (Jvm.Cond.instanceMethod ({ cls := "TrailGuideModel", name := "isBeyond", desc := "(III)Z" } : Jvm.MethodName)) ∈ lw_all := lw_g (lw_at lw_m10 188 rfl) rfl
theorem q2439 : (Jvm.Cond.code ({ cls := "TrailGuideModel", name := "isBeyond", desc := "(III)Z" } : Jvm.MethodName) prog_24_method_32_code (4 : Nat) (Option.some Jvm.ClassFile.FieldType.boolean)) ∈ lw_all := lw_g (lw_at lw_m10 189 rfl) rfl
theorem q2441 : (Jvm.Cond.instanceMethod ({ cls := "TrailGuideModel", name := "isAlarm", desc := "()Z" } : Jvm.MethodName)) ∈ lw_all := lw_g (lw_at lw_m10 191 rfl) rfl
theorem q2442 : (Jvm.Cond.selects "TrailGuideModel" ({ cls := "TrailGuideModel", name := "isAlarm", desc := "()Z" } : Jvm.MethodName) ({ cls := "TrailGuideModel", name := "isAlarm", desc := "()Z" } : Jvm.MethodName)) ∈ lw_all := lw_g (lw_at lw_m10 192 rfl) rfl
theorem q2443 : (Jvm.Cond.code ({ cls := "TrailGuideModel", name := "isAlarm", desc := "()Z" } : Jvm.MethodName) prog_24_method_69_code (1 : Nat) (Option.some Jvm.ClassFile.FieldType.boolean)) ∈ lw_all := lw_g (lw_at lw_m10 193 rfl) rfl
theorem q2445 : (Jvm.Cond.instanceMethod ({ cls := "TrailGuideModel", name := "forecast", desc := "(II)C" } : Jvm.MethodName)) ∈ lw_all := lw_g (lw_at lw_m10 195 rfl) rfl
theorem q2446 : (Jvm.Cond.selects "TrailGuideModel" ({ cls := "TrailGuideModel", name := "forecast", desc := "(II)C" } : Jvm.MethodName) ({ cls := "TrailGuideModel", name := "forecast", desc := "(II)C" } : Jvm.MethodName)) ∈ lw_all := lw_g (lw_at lw_m10 196 rfl) rfl
theorem q2447 : (Jvm.Cond.code ({ cls := "TrailGuideModel", name := "forecast", desc := "(II)C" } : Jvm.MethodName) prog_24_method_70_code (3 : Nat) (Option.some Jvm.ClassFile.FieldType.char)) ∈ lw_all := lw_g (lw_at lw_m10 197 rfl) rfl
theorem q2449 : (Jvm.Cond.instanceMethod ({ cls := "TrailGuideModel", name := "battery", desc := "()I" } : Jvm.MethodName)) ∈ lw_all := lw_g (lw_at lw_m10 199 rfl) rfl
theorem q2450 : (Jvm.Cond.selects "TrailGuideModel" ({ cls := "TrailGuideModel", name := "battery", desc := "()I" } : Jvm.MethodName) ({ cls := "TrailGuideModel", name := "battery", desc := "()I" } : Jvm.MethodName)) ∈ lw_all := lw_g (lw_at lw_m10 200 rfl) rfl
theorem q2451 : (Jvm.Cond.code ({ cls := "TrailGuideModel", name := "battery", desc := "()I" } : Jvm.MethodName) prog_24_method_71_code (1 : Nat) (Option.some Jvm.ClassFile.FieldType.int)) ∈ lw_all := lw_g (lw_at lw_m10 201 rfl) rfl
theorem q2453 : (Jvm.Cond.instanceMethod ({ cls := "TrailGuideModel", name := "mode", desc := "()I" } : Jvm.MethodName)) ∈ lw_all := lw_g (lw_at lw_m10 203 rfl) rfl
theorem q2454 : (Jvm.Cond.selects "TrailGuideModel" ({ cls := "TrailGuideModel", name := "mode", desc := "()I" } : Jvm.MethodName) ({ cls := "TrailGuideModel", name := "mode", desc := "()I" } : Jvm.MethodName)) ∈ lw_all := lw_g (lw_at lw_m10 204 rfl) rfl
theorem q2455 : (Jvm.Cond.code ({ cls := "TrailGuideModel", name := "mode", desc := "()I" } : Jvm.MethodName) prog_24_method_72_code (1 : Nat) (Option.some Jvm.ClassFile.FieldType.int)) ∈ lw_all := lw_g (lw_at lw_m10 205 rfl) rfl
theorem q2457 : (Jvm.Cond.instanceMethod ({ cls := "TrailGuideModel", name := "tolerance", desc := "()I" } : Jvm.MethodName)) ∈ lw_all := lw_g (lw_at lw_m10 207 rfl) rfl
theorem q2458 : (Jvm.Cond.selects "TrailGuideModel" ({ cls := "TrailGuideModel", name := "tolerance", desc := "()I" } : Jvm.MethodName) ({ cls := "TrailGuideModel", name := "tolerance", desc := "()I" } : Jvm.MethodName)) ∈ lw_all := lw_g (lw_at lw_m10 208 rfl) rfl
theorem q2459 : (Jvm.Cond.code ({ cls := "TrailGuideModel", name := "tolerance", desc := "()I" } : Jvm.MethodName) prog_24_method_73_code (1 : Nat) (Option.some Jvm.ClassFile.FieldType.int)) ∈ lw_all := lw_g (lw_at lw_m10 209 rfl) rfl
theorem q2461 : (Jvm.Cond.instanceMethod ({ cls := "TrailGuideModel", name := "updatesLeft", desc := "()I" } : Jvm.MethodName)) ∈ lw_all := lw_g (lw_at lw_m10 211 rfl) rfl
theorem q2462 : (Jvm.Cond.selects "TrailGuideModel" ({ cls := "TrailGuideModel", name := "updatesLeft", desc := "()I" } : Jvm.MethodName) ({ cls := "TrailGuideModel", name := "updatesLeft", desc := "()I" } : Jvm.MethodName)) ∈ lw_all := lw_g (lw_at lw_m10 212 rfl) rfl
theorem q2463 : (Jvm.Cond.code ({ cls := "TrailGuideModel", name := "updatesLeft", desc := "()I" } : Jvm.MethodName) prog_24_method_74_code (2 : Nat) (Option.some Jvm.ClassFile.FieldType.int)) ∈ lw_all := lw_g (lw_at lw_m10 213 rfl) rfl
theorem q2465 : (Jvm.Cond.instanceMethod ({ cls := "TrailGuideModel", name := "updatesLeftByCounting", desc := "()I" } : Jvm.MethodName)) ∈ lw_all := lw_g (lw_at lw_m10 215 rfl) rfl
theorem q2466 : (Jvm.Cond.selects "TrailGuideModel" ({ cls := "TrailGuideModel", name := "updatesLeftByCounting", desc := "()I" } : Jvm.MethodName) ({ cls := "TrailGuideModel", name := "updatesLeftByCounting", desc := "()I" } : Jvm.MethodName)) ∈ lw_all := lw_g (lw_at lw_m10 216 rfl) rfl
theorem q2467 : (Jvm.Cond.code ({ cls := "TrailGuideModel", name := "updatesLeftByCounting", desc := "()I" } : Jvm.MethodName) prog_24_method_75_code (1 : Nat) (Option.some Jvm.ClassFile.FieldType.int)) ∈ lw_all := lw_g (lw_at lw_m10 217 rfl) rfl
theorem q2468 : (Jvm.Cond.methodLink "TrailGuideModel" (178 : Nat) ({ cls := "TrailGuideModel", name := "updatesLeft", desc := "()I" } : Jvm.MethodName)) ∈ lw_all := lw_g (lw_at lw_m10 218 rfl) rfl
theorem q2470 : (Jvm.Cond.instanceMethod ({ cls := "TrailGuideModel", name := "updates", desc := "()I" } : Jvm.MethodName)) ∈ lw_all := lw_g (lw_at lw_m10 220 rfl) rfl
theorem q2471 : (Jvm.Cond.selects "TrailGuideModel" ({ cls := "TrailGuideModel", name := "updates", desc := "()I" } : Jvm.MethodName) ({ cls := "TrailGuideModel", name := "updates", desc := "()I" } : Jvm.MethodName)) ∈ lw_all := lw_g (lw_at lw_m10 221 rfl) rfl
theorem q2472 : (Jvm.Cond.code ({ cls := "TrailGuideModel", name := "updates", desc := "()I" } : Jvm.MethodName) prog_24_method_76_code (1 : Nat) (Option.some Jvm.ClassFile.FieldType.int)) ∈ lw_all := lw_g (lw_at lw_m10 222 rfl) rfl
theorem q2474 : (Jvm.Cond.instanceMethod ({ cls := "TrailGuideModel", name := "alarms", desc := "()I" } : Jvm.MethodName)) ∈ lw_all := lw_g (lw_at lw_m10 224 rfl) rfl
theorem q2475 : (Jvm.Cond.selects "TrailGuideModel" ({ cls := "TrailGuideModel", name := "alarms", desc := "()I" } : Jvm.MethodName) ({ cls := "TrailGuideModel", name := "alarms", desc := "()I" } : Jvm.MethodName)) ∈ lw_all := lw_g (lw_at lw_m10 225 rfl) rfl
theorem q2476 : (Jvm.Cond.code ({ cls := "TrailGuideModel", name := "alarms", desc := "()I" } : Jvm.MethodName) prog_24_method_77_code (1 : Nat) (Option.some Jvm.ClassFile.FieldType.int)) ∈ lw_all := lw_g (lw_at lw_m10 226 rfl) rfl
theorem q2478 : (Jvm.Cond.instanceMethod ({ cls := "TrailGuideModel", name := "reached", desc := "()I" } : Jvm.MethodName)) ∈ lw_all := lw_g (lw_at lw_m10 228 rfl) rfl
theorem q2479 : (Jvm.Cond.selects "TrailGuideModel" ({ cls := "TrailGuideModel", name := "reached", desc := "()I" } : Jvm.MethodName) ({ cls := "TrailGuideModel", name := "reached", desc := "()I" } : Jvm.MethodName)) ∈ lw_all := lw_g (lw_at lw_m10 229 rfl) rfl
theorem q2480 : (Jvm.Cond.code ({ cls := "TrailGuideModel", name := "reached", desc := "()I" } : Jvm.MethodName) prog_24_method_78_code (1 : Nat) (Option.some Jvm.ClassFile.FieldType.int)) ∈ lw_all := lw_g (lw_at lw_m10 230 rfl) rfl
theorem q2482 : (Jvm.Cond.instanceMethod ({ cls := "TrailGuideModel", name := "alarmRate", desc := "()F" } : Jvm.MethodName)) ∈ lw_all := lw_g (lw_at lw_m10 232 rfl) rfl
theorem q2483 : (Jvm.Cond.selects "TrailGuideModel" ({ cls := "TrailGuideModel", name := "alarmRate", desc := "()F" } : Jvm.MethodName) ({ cls := "TrailGuideModel", name := "alarmRate", desc := "()F" } : Jvm.MethodName)) ∈ lw_all := lw_g (lw_at lw_m10 233 rfl) rfl
theorem q2484 : (Jvm.Cond.code ({ cls := "TrailGuideModel", name := "alarmRate", desc := "()F" } : Jvm.MethodName) prog_24_method_79_code (1 : Nat) (Option.some Jvm.ClassFile.FieldType.float)) ∈ lw_all := lw_g (lw_at lw_m10 234 rfl) rfl
theorem q2486 : (Jvm.Cond.instanceMethod ({ cls := "TrailGuideModel", name := "meanTrailLength", desc := "()D" } : Jvm.MethodName)) ∈ lw_all := lw_g (lw_at lw_m10 236 rfl) rfl
theorem q2487 : (Jvm.Cond.selects "TrailGuideModel" ({ cls := "TrailGuideModel", name := "meanTrailLength", desc := "()D" } : Jvm.MethodName) ({ cls := "TrailGuideModel", name := "meanTrailLength", desc := "()D" } : Jvm.MethodName)) ∈ lw_all := lw_g (lw_at lw_m10 237 rfl) rfl
theorem q2488 : (Jvm.Cond.code ({ cls := "TrailGuideModel", name := "meanTrailLength", desc := "()D" } : Jvm.MethodName) prog_24_method_80_code (4 : Nat) (Option.some Jvm.ClassFile.FieldType.double)) ∈ lw_all := lw_g (lw_at lw_m10 238 rfl) rfl
theorem q2490 : (Jvm.Cond.instanceMethod ({ cls := "TrailGuideModel", name := "isConsistent", desc := "()Z" } : Jvm.MethodName)) ∈ lw_all := lw_g (lw_at lw_m11 0 rfl) rfl
theorem q2491 : (Jvm.Cond.selects "TrailGuideModel" ({ cls := "TrailGuideModel", name := "isConsistent", desc := "()Z" } : Jvm.MethodName) ({ cls := "TrailGuideModel", name := "isConsistent", desc := "()Z" } : Jvm.MethodName)) ∈ lw_all := lw_g (lw_at lw_m11 1 rfl) rfl
theorem q2492 : (Jvm.Cond.code ({ cls := "TrailGuideModel", name := "isConsistent", desc := "()Z" } : Jvm.MethodName) prog_24_method_81_code (1 : Nat) (Option.some Jvm.ClassFile.FieldType.boolean)) ∈ lw_all := lw_g (lw_at lw_m11 2 rfl) rfl
theorem q2494 : (Jvm.Cond.instanceMethod ({ cls := "TrailGuideModel", name := "writeRoute", desc := "()I" } : Jvm.MethodName)) ∈ lw_all := lw_g (lw_at lw_m11 4 rfl) rfl
theorem q2495 : (Jvm.Cond.selects "TrailGuideModel" ({ cls := "TrailGuideModel", name := "writeRoute", desc := "()I" } : Jvm.MethodName) ({ cls := "TrailGuideModel", name := "writeRoute", desc := "()I" } : Jvm.MethodName)) ∈ lw_all := lw_g (lw_at lw_m11 5 rfl) rfl
theorem q2496 : (Jvm.Cond.code ({ cls := "TrailGuideModel", name := "writeRoute", desc := "()I" } : Jvm.MethodName) prog_24_method_84_code (2 : Nat) (Option.some Jvm.ClassFile.FieldType.int)) ∈ lw_all := lw_g (lw_at lw_m11 6 rfl) rfl
theorem q2497 : (Jvm.Cond.methodLink "TrailGuideModel" (187 : Nat) ({ cls := "TrailGuideModel", name := "puts", desc := "(I)V" } : Jvm.MethodName)) ∈ lw_all := lw_g (lw_at lw_m11 7 rfl) rfl
theorem q2498 : (Jvm.Cond.privateMethod ({ cls := "TrailGuideModel", name := "puts", desc := "(I)V" } : Jvm.MethodName)) ∈ lw_tbl := lw_at lw_m11 8 rfl
theorem q2499 : (Jvm.Cond.instanceMethod ({ cls := "TrailGuideModel", name := "puts", desc := "(I)V" } : Jvm.MethodName)) ∈ lw_all := lw_g (lw_at lw_m11 9 rfl) rfl
theorem q2500 : (Jvm.Cond.code ({ cls := "TrailGuideModel", name := "puts", desc := "(I)V" } : Jvm.MethodName) prog_24_method_82_code (2 : Nat) (Option.none : Option Jvm.ClassFile.FieldType)) ∈ lw_all := lw_g (lw_at lw_m11 10 rfl) rfl
theorem q2501 : (Jvm.Cond.methodLink "TrailGuideModel" (184 : Nat) ({ cls := "TrailGuideModel", name := "number", desc := "(I)V" } : Jvm.MethodName)) ∈ lw_all := lw_g (lw_at lw_m11 11 rfl) rfl
theorem q2502 : (Jvm.Cond.privateMethod ({ cls := "TrailGuideModel", name := "number", desc := "(I)V" } : Jvm.MethodName)) ∈ lw_tbl := lw_at lw_m11 12 rfl
theorem q2503 : (Jvm.Cond.instanceMethod ({ cls := "TrailGuideModel", name := "number", desc := "(I)V" } : Jvm.MethodName)) ∈ lw_all := lw_g (lw_at lw_m11 13 rfl) rfl
theorem q2504 : (Jvm.Cond.code ({ cls := "TrailGuideModel", name := "number", desc := "(I)V" } : Jvm.MethodName) prog_24_method_83_code (2 : Nat) (Option.none : Option Jvm.ClassFile.FieldType)) ∈ lw_all := lw_g (lw_at lw_m11 14 rfl) rfl
theorem q2506 : (Jvm.Cond.instanceMethod ({ cls := "TrailGuideModel", name := "writeTrails", desc := "(I)I" } : Jvm.MethodName)) ∈ lw_all := lw_g (lw_at lw_m11 16 rfl) rfl
theorem q2507 : (Jvm.Cond.selects "TrailGuideModel" ({ cls := "TrailGuideModel", name := "writeTrails", desc := "(I)I" } : Jvm.MethodName) ({ cls := "TrailGuideModel", name := "writeTrails", desc := "(I)I" } : Jvm.MethodName)) ∈ lw_all := lw_g (lw_at lw_m11 17 rfl) rfl
theorem q2508 : (Jvm.Cond.code ({ cls := "TrailGuideModel", name := "writeTrails", desc := "(I)I" } : Jvm.MethodName) prog_24_method_85_code (3 : Nat) (Option.some Jvm.ClassFile.FieldType.int)) ∈ lw_all := lw_g (lw_at lw_m11 18 rfl) rfl
theorem q2510 : (Jvm.Cond.instanceMethod ({ cls := "TrailGuideModel", name := "charAt", desc := "(I)C" } : Jvm.MethodName)) ∈ lw_all := lw_g (lw_at lw_m11 20 rfl) rfl
theorem q2511 : (Jvm.Cond.selects "TrailGuideModel" ({ cls := "TrailGuideModel", name := "charAt", desc := "(I)C" } : Jvm.MethodName) ({ cls := "TrailGuideModel", name := "charAt", desc := "(I)C" } : Jvm.MethodName)) ∈ lw_all := lw_g (lw_at lw_m11 21 rfl) rfl
theorem q2512 : (Jvm.Cond.code ({ cls := "TrailGuideModel", name := "charAt", desc := "(I)C" } : Jvm.MethodName) prog_24_method_86_code (2 : Nat) (Option.some Jvm.ClassFile.FieldType.char)) ∈ lw_all := lw_g (lw_at lw_m11 22 rfl) rfl
theorem q2514 : (Jvm.Cond.instanceMethod ({ cls := "TrailGuideModel", name := "type", desc := "(C)I" } : Jvm.MethodName)) ∈ lw_all := lw_g (lw_at lw_m11 24 rfl) rfl
theorem q2515 : (Jvm.Cond.selects "TrailGuideModel" ({ cls := "TrailGuideModel", name := "type", desc := "(C)I" } : Jvm.MethodName) ({ cls := "TrailGuideModel", name := "type", desc := "(C)I" } : Jvm.MethodName)) ∈ lw_all := lw_g (lw_at lw_m11 25 rfl) rfl
theorem q2516 : (Jvm.Cond.code ({ cls := "TrailGuideModel", name := "type", desc := "(C)I" } : Jvm.MethodName) prog_24_method_87_code (2 : Nat) (Option.some Jvm.ClassFile.FieldType.int)) ∈ lw_all := lw_g (lw_at lw_m11 26 rfl) rfl
theorem q2518 : (Jvm.Cond.instanceMethod ({ cls := "TrailGuideModel", name := "run", desc := "()I" } : Jvm.MethodName)) ∈ lw_all := lw_g (lw_at lw_m11 28 rfl) rfl
theorem q2519 : (Jvm.Cond.selects "TrailGuideModel" ({ cls := "TrailGuideModel", name := "run", desc := "()I" } : Jvm.MethodName) ({ cls := "TrailGuideModel", name := "run", desc := "()I" } : Jvm.MethodName)) ∈ lw_all := lw_g (lw_at lw_m11 29 rfl) rfl
theorem q2520 : (Jvm.Cond.code ({ cls := "TrailGuideModel", name := "run", desc := "()I" } : Jvm.MethodName) prog_24_method_102_code (3 : Nat) (Option.some Jvm.ClassFile.FieldType.int)) ∈ lw_all := lw_g (lw_at lw_m11 30 rfl) rfl
theorem q2521 : (Jvm.Cond.methodLink "TrailGuideModel" (265 : Nat) ({ cls := "TrailGuideModel", name := "isProgram", desc := "()Z" } : Jvm.MethodName)) ∈ lw_all := lw_g (lw_at lw_m11 31 rfl) rfl
theorem q2522 : (Jvm.Cond.privateMethod ({ cls := "TrailGuideModel", name := "isProgram", desc := "()Z" } : Jvm.MethodName)) ∈ lw_tbl := lw_at lw_m11 32 rfl
theorem q2523 : (Jvm.Cond.instanceMethod ({ cls := "TrailGuideModel", name := "isProgram", desc := "()Z" } : Jvm.MethodName)) ∈ lw_all := lw_g (lw_at lw_m11 33 rfl) rfl
theorem q2524 : (Jvm.Cond.code ({ cls := "TrailGuideModel", name := "isProgram", desc := "()Z" } : Jvm.MethodName) prog_24_method_100_code (2 : Nat) (Option.some Jvm.ClassFile.FieldType.boolean)) ∈ lw_all := lw_g (lw_at lw_m11 34 rfl) rfl
theorem q2525 : (Jvm.Cond.methodLink "TrailGuideModel" (262 : Nat) ({ cls := "TrailGuideModel", name := "readsCommand", desc := "()Z" } : Jvm.MethodName)) ∈ lw_all := lw_g (lw_at lw_m11 35 rfl) rfl
theorem q2526 : (Jvm.Cond.privateMethod ({ cls := "TrailGuideModel", name := "readsCommand", desc := "()Z" } : Jvm.MethodName)) ∈ lw_tbl := lw_at lw_m11 36 rfl
theorem q2527 : (Jvm.Cond.instanceMethod ({ cls := "TrailGuideModel", name := "readsCommand", desc := "()Z" } : Jvm.MethodName)) ∈ lw_all := lw_g (lw_at lw_m11 37 rfl) rfl
theorem q2528 : (Jvm.Cond.code ({ cls := "TrailGuideModel", name := "readsCommand", desc := "()Z" } : Jvm.MethodName) prog_24_method_99_code (3 : Nat) (Option.some Jvm.ClassFile.FieldType.boolean)) ∈ lw_all := lw_g (lw_at lw_m11 38 rfl) rfl
theorem q2529 : (Jvm.Cond.methodLink "TrailGuideModel" (196 : Nat) ({ cls := "TrailGuideModel", name := "sign", desc := "()I" } : Jvm.MethodName)) ∈ lw_all := lw_g (lw_at lw_m11 39 rfl) rfl
theorem q2530 : (Jvm.Cond.privateMethod ({ cls := "TrailGuideModel", name := "sign", desc := "()I" } : Jvm.MethodName)) ∈ lw_tbl := lw_at lw_m11 40 rfl
theorem q2531 : (Jvm.Cond.instanceMethod ({ cls := "TrailGuideModel", name := "sign", desc := "()I" } : Jvm.MethodName)) ∈ lw_all := lw_g (lw_at lw_m11 41 rfl) rfl
theorem q2532 : (Jvm.Cond.code ({ cls := "TrailGuideModel", name := "sign", desc := "()I" } : Jvm.MethodName) prog_24_method_88_code (1 : Nat) (Option.some Jvm.ClassFile.FieldType.int)) ∈ lw_all := lw_g (lw_at lw_m11 42 rfl) rfl
theorem q2533 : (Jvm.Cond.methodLink "TrailGuideModel" (256 : Nat) ({ cls := "TrailGuideModel", name := "isFirst", desc := "(I)Z" } : Jvm.MethodName)) ∈ lw_all := lw_g (lw_at lw_m11 43 rfl) rfl
theorem q2534 : (Jvm.Cond.static ({ cls := "TrailGuideModel", name := "isFirst", desc := "(I)Z" } : Jvm.MethodName)) ∈ lw_all := lw_g (lw_at lw_m11 44 rfl) rfl
theorem q2535 : (Jvm.Cond.code ({ cls := "TrailGuideModel", name := "isFirst", desc := "(I)Z" } : Jvm.MethodName) prog_24_method_98_code (1 : Nat) (Option.some Jvm.ClassFile.FieldType.boolean)) ∈ lw_all := lw_g (lw_at lw_m11 45 rfl) rfl
theorem q2536 : (Jvm.Cond.methodLink "TrailGuideModel" (259 : Nat) ({ cls := "TrailGuideModel", name := "readsRest", desc := "(II)Z" } : Jvm.MethodName)) ∈ lw_all := lw_g (lw_at lw_m11 46 rfl) rfl
theorem q2537 : (Jvm.Cond.privateMethod ({ cls := "TrailGuideModel", name := "readsRest", desc := "(II)Z" } : Jvm.MethodName)) ∈ lw_tbl := lw_at lw_m11 47 rfl
theorem q2538 : (Jvm.Cond.instanceMethod ({ cls := "TrailGuideModel", name := "readsRest", desc := "(II)Z" } : Jvm.MethodName)) ∈ lw_all := lw_g (lw_at lw_m11 48 rfl) rfl
theorem q2539 : (Jvm.Cond.code ({ cls := "TrailGuideModel", name := "readsRest", desc := "(II)Z" } : Jvm.MethodName) prog_24_method_97_code (3 : Nat) (Option.some Jvm.ClassFile.FieldType.boolean)) ∈ lw_all := lw_g (lw_at lw_m11 49 rfl) rfl
theorem q2540 : (Jvm.Cond.stringRef "TrailGuideModel" (238 : Nat) "oint ") ∈ lw_tbl := lw_at lw_m11 50 rfl
theorem q2541 : (Jvm.Cond.methodLink "TrailGuideModel" (218 : Nat) ({ cls := "TrailGuideModel", name := "isWord", desc := "(Ljava/lang/String;)Z" } : Jvm.MethodName)) ∈ lw_all := lw_g (lw_at lw_m11 51 rfl) rfl
theorem q2542 : (Jvm.Cond.privateMethod ({ cls := "TrailGuideModel", name := "isWord", desc := "(Ljava/lang/String;)Z" } : Jvm.MethodName)) ∈ lw_tbl := lw_at lw_m11 52 rfl
theorem q2543 : (Jvm.Cond.instanceMethod ({ cls := "TrailGuideModel", name := "isWord", desc := "(Ljava/lang/String;)Z" } : Jvm.MethodName)) ∈ lw_all := lw_g (lw_at lw_m11 53 rfl) rfl
theorem q2544 : (Jvm.Cond.code ({ cls := "TrailGuideModel", name := "isWord", desc := "(Ljava/lang/String;)Z" } : Jvm.MethodName) prog_24_method_91_code (3 : Nat) (Option.some Jvm.ClassFile.FieldType.boolean)) ∈ lw_all := lw_g (lw_at lw_m11 54 rfl) rfl
theorem q2545 : (Jvm.Cond.methodLink "TrailGuideModel" (199 : Nat) ({ cls := "java/lang/String", name := "length", desc := "()I" } : Jvm.MethodName)) ∈ lw_all := lw_g (lw_at lw_m11 55 rfl) rfl
theorem q2546 : (Jvm.Cond.methodLink "TrailGuideModel" (204 : Nat) ({ cls := "java/lang/String", name := "charAt", desc := "(I)C" } : Jvm.MethodName)) ∈ lw_all := lw_g (lw_at lw_m11 56 rfl) rfl
theorem q2547 : (Jvm.Cond.methodLink "TrailGuideModel" (208 : Nat) ({ cls := "TrailGuideModel", name := "isSign", desc := "(I)Z" } : Jvm.MethodName)) ∈ lw_all := lw_g (lw_at lw_m11 57 rfl) rfl
theorem q2548 : (Jvm.Cond.privateMethod ({ cls := "TrailGuideModel", name := "isSign", desc := "(I)Z" } : Jvm.MethodName)) ∈ lw_tbl := lw_at lw_m11 58 rfl
theorem q2549 : (Jvm.Cond.instanceMethod ({ cls := "TrailGuideModel", name := "isSign", desc := "(I)Z" } : Jvm.MethodName)) ∈ lw_all := lw_g (lw_at lw_m11 59 rfl) rfl
theorem q2550 : (Jvm.Cond.code ({ cls := "TrailGuideModel", name := "isSign", desc := "(I)Z" } : Jvm.MethodName) prog_24_method_89_code (3 : Nat) (Option.some Jvm.ClassFile.FieldType.boolean)) ∈ lw_all := lw_g (lw_at lw_m11 60 rfl) rfl
theorem q2551 : (Jvm.Cond.methodLink "TrailGuideModel" (222 : Nat) ({ cls := "TrailGuideModel", name := "isPair", desc := "(II)Z" } : Jvm.MethodName)) ∈ lw_all := lw_g (lw_at lw_m11 61 rfl) rfl
theorem q2552 : (Jvm.Cond.privateMethod ({ cls := "TrailGuideModel", name := "isPair", desc := "(II)Z" } : Jvm.MethodName)) ∈ lw_tbl := lw_at lw_m11 62 rfl
theorem q2553 : (Jvm.Cond.instanceMethod ({ cls := "TrailGuideModel", name := "isPair", desc := "(II)Z" } : Jvm.MethodName)) ∈ lw_all := lw_g (lw_at lw_m11 63 rfl) rfl
theorem q2554 : (Jvm.Cond.code ({ cls := "TrailGuideModel", name := "isPair", desc := "(II)Z" } : Jvm.MethodName) prog_24_method_93_code (3 : Nat) (Option.some Jvm.ClassFile.FieldType.boolean)) ∈ lw_all := lw_g (lw_at lw_m11 64 rfl) rfl
theorem q2555 : (Jvm.Cond.methodLink "TrailGuideModel" (213 : Nat) ({ cls := "TrailGuideModel", name := "isNumber", desc := "(II)Z" } : Jvm.MethodName)) ∈ lw_all := lw_g (lw_at lw_m11 65 rfl) rfl
theorem q2556 : (Jvm.Cond.privateMethod ({ cls := "TrailGuideModel", name := "isNumber", desc := "(II)Z" } : Jvm.MethodName)) ∈ lw_tbl := lw_at lw_m11 66 rfl
theorem q2557 : (Jvm.Cond.instanceMethod ({ cls := "TrailGuideModel", name := "isNumber", desc := "(II)Z" } : Jvm.MethodName)) ∈ lw_all := lw_g (lw_at lw_m11 67 rfl) rfl
theorem q2558 : (Jvm.Cond.code ({ cls := "TrailGuideModel", name := "isNumber", desc := "(II)Z" } : Jvm.MethodName) prog_24_method_90_code (5 : Nat) (Option.some Jvm.ClassFile.FieldType.boolean)) ∈ lw_all := lw_g (lw_at lw_m11 68 rfl) rfl
theorem q2559 : (Jvm.Cond.methodLink "TrailGuideModel" (240 : Nat) ({ cls := "TrailGuideModel", name := "readsT", desc := "(I)Z" } : Jvm.MethodName)) ∈ lw_all := lw_g (lw_at lw_m11 69 rfl) rfl
theorem q2560 : (Jvm.Cond.privateMethod ({ cls := "TrailGuideModel", name := "readsT", desc := "(I)Z" } : Jvm.MethodName)) ∈ lw_tbl := lw_at lw_m11 70 rfl
theorem q2561 : (Jvm.Cond.instanceMethod ({ cls := "TrailGuideModel", name := "readsT", desc := "(I)Z" } : Jvm.MethodName)) ∈ lw_all := lw_g (lw_at lw_m11 71 rfl) rfl
theorem q2562 : (Jvm.Cond.code ({ cls := "TrailGuideModel", name := "readsT", desc := "(I)Z" } : Jvm.MethodName) prog_24_method_94_code (2 : Nat) (Option.some Jvm.ClassFile.FieldType.boolean)) ∈ lw_all := lw_g (lw_at lw_m11 72 rfl) rfl
theorem q2563 : (Jvm.Cond.stringRef "TrailGuideModel" (216 : Nat) "ail ") ∈ lw_tbl := lw_at lw_m11 73 rfl
theorem q2564 : (Jvm.Cond.stringRef "TrailGuideModel" (225 : Nat) "our ") ∈ lw_tbl := lw_at lw_m11 74 rfl
theorem q2565 : (Jvm.Cond.methodLink "TrailGuideModel" (243 : Nat) ({ cls := "TrailGuideModel", name := "readsC", desc := "(I)Z" } : Jvm.MethodName)) ∈ lw_all := lw_g (lw_at lw_m11 75 rfl) rfl
theorem q2566 : (Jvm.Cond.privateMethod ({ cls := "TrailGuideModel", name := "readsC", desc := "(I)Z" } : Jvm.MethodName)) ∈ lw_tbl := lw_at lw_m11 76 rfl
theorem q2567 : (Jvm.Cond.instanceMethod ({ cls := "TrailGuideModel", name := "readsC", desc := "(I)Z" } : Jvm.MethodName)) ∈ lw_all := lw_g (lw_at lw_m11 77 rfl) rfl
theorem q2568 : (Jvm.Cond.code ({ cls := "TrailGuideModel", name := "readsC", desc := "(I)Z" } : Jvm.MethodName) prog_24_method_95_code (2 : Nat) (Option.some Jvm.ClassFile.FieldType.boolean)) ∈ lw_all := lw_g (lw_at lw_m11 78 rfl) rfl
theorem q2569 : (Jvm.Cond.stringRef "TrailGuideModel" (227 : Nat) "t ") ∈ lw_tbl := lw_at lw_m11 79 rfl
theorem q2570 : (Jvm.Cond.stringRef "TrailGuideModel" (229 : Nat) "harge ") ∈ lw_tbl := lw_at lw_m11 80 rfl
theorem q2571 : (Jvm.Cond.methodLink "TrailGuideModel" (246 : Nat) ({ cls := "TrailGuideModel", name := "readsM", desc := "(I)Z" } : Jvm.MethodName)) ∈ lw_all := lw_g (lw_at lw_m11 81 rfl) rfl
theorem q2572 : (Jvm.Cond.privateMethod ({ cls := "TrailGuideModel", name := "readsM", desc := "(I)Z" } : Jvm.MethodName)) ∈ lw_tbl := lw_at lw_m11 82 rfl
theorem q2573 : (Jvm.Cond.instanceMethod ({ cls := "TrailGuideModel", name := "readsM", desc := "(I)Z" } : Jvm.MethodName)) ∈ lw_all := lw_g (lw_at lw_m11 83 rfl) rfl
theorem q2574 : (Jvm.Cond.code ({ cls := "TrailGuideModel", name := "readsM", desc := "(I)Z" } : Jvm.MethodName) prog_24_method_96_code (2 : Nat) (Option.some Jvm.ClassFile.FieldType.boolean)) ∈ lw_all := lw_g (lw_at lw_m11 84 rfl) rfl
theorem q2575 : (Jvm.Cond.stringRef "TrailGuideModel" (231 : Nat) "e ") ∈ lw_tbl := lw_at lw_m11 85 rfl
theorem q2576 : (Jvm.Cond.methodLink "TrailGuideModel" (233 : Nat) ({ cls := "TrailGuideModel", name := "isMode", desc := "(I)Z" } : Jvm.MethodName)) ∈ lw_all := lw_g (lw_at lw_m11 86 rfl) rfl
theorem q2577 : (Jvm.Cond.privateMethod ({ cls := "TrailGuideModel", name := "isMode", desc := "(I)Z" } : Jvm.MethodName)) ∈ lw_tbl := lw_at lw_m11 87 rfl
theorem q2578 : (Jvm.Cond.instanceMethod ({ cls := "TrailGuideModel", name := "isMode", desc := "(I)Z" } : Jvm.MethodName)) ∈ lw_all := lw_g (lw_at lw_m11 88 rfl) rfl
theorem q2579 : (Jvm.Cond.code ({ cls := "TrailGuideModel", name := "isMode", desc := "(I)Z" } : Jvm.MethodName) prog_24_method_92_code (3 : Nat) (Option.some Jvm.ClassFile.FieldType.boolean)) ∈ lw_all := lw_g (lw_at lw_m11 89 rfl) rfl
theorem q2580 : (Jvm.Cond.stringRef "TrailGuideModel" (211 : Nat) "enf") ∈ lw_tbl := lw_at lw_m11 90 rfl
theorem q2581 : (Jvm.Cond.stringRef "TrailGuideModel" (236 : Nat) "ve ") ∈ lw_tbl := lw_at lw_m11 91 rfl
theorem q2582 : (Jvm.Cond.stringRef "TrailGuideModel" (249 : Nat) "imit ") ∈ lw_tbl := lw_at lw_m11 92 rfl
theorem q2583 : (Jvm.Cond.stringRef "TrailGuideModel" (251 : Nat) "top") ∈ lw_tbl := lw_at lw_m11 93 rfl
theorem q2584 : (Jvm.Cond.methodLink "TrailGuideModel" (268 : Nat) ({ cls := "TrailGuideModel", name := "does", desc := "(I)I" } : Jvm.MethodName)) ∈ lw_all := lw_g (lw_at lw_m11 94 rfl) rfl
theorem q2585 : (Jvm.Cond.privateMethod ({ cls := "TrailGuideModel", name := "does", desc := "(I)I" } : Jvm.MethodName)) ∈ lw_tbl := lw_at lw_m11 95 rfl
theorem q2586 : (Jvm.Cond.instanceMethod ({ cls := "TrailGuideModel", name := "does", desc := "(I)I" } : Jvm.MethodName)) ∈ lw_all := lw_g (lw_at lw_m11 96 rfl) rfl
theorem q2587 : (Jvm.Cond.code ({ cls := "TrailGuideModel", name := "does", desc := "(I)I" } : Jvm.MethodName) prog_24_method_101_code (5 : Nat) (Option.some Jvm.ClassFile.FieldType.int)) ∈ lw_all := lw_g (lw_at lw_m11 97 rfl) rfl
theorem q2589 : (Jvm.Cond.instanceMethod ({ cls := "TrailGuideModel", name := "errorPosition", desc := "()I" } : Jvm.MethodName)) ∈ lw_all := lw_g (lw_at lw_m11 99 rfl) rfl
theorem q2590 : (Jvm.Cond.selects "TrailGuideModel" ({ cls := "TrailGuideModel", name := "errorPosition", desc := "()I" } : Jvm.MethodName) ({ cls := "TrailGuideModel", name := "errorPosition", desc := "()I" } : Jvm.MethodName)) ∈ lw_all := lw_g (lw_at lw_m11 100 rfl) rfl
theorem q2591 : (Jvm.Cond.code ({ cls := "TrailGuideModel", name := "errorPosition", desc := "()I" } : Jvm.MethodName) prog_24_method_103_code (1 : Nat) (Option.some Jvm.ClassFile.FieldType.int)) ∈ lw_all := lw_g (lw_at lw_m11 101 rfl) rfl
theorem q2593 : (Jvm.Cond.instanceMethod ({ cls := "TrailGuideModel", name := "failedCommand", desc := "()I" } : Jvm.MethodName)) ∈ lw_all := lw_g (lw_at lw_m11 103 rfl) rfl
theorem q2594 : (Jvm.Cond.selects "TrailGuideModel" ({ cls := "TrailGuideModel", name := "failedCommand", desc := "()I" } : Jvm.MethodName) ({ cls := "TrailGuideModel", name := "failedCommand", desc := "()I" } : Jvm.MethodName)) ∈ lw_all := lw_g (lw_at lw_m11 104 rfl) rfl
theorem q2595 : (Jvm.Cond.code ({ cls := "TrailGuideModel", name := "failedCommand", desc := "()I" } : Jvm.MethodName) prog_24_method_104_code (1 : Nat) (Option.some Jvm.ClassFile.FieldType.int)) ∈ lw_all := lw_g (lw_at lw_m11 105 rfl) rfl
theorem q2597 : (Jvm.Cond.instanceMethod ({ cls := "TrailGuideModel", name := "undo", desc := "()I" } : Jvm.MethodName)) ∈ lw_all := lw_g (lw_at lw_m11 107 rfl) rfl
theorem q2598 : (Jvm.Cond.selects "TrailGuideModel" ({ cls := "TrailGuideModel", name := "undo", desc := "()I" } : Jvm.MethodName) ({ cls := "TrailGuideModel", name := "undo", desc := "()I" } : Jvm.MethodName)) ∈ lw_all := lw_g (lw_at lw_m11 108 rfl) rfl
theorem q2599 : (Jvm.Cond.code ({ cls := "TrailGuideModel", name := "undo", desc := "()I" } : Jvm.MethodName) prog_24_method_105_code (1 : Nat) (Option.some Jvm.ClassFile.FieldType.int)) ∈ lw_all := lw_g (lw_at lw_m11 109 rfl) rfl
theorem q2601 : (Jvm.Cond.instanceMethod ({ cls := "TrailGuideModel", name := "save", desc := "()I" } : Jvm.MethodName)) ∈ lw_all := lw_g (lw_at lw_m11 111 rfl) rfl
theorem q2602 : (Jvm.Cond.selects "TrailGuideModel" ({ cls := "TrailGuideModel", name := "save", desc := "()I" } : Jvm.MethodName) ({ cls := "TrailGuideModel", name := "save", desc := "()I" } : Jvm.MethodName)) ∈ lw_all := lw_g (lw_at lw_m11 112 rfl) rfl
theorem q2603 : (Jvm.Cond.code ({ cls := "TrailGuideModel", name := "save", desc := "()I" } : Jvm.MethodName) prog_24_method_106_code (1 : Nat) (Option.some Jvm.ClassFile.FieldType.int)) ∈ lw_all := lw_g (lw_at lw_m11 113 rfl) rfl
theorem q2605 : (Jvm.Cond.instanceMethod ({ cls := "TrailGuideModel", name := "restore", desc := "()I" } : Jvm.MethodName)) ∈ lw_all := lw_g (lw_at lw_m11 115 rfl) rfl
theorem q2606 : (Jvm.Cond.selects "TrailGuideModel" ({ cls := "TrailGuideModel", name := "restore", desc := "()I" } : Jvm.MethodName) ({ cls := "TrailGuideModel", name := "restore", desc := "()I" } : Jvm.MethodName)) ∈ lw_all := lw_g (lw_at lw_m11 116 rfl) rfl
theorem q2607 : (Jvm.Cond.code ({ cls := "TrailGuideModel", name := "restore", desc := "()I" } : Jvm.MethodName) prog_24_method_107_code (1 : Nat) (Option.some Jvm.ClassFile.FieldType.int)) ∈ lw_all := lw_g (lw_at lw_m11 117 rfl) rfl
theorem q2632 : (Jvm.Cond.castable "TrailGuideModel" "java/lang/Object") ∈ lw_tbl := lw_at lw_m11 142 rfl
theorem in_X4 : ∀ w ∈ wsX40, w ∈ lw_all := lw_in wsX40 [2137, 2139, 2141, 2143, 2145, 2147, 2149, 2151, 2153, 2155, 2157, 2159, 2161, 2163, 2165, 2167, 2169, 2171] (by decide +kernel) (by decide +kernel)
/-! TrailGuide$Waypoint -/
def RX5 : String := "TrailGuide$Waypoint"
def TX5 : u_T := fun k => match k with
  | 0 => ("TrailGuide$Waypoint", "point", "LTrailGuide$Point;", true)
  | _ => ("TrailGuide$Waypoint", "radius", "I", true)
def tyX5 : Nat → FieldType := fun k => match k with
  | 0 => .object "TrailGuide$Point"
  | _ => .int
abbrev wsX50 : List Cond := u_ws RX5 TX5 2
theorem nmX5 : ∀ a, a < 2 → ∀ b, b < 2 → a ≠ b → (TX5 a).2.1 ≠ (TX5 b).2.1 := by decide +kernel
theorem tyX5_ok : ∀ k, k < 2 → parseFieldDescriptor (TX5 k).2.2.1 = some (tyX5 k) := by decide +kernel
abbrev cX5_point : ByteArray := prog_21_method_6_code
def yX5_point : MethodName := ⟨RX5, "point", "()LTrailGuide$Point;"⟩
abbrev cX5_init : ByteArray := prog_21_method_1_code
def yX5_init : MethodName := ⟨RX5, "<init>", "(LTrailGuide$Point;I)V"⟩
abbrev cX5_contains : ByteArray := prog_21_method_2_code
def yX5_contains : MethodName := ⟨RX5, "contains", "(LTrailGuide$Point;)Z"⟩
abbrev cX5_radius : ByteArray := prog_21_method_7_code
def yX5_radius : MethodName := ⟨RX5, "radius", "()I"⟩
theorem q110 : (Jvm.Cond.initialized "TrailGuide$Waypoint") ∈ lw_all := lw_g (lw_at lw_m1 20 rfl) rfl
theorem q856 : (Jvm.Cond.instanceMethod ({ cls := "TrailGuide$Waypoint", name := "point", desc := "()LTrailGuide$Point;" } : Jvm.MethodName)) ∈ lw_all := lw_g (lw_at lw_m4 46 rfl) rfl
theorem q857 : (Jvm.Cond.selects "TrailGuide$Waypoint" ({ cls := "TrailGuide$Waypoint", name := "point", desc := "()LTrailGuide$Point;" } : Jvm.MethodName) ({ cls := "TrailGuide$Waypoint", name := "point", desc := "()LTrailGuide$Point;" } : Jvm.MethodName)) ∈ lw_all := lw_g (lw_at lw_m4 47 rfl) rfl
theorem q858 : (Jvm.Cond.code ({ cls := "TrailGuide$Waypoint", name := "point", desc := "()LTrailGuide$Point;" } : Jvm.MethodName) prog_21_method_6_code (1 : Nat) (Option.some (Jvm.ClassFile.FieldType.object "TrailGuide$Point"))) ∈ lw_all := lw_g (lw_at lw_m4 48 rfl) rfl
theorem q995 : (Jvm.Cond.selects "TrailGuide$Waypoint" ({ cls := "java/lang/Object", name := "getClass", desc := "()Ljava/lang/Class;" } : Jvm.MethodName) ({ cls := "java/lang/Object", name := "getClass", desc := "()Ljava/lang/Class;" } : Jvm.MethodName)) ∈ lw_all := lw_g (lw_at lw_m4 185 rfl) rfl
theorem q1075 : (Jvm.Cond.instantiable "TrailGuide$Waypoint" (2 : Nat)) ∈ lw_all := lw_g (lw_at lw_m5 25 rfl) rfl
theorem q1079 : (Jvm.Cond.instanceMethod ({ cls := "TrailGuide$Waypoint", name := "<init>", desc := "(LTrailGuide$Point;I)V" } : Jvm.MethodName)) ∈ lw_all := lw_g (lw_at lw_m5 29 rfl) rfl
theorem q1080 : (Jvm.Cond.code ({ cls := "TrailGuide$Waypoint", name := "<init>", desc := "(LTrailGuide$Point;I)V" } : Jvm.MethodName) prog_21_method_1_code (3 : Nat) (Option.none : Option Jvm.ClassFile.FieldType)) ∈ lw_all := lw_g (lw_at lw_m5 30 rfl) rfl
theorem q1081 : (Jvm.Cond.methodLink "TrailGuide$Waypoint" (1 : Nat) ({ cls := "java/lang/Record", name := "<init>", desc := "()V" } : Jvm.MethodName)) ∈ lw_all := lw_g (lw_at lw_m5 31 rfl) rfl
theorem q1082 : (Jvm.Cond.fieldLink "TrailGuide$Waypoint" (7 : Nat) "TrailGuide$Waypoint" "point" "LTrailGuide$Point;") ∈ lw_all := lw_g (lw_at lw_m5 32 rfl) rfl
theorem q1083 : (Jvm.Cond.fieldLink "TrailGuide$Waypoint" (13 : Nat) "TrailGuide$Waypoint" "radius" "I") ∈ lw_all := lw_g (lw_at lw_m5 33 rfl) rfl
theorem q1084 : (Jvm.Cond.laysFinal "TrailGuide$Waypoint" "TrailGuide$Waypoint" "point" "LTrailGuide$Point;") ∈ lw_all := lw_g (lw_at lw_m5 34 rfl) rfl
theorem q1085 : (Jvm.Cond.soleField "TrailGuide$Waypoint" "point") ∈ lw_all := lw_g (lw_at lw_m5 35 rfl) rfl
theorem q1086 : (Jvm.Cond.laysFinal "TrailGuide$Waypoint" "TrailGuide$Waypoint" "radius" "I") ∈ lw_all := lw_g (lw_at lw_m5 36 rfl) rfl
theorem q1087 : (Jvm.Cond.soleField "TrailGuide$Waypoint" "radius") ∈ lw_all := lw_g (lw_at lw_m5 37 rfl) rfl
theorem q1088 : (Jvm.Cond.superclass "TrailGuide$Waypoint" "java/lang/Record") ∈ lw_all := lw_g (lw_at lw_m5 38 rfl) rfl
theorem q1347 : (Jvm.Cond.instanceMethod ({ cls := "TrailGuide$Waypoint", name := "contains", desc := "(LTrailGuide$Point;)Z" } : Jvm.MethodName)) ∈ lw_all := lw_g (lw_at lw_m6 57 rfl) rfl
theorem q1348 : (Jvm.Cond.selects "TrailGuide$Waypoint" ({ cls := "TrailGuide$Waypoint", name := "contains", desc := "(LTrailGuide$Point;)Z" } : Jvm.MethodName) ({ cls := "TrailGuide$Waypoint", name := "contains", desc := "(LTrailGuide$Point;)Z" } : Jvm.MethodName)) ∈ lw_all := lw_g (lw_at lw_m6 58 rfl) rfl
theorem q1349 : (Jvm.Cond.code ({ cls := "TrailGuide$Waypoint", name := "contains", desc := "(LTrailGuide$Point;)Z" } : Jvm.MethodName) prog_21_method_2_code (2 : Nat) (Option.some Jvm.ClassFile.FieldType.boolean)) ∈ lw_all := lw_g (lw_at lw_m6 59 rfl) rfl
theorem q1350 : (Jvm.Cond.methodLink "TrailGuide$Waypoint" (17 : Nat) ({ cls := "TrailGuide$Point", name := "squaredDistance", desc := "(LTrailGuide$Point;)J" } : Jvm.MethodName)) ∈ lw_all := lw_g (lw_at lw_m6 60 rfl) rfl
theorem q1547 : (Jvm.Cond.instanceMethod ({ cls := "TrailGuide$Waypoint", name := "radius", desc := "()I" } : Jvm.MethodName)) ∈ lw_all := lw_g (lw_at lw_m7 17 rfl) rfl
theorem q1548 : (Jvm.Cond.selects "TrailGuide$Waypoint" ({ cls := "TrailGuide$Waypoint", name := "radius", desc := "()I" } : Jvm.MethodName) ({ cls := "TrailGuide$Waypoint", name := "radius", desc := "()I" } : Jvm.MethodName)) ∈ lw_all := lw_g (lw_at lw_m7 18 rfl) rfl
theorem q1549 : (Jvm.Cond.code ({ cls := "TrailGuide$Waypoint", name := "radius", desc := "()I" } : Jvm.MethodName) prog_21_method_7_code (1 : Nat) (Option.some Jvm.ClassFile.FieldType.int)) ∈ lw_all := lw_g (lw_at lw_m7 19 rfl) rfl
theorem q2635 : (Jvm.Cond.castable "TrailGuide$Waypoint" "java/lang/Object") ∈ lw_tbl := lw_at lw_m11 145 rfl
theorem in_X5 : ∀ w ∈ wsX50, w ∈ lw_all := lw_in wsX50 [1084, 1086] (by decide +kernel) (by decide +kernel)
/-! TrailGuide$Point -/
def RX6 : String := "TrailGuide$Point"
def TX6 : u_T := fun k => match k with
  | 0 => ("TrailGuide$Point", "x", "I", true)
  | _ => ("TrailGuide$Point", "y", "I", true)
def tyX6 : Nat → FieldType := fun k => match k with
  | 0 => .int
  | _ => .int
abbrev wsX60 : List Cond := u_ws RX6 TX6 2
theorem nmX6 : ∀ a, a < 2 → ∀ b, b < 2 → a ≠ b → (TX6 a).2.1 ≠ (TX6 b).2.1 := by decide +kernel
theorem tyX6_ok : ∀ k, k < 2 → parseFieldDescriptor (TX6 k).2.2.1 = some (tyX6 k) := by decide +kernel
abbrev cX6_minus : ByteArray := prog_8_method_2_code
def yX6_minus : MethodName := ⟨RX6, "minus", "(LTrailGuide$Point;)LTrailGuide$Point;"⟩
abbrev cX6_init : ByteArray := prog_8_method_1_code
def yX6_init : MethodName := ⟨RX6, "<init>", "(II)V"⟩
abbrev cX6_cross : ByteArray := prog_8_method_3_code
def yX6_cross : MethodName := ⟨RX6, "cross", "(LTrailGuide$Point;)J"⟩
abbrev cX6_dot : ByteArray := prog_8_method_4_code
def yX6_dot : MethodName := ⟨RX6, "dot", "(LTrailGuide$Point;)J"⟩
abbrev cX6_squaredDistance : ByteArray := prog_8_method_6_code
def yX6_squaredDistance : MethodName := ⟨RX6, "squaredDistance", "(LTrailGuide$Point;)J"⟩
abbrev cX6_squared : ByteArray := prog_8_method_5_code
def yX6_squared : MethodName := ⟨RX6, "squared", "()J"⟩
abbrev cX6_x : ByteArray := prog_8_method_10_code
def yX6_x : MethodName := ⟨RX6, "x", "()I"⟩
abbrev cX6_y : ByteArray := prog_8_method_11_code
def yX6_y : MethodName := ⟨RX6, "y", "()I"⟩
theorem q111 : (Jvm.Cond.initialized "TrailGuide$Point") ∈ lw_all := lw_g (lw_at lw_m1 21 rfl) rfl
theorem q860 : (Jvm.Cond.instanceMethod ({ cls := "TrailGuide$Point", name := "minus", desc := "(LTrailGuide$Point;)LTrailGuide$Point;" } : Jvm.MethodName)) ∈ lw_all := lw_g (lw_at lw_m4 50 rfl) rfl
theorem q861 : (Jvm.Cond.selects "TrailGuide$Point" ({ cls := "TrailGuide$Point", name := "minus", desc := "(LTrailGuide$Point;)LTrailGuide$Point;" } : Jvm.MethodName) ({ cls := "TrailGuide$Point", name := "minus", desc := "(LTrailGuide$Point;)LTrailGuide$Point;" } : Jvm.MethodName)) ∈ lw_all := lw_g (lw_at lw_m4 51 rfl) rfl
theorem q862 : (Jvm.Cond.code ({ cls := "TrailGuide$Point", name := "minus", desc := "(LTrailGuide$Point;)LTrailGuide$Point;" } : Jvm.MethodName) prog_8_method_2_code (2 : Nat) (Option.some (Jvm.ClassFile.FieldType.object "TrailGuide$Point"))) ∈ lw_all := lw_g (lw_at lw_m4 52 rfl) rfl
theorem q863 : (Jvm.Cond.classLink "TrailGuide$Point" (8 : Nat) "TrailGuide$Point") ∈ lw_all := lw_g (lw_at lw_m4 53 rfl) rfl
theorem q864 : (Jvm.Cond.instantiable "TrailGuide$Point" (2 : Nat)) ∈ lw_all := lw_g (lw_at lw_m4 54 rfl) rfl
theorem q865 : (Jvm.Cond.methodLink "TrailGuide$Point" (16 : Nat) ({ cls := "TrailGuide$Point", name := "<init>", desc := "(II)V" } : Jvm.MethodName)) ∈ lw_all := lw_g (lw_at lw_m4 55 rfl) rfl
theorem q866 : (Jvm.Cond.instanceMethod ({ cls := "TrailGuide$Point", name := "<init>", desc := "(II)V" } : Jvm.MethodName)) ∈ lw_all := lw_g (lw_at lw_m4 56 rfl) rfl
theorem q867 : (Jvm.Cond.code ({ cls := "TrailGuide$Point", name := "<init>", desc := "(II)V" } : Jvm.MethodName) prog_8_method_1_code (3 : Nat) (Option.none : Option Jvm.ClassFile.FieldType)) ∈ lw_all := lw_g (lw_at lw_m4 57 rfl) rfl
theorem q868 : (Jvm.Cond.methodLink "TrailGuide$Point" (1 : Nat) ({ cls := "java/lang/Record", name := "<init>", desc := "()V" } : Jvm.MethodName)) ∈ lw_all := lw_g (lw_at lw_m4 58 rfl) rfl
theorem q872 : (Jvm.Cond.fieldLink "TrailGuide$Point" (7 : Nat) "TrailGuide$Point" "x" "I") ∈ lw_all := lw_g (lw_at lw_m4 62 rfl) rfl
theorem q873 : (Jvm.Cond.fieldLink "TrailGuide$Point" (13 : Nat) "TrailGuide$Point" "y" "I") ∈ lw_all := lw_g (lw_at lw_m4 63 rfl) rfl
theorem q874 : (Jvm.Cond.laysFinal "TrailGuide$Point" "TrailGuide$Point" "x" "I") ∈ lw_all := lw_g (lw_at lw_m4 64 rfl) rfl
theorem q875 : (Jvm.Cond.soleField "TrailGuide$Point" "x") ∈ lw_all := lw_g (lw_at lw_m4 65 rfl) rfl
theorem q876 : (Jvm.Cond.laysFinal "TrailGuide$Point" "TrailGuide$Point" "y" "I") ∈ lw_all := lw_g (lw_at lw_m4 66 rfl) rfl
theorem q877 : (Jvm.Cond.soleField "TrailGuide$Point" "y") ∈ lw_all := lw_g (lw_at lw_m4 67 rfl) rfl
theorem q878 : (Jvm.Cond.superclass "TrailGuide$Point" "java/lang/Record") ∈ lw_all := lw_g (lw_at lw_m4 68 rfl) rfl
theorem q883 : (Jvm.Cond.instanceMethod ({ cls := "TrailGuide$Point", name := "cross", desc := "(LTrailGuide$Point;)J" } : Jvm.MethodName)) ∈ lw_all := lw_g (lw_at lw_m4 73 rfl) rfl
theorem q884 : (Jvm.Cond.selects "TrailGuide$Point" ({ cls := "TrailGuide$Point", name := "cross", desc := "(LTrailGuide$Point;)J" } : Jvm.MethodName) ({ cls := "TrailGuide$Point", name := "cross", desc := "(LTrailGuide$Point;)J" } : Jvm.MethodName)) ∈ lw_all := lw_g (lw_at lw_m4 74 rfl) rfl
theorem q885 : (Jvm.Cond.code ({ cls := "TrailGuide$Point", name := "cross", desc := "(LTrailGuide$Point;)J" } : Jvm.MethodName) prog_8_method_3_code (2 : Nat) (Option.some Jvm.ClassFile.FieldType.long)) ∈ lw_all := lw_g (lw_at lw_m4 75 rfl) rfl
theorem q891 : (Jvm.Cond.instanceMethod ({ cls := "TrailGuide$Point", name := "dot", desc := "(LTrailGuide$Point;)J" } : Jvm.MethodName)) ∈ lw_all := lw_g (lw_at lw_m4 81 rfl) rfl
theorem q892 : (Jvm.Cond.selects "TrailGuide$Point" ({ cls := "TrailGuide$Point", name := "dot", desc := "(LTrailGuide$Point;)J" } : Jvm.MethodName) ({ cls := "TrailGuide$Point", name := "dot", desc := "(LTrailGuide$Point;)J" } : Jvm.MethodName)) ∈ lw_all := lw_g (lw_at lw_m4 82 rfl) rfl
theorem q893 : (Jvm.Cond.code ({ cls := "TrailGuide$Point", name := "dot", desc := "(LTrailGuide$Point;)J" } : Jvm.MethodName) prog_8_method_4_code (2 : Nat) (Option.some Jvm.ClassFile.FieldType.long)) ∈ lw_all := lw_g (lw_at lw_m4 83 rfl) rfl
theorem q984 : (Jvm.Cond.selects "TrailGuide$Point" ({ cls := "java/lang/Object", name := "getClass", desc := "()Ljava/lang/Class;" } : Jvm.MethodName) ({ cls := "java/lang/Object", name := "getClass", desc := "()Ljava/lang/Class;" } : Jvm.MethodName)) ∈ lw_all := lw_g (lw_at lw_m4 174 rfl) rfl
theorem q1351 : (Jvm.Cond.instanceMethod ({ cls := "TrailGuide$Point", name := "squaredDistance", desc := "(LTrailGuide$Point;)J" } : Jvm.MethodName)) ∈ lw_all := lw_g (lw_at lw_m6 61 rfl) rfl
theorem q1352 : (Jvm.Cond.selects "TrailGuide$Point" ({ cls := "TrailGuide$Point", name := "squaredDistance", desc := "(LTrailGuide$Point;)J" } : Jvm.MethodName) ({ cls := "TrailGuide$Point", name := "squaredDistance", desc := "(LTrailGuide$Point;)J" } : Jvm.MethodName)) ∈ lw_all := lw_g (lw_at lw_m6 62 rfl) rfl
theorem q1353 : (Jvm.Cond.code ({ cls := "TrailGuide$Point", name := "squaredDistance", desc := "(LTrailGuide$Point;)J" } : Jvm.MethodName) prog_8_method_6_code (2 : Nat) (Option.some Jvm.ClassFile.FieldType.long)) ∈ lw_all := lw_g (lw_at lw_m6 63 rfl) rfl
theorem q1354 : (Jvm.Cond.methodLink "TrailGuide$Point" (23 : Nat) ({ cls := "TrailGuide$Point", name := "minus", desc := "(LTrailGuide$Point;)LTrailGuide$Point;" } : Jvm.MethodName)) ∈ lw_all := lw_g (lw_at lw_m6 64 rfl) rfl
theorem q1355 : (Jvm.Cond.methodLink "TrailGuide$Point" (27 : Nat) ({ cls := "TrailGuide$Point", name := "squared", desc := "()J" } : Jvm.MethodName)) ∈ lw_all := lw_g (lw_at lw_m6 65 rfl) rfl
theorem q1356 : (Jvm.Cond.instanceMethod ({ cls := "TrailGuide$Point", name := "squared", desc := "()J" } : Jvm.MethodName)) ∈ lw_all := lw_g (lw_at lw_m6 66 rfl) rfl
theorem q1357 : (Jvm.Cond.selects "TrailGuide$Point" ({ cls := "TrailGuide$Point", name := "squared", desc := "()J" } : Jvm.MethodName) ({ cls := "TrailGuide$Point", name := "squared", desc := "()J" } : Jvm.MethodName)) ∈ lw_all := lw_g (lw_at lw_m6 67 rfl) rfl
theorem q1358 : (Jvm.Cond.code ({ cls := "TrailGuide$Point", name := "squared", desc := "()J" } : Jvm.MethodName) prog_8_method_5_code (1 : Nat) (Option.some Jvm.ClassFile.FieldType.long)) ∈ lw_all := lw_g (lw_at lw_m6 68 rfl) rfl
theorem q1359 : (Jvm.Cond.methodLink "TrailGuide$Point" (19 : Nat) ({ cls := "TrailGuide$Point", name := "dot", desc := "(LTrailGuide$Point;)J" } : Jvm.MethodName)) ∈ lw_all := lw_g (lw_at lw_m6 69 rfl) rfl
theorem q1525 : (Jvm.Cond.instanceMethod ({ cls := "TrailGuide$Point", name := "x", desc := "()I" } : Jvm.MethodName)) ∈ lw_all := lw_g (lw_at lw_m6 235 rfl) rfl
theorem q1526 : (Jvm.Cond.selects "TrailGuide$Point" ({ cls := "TrailGuide$Point", name := "x", desc := "()I" } : Jvm.MethodName) ({ cls := "TrailGuide$Point", name := "x", desc := "()I" } : Jvm.MethodName)) ∈ lw_all := lw_g (lw_at lw_m6 236 rfl) rfl
theorem q1527 : (Jvm.Cond.code ({ cls := "TrailGuide$Point", name := "x", desc := "()I" } : Jvm.MethodName) prog_8_method_10_code (1 : Nat) (Option.some Jvm.ClassFile.FieldType.int)) ∈ lw_all := lw_g (lw_at lw_m6 237 rfl) rfl
theorem q1536 : (Jvm.Cond.instanceMethod ({ cls := "TrailGuide$Point", name := "y", desc := "()I" } : Jvm.MethodName)) ∈ lw_all := lw_g (lw_at lw_m7 6 rfl) rfl
theorem q1537 : (Jvm.Cond.selects "TrailGuide$Point" ({ cls := "TrailGuide$Point", name := "y", desc := "()I" } : Jvm.MethodName) ({ cls := "TrailGuide$Point", name := "y", desc := "()I" } : Jvm.MethodName)) ∈ lw_all := lw_g (lw_at lw_m7 7 rfl) rfl
theorem q1538 : (Jvm.Cond.code ({ cls := "TrailGuide$Point", name := "y", desc := "()I" } : Jvm.MethodName) prog_8_method_11_code (1 : Nat) (Option.some Jvm.ClassFile.FieldType.int)) ∈ lw_all := lw_g (lw_at lw_m7 8 rfl) rfl
theorem q2636 : (Jvm.Cond.castable "TrailGuide$Point" "java/lang/Object") ∈ lw_tbl := lw_at lw_m11 146 rfl
theorem in_X6 : ∀ w ∈ wsX60, w ∈ lw_all := lw_in wsX60 [874, 876] (by decide +kernel) (by decide +kernel)
/-! TrailGuide$Tour -/
def RX7 : String := "TrailGuide$Tour"
def TX7 : u_T := fun k => match k with
  | 0 => ("TrailGuide$Tour", "route", "[I", true)
  | 1 => ("TrailGuide$Tour", "targetIndex", "I", true)
  | _ => ("TrailGuide$Tour", "hiker", "LTrailGuide$Point;", true)
def tyX7 : Nat → FieldType := fun k => match k with
  | 0 => .array .int
  | 1 => .int
  | _ => .object "TrailGuide$Point"
abbrev wsX70 : List Cond := u_ws RX7 TX7 3
theorem nmX7 : ∀ a, a < 3 → ∀ b, b < 3 → a ≠ b → (TX7 a).2.1 ≠ (TX7 b).2.1 := by decide +kernel
theorem tyX7_ok : ∀ k, k < 3 → parseFieldDescriptor (TX7 k).2.2.1 = some (tyX7 k) := by decide +kernel
abbrev cX7_route : ByteArray := prog_14_method_9_code
def yX7_route : MethodName := ⟨RX7, "route", "()[I"⟩
abbrev cX7_targetIndex : ByteArray := prog_14_method_10_code
def yX7_targetIndex : MethodName := ⟨RX7, "targetIndex", "()I"⟩
abbrev cX7_init : ByteArray := prog_14_method_1_code
def yX7_init : MethodName := ⟨RX7, "<init>", "([IILTrailGuide$Point;)V"⟩
abbrev cX7_withHiker : ByteArray := prog_14_method_4_code
def yX7_withHiker : MethodName := ⟨RX7, "withHiker", "(LTrailGuide$Point;)LTrailGuide$Tour;"⟩
abbrev cX7_hiker : ByteArray := prog_14_method_11_code
def yX7_hiker : MethodName := ⟨RX7, "hiker", "()LTrailGuide$Point;"⟩
abbrev cX7_target : ByteArray := prog_14_method_2_code
def yX7_target : MethodName := ⟨RX7, "target", "()I"⟩
abbrev cX7_isLast : ByteArray := prog_14_method_3_code
def yX7_isLast : MethodName := ⟨RX7, "isLast", "()Z"⟩
abbrev cX7_withNextTarget : ByteArray := prog_14_method_5_code
def yX7_withNextTarget : MethodName := ⟨RX7, "withNextTarget", "()LTrailGuide$Tour;"⟩
theorem q123 : (Jvm.Cond.initialized "TrailGuide$Tour") ∈ lw_all := lw_g (lw_at lw_m1 33 rfl) rfl
theorem q812 : (Jvm.Cond.instanceMethod ({ cls := "TrailGuide$Tour", name := "route", desc := "()[I" } : Jvm.MethodName)) ∈ lw_all := lw_g (lw_at lw_m4 2 rfl) rfl
theorem q813 : (Jvm.Cond.selects "TrailGuide$Tour" ({ cls := "TrailGuide$Tour", name := "route", desc := "()[I" } : Jvm.MethodName) ({ cls := "TrailGuide$Tour", name := "route", desc := "()[I" } : Jvm.MethodName)) ∈ lw_all := lw_g (lw_at lw_m4 3 rfl) rfl
theorem q814 : (Jvm.Cond.code ({ cls := "TrailGuide$Tour", name := "route", desc := "()[I" } : Jvm.MethodName) prog_14_method_9_code (1 : Nat) (Option.some (Jvm.ClassFile.FieldType.array Jvm.ClassFile.FieldType.int))) ∈ lw_all := lw_g (lw_at lw_m4 4 rfl) rfl
theorem q819 : (Jvm.Cond.instanceMethod ({ cls := "TrailGuide$Tour", name := "targetIndex", desc := "()I" } : Jvm.MethodName)) ∈ lw_all := lw_g (lw_at lw_m4 9 rfl) rfl
theorem q820 : (Jvm.Cond.selects "TrailGuide$Tour" ({ cls := "TrailGuide$Tour", name := "targetIndex", desc := "()I" } : Jvm.MethodName) ({ cls := "TrailGuide$Tour", name := "targetIndex", desc := "()I" } : Jvm.MethodName)) ∈ lw_all := lw_g (lw_at lw_m4 10 rfl) rfl
theorem q821 : (Jvm.Cond.code ({ cls := "TrailGuide$Tour", name := "targetIndex", desc := "()I" } : Jvm.MethodName) prog_14_method_10_code (1 : Nat) (Option.some Jvm.ClassFile.FieldType.int)) ∈ lw_all := lw_g (lw_at lw_m4 11 rfl) rfl
theorem q990 : (Jvm.Cond.selects "TrailGuide$Tour" ({ cls := "java/lang/Object", name := "getClass", desc := "()Ljava/lang/Class;" } : Jvm.MethodName) ({ cls := "java/lang/Object", name := "getClass", desc := "()Ljava/lang/Class;" } : Jvm.MethodName)) ∈ lw_all := lw_g (lw_at lw_m4 180 rfl) rfl
theorem q1254 : (Jvm.Cond.instantiable "TrailGuide$Tour" (3 : Nat)) ∈ lw_all := lw_g (lw_at lw_m5 204 rfl) rfl
theorem q1256 : (Jvm.Cond.instanceMethod ({ cls := "TrailGuide$Tour", name := "<init>", desc := "([IILTrailGuide$Point;)V" } : Jvm.MethodName)) ∈ lw_all := lw_g (lw_at lw_m5 206 rfl) rfl
theorem q1257 : (Jvm.Cond.code ({ cls := "TrailGuide$Tour", name := "<init>", desc := "([IILTrailGuide$Point;)V" } : Jvm.MethodName) prog_14_method_1_code (4 : Nat) (Option.none : Option Jvm.ClassFile.FieldType)) ∈ lw_all := lw_g (lw_at lw_m5 207 rfl) rfl
theorem q1258 : (Jvm.Cond.methodLink "TrailGuide$Tour" (1 : Nat) ({ cls := "java/lang/Record", name := "<init>", desc := "()V" } : Jvm.MethodName)) ∈ lw_all := lw_g (lw_at lw_m5 208 rfl) rfl
theorem q1259 : (Jvm.Cond.fieldLink "TrailGuide$Tour" (7 : Nat) "TrailGuide$Tour" "route" "[I") ∈ lw_all := lw_g (lw_at lw_m5 209 rfl) rfl
theorem q1260 : (Jvm.Cond.fieldLink "TrailGuide$Tour" (13 : Nat) "TrailGuide$Tour" "targetIndex" "I") ∈ lw_all := lw_g (lw_at lw_m5 210 rfl) rfl
theorem q1261 : (Jvm.Cond.fieldLink "TrailGuide$Tour" (17 : Nat) "TrailGuide$Tour" "hiker" "LTrailGuide$Point;") ∈ lw_all := lw_g (lw_at lw_m5 211 rfl) rfl
theorem q1262 : (Jvm.Cond.laysFinal "TrailGuide$Tour" "TrailGuide$Tour" "route" "[I") ∈ lw_all := lw_g (lw_at lw_m5 212 rfl) rfl
theorem q1263 : (Jvm.Cond.soleField "TrailGuide$Tour" "route") ∈ lw_all := lw_g (lw_at lw_m5 213 rfl) rfl
theorem q1264 : (Jvm.Cond.laysFinal "TrailGuide$Tour" "TrailGuide$Tour" "targetIndex" "I") ∈ lw_all := lw_g (lw_at lw_m5 214 rfl) rfl
theorem q1265 : (Jvm.Cond.soleField "TrailGuide$Tour" "targetIndex") ∈ lw_all := lw_g (lw_at lw_m5 215 rfl) rfl
theorem q1266 : (Jvm.Cond.laysFinal "TrailGuide$Tour" "TrailGuide$Tour" "hiker" "LTrailGuide$Point;") ∈ lw_all := lw_g (lw_at lw_m5 216 rfl) rfl
theorem q1267 : (Jvm.Cond.soleField "TrailGuide$Tour" "hiker") ∈ lw_all := lw_g (lw_at lw_m5 217 rfl) rfl
theorem q1268 : (Jvm.Cond.superclass "TrailGuide$Tour" "java/lang/Record") ∈ lw_all := lw_g (lw_at lw_m5 218 rfl) rfl
theorem q1329 : (Jvm.Cond.instanceMethod ({ cls := "TrailGuide$Tour", name := "withHiker", desc := "(LTrailGuide$Point;)LTrailGuide$Tour;" } : Jvm.MethodName)) ∈ lw_all := lw_g (lw_at lw_m6 39 rfl) rfl
theorem q1330 : (Jvm.Cond.selects "TrailGuide$Tour" ({ cls := "TrailGuide$Tour", name := "withHiker", desc := "(LTrailGuide$Point;)LTrailGuide$Tour;" } : Jvm.MethodName) ({ cls := "TrailGuide$Tour", name := "withHiker", desc := "(LTrailGuide$Point;)LTrailGuide$Tour;" } : Jvm.MethodName)) ∈ lw_all := lw_g (lw_at lw_m6 40 rfl) rfl
theorem q1331 : (Jvm.Cond.code ({ cls := "TrailGuide$Tour", name := "withHiker", desc := "(LTrailGuide$Point;)LTrailGuide$Tour;" } : Jvm.MethodName) prog_14_method_4_code (2 : Nat) (Option.some (Jvm.ClassFile.FieldType.object "TrailGuide$Tour"))) ∈ lw_all := lw_g (lw_at lw_m6 41 rfl) rfl
theorem q1332 : (Jvm.Cond.classLink "TrailGuide$Tour" (8 : Nat) "TrailGuide$Tour") ∈ lw_all := lw_g (lw_at lw_m6 42 rfl) rfl
theorem q1333 : (Jvm.Cond.methodLink "TrailGuide$Tour" (21 : Nat) ({ cls := "TrailGuide$Tour", name := "<init>", desc := "([IILTrailGuide$Point;)V" } : Jvm.MethodName)) ∈ lw_all := lw_g (lw_at lw_m6 43 rfl) rfl
theorem q1335 : (Jvm.Cond.instanceMethod ({ cls := "TrailGuide$Tour", name := "hiker", desc := "()LTrailGuide$Point;" } : Jvm.MethodName)) ∈ lw_all := lw_g (lw_at lw_m6 45 rfl) rfl
theorem q1336 : (Jvm.Cond.selects "TrailGuide$Tour" ({ cls := "TrailGuide$Tour", name := "hiker", desc := "()LTrailGuide$Point;" } : Jvm.MethodName) ({ cls := "TrailGuide$Tour", name := "hiker", desc := "()LTrailGuide$Point;" } : Jvm.MethodName)) ∈ lw_all := lw_g (lw_at lw_m6 46 rfl) rfl
theorem q1337 : (Jvm.Cond.code ({ cls := "TrailGuide$Tour", name := "hiker", desc := "()LTrailGuide$Point;" } : Jvm.MethodName) prog_14_method_11_code (1 : Nat) (Option.some (Jvm.ClassFile.FieldType.object "TrailGuide$Point"))) ∈ lw_all := lw_g (lw_at lw_m6 47 rfl) rfl
theorem q1343 : (Jvm.Cond.instanceMethod ({ cls := "TrailGuide$Tour", name := "target", desc := "()I" } : Jvm.MethodName)) ∈ lw_all := lw_g (lw_at lw_m6 53 rfl) rfl
theorem q1344 : (Jvm.Cond.selects "TrailGuide$Tour" ({ cls := "TrailGuide$Tour", name := "target", desc := "()I" } : Jvm.MethodName) ({ cls := "TrailGuide$Tour", name := "target", desc := "()I" } : Jvm.MethodName)) ∈ lw_all := lw_g (lw_at lw_m6 54 rfl) rfl
theorem q1345 : (Jvm.Cond.code ({ cls := "TrailGuide$Tour", name := "target", desc := "()I" } : Jvm.MethodName) prog_14_method_2_code (1 : Nat) (Option.some Jvm.ClassFile.FieldType.int)) ∈ lw_all := lw_g (lw_at lw_m6 55 rfl) rfl
theorem q1363 : (Jvm.Cond.instanceMethod ({ cls := "TrailGuide$Tour", name := "isLast", desc := "()Z" } : Jvm.MethodName)) ∈ lw_all := lw_g (lw_at lw_m6 73 rfl) rfl
theorem q1364 : (Jvm.Cond.selects "TrailGuide$Tour" ({ cls := "TrailGuide$Tour", name := "isLast", desc := "()Z" } : Jvm.MethodName) ({ cls := "TrailGuide$Tour", name := "isLast", desc := "()Z" } : Jvm.MethodName)) ∈ lw_all := lw_g (lw_at lw_m6 74 rfl) rfl
theorem q1365 : (Jvm.Cond.code ({ cls := "TrailGuide$Tour", name := "isLast", desc := "()Z" } : Jvm.MethodName) prog_14_method_3_code (1 : Nat) (Option.some Jvm.ClassFile.FieldType.boolean)) ∈ lw_all := lw_g (lw_at lw_m6 75 rfl) rfl
theorem q1455 : (Jvm.Cond.instanceMethod ({ cls := "TrailGuide$Tour", name := "withNextTarget", desc := "()LTrailGuide$Tour;" } : Jvm.MethodName)) ∈ lw_all := lw_g (lw_at lw_m6 165 rfl) rfl
theorem q1456 : (Jvm.Cond.selects "TrailGuide$Tour" ({ cls := "TrailGuide$Tour", name := "withNextTarget", desc := "()LTrailGuide$Tour;" } : Jvm.MethodName) ({ cls := "TrailGuide$Tour", name := "withNextTarget", desc := "()LTrailGuide$Tour;" } : Jvm.MethodName)) ∈ lw_all := lw_g (lw_at lw_m6 166 rfl) rfl
theorem q1457 : (Jvm.Cond.code ({ cls := "TrailGuide$Tour", name := "withNextTarget", desc := "()LTrailGuide$Tour;" } : Jvm.MethodName) prog_14_method_5_code (1 : Nat) (Option.some (Jvm.ClassFile.FieldType.object "TrailGuide$Tour"))) ∈ lw_all := lw_g (lw_at lw_m6 167 rfl) rfl
theorem q2641 : (Jvm.Cond.castable "TrailGuide$Tour" "java/lang/Object") ∈ lw_tbl := lw_at lw_m11 151 rfl
theorem in_X7 : ∀ w ∈ wsX70, w ∈ lw_all := lw_in wsX70 [1262, 1264, 1266] (by decide +kernel) (by decide +kernel)
/-! TrailGuide$Reached -/
def RX8 : String := "TrailGuide$Reached"
def TX8 : u_T := fun k => match k with
  | _ => ("TrailGuide$Reached", "isLast", "Z", true)
def tyX8 : Nat → FieldType := fun k => match k with
  | _ => .boolean
abbrev wsX80 : List Cond := u_ws RX8 TX8 1
theorem nmX8 : ∀ a, a < 1 → ∀ b, b < 1 → a ≠ b → (TX8 a).2.1 ≠ (TX8 b).2.1 := by decide +kernel
theorem tyX8_ok : ∀ k, k < 1 → parseFieldDescriptor (TX8 k).2.2.1 = some (tyX8 k) := by decide +kernel
abbrev cX8_init : ByteArray := prog_10_method_1_code
def yX8_init : MethodName := ⟨RX8, "<init>", "(Z)V"⟩
abbrev cX8_cost : ByteArray := prog_10_method_3_code
def yX8_cost : MethodName := ⟨RX8, "cost", "()I"⟩
abbrev cX8_isLast : ByteArray := prog_10_method_7_code
def yX8_isLast : MethodName := ⟨RX8, "isLast", "()Z"⟩
abbrev cX8_letter : ByteArray := prog_10_method_2_code
def yX8_letter : MethodName := ⟨RX8, "letter", "()C"⟩
theorem q126 : (Jvm.Cond.initialized "TrailGuide$Reached") ∈ lw_all := lw_g (lw_at lw_m1 36 rfl) rfl
theorem q986 : (Jvm.Cond.selects "TrailGuide$Reached" ({ cls := "java/lang/Object", name := "getClass", desc := "()Ljava/lang/Class;" } : Jvm.MethodName) ({ cls := "java/lang/Object", name := "getClass", desc := "()Ljava/lang/Class;" } : Jvm.MethodName)) ∈ lw_all := lw_g (lw_at lw_m4 176 rfl) rfl
theorem q1361 : (Jvm.Cond.instantiable "TrailGuide$Reached" (1 : Nat)) ∈ lw_all := lw_g (lw_at lw_m6 71 rfl) rfl
theorem q1367 : (Jvm.Cond.instanceMethod ({ cls := "TrailGuide$Reached", name := "<init>", desc := "(Z)V" } : Jvm.MethodName)) ∈ lw_all := lw_g (lw_at lw_m6 77 rfl) rfl
theorem q1368 : (Jvm.Cond.code ({ cls := "TrailGuide$Reached", name := "<init>", desc := "(Z)V" } : Jvm.MethodName) prog_10_method_1_code (2 : Nat) (Option.none : Option Jvm.ClassFile.FieldType)) ∈ lw_all := lw_g (lw_at lw_m6 78 rfl) rfl
theorem q1369 : (Jvm.Cond.methodLink "TrailGuide$Reached" (3 : Nat) ({ cls := "java/lang/Record", name := "<init>", desc := "()V" } : Jvm.MethodName)) ∈ lw_all := lw_g (lw_at lw_m6 79 rfl) rfl
theorem q1370 : (Jvm.Cond.fieldLink "TrailGuide$Reached" (9 : Nat) "TrailGuide$Reached" "isLast" "Z") ∈ lw_all := lw_g (lw_at lw_m6 80 rfl) rfl
theorem q1371 : (Jvm.Cond.laysFinal "TrailGuide$Reached" "TrailGuide$Reached" "isLast" "Z") ∈ lw_all := lw_g (lw_at lw_m6 81 rfl) rfl
theorem q1372 : (Jvm.Cond.soleField "TrailGuide$Reached" "isLast") ∈ lw_all := lw_g (lw_at lw_m6 82 rfl) rfl
theorem q1373 : (Jvm.Cond.superclass "TrailGuide$Reached" "java/lang/Record") ∈ lw_all := lw_g (lw_at lw_m6 83 rfl) rfl
theorem q1444 : (Jvm.Cond.castable "TrailGuide$Reached" "TrailGuide$Event") ∈ lw_tbl := lw_at lw_m6 154 rfl
theorem q1445 : (Jvm.Cond.selects "TrailGuide$Reached" ({ cls := "TrailGuide$Event", name := "cost", desc := "()I" } : Jvm.MethodName) ({ cls := "TrailGuide$Reached", name := "cost", desc := "()I" } : Jvm.MethodName)) ∈ lw_all := lw_g (lw_at lw_m6 155 rfl) rfl
theorem q1446 : (Jvm.Cond.unhidden "TrailGuide$Reached" "cost" "()I") ∈ lw_tbl := lw_at lw_m6 156 rfl
theorem q1447 : (Jvm.Cond.instanceMethod ({ cls := "TrailGuide$Reached", name := "cost", desc := "()I" } : Jvm.MethodName)) ∈ lw_all := lw_g (lw_at lw_m6 157 rfl) rfl
theorem q1448 : (Jvm.Cond.publicMethod ({ cls := "TrailGuide$Reached", name := "cost", desc := "()I" } : Jvm.MethodName)) ∈ lw_tbl := lw_at lw_m6 158 rfl
theorem q1449 : (Jvm.Cond.code ({ cls := "TrailGuide$Reached", name := "cost", desc := "()I" } : Jvm.MethodName) prog_10_method_3_code (1 : Nat) (Option.some Jvm.ClassFile.FieldType.int)) ∈ lw_all := lw_g (lw_at lw_m6 159 rfl) rfl
theorem q1451 : (Jvm.Cond.instanceMethod ({ cls := "TrailGuide$Reached", name := "isLast", desc := "()Z" } : Jvm.MethodName)) ∈ lw_all := lw_g (lw_at lw_m6 161 rfl) rfl
theorem q1452 : (Jvm.Cond.selects "TrailGuide$Reached" ({ cls := "TrailGuide$Reached", name := "isLast", desc := "()Z" } : Jvm.MethodName) ({ cls := "TrailGuide$Reached", name := "isLast", desc := "()Z" } : Jvm.MethodName)) ∈ lw_all := lw_g (lw_at lw_m6 162 rfl) rfl
theorem q1453 : (Jvm.Cond.code ({ cls := "TrailGuide$Reached", name := "isLast", desc := "()Z" } : Jvm.MethodName) prog_10_method_7_code (1 : Nat) (Option.some Jvm.ClassFile.FieldType.boolean)) ∈ lw_all := lw_g (lw_at lw_m6 163 rfl) rfl
theorem q1684 : (Jvm.Cond.selects "TrailGuide$Reached" ({ cls := "TrailGuide$Event", name := "letter", desc := "()C" } : Jvm.MethodName) ({ cls := "TrailGuide$Reached", name := "letter", desc := "()C" } : Jvm.MethodName)) ∈ lw_all := lw_g (lw_at lw_m7 154 rfl) rfl
theorem q1685 : (Jvm.Cond.unhidden "TrailGuide$Reached" "letter" "()C") ∈ lw_tbl := lw_at lw_m7 155 rfl
theorem q1686 : (Jvm.Cond.instanceMethod ({ cls := "TrailGuide$Reached", name := "letter", desc := "()C" } : Jvm.MethodName)) ∈ lw_all := lw_g (lw_at lw_m7 156 rfl) rfl
theorem q1687 : (Jvm.Cond.publicMethod ({ cls := "TrailGuide$Reached", name := "letter", desc := "()C" } : Jvm.MethodName)) ∈ lw_tbl := lw_at lw_m7 157 rfl
theorem q1688 : (Jvm.Cond.code ({ cls := "TrailGuide$Reached", name := "letter", desc := "()C" } : Jvm.MethodName) prog_10_method_2_code (1 : Nat) (Option.some Jvm.ClassFile.FieldType.char)) ∈ lw_all := lw_g (lw_at lw_m7 158 rfl) rfl
theorem q2643 : (Jvm.Cond.castable "TrailGuide$Reached" "java/lang/Object") ∈ lw_tbl := lw_at lw_m11 153 rfl
theorem in_X8 : ∀ w ∈ wsX80, w ∈ lw_all := lw_in wsX80 [1371] (by decide +kernel) (by decide +kernel)
/-! TrailGuide$Square -/
def RX9 : String := "TrailGuide$Square"
def TX9 : u_T := fun k => match k with
  | 0 => ("TrailGuide$Square", "numerator", "J", true)
  | _ => ("TrailGuide$Square", "denominator", "J", true)
def tyX9 : Nat → FieldType := fun k => match k with
  | 0 => .long
  | _ => .long
abbrev wsX90 : List Cond := u_ws RX9 TX9 2
theorem nmX9 : ∀ a, a < 2 → ∀ b, b < 2 → a ≠ b → (TX9 a).2.1 ≠ (TX9 b).2.1 := by decide +kernel
theorem tyX9_ok : ∀ k, k < 2 → parseFieldDescriptor (TX9 k).2.2.1 = some (tyX9 k) := by decide +kernel
abbrev cX9_init : ByteArray := prog_11_method_1_code
def yX9_init : MethodName := ⟨RX9, "<init>", "(JJ)V"⟩
abbrev cX9_isGreaterThan : ByteArray := prog_11_method_2_code
def yX9_isGreaterThan : MethodName := ⟨RX9, "isGreaterThan", "(J)Z"⟩
abbrev cX9_root : ByteArray := prog_11_method_3_code
def yX9_root : MethodName := ⟨RX9, "root", "()I"⟩
abbrev cX9_isLessThan : ByteArray := prog_11_method_4_code
def yX9_isLessThan : MethodName := ⟨RX9, "isLessThan", "(J)Z"⟩
theorem q127 : (Jvm.Cond.initialized "TrailGuide$Square") ∈ lw_all := lw_g (lw_at lw_m1 37 rfl) rfl
theorem q987 : (Jvm.Cond.selects "TrailGuide$Square" ({ cls := "java/lang/Object", name := "getClass", desc := "()Ljava/lang/Class;" } : Jvm.MethodName) ({ cls := "java/lang/Object", name := "getClass", desc := "()Ljava/lang/Class;" } : Jvm.MethodName)) ∈ lw_all := lw_g (lw_at lw_m4 177 rfl) rfl
theorem q1388 : (Jvm.Cond.instantiable "TrailGuide$Square" (2 : Nat)) ∈ lw_all := lw_g (lw_at lw_m6 98 rfl) rfl
theorem q1391 : (Jvm.Cond.instanceMethod ({ cls := "TrailGuide$Square", name := "<init>", desc := "(JJ)V" } : Jvm.MethodName)) ∈ lw_all := lw_g (lw_at lw_m6 101 rfl) rfl
theorem q1392 : (Jvm.Cond.code ({ cls := "TrailGuide$Square", name := "<init>", desc := "(JJ)V" } : Jvm.MethodName) prog_11_method_1_code (5 : Nat) (Option.none : Option Jvm.ClassFile.FieldType)) ∈ lw_all := lw_g (lw_at lw_m6 102 rfl) rfl
theorem q1393 : (Jvm.Cond.methodLink "TrailGuide$Square" (1 : Nat) ({ cls := "java/lang/Record", name := "<init>", desc := "()V" } : Jvm.MethodName)) ∈ lw_all := lw_g (lw_at lw_m6 103 rfl) rfl
theorem q1394 : (Jvm.Cond.fieldLink "TrailGuide$Square" (7 : Nat) "TrailGuide$Square" "numerator" "J") ∈ lw_all := lw_g (lw_at lw_m6 104 rfl) rfl
theorem q1395 : (Jvm.Cond.fieldLink "TrailGuide$Square" (13 : Nat) "TrailGuide$Square" "denominator" "J") ∈ lw_all := lw_g (lw_at lw_m6 105 rfl) rfl
theorem q1396 : (Jvm.Cond.laysFinal "TrailGuide$Square" "TrailGuide$Square" "numerator" "J") ∈ lw_all := lw_g (lw_at lw_m6 106 rfl) rfl
theorem q1397 : (Jvm.Cond.soleField "TrailGuide$Square" "numerator") ∈ lw_all := lw_g (lw_at lw_m6 107 rfl) rfl
theorem q1398 : (Jvm.Cond.laysFinal "TrailGuide$Square" "TrailGuide$Square" "denominator" "J") ∈ lw_all := lw_g (lw_at lw_m6 108 rfl) rfl
theorem q1399 : (Jvm.Cond.soleField "TrailGuide$Square" "denominator") ∈ lw_all := lw_g (lw_at lw_m6 109 rfl) rfl
theorem q1400 : (Jvm.Cond.superclass "TrailGuide$Square" "java/lang/Record") ∈ lw_all := lw_g (lw_at lw_m6 110 rfl) rfl
theorem q1404 : (Jvm.Cond.instanceMethod ({ cls := "TrailGuide$Square", name := "isGreaterThan", desc := "(J)Z" } : Jvm.MethodName)) ∈ lw_all := lw_g (lw_at lw_m6 114 rfl) rfl
theorem q1405 : (Jvm.Cond.selects "TrailGuide$Square" ({ cls := "TrailGuide$Square", name := "isGreaterThan", desc := "(J)Z" } : Jvm.MethodName) ({ cls := "TrailGuide$Square", name := "isGreaterThan", desc := "(J)Z" } : Jvm.MethodName)) ∈ lw_all := lw_g (lw_at lw_m6 115 rfl) rfl
theorem q1406 : (Jvm.Cond.code ({ cls := "TrailGuide$Square", name := "isGreaterThan", desc := "(J)Z" } : Jvm.MethodName) prog_11_method_2_code (3 : Nat) (Option.some Jvm.ClassFile.FieldType.boolean)) ∈ lw_all := lw_g (lw_at lw_m6 116 rfl) rfl
theorem q1655 : (Jvm.Cond.instanceMethod ({ cls := "TrailGuide$Square", name := "root", desc := "()I" } : Jvm.MethodName)) ∈ lw_all := lw_g (lw_at lw_m7 125 rfl) rfl
theorem q1656 : (Jvm.Cond.selects "TrailGuide$Square" ({ cls := "TrailGuide$Square", name := "root", desc := "()I" } : Jvm.MethodName) ({ cls := "TrailGuide$Square", name := "root", desc := "()I" } : Jvm.MethodName)) ∈ lw_all := lw_g (lw_at lw_m7 126 rfl) rfl
theorem q1657 : (Jvm.Cond.code ({ cls := "TrailGuide$Square", name := "root", desc := "()I" } : Jvm.MethodName) prog_11_method_3_code (2 : Nat) (Option.some Jvm.ClassFile.FieldType.int)) ∈ lw_all := lw_g (lw_at lw_m7 127 rfl) rfl
theorem q1658 : (Jvm.Cond.methodLink "TrailGuide$Square" (16 : Nat) ({ cls := "TrailGuide$Square", name := "isLessThan", desc := "(J)Z" } : Jvm.MethodName)) ∈ lw_all := lw_g (lw_at lw_m7 128 rfl) rfl
theorem q1659 : (Jvm.Cond.privateMethod ({ cls := "TrailGuide$Square", name := "isLessThan", desc := "(J)Z" } : Jvm.MethodName)) ∈ lw_tbl := lw_at lw_m7 129 rfl
theorem q1660 : (Jvm.Cond.instanceMethod ({ cls := "TrailGuide$Square", name := "isLessThan", desc := "(J)Z" } : Jvm.MethodName)) ∈ lw_all := lw_g (lw_at lw_m7 130 rfl) rfl
theorem q1661 : (Jvm.Cond.code ({ cls := "TrailGuide$Square", name := "isLessThan", desc := "(J)Z" } : Jvm.MethodName) prog_11_method_4_code (3 : Nat) (Option.some Jvm.ClassFile.FieldType.boolean)) ∈ lw_all := lw_g (lw_at lw_m7 131 rfl) rfl
theorem q2644 : (Jvm.Cond.castable "TrailGuide$Square" "java/lang/Object") ∈ lw_tbl := lw_at lw_m11 154 rfl
theorem in_X9 : ∀ w ∈ wsX90, w ∈ lw_all := lw_in wsX90 [1396, 1398] (by decide +kernel) (by decide +kernel)
theorem q1107 : (Jvm.Cond.interfaceMethod "TrailGuide$Change" "TrailGuide$Change" "applyTo" "(LTrailGuide$State;)I") ∈ lw_tbl := lw_at lw_m5 57 rfl
theorem q1108 : (Jvm.Cond.declares ({ cls := "TrailGuide$Change", name := "applyTo", desc := "(LTrailGuide$State;)I" } : Jvm.MethodName)) ∈ lw_tbl := lw_at lw_m5 58 rfl
theorem q1430 : (Jvm.Cond.interfaceMethod "TrailGuide$Event" "TrailGuide$Event" "cost" "()I") ∈ lw_tbl := lw_at lw_m6 140 rfl
theorem q1431 : (Jvm.Cond.declares ({ cls := "TrailGuide$Event", name := "cost", desc := "()I" } : Jvm.MethodName)) ∈ lw_tbl := lw_at lw_m6 141 rfl
theorem q1672 : (Jvm.Cond.interfaceMethod "TrailGuide$Event" "TrailGuide$Event" "letter" "()C") ∈ lw_tbl := lw_at lw_m7 142 rfl
theorem q1673 : (Jvm.Cond.declares ({ cls := "TrailGuide$Event", name := "letter", desc := "()C" } : Jvm.MethodName)) ∈ lw_tbl := lw_at lw_m7 143 rfl
theorem q442 : (Jvm.Cond.interfaceMethod "TrailGuide$TrailVisitor" "TrailGuide$TrailVisitor" "visit" "(II)V") ∈ lw_tbl := lw_at lw_m2 112 rfl
theorem q443 : (Jvm.Cond.declares ({ cls := "TrailGuide$TrailVisitor", name := "visit", desc := "(II)V" } : Jvm.MethodName)) ∈ lw_tbl := lw_at lw_m2 113 rfl
theorem q339 : (Jvm.Cond.interfaceMethod "TrailGuide$WaypointTest" "TrailGuide$WaypointTest" "isSo" "(I)Z") ∈ lw_tbl := lw_at lw_m2 9 rfl
theorem q340 : (Jvm.Cond.declares ({ cls := "TrailGuide$WaypointTest", name := "isSo", desc := "(I)Z" } : Jvm.MethodName)) ∈ lw_tbl := lw_at lw_m2 10 rfl
theorem q514 : (Jvm.Cond.sameMethod "[B" "java/lang/Object" "clone" "()Ljava/lang/Object;") ∈ lw_all := lw_g (lw_at lw_m2 184 rfl) rfl
theorem q517 : (Jvm.Cond.selects "[B" ({ cls := "[B", name := "clone", desc := "()Ljava/lang/Object;" } : Jvm.MethodName) ({ cls := "java/lang/Object", name := "clone", desc := "()Ljava/lang/Object;" } : Jvm.MethodName)) ∈ lw_all := lw_g (lw_at lw_m2 187 rfl) rfl
theorem q518 : (Jvm.Cond.castable "[B" "java/lang/Cloneable") ∈ lw_tbl := lw_at lw_m2 188 rfl
theorem q2664 : (Jvm.Cond.castable "[B" "java/lang/Object") ∈ lw_tbl := lw_at lw_m11 174 rfl
theorem q2665 : (Jvm.Cond.castable "[C" "java/lang/Object") ∈ lw_tbl := lw_at lw_m11 175 rfl
theorem q2669 : (Jvm.Cond.castable "[D" "java/lang/Object") ∈ lw_tbl := lw_at lw_m11 179 rfl
theorem q2662 : (Jvm.Cond.castable "[I" "java/lang/Object") ∈ lw_tbl := lw_at lw_m11 172 rfl
theorem q2668 : (Jvm.Cond.castable "[J" "java/lang/Object") ∈ lw_tbl := lw_at lw_m11 178 rfl
theorem q1980 : (Jvm.Cond.sameMethod "[LTrailGuide$Mode;" "java/lang/Object" "clone" "()Ljava/lang/Object;") ∈ lw_all := lw_g (lw_at lw_m8 210 rfl) rfl
theorem q1981 : (Jvm.Cond.selects "[LTrailGuide$Mode;" ({ cls := "[LTrailGuide$Mode;", name := "clone", desc := "()Ljava/lang/Object;" } : Jvm.MethodName) ({ cls := "java/lang/Object", name := "clone", desc := "()Ljava/lang/Object;" } : Jvm.MethodName)) ∈ lw_all := lw_g (lw_at lw_m8 211 rfl) rfl
theorem q1982 : (Jvm.Cond.castable "[LTrailGuide$Mode;" "java/lang/Cloneable") ∈ lw_tbl := lw_at lw_m8 212 rfl
theorem q2667 : (Jvm.Cond.castable "[LTrailGuide$Mode;" "java/lang/Object") ∈ lw_tbl := lw_at lw_m11 177 rfl
theorem q2658 : (Jvm.Cond.sameMethod "[Ljava/lang/Object;" "java/lang/Object" "getClass" "()Ljava/lang/Class;") ∈ lw_all := lw_g (lw_at lw_m11 168 rfl) rfl
theorem q2659 : (Jvm.Cond.selects "[Ljava/lang/Object;" ({ cls := "java/lang/Object", name := "getClass", desc := "()Ljava/lang/Class;" } : Jvm.MethodName) ({ cls := "java/lang/Object", name := "getClass", desc := "()Ljava/lang/Class;" } : Jvm.MethodName)) ∈ lw_all := lw_g (lw_at lw_m11 169 rfl) rfl
theorem q2663 : (Jvm.Cond.castable "[Ljava/lang/Object;" "java/lang/Object") ∈ lw_tbl := lw_at lw_m11 173 rfl
theorem q2666 : (Jvm.Cond.castable "[Z" "java/lang/Object") ∈ lw_tbl := lw_at lw_m11 176 rfl
theorem q116 : (Jvm.Cond.initialized "java/lang/Number") ∈ lw_all := lw_g (lw_at lw_m1 26 rfl) rfl
theorem q115 : (Jvm.Cond.initialized "java/lang/System") ∈ lw_all := lw_g (lw_at lw_m1 25 rfl) rfl
theorem q522 : (Jvm.Cond.static ({ cls := "java/lang/System", name := "arraycopy", desc := "(Ljava/lang/Object;ILjava/lang/Object;II)V" } : Jvm.MethodName)) ∈ lw_all := lw_g (lw_at lw_m2 192 rfl) rfl
theorem q523 : (Jvm.Cond.native ({ cls := "java/lang/System", name := "arraycopy", desc := "(Ljava/lang/Object;ILjava/lang/Object;II)V" } : Jvm.MethodName)) ∈ lw_all := lw_g (lw_at lw_m2 193 rfl) rfl
theorem q948 : (Jvm.Cond.interfaceMethod "java/util/Collection" "java/util/Collection" "toArray" "()[Ljava/lang/Object;") ∈ lw_tbl := lw_at lw_m4 138 rfl
theorem q949 : (Jvm.Cond.declares ({ cls := "java/util/Collection", name := "toArray", desc := "()[Ljava/lang/Object;" } : Jvm.MethodName)) ∈ lw_tbl := lw_at lw_m4 139 rfl
theorem q2039 : (Jvm.Cond.interfaceMethod "java/util/Iterator" "java/util/Iterator" "hasNext" "()Z") ∈ lw_tbl := lw_at lw_m9 29 rfl
theorem q2040 : (Jvm.Cond.declares ({ cls := "java/util/Iterator", name := "hasNext", desc := "()Z" } : Jvm.MethodName)) ∈ lw_tbl := lw_at lw_m9 30 rfl
theorem q2049 : (Jvm.Cond.interfaceMethod "java/util/Iterator" "java/util/Iterator" "next" "()Ljava/lang/Object;") ∈ lw_tbl := lw_at lw_m9 39 rfl
theorem q2050 : (Jvm.Cond.declares ({ cls := "java/util/Iterator", name := "next", desc := "()Ljava/lang/Object;" } : Jvm.MethodName)) ∈ lw_tbl := lw_at lw_m9 40 rfl
theorem q222 : (Jvm.Cond.arrayClass Jvm.ClassFile.FieldType.int) ∈ lw_all := lw_g (lw_at lw_m1 132 rfl) rfl
theorem q230 : (Jvm.Cond.arrayOver (Jvm.ClassFile.FieldType.object "java/lang/Object")) ∈ lw_tbl := lw_at lw_m1 140 rfl
theorem q273 : (Jvm.Cond.arrayClass Jvm.ClassFile.FieldType.byte) ∈ lw_all := lw_g (lw_at lw_m1 183 rfl) rfl
theorem q301 : (Jvm.Cond.arrayClass Jvm.ClassFile.FieldType.char) ∈ lw_all := lw_g (lw_at lw_m1 211 rfl) rfl
theorem q351 : (Jvm.Cond.arrayClass Jvm.ClassFile.FieldType.boolean) ∈ lw_all := lw_g (lw_at lw_m2 21 rfl) rfl
theorem q1983 : (Jvm.Cond.arrayOver (Jvm.ClassFile.FieldType.object "TrailGuide$Mode")) ∈ lw_tbl := lw_at lw_m8 213 rfl
theorem q2608 : (Jvm.Cond.arrayClass Jvm.ClassFile.FieldType.long) ∈ lw_all := lw_g (lw_at lw_m11 118 rfl) rfl
theorem q2609 : (Jvm.Cond.arrayClass Jvm.ClassFile.FieldType.double) ∈ lw_all := lw_g (lw_at lw_m11 119 rfl) rfl
