/-! DECODE ROWS BY BYTES: one lemma an opcode; a method's code is cut into short pieces once, and a row reads its own piece alone. -/
set_option maxRecDepth 100000
/-- the code has just these bytes from pc on -/
def DkAt (code : ByteArray) (pc : Nat) (bs : List UInt8) : Prop := ∀ (j : Nat) (b : UInt8), bs[j]? = some b → code.data.toList[pc + j]? = some b
/-- the piece W has the bytes bs from its place j on -/
def dkIn (W : List UInt8) (j : Nat) (bs : List UInt8) : Bool := decide ((W.drop j).take bs.length = bs)
theorem dk_seg {l W T : List UInt8} {o o2 : Nat} (h : l.drop o = W ++ T) (n : Nat) (hn : W.length = n) (ho : o + n = o2) : l.drop o2 = T := by
  subst ho
  rw [← List.drop_drop, h, List.drop_left' hn]
theorem dk_at {code : ByteArray} {W T bs : List UInt8} {o pc : Nat} (h : code.data.toList.drop o = W ++ T) (j : Nat) (hp : o + j = pc) (hw : dkIn W j bs = true) : DkAt code pc bs := by
  subst hp
  intro i b e
  have h1 := of_decide_eq_true hw
  have h2 : i < bs.length := (List.getElem?_eq_some_iff.mp e).1
  have h3 : W[j + i]? = some b := by
    rw [← h1, List.getElem?_take, if_pos h2, List.getElem?_drop] at e
    exact e
  have h4 : j + i < W.length := (List.getElem?_eq_some_iff.mp h3).1
  have h5 : (code.data.toList.drop o)[j + i]? = some b := by
    rw [h, List.getElem?_append_left h4]
    exact h3
  rw [List.getElem?_drop, ← Nat.add_assoc] at h5
  exact h5
theorem dk_u1 {A : ByteArray} {p : Nat} {b : UInt8} (h : A.data.toList[p]? = some b) : (Reader.u1 : Reader DecodeError Nat) A p = .ok (b.toNat, p + 1) := by
  obtain ⟨h1, h2⟩ := List.getElem?_eq_some_iff.mp h
  have h3 : p < A.size := by simpa using h1
  have h4 : A[p]'h3 = b := h2
  have e : (Reader.u1 : Reader DecodeError Nat) A p = (if h : p < A.size then .ok (A[p].toNat, p + 1) else .error (HasTruncated.truncated p)) := by
    show (do if h : p < A.size then do set (p + 1); Pure.pure A[p].toNat else MonadExcept.throw (HasTruncated.truncated p) : Reader DecodeError Nat) A p = _
    by_cases hi : p < A.size
    · rw [dif_pos hi, dif_pos hi]; rfl
    · rw [dif_neg hi, dif_neg hi]; rfl
  rw [e, dif_pos h3, h4]
theorem dk_bind {α β : Type} {r : Reader DecodeError α} {f : α → Reader DecodeError β} {A : ByteArray} {p s : Nat} {a : α} (h : r A p = .ok (a, s)) : (r >>= f) A p = f a A s := by
  show (do let (a, s) ← r A p; f a A s : Except DecodeError (β × Nat)) = _
  rw [h]
  rfl
theorem dk_map {α β : Type} {r : Reader DecodeError α} {g : α → β} {A : ByteArray} {p s : Nat} {a : α} (h : r A p = .ok (a, s)) : (g <$> r) A p = .ok (g a, s) := by
  show (do let (a, s) ← r A p; .ok (g a, s) : Except DecodeError (β × Nat)) = _
  rw [h]
  rfl
theorem dk_u2 {A : ByteArray} {p : Nat} {a b : UInt8} (h : A.data.toList[p]? = some a) (h2 : A.data.toList[p + 1]? = some b) : (Reader.u2 : Reader DecodeError Nat) A p = .ok (a.toNat * 256 + b.toNat, p + 2) := by
  show (Reader.u1 >>= fun hi => Reader.u1 >>= fun lo => Pure.pure (hi * 256 + lo) : Reader DecodeError Nat) A p = _
  rw [dk_bind (dk_u1 h), dk_bind (dk_u1 h2)]
  rfl
theorem dk_of {code : ByteArray} {pc n : Nat} {i : Instr} (h : Decoder.instr pc code pc = .ok (i, pc + n)) : decode code pc = .ok (i, n) := by
  have e : decode code pc = (match Decoder.instr pc code pc with | .error x => .error x | .ok (j, s) => .ok (j, s - pc)) := by
    show (do let (j, s) ← Decoder.instr pc code pc; Pure.pure (j, s - pc) : Except DecodeError (Instr × Nat)) = _
    cases Decoder.instr pc code pc <;> rfl
  rw [e, h]
  show Except.ok (i, pc + n - pc) = _
  rw [Nat.add_sub_cancel_left]
theorem dk_1 {code : ByteArray} {pc : Nat} (h : DkAt code pc [1]) : decode code pc = .ok (.aconst_null, 1) := dk_of ((dk_bind (dk_u1 (h 0 _ rfl))).trans rfl)
theorem dk_2 {code : ByteArray} {pc : Nat} (h : DkAt code pc [2]) : decode code pc = .ok (.iconst (-1), 1) := dk_of ((dk_bind (dk_u1 (h 0 _ rfl))).trans rfl)
theorem dk_3 {code : ByteArray} {pc : Nat} (h : DkAt code pc [3]) : decode code pc = .ok (.iconst 0, 1) := dk_of ((dk_bind (dk_u1 (h 0 _ rfl))).trans rfl)
theorem dk_4 {code : ByteArray} {pc : Nat} (h : DkAt code pc [4]) : decode code pc = .ok (.iconst 1, 1) := dk_of ((dk_bind (dk_u1 (h 0 _ rfl))).trans rfl)
theorem dk_5 {code : ByteArray} {pc : Nat} (h : DkAt code pc [5]) : decode code pc = .ok (.iconst 2, 1) := dk_of ((dk_bind (dk_u1 (h 0 _ rfl))).trans rfl)
theorem dk_6 {code : ByteArray} {pc : Nat} (h : DkAt code pc [6]) : decode code pc = .ok (.iconst 3, 1) := dk_of ((dk_bind (dk_u1 (h 0 _ rfl))).trans rfl)
theorem dk_7 {code : ByteArray} {pc : Nat} (h : DkAt code pc [7]) : decode code pc = .ok (.iconst 4, 1) := dk_of ((dk_bind (dk_u1 (h 0 _ rfl))).trans rfl)
theorem dk_8 {code : ByteArray} {pc : Nat} (h : DkAt code pc [8]) : decode code pc = .ok (.iconst 5, 1) := dk_of ((dk_bind (dk_u1 (h 0 _ rfl))).trans rfl)
theorem dk_9 {code : ByteArray} {pc : Nat} (h : DkAt code pc [9]) : decode code pc = .ok (.lconst 0, 1) := dk_of ((dk_bind (dk_u1 (h 0 _ rfl))).trans rfl)
theorem dk_10 {code : ByteArray} {pc : Nat} (h : DkAt code pc [10]) : decode code pc = .ok (.lconst 1, 1) := dk_of ((dk_bind (dk_u1 (h 0 _ rfl))).trans rfl)
theorem dk_16 {code : ByteArray} {pc : Nat} (a : UInt8) (h : DkAt code pc [16, a]) : decode code pc = .ok (.bipush (Reader.signed 8 a.toNat), 2) := dk_of ((dk_bind (dk_u1 (h 0 _ rfl))).trans ((dk_bind (dk_map (dk_u1 (h 1 _ rfl)))).trans rfl))
theorem dk_17 {code : ByteArray} {pc : Nat} (a b : UInt8) (h : DkAt code pc [17, a, b]) : decode code pc = .ok (.sipush (Reader.signed 16 (a.toNat * 256 + b.toNat)), 3) := dk_of ((dk_bind (dk_u1 (h 0 _ rfl))).trans ((dk_bind (dk_map (dk_u2 (h 1 _ rfl) (h 2 _ rfl)))).trans rfl))
theorem dk_18 {code : ByteArray} {pc : Nat} (a : UInt8) (h : DkAt code pc [18, a]) : decode code pc = .ok (.ldc a.toNat, 2) := dk_of ((dk_bind (dk_u1 (h 0 _ rfl))).trans ((dk_bind (dk_u1 (h 1 _ rfl))).trans rfl))
theorem dk_19 {code : ByteArray} {pc : Nat} (a b : UInt8) (h : DkAt code pc [19, a, b]) : decode code pc = .ok (.ldc_w (a.toNat * 256 + b.toNat), 3) := dk_of ((dk_bind (dk_u1 (h 0 _ rfl))).trans ((dk_bind (dk_u2 (h 1 _ rfl) (h 2 _ rfl))).trans rfl))
theorem dk_20 {code : ByteArray} {pc : Nat} (a b : UInt8) (h : DkAt code pc [20, a, b]) : decode code pc = .ok (.ldc2_w (a.toNat * 256 + b.toNat), 3) := dk_of ((dk_bind (dk_u1 (h 0 _ rfl))).trans ((dk_bind (dk_u2 (h 1 _ rfl) (h 2 _ rfl))).trans rfl))
theorem dk_21 {code : ByteArray} {pc : Nat} (a : UInt8) (h : DkAt code pc [21, a]) : decode code pc = .ok (.iload a.toNat, 2) := dk_of ((dk_bind (dk_u1 (h 0 _ rfl))).trans ((dk_bind (dk_u1 (h 1 _ rfl))).trans rfl))
theorem dk_22 {code : ByteArray} {pc : Nat} (a : UInt8) (h : DkAt code pc [22, a]) : decode code pc = .ok (.lload a.toNat, 2) := dk_of ((dk_bind (dk_u1 (h 0 _ rfl))).trans ((dk_bind (dk_u1 (h 1 _ rfl))).trans rfl))
theorem dk_26 {code : ByteArray} {pc : Nat} (h : DkAt code pc [26]) : decode code pc = .ok (.iload_n 0, 1) := dk_of ((dk_bind (dk_u1 (h 0 _ rfl))).trans rfl)
theorem dk_27 {code : ByteArray} {pc : Nat} (h : DkAt code pc [27]) : decode code pc = .ok (.iload_n 1, 1) := dk_of ((dk_bind (dk_u1 (h 0 _ rfl))).trans rfl)
theorem dk_28 {code : ByteArray} {pc : Nat} (h : DkAt code pc [28]) : decode code pc = .ok (.iload_n 2, 1) := dk_of ((dk_bind (dk_u1 (h 0 _ rfl))).trans rfl)
theorem dk_29 {code : ByteArray} {pc : Nat} (h : DkAt code pc [29]) : decode code pc = .ok (.iload_n 3, 1) := dk_of ((dk_bind (dk_u1 (h 0 _ rfl))).trans rfl)
theorem dk_30 {code : ByteArray} {pc : Nat} (h : DkAt code pc [30]) : decode code pc = .ok (.lload_n 0, 1) := dk_of ((dk_bind (dk_u1 (h 0 _ rfl))).trans rfl)
theorem dk_32 {code : ByteArray} {pc : Nat} (h : DkAt code pc [32]) : decode code pc = .ok (.lload_n 2, 1) := dk_of ((dk_bind (dk_u1 (h 0 _ rfl))).trans rfl)
theorem dk_42 {code : ByteArray} {pc : Nat} (h : DkAt code pc [42]) : decode code pc = .ok (.aload_n 0, 1) := dk_of ((dk_bind (dk_u1 (h 0 _ rfl))).trans rfl)
theorem dk_43 {code : ByteArray} {pc : Nat} (h : DkAt code pc [43]) : decode code pc = .ok (.aload_n 1, 1) := dk_of ((dk_bind (dk_u1 (h 0 _ rfl))).trans rfl)
theorem dk_44 {code : ByteArray} {pc : Nat} (h : DkAt code pc [44]) : decode code pc = .ok (.aload_n 2, 1) := dk_of ((dk_bind (dk_u1 (h 0 _ rfl))).trans rfl)
theorem dk_45 {code : ByteArray} {pc : Nat} (h : DkAt code pc [45]) : decode code pc = .ok (.aload_n 3, 1) := dk_of ((dk_bind (dk_u1 (h 0 _ rfl))).trans rfl)
theorem dk_46 {code : ByteArray} {pc : Nat} (h : DkAt code pc [46]) : decode code pc = .ok (.iaload, 1) := dk_of ((dk_bind (dk_u1 (h 0 _ rfl))).trans rfl)
theorem dk_50 {code : ByteArray} {pc : Nat} (h : DkAt code pc [50]) : decode code pc = .ok (.aaload, 1) := dk_of ((dk_bind (dk_u1 (h 0 _ rfl))).trans rfl)
theorem dk_51 {code : ByteArray} {pc : Nat} (h : DkAt code pc [51]) : decode code pc = .ok (.baload, 1) := dk_of ((dk_bind (dk_u1 (h 0 _ rfl))).trans rfl)
theorem dk_54 {code : ByteArray} {pc : Nat} (a : UInt8) (h : DkAt code pc [54, a]) : decode code pc = .ok (.istore a.toNat, 2) := dk_of ((dk_bind (dk_u1 (h 0 _ rfl))).trans ((dk_bind (dk_u1 (h 1 _ rfl))).trans rfl))
theorem dk_55 {code : ByteArray} {pc : Nat} (a : UInt8) (h : DkAt code pc [55, a]) : decode code pc = .ok (.lstore a.toNat, 2) := dk_of ((dk_bind (dk_u1 (h 0 _ rfl))).trans ((dk_bind (dk_u1 (h 1 _ rfl))).trans rfl))
theorem dk_59 {code : ByteArray} {pc : Nat} (h : DkAt code pc [59]) : decode code pc = .ok (.istore_n 0, 1) := dk_of ((dk_bind (dk_u1 (h 0 _ rfl))).trans rfl)
theorem dk_60 {code : ByteArray} {pc : Nat} (h : DkAt code pc [60]) : decode code pc = .ok (.istore_n 1, 1) := dk_of ((dk_bind (dk_u1 (h 0 _ rfl))).trans rfl)
theorem dk_61 {code : ByteArray} {pc : Nat} (h : DkAt code pc [61]) : decode code pc = .ok (.istore_n 2, 1) := dk_of ((dk_bind (dk_u1 (h 0 _ rfl))).trans rfl)
theorem dk_62 {code : ByteArray} {pc : Nat} (h : DkAt code pc [62]) : decode code pc = .ok (.istore_n 3, 1) := dk_of ((dk_bind (dk_u1 (h 0 _ rfl))).trans rfl)
theorem dk_76 {code : ByteArray} {pc : Nat} (h : DkAt code pc [76]) : decode code pc = .ok (.astore_n 1, 1) := dk_of ((dk_bind (dk_u1 (h 0 _ rfl))).trans rfl)
theorem dk_77 {code : ByteArray} {pc : Nat} (h : DkAt code pc [77]) : decode code pc = .ok (.astore_n 2, 1) := dk_of ((dk_bind (dk_u1 (h 0 _ rfl))).trans rfl)
theorem dk_78 {code : ByteArray} {pc : Nat} (h : DkAt code pc [78]) : decode code pc = .ok (.astore_n 3, 1) := dk_of ((dk_bind (dk_u1 (h 0 _ rfl))).trans rfl)
theorem dk_79 {code : ByteArray} {pc : Nat} (h : DkAt code pc [79]) : decode code pc = .ok (.iastore, 1) := dk_of ((dk_bind (dk_u1 (h 0 _ rfl))).trans rfl)
theorem dk_83 {code : ByteArray} {pc : Nat} (h : DkAt code pc [83]) : decode code pc = .ok (.aastore, 1) := dk_of ((dk_bind (dk_u1 (h 0 _ rfl))).trans rfl)
theorem dk_84 {code : ByteArray} {pc : Nat} (h : DkAt code pc [84]) : decode code pc = .ok (.bastore, 1) := dk_of ((dk_bind (dk_u1 (h 0 _ rfl))).trans rfl)
theorem dk_87 {code : ByteArray} {pc : Nat} (h : DkAt code pc [87]) : decode code pc = .ok (.pop, 1) := dk_of ((dk_bind (dk_u1 (h 0 _ rfl))).trans rfl)
theorem dk_89 {code : ByteArray} {pc : Nat} (h : DkAt code pc [89]) : decode code pc = .ok (.dup, 1) := dk_of ((dk_bind (dk_u1 (h 0 _ rfl))).trans rfl)
theorem dk_92 {code : ByteArray} {pc : Nat} (h : DkAt code pc [92]) : decode code pc = .ok (.dup2, 1) := dk_of ((dk_bind (dk_u1 (h 0 _ rfl))).trans rfl)
theorem dk_96 {code : ByteArray} {pc : Nat} (h : DkAt code pc [96]) : decode code pc = .ok (.iadd, 1) := dk_of ((dk_bind (dk_u1 (h 0 _ rfl))).trans rfl)
theorem dk_97 {code : ByteArray} {pc : Nat} (h : DkAt code pc [97]) : decode code pc = .ok (.ladd, 1) := dk_of ((dk_bind (dk_u1 (h 0 _ rfl))).trans rfl)
theorem dk_100 {code : ByteArray} {pc : Nat} (h : DkAt code pc [100]) : decode code pc = .ok (.isub, 1) := dk_of ((dk_bind (dk_u1 (h 0 _ rfl))).trans rfl)
theorem dk_104 {code : ByteArray} {pc : Nat} (h : DkAt code pc [104]) : decode code pc = .ok (.imul, 1) := dk_of ((dk_bind (dk_u1 (h 0 _ rfl))).trans rfl)
theorem dk_105 {code : ByteArray} {pc : Nat} (h : DkAt code pc [105]) : decode code pc = .ok (.lmul, 1) := dk_of ((dk_bind (dk_u1 (h 0 _ rfl))).trans rfl)
theorem dk_108 {code : ByteArray} {pc : Nat} (h : DkAt code pc [108]) : decode code pc = .ok (.idiv, 1) := dk_of ((dk_bind (dk_u1 (h 0 _ rfl))).trans rfl)
theorem dk_109 {code : ByteArray} {pc : Nat} (h : DkAt code pc [109]) : decode code pc = .ok (.ldiv, 1) := dk_of ((dk_bind (dk_u1 (h 0 _ rfl))).trans rfl)
theorem dk_112 {code : ByteArray} {pc : Nat} (h : DkAt code pc [112]) : decode code pc = .ok (.irem, 1) := dk_of ((dk_bind (dk_u1 (h 0 _ rfl))).trans rfl)
theorem dk_113 {code : ByteArray} {pc : Nat} (h : DkAt code pc [113]) : decode code pc = .ok (.lrem, 1) := dk_of ((dk_bind (dk_u1 (h 0 _ rfl))).trans rfl)
theorem dk_116 {code : ByteArray} {pc : Nat} (h : DkAt code pc [116]) : decode code pc = .ok (.ineg, 1) := dk_of ((dk_bind (dk_u1 (h 0 _ rfl))).trans rfl)
theorem dk_120 {code : ByteArray} {pc : Nat} (h : DkAt code pc [120]) : decode code pc = .ok (.ishl, 1) := dk_of ((dk_bind (dk_u1 (h 0 _ rfl))).trans rfl)
theorem dk_122 {code : ByteArray} {pc : Nat} (h : DkAt code pc [122]) : decode code pc = .ok (.ishr, 1) := dk_of ((dk_bind (dk_u1 (h 0 _ rfl))).trans rfl)
theorem dk_124 {code : ByteArray} {pc : Nat} (h : DkAt code pc [124]) : decode code pc = .ok (.iushr, 1) := dk_of ((dk_bind (dk_u1 (h 0 _ rfl))).trans rfl)
theorem dk_126 {code : ByteArray} {pc : Nat} (h : DkAt code pc [126]) : decode code pc = .ok (.iand, 1) := dk_of ((dk_bind (dk_u1 (h 0 _ rfl))).trans rfl)
theorem dk_128 {code : ByteArray} {pc : Nat} (h : DkAt code pc [128]) : decode code pc = .ok (.ior, 1) := dk_of ((dk_bind (dk_u1 (h 0 _ rfl))).trans rfl)
theorem dk_130 {code : ByteArray} {pc : Nat} (h : DkAt code pc [130]) : decode code pc = .ok (.ixor, 1) := dk_of ((dk_bind (dk_u1 (h 0 _ rfl))).trans rfl)
theorem dk_132 {code : ByteArray} {pc : Nat} (a b : UInt8) (h : DkAt code pc [132, a, b]) : decode code pc = .ok (.iinc a.toNat (Reader.signed 8 b.toNat), 3) := dk_of ((dk_bind (dk_u1 (h 0 _ rfl))).trans ((dk_bind (dk_u1 (h 1 _ rfl))).trans ((dk_bind (dk_map (dk_u1 (h 2 _ rfl)))).trans rfl)))
theorem dk_133 {code : ByteArray} {pc : Nat} (h : DkAt code pc [133]) : decode code pc = .ok (.i2l, 1) := dk_of ((dk_bind (dk_u1 (h 0 _ rfl))).trans rfl)
theorem dk_136 {code : ByteArray} {pc : Nat} (h : DkAt code pc [136]) : decode code pc = .ok (.l2i, 1) := dk_of ((dk_bind (dk_u1 (h 0 _ rfl))).trans rfl)
theorem dk_145 {code : ByteArray} {pc : Nat} (h : DkAt code pc [145]) : decode code pc = .ok (.i2b, 1) := dk_of ((dk_bind (dk_u1 (h 0 _ rfl))).trans rfl)
theorem dk_148 {code : ByteArray} {pc : Nat} (h : DkAt code pc [148]) : decode code pc = .ok (.lcmp, 1) := dk_of ((dk_bind (dk_u1 (h 0 _ rfl))).trans rfl)
theorem dk_153 {code : ByteArray} {pc : Nat} (a b : UInt8) (h : DkAt code pc [153, a, b]) : decode code pc = .ok (.ifCond .eq (Reader.signed 16 (a.toNat * 256 + b.toNat)), 3) := dk_of ((dk_bind (dk_u1 (h 0 _ rfl))).trans ((dk_bind (dk_map (dk_u2 (h 1 _ rfl) (h 2 _ rfl)))).trans rfl))
theorem dk_154 {code : ByteArray} {pc : Nat} (a b : UInt8) (h : DkAt code pc [154, a, b]) : decode code pc = .ok (.ifCond .ne (Reader.signed 16 (a.toNat * 256 + b.toNat)), 3) := dk_of ((dk_bind (dk_u1 (h 0 _ rfl))).trans ((dk_bind (dk_map (dk_u2 (h 1 _ rfl) (h 2 _ rfl)))).trans rfl))
theorem dk_155 {code : ByteArray} {pc : Nat} (a b : UInt8) (h : DkAt code pc [155, a, b]) : decode code pc = .ok (.ifCond .lt (Reader.signed 16 (a.toNat * 256 + b.toNat)), 3) := dk_of ((dk_bind (dk_u1 (h 0 _ rfl))).trans ((dk_bind (dk_map (dk_u2 (h 1 _ rfl) (h 2 _ rfl)))).trans rfl))
theorem dk_156 {code : ByteArray} {pc : Nat} (a b : UInt8) (h : DkAt code pc [156, a, b]) : decode code pc = .ok (.ifCond .ge (Reader.signed 16 (a.toNat * 256 + b.toNat)), 3) := dk_of ((dk_bind (dk_u1 (h 0 _ rfl))).trans ((dk_bind (dk_map (dk_u2 (h 1 _ rfl) (h 2 _ rfl)))).trans rfl))
theorem dk_157 {code : ByteArray} {pc : Nat} (a b : UInt8) (h : DkAt code pc [157, a, b]) : decode code pc = .ok (.ifCond .gt (Reader.signed 16 (a.toNat * 256 + b.toNat)), 3) := dk_of ((dk_bind (dk_u1 (h 0 _ rfl))).trans ((dk_bind (dk_map (dk_u2 (h 1 _ rfl) (h 2 _ rfl)))).trans rfl))
theorem dk_158 {code : ByteArray} {pc : Nat} (a b : UInt8) (h : DkAt code pc [158, a, b]) : decode code pc = .ok (.ifCond .le (Reader.signed 16 (a.toNat * 256 + b.toNat)), 3) := dk_of ((dk_bind (dk_u1 (h 0 _ rfl))).trans ((dk_bind (dk_map (dk_u2 (h 1 _ rfl) (h 2 _ rfl)))).trans rfl))
theorem dk_159 {code : ByteArray} {pc : Nat} (a b : UInt8) (h : DkAt code pc [159, a, b]) : decode code pc = .ok (.if_icmp .eq (Reader.signed 16 (a.toNat * 256 + b.toNat)), 3) := dk_of ((dk_bind (dk_u1 (h 0 _ rfl))).trans ((dk_bind (dk_map (dk_u2 (h 1 _ rfl) (h 2 _ rfl)))).trans rfl))
theorem dk_160 {code : ByteArray} {pc : Nat} (a b : UInt8) (h : DkAt code pc [160, a, b]) : decode code pc = .ok (.if_icmp .ne (Reader.signed 16 (a.toNat * 256 + b.toNat)), 3) := dk_of ((dk_bind (dk_u1 (h 0 _ rfl))).trans ((dk_bind (dk_map (dk_u2 (h 1 _ rfl) (h 2 _ rfl)))).trans rfl))
theorem dk_161 {code : ByteArray} {pc : Nat} (a b : UInt8) (h : DkAt code pc [161, a, b]) : decode code pc = .ok (.if_icmp .lt (Reader.signed 16 (a.toNat * 256 + b.toNat)), 3) := dk_of ((dk_bind (dk_u1 (h 0 _ rfl))).trans ((dk_bind (dk_map (dk_u2 (h 1 _ rfl) (h 2 _ rfl)))).trans rfl))
theorem dk_162 {code : ByteArray} {pc : Nat} (a b : UInt8) (h : DkAt code pc [162, a, b]) : decode code pc = .ok (.if_icmp .ge (Reader.signed 16 (a.toNat * 256 + b.toNat)), 3) := dk_of ((dk_bind (dk_u1 (h 0 _ rfl))).trans ((dk_bind (dk_map (dk_u2 (h 1 _ rfl) (h 2 _ rfl)))).trans rfl))
theorem dk_163 {code : ByteArray} {pc : Nat} (a b : UInt8) (h : DkAt code pc [163, a, b]) : decode code pc = .ok (.if_icmp .gt (Reader.signed 16 (a.toNat * 256 + b.toNat)), 3) := dk_of ((dk_bind (dk_u1 (h 0 _ rfl))).trans ((dk_bind (dk_map (dk_u2 (h 1 _ rfl) (h 2 _ rfl)))).trans rfl))
theorem dk_164 {code : ByteArray} {pc : Nat} (a b : UInt8) (h : DkAt code pc [164, a, b]) : decode code pc = .ok (.if_icmp .le (Reader.signed 16 (a.toNat * 256 + b.toNat)), 3) := dk_of ((dk_bind (dk_u1 (h 0 _ rfl))).trans ((dk_bind (dk_map (dk_u2 (h 1 _ rfl) (h 2 _ rfl)))).trans rfl))
theorem dk_167 {code : ByteArray} {pc : Nat} (a b : UInt8) (h : DkAt code pc [167, a, b]) : decode code pc = .ok (.goto (Reader.signed 16 (a.toNat * 256 + b.toNat)), 3) := dk_of ((dk_bind (dk_u1 (h 0 _ rfl))).trans ((dk_bind (dk_map (dk_u2 (h 1 _ rfl) (h 2 _ rfl)))).trans rfl))
theorem dk_172 {code : ByteArray} {pc : Nat} (h : DkAt code pc [172]) : decode code pc = .ok (.ireturn, 1) := dk_of ((dk_bind (dk_u1 (h 0 _ rfl))).trans rfl)
theorem dk_176 {code : ByteArray} {pc : Nat} (h : DkAt code pc [176]) : decode code pc = .ok (.areturn, 1) := dk_of ((dk_bind (dk_u1 (h 0 _ rfl))).trans rfl)
theorem dk_177 {code : ByteArray} {pc : Nat} (h : DkAt code pc [177]) : decode code pc = .ok (.return_, 1) := dk_of ((dk_bind (dk_u1 (h 0 _ rfl))).trans rfl)
theorem dk_178 {code : ByteArray} {pc : Nat} (a b : UInt8) (h : DkAt code pc [178, a, b]) : decode code pc = .ok (.getstatic (a.toNat * 256 + b.toNat), 3) := dk_of ((dk_bind (dk_u1 (h 0 _ rfl))).trans ((dk_bind (dk_u2 (h 1 _ rfl) (h 2 _ rfl))).trans rfl))
theorem dk_180 {code : ByteArray} {pc : Nat} (a b : UInt8) (h : DkAt code pc [180, a, b]) : decode code pc = .ok (.getfield (a.toNat * 256 + b.toNat), 3) := dk_of ((dk_bind (dk_u1 (h 0 _ rfl))).trans ((dk_bind (dk_u2 (h 1 _ rfl) (h 2 _ rfl))).trans rfl))
theorem dk_181 {code : ByteArray} {pc : Nat} (a b : UInt8) (h : DkAt code pc [181, a, b]) : decode code pc = .ok (.putfield (a.toNat * 256 + b.toNat), 3) := dk_of ((dk_bind (dk_u1 (h 0 _ rfl))).trans ((dk_bind (dk_u2 (h 1 _ rfl) (h 2 _ rfl))).trans rfl))
theorem dk_182 {code : ByteArray} {pc : Nat} (a b : UInt8) (h : DkAt code pc [182, a, b]) : decode code pc = .ok (.invokevirtual (a.toNat * 256 + b.toNat), 3) := dk_of ((dk_bind (dk_u1 (h 0 _ rfl))).trans ((dk_bind (dk_u2 (h 1 _ rfl) (h 2 _ rfl))).trans rfl))
theorem dk_183 {code : ByteArray} {pc : Nat} (a b : UInt8) (h : DkAt code pc [183, a, b]) : decode code pc = .ok (.invokespecial (a.toNat * 256 + b.toNat), 3) := dk_of ((dk_bind (dk_u1 (h 0 _ rfl))).trans ((dk_bind (dk_u2 (h 1 _ rfl) (h 2 _ rfl))).trans rfl))
theorem dk_184 {code : ByteArray} {pc : Nat} (a b : UInt8) (h : DkAt code pc [184, a, b]) : decode code pc = .ok (.invokestatic (a.toNat * 256 + b.toNat), 3) := dk_of ((dk_bind (dk_u1 (h 0 _ rfl))).trans ((dk_bind (dk_u2 (h 1 _ rfl) (h 2 _ rfl))).trans rfl))
theorem dk_187 {code : ByteArray} {pc : Nat} (a b : UInt8) (h : DkAt code pc [187, a, b]) : decode code pc = .ok (.new (a.toNat * 256 + b.toNat), 3) := dk_of ((dk_bind (dk_u1 (h 0 _ rfl))).trans ((dk_bind (dk_u2 (h 1 _ rfl) (h 2 _ rfl))).trans rfl))
theorem dk_188_4 {code : ByteArray} {pc : Nat} (h : DkAt code pc [188, 4]) : decode code pc = .ok (.newarray .boolean, 2) := dk_of ((dk_bind (dk_u1 (h 0 _ rfl))).trans ((dk_bind (dk_u1 (h 1 _ rfl))).trans rfl))
theorem dk_188_8 {code : ByteArray} {pc : Nat} (h : DkAt code pc [188, 8]) : decode code pc = .ok (.newarray .byte, 2) := dk_of ((dk_bind (dk_u1 (h 0 _ rfl))).trans ((dk_bind (dk_u1 (h 1 _ rfl))).trans rfl))
theorem dk_188_10 {code : ByteArray} {pc : Nat} (h : DkAt code pc [188, 10]) : decode code pc = .ok (.newarray .int, 2) := dk_of ((dk_bind (dk_u1 (h 0 _ rfl))).trans ((dk_bind (dk_u1 (h 1 _ rfl))).trans rfl))
theorem dk_189 {code : ByteArray} {pc : Nat} (a b : UInt8) (h : DkAt code pc [189, a, b]) : decode code pc = .ok (.anewarray (a.toNat * 256 + b.toNat), 3) := dk_of ((dk_bind (dk_u1 (h 0 _ rfl))).trans ((dk_bind (dk_u2 (h 1 _ rfl) (h 2 _ rfl))).trans rfl))
theorem dk_190 {code : ByteArray} {pc : Nat} (h : DkAt code pc [190]) : decode code pc = .ok (.arraylength, 1) := dk_of ((dk_bind (dk_u1 (h 0 _ rfl))).trans rfl)
theorem dk_191 {code : ByteArray} {pc : Nat} (h : DkAt code pc [191]) : decode code pc = .ok (.athrow, 1) := dk_of ((dk_bind (dk_u1 (h 0 _ rfl))).trans rfl)
/-! java/util/Arrays -/
set_option maxRecDepth 100000
def RJ0 : String := "java/util/Arrays"
abbrev cJ0_fill : ByteArray := prog_15_method_103_code
def yJ0_fill : MethodName := ⟨RJ0, "fill", "([II)V"⟩
def dkwJ0_fill_0 : List UInt8 := [3, 61, 42, 190, 62, 28, 29, 162, 0, 13, 42, 28, 27, 79, 132, 2, 1, 167, 255, 244, 177]
abbrev dktJ0_fill_0 : List UInt8 := dkwJ0_fill_0 ++ []
theorem dksJ0_fill_0 : cJ0_fill.data.toList.drop 0 = dktJ0_fill_0 := by decide +kernel
theorem dJ0_fill_0 : decode cJ0_fill 0 = .ok (.iconst 0, 1) := dk_3 (dk_at dksJ0_fill_0 0 rfl rfl)
theorem dJ0_fill_1 : decode cJ0_fill 1 = .ok (.istore_n 2, 1) := dk_61 (dk_at dksJ0_fill_0 1 rfl rfl)
theorem dJ0_fill_2 : decode cJ0_fill 2 = .ok (.aload_n 0, 1) := dk_42 (dk_at dksJ0_fill_0 2 rfl rfl)
theorem dJ0_fill_3 : decode cJ0_fill 3 = .ok (.arraylength, 1) := dk_190 (dk_at dksJ0_fill_0 3 rfl rfl)
theorem dJ0_fill_4 : decode cJ0_fill 4 = .ok (.istore_n 3, 1) := dk_62 (dk_at dksJ0_fill_0 4 rfl rfl)
theorem dJ0_fill_5 : decode cJ0_fill 5 = .ok (.iload_n 2, 1) := dk_28 (dk_at dksJ0_fill_0 5 rfl rfl)
theorem dJ0_fill_6 : decode cJ0_fill 6 = .ok (.iload_n 3, 1) := dk_29 (dk_at dksJ0_fill_0 6 rfl rfl)
theorem dJ0_fill_7 : decode cJ0_fill 7 = .ok (.if_icmp .ge 13, 3) := dk_162 0 13 (dk_at dksJ0_fill_0 7 rfl rfl)
theorem dJ0_fill_10 : decode cJ0_fill 10 = .ok (.aload_n 0, 1) := dk_42 (dk_at dksJ0_fill_0 10 rfl rfl)
theorem dJ0_fill_11 : decode cJ0_fill 11 = .ok (.iload_n 2, 1) := dk_28 (dk_at dksJ0_fill_0 11 rfl rfl)
theorem dJ0_fill_12 : decode cJ0_fill 12 = .ok (.iload_n 1, 1) := dk_27 (dk_at dksJ0_fill_0 12 rfl rfl)
theorem dJ0_fill_13 : decode cJ0_fill 13 = .ok (.iastore, 1) := dk_79 (dk_at dksJ0_fill_0 13 rfl rfl)
theorem dJ0_fill_14 : decode cJ0_fill 14 = .ok (.iinc 2 1, 3) := dk_132 2 1 (dk_at dksJ0_fill_0 14 rfl rfl)
theorem dJ0_fill_17 : decode cJ0_fill 17 = .ok (.goto (-12), 3) := dk_167 255 244 (dk_at dksJ0_fill_0 17 rfl rfl)
theorem dJ0_fill_20 : decode cJ0_fill 20 = .ok (.return_, 1) := dk_177 (dk_at dksJ0_fill_0 20 rfl rfl)
theorem q54 : (Jvm.Cond.initialized "java/util/Arrays") ∈ lw_all := lw_g (lw_at lw_m1 4 rfl) rfl
theorem q191 : (Jvm.Cond.static ({ cls := "java/util/Arrays", name := "fill", desc := "([II)V" } : Jvm.MethodName)) ∈ lw_all := lw_g (lw_at lw_m1 141 rfl) rfl
theorem q192 : (Jvm.Cond.code ({ cls := "java/util/Arrays", name := "fill", desc := "([II)V" } : Jvm.MethodName) prog_15_method_103_code (4 : Nat) (Option.none : Option Jvm.ClassFile.FieldType)) ∈ lw_all := lw_g (lw_at lw_m1 142 rfl) rfl
/-! java/lang/Throwable -/
set_option maxRecDepth 100000
def RJ1 : String := "java/lang/Throwable"
def TJ1 : u_T := fun k => match k with
  | 0 => ("java/lang/Throwable", "cause", "Ljava/lang/Throwable;", false)
  | 1 => ("java/lang/Throwable", "stackTrace", "[Ljava/lang/StackTraceElement;", false)
  | 2 => ("java/lang/Throwable", "suppressedExceptions", "Ljava/util/List;", false)
  | 3 => ("java/lang/Throwable", "detailMessage", "Ljava/lang/String;", false)
  | _ => ("java/lang/Throwable", "backtrace", "Ljava/lang/Object;", false)
def tyJ1 : Nat → FieldType := fun k => match k with
  | 0 => .object "java/lang/Throwable"
  | 1 => .array (.object "java/lang/StackTraceElement")
  | 2 => .object "java/util/List"
  | 3 => .object "java/lang/String"
  | _ => .object "java/lang/Object"
abbrev wsJ10 : List Cond := u_ws RJ1 TJ1 5
theorem nmJ1 : ∀ a, a < 5 → ∀ b, b < 5 → a ≠ b → (TJ1 a).2.1 ≠ (TJ1 b).2.1 := by decide +kernel
theorem tyJ1_ok : ∀ k, k < 5 → parseFieldDescriptor (TJ1 k).2.2.1 = some (tyJ1 k) := by decide +kernel
abbrev cJ1_init : ByteArray := prog_14_method_1_code
def yJ1_init : MethodName := ⟨RJ1, "<init>", "()V"⟩
def dkwJ1_init_1 : List UInt8 := [182, 0, 27, 87, 177]
abbrev dktJ1_init_1 : List UInt8 := dkwJ1_init_1 ++ []
def dkwJ1_init_0 : List UInt8 := [42, 183, 0, 1, 42, 42, 181, 0, 7, 42, 178, 0, 13, 181, 0, 17, 42, 178, 0, 20, 181, 0, 24, 42]
abbrev dktJ1_init_0 : List UInt8 := dkwJ1_init_0 ++ dktJ1_init_1
theorem dksJ1_init_0 : cJ1_init.data.toList.drop 0 = dktJ1_init_0 := by decide +kernel
theorem dksJ1_init_1 : cJ1_init.data.toList.drop 24 = dktJ1_init_1 := dk_seg dksJ1_init_0 24 rfl rfl
theorem dJ1_init_0 : decode cJ1_init 0 = .ok (.aload_n 0, 1) := dk_42 (dk_at dksJ1_init_0 0 rfl rfl)
theorem dJ1_init_1 : decode cJ1_init 1 = .ok (.invokespecial 1, 3) := dk_183 0 1 (dk_at dksJ1_init_0 1 rfl rfl)
theorem dJ1_init_4 : decode cJ1_init 4 = .ok (.aload_n 0, 1) := dk_42 (dk_at dksJ1_init_0 4 rfl rfl)
theorem dJ1_init_5 : decode cJ1_init 5 = .ok (.aload_n 0, 1) := dk_42 (dk_at dksJ1_init_0 5 rfl rfl)
theorem dJ1_init_6 : decode cJ1_init 6 = .ok (.putfield 7, 3) := dk_181 0 7 (dk_at dksJ1_init_0 6 rfl rfl)
theorem dJ1_init_9 : decode cJ1_init 9 = .ok (.aload_n 0, 1) := dk_42 (dk_at dksJ1_init_0 9 rfl rfl)
theorem dJ1_init_10 : decode cJ1_init 10 = .ok (.getstatic 13, 3) := dk_178 0 13 (dk_at dksJ1_init_0 10 rfl rfl)
theorem dJ1_init_13 : decode cJ1_init 13 = .ok (.putfield 17, 3) := dk_181 0 17 (dk_at dksJ1_init_0 13 rfl rfl)
theorem dJ1_init_16 : decode cJ1_init 16 = .ok (.aload_n 0, 1) := dk_42 (dk_at dksJ1_init_0 16 rfl rfl)
theorem dJ1_init_17 : decode cJ1_init 17 = .ok (.getstatic 20, 3) := dk_178 0 20 (dk_at dksJ1_init_0 17 rfl rfl)
theorem dJ1_init_20 : decode cJ1_init 20 = .ok (.putfield 24, 3) := dk_181 0 24 (dk_at dksJ1_init_0 20 rfl rfl)
theorem dJ1_init_23 : decode cJ1_init 23 = .ok (.aload_n 0, 1) := dk_42 (dk_at dksJ1_init_0 23 rfl rfl)
theorem dJ1_init_24 : decode cJ1_init 24 = .ok (.invokevirtual 27, 3) := dk_182 0 27 (dk_at dksJ1_init_1 0 rfl rfl)
theorem dJ1_init_27 : decode cJ1_init 27 = .ok (.pop, 1) := dk_87 (dk_at dksJ1_init_1 3 rfl rfl)
theorem dJ1_init_28 : decode cJ1_init 28 = .ok (.return_, 1) := dk_177 (dk_at dksJ1_init_1 4 rfl rfl)
abbrev cJ1_init_2 : ByteArray := prog_14_method_5_code
def yJ1_init_2 : MethodName := ⟨RJ1, "<init>", "(Ljava/lang/String;Ljava/lang/Throwable;ZZ)V"⟩
def dkwJ1_init_2_2 : List UInt8 := [44, 181, 0, 7, 29, 154, 0, 8, 42, 1, 181, 0, 24, 177]
abbrev dktJ1_init_2_2 : List UInt8 := dkwJ1_init_2_2 ++ []
def dkwJ1_init_2_1 : List UInt8 := [21, 4, 153, 0, 11, 42, 182, 0, 27, 87, 167, 0, 8, 42, 1, 181, 0, 17, 42, 43, 181, 0, 31, 42]
abbrev dktJ1_init_2_1 : List UInt8 := dkwJ1_init_2_1 ++ dktJ1_init_2_2
def dkwJ1_init_2_0 : List UInt8 := [42, 183, 0, 1, 42, 42, 181, 0, 7, 42, 178, 0, 13, 181, 0, 17, 42, 178, 0, 20, 181, 0, 24]
abbrev dktJ1_init_2_0 : List UInt8 := dkwJ1_init_2_0 ++ dktJ1_init_2_1
theorem dksJ1_init_2_0 : cJ1_init_2.data.toList.drop 0 = dktJ1_init_2_0 := by decide +kernel
theorem dksJ1_init_2_1 : cJ1_init_2.data.toList.drop 23 = dktJ1_init_2_1 := dk_seg dksJ1_init_2_0 23 rfl rfl
theorem dksJ1_init_2_2 : cJ1_init_2.data.toList.drop 47 = dktJ1_init_2_2 := dk_seg dksJ1_init_2_1 24 rfl rfl
theorem dJ1_init_2_0 : decode cJ1_init_2 0 = .ok (.aload_n 0, 1) := dk_42 (dk_at dksJ1_init_2_0 0 rfl rfl)
theorem dJ1_init_2_1 : decode cJ1_init_2 1 = .ok (.invokespecial 1, 3) := dk_183 0 1 (dk_at dksJ1_init_2_0 1 rfl rfl)
theorem dJ1_init_2_4 : decode cJ1_init_2 4 = .ok (.aload_n 0, 1) := dk_42 (dk_at dksJ1_init_2_0 4 rfl rfl)
theorem dJ1_init_2_5 : decode cJ1_init_2 5 = .ok (.aload_n 0, 1) := dk_42 (dk_at dksJ1_init_2_0 5 rfl rfl)
theorem dJ1_init_2_6 : decode cJ1_init_2 6 = .ok (.putfield 7, 3) := dk_181 0 7 (dk_at dksJ1_init_2_0 6 rfl rfl)
theorem dJ1_init_2_9 : decode cJ1_init_2 9 = .ok (.aload_n 0, 1) := dk_42 (dk_at dksJ1_init_2_0 9 rfl rfl)
theorem dJ1_init_2_10 : decode cJ1_init_2 10 = .ok (.getstatic 13, 3) := dk_178 0 13 (dk_at dksJ1_init_2_0 10 rfl rfl)
theorem dJ1_init_2_13 : decode cJ1_init_2 13 = .ok (.putfield 17, 3) := dk_181 0 17 (dk_at dksJ1_init_2_0 13 rfl rfl)
theorem dJ1_init_2_16 : decode cJ1_init_2 16 = .ok (.aload_n 0, 1) := dk_42 (dk_at dksJ1_init_2_0 16 rfl rfl)
theorem dJ1_init_2_17 : decode cJ1_init_2 17 = .ok (.getstatic 20, 3) := dk_178 0 20 (dk_at dksJ1_init_2_0 17 rfl rfl)
theorem dJ1_init_2_20 : decode cJ1_init_2 20 = .ok (.putfield 24, 3) := dk_181 0 24 (dk_at dksJ1_init_2_0 20 rfl rfl)
theorem dJ1_init_2_23 : decode cJ1_init_2 23 = .ok (.iload 4, 2) := dk_21 4 (dk_at dksJ1_init_2_1 0 rfl rfl)
theorem dJ1_init_2_25 : decode cJ1_init_2 25 = .ok (.ifCond .eq 11, 3) := dk_153 0 11 (dk_at dksJ1_init_2_1 2 rfl rfl)
theorem dJ1_init_2_28 : decode cJ1_init_2 28 = .ok (.aload_n 0, 1) := dk_42 (dk_at dksJ1_init_2_1 5 rfl rfl)
theorem dJ1_init_2_29 : decode cJ1_init_2 29 = .ok (.invokevirtual 27, 3) := dk_182 0 27 (dk_at dksJ1_init_2_1 6 rfl rfl)
theorem dJ1_init_2_32 : decode cJ1_init_2 32 = .ok (.pop, 1) := dk_87 (dk_at dksJ1_init_2_1 9 rfl rfl)
theorem dJ1_init_2_33 : decode cJ1_init_2 33 = .ok (.goto 8, 3) := dk_167 0 8 (dk_at dksJ1_init_2_1 10 rfl rfl)
theorem dJ1_init_2_36 : decode cJ1_init_2 36 = .ok (.aload_n 0, 1) := dk_42 (dk_at dksJ1_init_2_1 13 rfl rfl)
theorem dJ1_init_2_37 : decode cJ1_init_2 37 = .ok (.aconst_null, 1) := dk_1 (dk_at dksJ1_init_2_1 14 rfl rfl)
theorem dJ1_init_2_38 : decode cJ1_init_2 38 = .ok (.putfield 17, 3) := dk_181 0 17 (dk_at dksJ1_init_2_1 15 rfl rfl)
theorem dJ1_init_2_41 : decode cJ1_init_2 41 = .ok (.aload_n 0, 1) := dk_42 (dk_at dksJ1_init_2_1 18 rfl rfl)
theorem dJ1_init_2_42 : decode cJ1_init_2 42 = .ok (.aload_n 1, 1) := dk_43 (dk_at dksJ1_init_2_1 19 rfl rfl)
theorem dJ1_init_2_43 : decode cJ1_init_2 43 = .ok (.putfield 31, 3) := dk_181 0 31 (dk_at dksJ1_init_2_1 20 rfl rfl)
theorem dJ1_init_2_46 : decode cJ1_init_2 46 = .ok (.aload_n 0, 1) := dk_42 (dk_at dksJ1_init_2_1 23 rfl rfl)
theorem dJ1_init_2_47 : decode cJ1_init_2 47 = .ok (.aload_n 2, 1) := dk_44 (dk_at dksJ1_init_2_2 0 rfl rfl)
theorem dJ1_init_2_48 : decode cJ1_init_2 48 = .ok (.putfield 7, 3) := dk_181 0 7 (dk_at dksJ1_init_2_2 1 rfl rfl)
theorem dJ1_init_2_51 : decode cJ1_init_2 51 = .ok (.iload_n 3, 1) := dk_29 (dk_at dksJ1_init_2_2 4 rfl rfl)
theorem dJ1_init_2_52 : decode cJ1_init_2 52 = .ok (.ifCond .ne 8, 3) := dk_154 0 8 (dk_at dksJ1_init_2_2 5 rfl rfl)
theorem dJ1_init_2_55 : decode cJ1_init_2 55 = .ok (.aload_n 0, 1) := dk_42 (dk_at dksJ1_init_2_2 8 rfl rfl)
theorem dJ1_init_2_56 : decode cJ1_init_2 56 = .ok (.aconst_null, 1) := dk_1 (dk_at dksJ1_init_2_2 9 rfl rfl)
theorem dJ1_init_2_57 : decode cJ1_init_2 57 = .ok (.putfield 24, 3) := dk_181 0 24 (dk_at dksJ1_init_2_2 10 rfl rfl)
theorem dJ1_init_2_60 : decode cJ1_init_2 60 = .ok (.return_, 1) := dk_177 (dk_at dksJ1_init_2_2 13 rfl rfl)
theorem q57 : (Jvm.Cond.initialized "java/lang/Throwable") ∈ lw_all := lw_g (lw_at lw_m1 7 rfl) rfl
theorem q323 : (Jvm.Cond.declares ({ cls := "java/lang/Throwable", name := "<init>", desc := "()V" } : Jvm.MethodName)) ∈ lw_tbl := lw_at lw_m2 33 rfl
theorem q324 : (Jvm.Cond.declares ({ cls := "java/lang/Throwable", name := "<init>", desc := "(Ljava/lang/String;)V" } : Jvm.MethodName)) ∈ lw_tbl := lw_at lw_m2 34 rfl
theorem q328 : (Jvm.Cond.lays "java/lang/Throwable" "java/lang/Throwable" "cause" "Ljava/lang/Throwable;") ∈ lw_all := lw_g (lw_at lw_m2 38 rfl) rfl
theorem q330 : (Jvm.Cond.lays "java/lang/Throwable" "java/lang/Throwable" "stackTrace" "[Ljava/lang/StackTraceElement;") ∈ lw_all := lw_g (lw_at lw_m2 40 rfl) rfl
theorem q332 : (Jvm.Cond.lays "java/lang/Throwable" "java/lang/Throwable" "suppressedExceptions" "Ljava/util/List;") ∈ lw_all := lw_g (lw_at lw_m2 42 rfl) rfl
theorem q334 : (Jvm.Cond.lays "java/lang/Throwable" "java/lang/Throwable" "detailMessage" "Ljava/lang/String;") ∈ lw_all := lw_g (lw_at lw_m2 44 rfl) rfl
theorem q336 : (Jvm.Cond.lays "java/lang/Throwable" "java/lang/Throwable" "backtrace" "Ljava/lang/Object;") ∈ lw_all := lw_g (lw_at lw_m2 46 rfl) rfl
theorem q337 : (Jvm.Cond.fieldLink "java/lang/Throwable" (198 : Nat) "java/lang/Throwable" "backtrace" "Ljava/lang/Object;") ∈ lw_all := lw_g (lw_at lw_m2 47 rfl) rfl
theorem q338 : (Jvm.Cond.superclass "java/lang/Throwable" "java/lang/Object") ∈ lw_all := lw_g (lw_at lw_m2 48 rfl) rfl
theorem q339 : (Jvm.Cond.instanceMethod ({ cls := "java/lang/Throwable", name := "<init>", desc := "()V" } : Jvm.MethodName)) ∈ lw_all := lw_g (lw_at lw_m2 49 rfl) rfl
theorem q340 : (Jvm.Cond.code ({ cls := "java/lang/Throwable", name := "<init>", desc := "()V" } : Jvm.MethodName) prog_14_method_1_code (1 : Nat) (Option.none : Option Jvm.ClassFile.FieldType)) ∈ lw_all := lw_g (lw_at lw_m2 50 rfl) rfl
theorem q341 : (Jvm.Cond.methodLink "java/lang/Throwable" (1 : Nat) ({ cls := "java/lang/Object", name := "<init>", desc := "()V" } : Jvm.MethodName)) ∈ lw_all := lw_g (lw_at lw_m2 51 rfl) rfl
theorem q342 : (Jvm.Cond.fieldLink "java/lang/Throwable" (13 : Nat) "java/lang/Throwable" "UNASSIGNED_STACK" "[Ljava/lang/StackTraceElement;") ∈ lw_all := lw_g (lw_at lw_m2 52 rfl) rfl
theorem q343 : (Jvm.Cond.laysStatic "java/lang/Throwable" "UNASSIGNED_STACK" "[Ljava/lang/StackTraceElement;") ∈ lw_tbl := lw_at lw_m2 53 rfl
theorem q344 : (Jvm.Cond.fieldLink "java/lang/Throwable" (20 : Nat) "java/lang/Throwable" "SUPPRESSED_SENTINEL" "Ljava/util/List;") ∈ lw_all := lw_g (lw_at lw_m2 54 rfl) rfl
theorem q345 : (Jvm.Cond.laysStatic "java/lang/Throwable" "SUPPRESSED_SENTINEL" "Ljava/util/List;") ∈ lw_tbl := lw_at lw_m2 55 rfl
theorem q346 : (Jvm.Cond.methodLink "java/lang/Throwable" (27 : Nat) ({ cls := "java/lang/Throwable", name := "fillInStackTrace", desc := "()Ljava/lang/Throwable;" } : Jvm.MethodName)) ∈ lw_all := lw_g (lw_at lw_m2 56 rfl) rfl
theorem q347 : (Jvm.Cond.instanceMethod ({ cls := "java/lang/Throwable", name := "fillInStackTrace", desc := "()Ljava/lang/Throwable;" } : Jvm.MethodName)) ∈ lw_all := lw_g (lw_at lw_m2 57 rfl) rfl
theorem q348 : (Jvm.Cond.sameMethod "java/lang/Throwable" "java/lang/Throwable" "fillInStackTrace" "()Ljava/lang/Throwable;") ∈ lw_all := lw_g (lw_at lw_m2 58 rfl) rfl
theorem q349 : (Jvm.Cond.codeSync ({ cls := "java/lang/Throwable", name := "fillInStackTrace", desc := "()Ljava/lang/Throwable;" } : Jvm.MethodName) prog_14_method_18_code (1 : Nat) (Option.some (Jvm.ClassFile.FieldType.object "java/lang/Throwable"))) ∈ lw_all := lw_g (lw_at lw_m2 59 rfl) rfl
theorem q350 : (Jvm.Cond.methodLink "java/lang/Throwable" (202 : Nat) ({ cls := "java/lang/Throwable", name := "fillInStackTrace", desc := "(I)Ljava/lang/Throwable;" } : Jvm.MethodName)) ∈ lw_all := lw_g (lw_at lw_m2 60 rfl) rfl
theorem q351 : (Jvm.Cond.privateMethod ({ cls := "java/lang/Throwable", name := "fillInStackTrace", desc := "(I)Ljava/lang/Throwable;" } : Jvm.MethodName)) ∈ lw_tbl := lw_at lw_m2 61 rfl
theorem q352 : (Jvm.Cond.instanceMethod ({ cls := "java/lang/Throwable", name := "fillInStackTrace", desc := "(I)Ljava/lang/Throwable;" } : Jvm.MethodName)) ∈ lw_all := lw_g (lw_at lw_m2 62 rfl) rfl
theorem q353 : (Jvm.Cond.instantiable "java/lang/Throwable" (6 : Nat)) ∈ lw_all := lw_g (lw_at lw_m2 63 rfl) rfl
theorem q354 : (Jvm.Cond.native ({ cls := "java/lang/Throwable", name := "fillInStackTrace", desc := "(I)Ljava/lang/Throwable;" } : Jvm.MethodName)) ∈ lw_all := lw_g (lw_at lw_m2 64 rfl) rfl
theorem q362 : (Jvm.Cond.instanceMethod ({ cls := "java/lang/Throwable", name := "<init>", desc := "(Ljava/lang/String;Ljava/lang/Throwable;ZZ)V" } : Jvm.MethodName)) ∈ lw_all := lw_g (lw_at lw_m2 72 rfl) rfl
theorem q363 : (Jvm.Cond.code ({ cls := "java/lang/Throwable", name := "<init>", desc := "(Ljava/lang/String;Ljava/lang/Throwable;ZZ)V" } : Jvm.MethodName) prog_14_method_5_code (5 : Nat) (Option.none : Option Jvm.ClassFile.FieldType)) ∈ lw_all := lw_g (lw_at lw_m2 73 rfl) rfl
theorem q368 : (Jvm.Cond.fieldLink "java/lang/Throwable" (198 : Nat) "java/lang/Throwable" "backtrace" "Ljava/lang/Object;") ∈ lw_all := lw_g (lw_at lw_m2 78 rfl) rfl
theorem q369 : (Jvm.Cond.fieldLink "java/lang/Throwable" (31 : Nat) "java/lang/Throwable" "detailMessage" "Ljava/lang/String;") ∈ lw_all := lw_g (lw_at lw_m2 79 rfl) rfl
theorem q370 : (Jvm.Cond.fieldLink "java/lang/Throwable" (7 : Nat) "java/lang/Throwable" "cause" "Ljava/lang/Throwable;") ∈ lw_all := lw_g (lw_at lw_m2 80 rfl) rfl
theorem q371 : (Jvm.Cond.fieldLink "java/lang/Throwable" (17 : Nat) "java/lang/Throwable" "stackTrace" "[Ljava/lang/StackTraceElement;") ∈ lw_all := lw_g (lw_at lw_m2 81 rfl) rfl
theorem q372 : (Jvm.Cond.fieldLink "java/lang/Throwable" (24 : Nat) "java/lang/Throwable" "suppressedExceptions" "Ljava/util/List;") ∈ lw_all := lw_g (lw_at lw_m2 82 rfl) rfl
theorem q377 : (Jvm.Cond.soleField "java/lang/Throwable" "backtrace") ∈ lw_all := lw_g (lw_at lw_m2 87 rfl) rfl
theorem q378 : (Jvm.Cond.soleField "java/lang/Throwable" "detailMessage") ∈ lw_all := lw_g (lw_at lw_m2 88 rfl) rfl
theorem q379 : (Jvm.Cond.soleField "java/lang/Throwable" "cause") ∈ lw_all := lw_g (lw_at lw_m2 89 rfl) rfl
theorem q380 : (Jvm.Cond.soleField "java/lang/Throwable" "stackTrace") ∈ lw_all := lw_g (lw_at lw_m2 90 rfl) rfl
theorem q382 : (Jvm.Cond.soleField "java/lang/Throwable" "depth") ∈ lw_all := lw_g (lw_at lw_m2 92 rfl) rfl
theorem q383 : (Jvm.Cond.soleField "java/lang/Throwable" "suppressedExceptions") ∈ lw_all := lw_g (lw_at lw_m2 93 rfl) rfl
theorem q1129 : (Jvm.Cond.sameMethod "java/lang/Throwable" "java/lang/Throwable" "fillInStackTrace" "(I)Ljava/lang/Throwable;") ∈ lw_all := lw_g (lw_at lw_m5 119 rfl) rfl
theorem in_J1 : ∀ w ∈ wsJ10, w ∈ lw_all := lw_in wsJ10 [328, 330, 332, 334, 336] (by decide +kernel) (by decide +kernel)
/-! java/lang/Exception -/
set_option maxRecDepth 100000
def RJ2 : String := "java/lang/Exception"
abbrev cJ2_init : ByteArray := prog_10_method_5_code
def yJ2_init : MethodName := ⟨RJ2, "<init>", "(Ljava/lang/String;Ljava/lang/Throwable;ZZ)V"⟩
def dkwJ2_init_0 : List UInt8 := [42, 43, 44, 29, 21, 4, 183, 0, 16, 177]
abbrev dktJ2_init_0 : List UInt8 := dkwJ2_init_0 ++ []
theorem dksJ2_init_0 : cJ2_init.data.toList.drop 0 = dktJ2_init_0 := by decide +kernel
theorem dJ2_init_0 : decode cJ2_init 0 = .ok (.aload_n 0, 1) := dk_42 (dk_at dksJ2_init_0 0 rfl rfl)
theorem dJ2_init_1 : decode cJ2_init 1 = .ok (.aload_n 1, 1) := dk_43 (dk_at dksJ2_init_0 1 rfl rfl)
theorem dJ2_init_2 : decode cJ2_init 2 = .ok (.aload_n 2, 1) := dk_44 (dk_at dksJ2_init_0 2 rfl rfl)
theorem dJ2_init_3 : decode cJ2_init 3 = .ok (.iload_n 3, 1) := dk_29 (dk_at dksJ2_init_0 3 rfl rfl)
theorem dJ2_init_4 : decode cJ2_init 4 = .ok (.iload 4, 2) := dk_21 4 (dk_at dksJ2_init_0 4 rfl rfl)
theorem dJ2_init_6 : decode cJ2_init 6 = .ok (.invokespecial 16, 3) := dk_183 0 16 (dk_at dksJ2_init_0 6 rfl rfl)
theorem dJ2_init_9 : decode cJ2_init 9 = .ok (.return_, 1) := dk_177 (dk_at dksJ2_init_0 9 rfl rfl)
theorem q58 : (Jvm.Cond.initialized "java/lang/Exception") ∈ lw_all := lw_g (lw_at lw_m1 8 rfl) rfl
theorem q321 : (Jvm.Cond.declares ({ cls := "java/lang/Exception", name := "<init>", desc := "()V" } : Jvm.MethodName)) ∈ lw_tbl := lw_at lw_m2 31 rfl
theorem q322 : (Jvm.Cond.declares ({ cls := "java/lang/Exception", name := "<init>", desc := "(Ljava/lang/String;)V" } : Jvm.MethodName)) ∈ lw_tbl := lw_at lw_m2 32 rfl
theorem q359 : (Jvm.Cond.instanceMethod ({ cls := "java/lang/Exception", name := "<init>", desc := "(Ljava/lang/String;Ljava/lang/Throwable;ZZ)V" } : Jvm.MethodName)) ∈ lw_all := lw_g (lw_at lw_m2 69 rfl) rfl
theorem q360 : (Jvm.Cond.code ({ cls := "java/lang/Exception", name := "<init>", desc := "(Ljava/lang/String;Ljava/lang/Throwable;ZZ)V" } : Jvm.MethodName) prog_10_method_5_code (5 : Nat) (Option.none : Option Jvm.ClassFile.FieldType)) ∈ lw_all := lw_g (lw_at lw_m2 70 rfl) rfl
theorem q361 : (Jvm.Cond.methodLink "java/lang/Exception" (16 : Nat) ({ cls := "java/lang/Throwable", name := "<init>", desc := "(Ljava/lang/String;Ljava/lang/Throwable;ZZ)V" } : Jvm.MethodName)) ∈ lw_all := lw_g (lw_at lw_m2 71 rfl) rfl
/-! java/lang/Math -/
set_option maxRecDepth 100000
def RJ3 : String := "java/lang/Math"
abbrev cJ3_min : ByteArray := prog_12_method_69_code
def yJ3_min : MethodName := ⟨RJ3, "min", "(II)I"⟩
def dkwJ3_min_0 : List UInt8 := [26, 27, 163, 0, 7, 26, 167, 0, 4, 27, 172]
abbrev dktJ3_min_0 : List UInt8 := dkwJ3_min_0 ++ []
theorem dksJ3_min_0 : cJ3_min.data.toList.drop 0 = dktJ3_min_0 := by decide +kernel
theorem dJ3_min_0 : decode cJ3_min 0 = .ok (.iload_n 0, 1) := dk_26 (dk_at dksJ3_min_0 0 rfl rfl)
theorem dJ3_min_1 : decode cJ3_min 1 = .ok (.iload_n 1, 1) := dk_27 (dk_at dksJ3_min_0 1 rfl rfl)
theorem dJ3_min_2 : decode cJ3_min 2 = .ok (.if_icmp .gt 7, 3) := dk_163 0 7 (dk_at dksJ3_min_0 2 rfl rfl)
theorem dJ3_min_5 : decode cJ3_min 5 = .ok (.iload_n 0, 1) := dk_26 (dk_at dksJ3_min_0 5 rfl rfl)
theorem dJ3_min_6 : decode cJ3_min 6 = .ok (.goto 4, 3) := dk_167 0 4 (dk_at dksJ3_min_0 6 rfl rfl)
theorem dJ3_min_9 : decode cJ3_min 9 = .ok (.iload_n 1, 1) := dk_27 (dk_at dksJ3_min_0 9 rfl rfl)
theorem dJ3_min_10 : decode cJ3_min 10 = .ok (.ireturn, 1) := dk_172 (dk_at dksJ3_min_0 10 rfl rfl)
abbrev cJ3_max : ByteArray := prog_12_method_65_code
def yJ3_max : MethodName := ⟨RJ3, "max", "(II)I"⟩
def dkwJ3_max_0 : List UInt8 := [26, 27, 161, 0, 7, 26, 167, 0, 4, 27, 172]
abbrev dktJ3_max_0 : List UInt8 := dkwJ3_max_0 ++ []
theorem dksJ3_max_0 : cJ3_max.data.toList.drop 0 = dktJ3_max_0 := by decide +kernel
theorem dJ3_max_0 : decode cJ3_max 0 = .ok (.iload_n 0, 1) := dk_26 (dk_at dksJ3_max_0 0 rfl rfl)
theorem dJ3_max_1 : decode cJ3_max 1 = .ok (.iload_n 1, 1) := dk_27 (dk_at dksJ3_max_0 1 rfl rfl)
theorem dJ3_max_2 : decode cJ3_max 2 = .ok (.if_icmp .lt 7, 3) := dk_161 0 7 (dk_at dksJ3_max_0 2 rfl rfl)
theorem dJ3_max_5 : decode cJ3_max 5 = .ok (.iload_n 0, 1) := dk_26 (dk_at dksJ3_max_0 5 rfl rfl)
theorem dJ3_max_6 : decode cJ3_max 6 = .ok (.goto 4, 3) := dk_167 0 4 (dk_at dksJ3_max_0 6 rfl rfl)
theorem dJ3_max_9 : decode cJ3_max 9 = .ok (.iload_n 1, 1) := dk_27 (dk_at dksJ3_max_0 9 rfl rfl)
theorem dJ3_max_10 : decode cJ3_max 10 = .ok (.ireturn, 1) := dk_172 (dk_at dksJ3_max_0 10 rfl rfl)
abbrev cJ3_abs : ByteArray := prog_12_method_59_code
def yJ3_abs : MethodName := ⟨RJ3, "abs", "(I)I"⟩
def dkwJ3_abs_0 : List UInt8 := [26, 156, 0, 8, 26, 116, 167, 0, 4, 26, 172]
abbrev dktJ3_abs_0 : List UInt8 := dkwJ3_abs_0 ++ []
theorem dksJ3_abs_0 : cJ3_abs.data.toList.drop 0 = dktJ3_abs_0 := by decide +kernel
theorem dJ3_abs_0 : decode cJ3_abs 0 = .ok (.iload_n 0, 1) := dk_26 (dk_at dksJ3_abs_0 0 rfl rfl)
theorem dJ3_abs_1 : decode cJ3_abs 1 = .ok (.ifCond .ge 8, 3) := dk_156 0 8 (dk_at dksJ3_abs_0 1 rfl rfl)
theorem dJ3_abs_4 : decode cJ3_abs 4 = .ok (.iload_n 0, 1) := dk_26 (dk_at dksJ3_abs_0 4 rfl rfl)
theorem dJ3_abs_5 : decode cJ3_abs 5 = .ok (.ineg, 1) := dk_116 (dk_at dksJ3_abs_0 5 rfl rfl)
theorem dJ3_abs_6 : decode cJ3_abs 6 = .ok (.goto 4, 3) := dk_167 0 4 (dk_at dksJ3_abs_0 6 rfl rfl)
theorem dJ3_abs_9 : decode cJ3_abs 9 = .ok (.iload_n 0, 1) := dk_26 (dk_at dksJ3_abs_0 9 rfl rfl)
theorem dJ3_abs_10 : decode cJ3_abs 10 = .ok (.ireturn, 1) := dk_172 (dk_at dksJ3_abs_0 10 rfl rfl)
theorem q61 : (Jvm.Cond.initialized "java/lang/Math") ∈ lw_all := lw_g (lw_at lw_m1 11 rfl) rfl
theorem q397 : (Jvm.Cond.static ({ cls := "java/lang/Math", name := "min", desc := "(II)I" } : Jvm.MethodName)) ∈ lw_all := lw_g (lw_at lw_m2 107 rfl) rfl
theorem q398 : (Jvm.Cond.code ({ cls := "java/lang/Math", name := "min", desc := "(II)I" } : Jvm.MethodName) prog_12_method_69_code (2 : Nat) (Option.some Jvm.ClassFile.FieldType.int)) ∈ lw_all := lw_g (lw_at lw_m2 108 rfl) rfl
theorem q468 : (Jvm.Cond.static ({ cls := "java/lang/Math", name := "max", desc := "(II)I" } : Jvm.MethodName)) ∈ lw_all := lw_g (lw_at lw_m2 178 rfl) rfl
theorem q469 : (Jvm.Cond.code ({ cls := "java/lang/Math", name := "max", desc := "(II)I" } : Jvm.MethodName) prog_12_method_65_code (2 : Nat) (Option.some Jvm.ClassFile.FieldType.int)) ∈ lw_all := lw_g (lw_at lw_m2 179 rfl) rfl
theorem q612 : (Jvm.Cond.static ({ cls := "java/lang/Math", name := "abs", desc := "(I)I" } : Jvm.MethodName)) ∈ lw_all := lw_g (lw_at lw_m3 82 rfl) rfl
theorem q613 : (Jvm.Cond.code ({ cls := "java/lang/Math", name := "abs", desc := "(I)I" } : Jvm.MethodName) prog_12_method_59_code (1 : Nat) (Option.some Jvm.ClassFile.FieldType.int)) ∈ lw_all := lw_g (lw_at lw_m3 83 rfl) rfl
/-! java/lang/Integer -/
set_option maxRecDepth 100000
def RJ4 : String := "java/lang/Integer"
abbrev cJ4_bitCount : ByteArray := prog_11_method_49_code
def yJ4_bitCount : MethodName := ⟨RJ4, "bitCount", "(I)I"⟩
def dkwJ4_bitCount_2 : List UInt8 := [26, 16, 63, 126, 172]
abbrev dktJ4_bitCount_2 : List UInt8 := dkwJ4_bitCount_2 ++ []
def dkwJ4_bitCount_1 : List UInt8 := [26, 26, 7, 124, 96, 19, 1, 11, 126, 59, 26, 26, 16, 8, 124, 96, 59, 26, 26, 16, 16, 124, 96, 59]
abbrev dktJ4_bitCount_1 : List UInt8 := dkwJ4_bitCount_1 ++ dktJ4_bitCount_2
def dkwJ4_bitCount_0 : List UInt8 := [26, 26, 4, 124, 19, 1, 9, 126, 100, 59, 26, 19, 1, 10, 126, 26, 5, 124, 19, 1, 10, 126, 96, 59]
abbrev dktJ4_bitCount_0 : List UInt8 := dkwJ4_bitCount_0 ++ dktJ4_bitCount_1
theorem dksJ4_bitCount_0 : cJ4_bitCount.data.toList.drop 0 = dktJ4_bitCount_0 := by decide +kernel
theorem dksJ4_bitCount_1 : cJ4_bitCount.data.toList.drop 24 = dktJ4_bitCount_1 := dk_seg dksJ4_bitCount_0 24 rfl rfl
theorem dksJ4_bitCount_2 : cJ4_bitCount.data.toList.drop 48 = dktJ4_bitCount_2 := dk_seg dksJ4_bitCount_1 24 rfl rfl
theorem dJ4_bitCount_0 : decode cJ4_bitCount 0 = .ok (.iload_n 0, 1) := dk_26 (dk_at dksJ4_bitCount_0 0 rfl rfl)
theorem dJ4_bitCount_1 : decode cJ4_bitCount 1 = .ok (.iload_n 0, 1) := dk_26 (dk_at dksJ4_bitCount_0 1 rfl rfl)
theorem dJ4_bitCount_2 : decode cJ4_bitCount 2 = .ok (.iconst 1, 1) := dk_4 (dk_at dksJ4_bitCount_0 2 rfl rfl)
theorem dJ4_bitCount_3 : decode cJ4_bitCount 3 = .ok (.iushr, 1) := dk_124 (dk_at dksJ4_bitCount_0 3 rfl rfl)
theorem dJ4_bitCount_4 : decode cJ4_bitCount 4 = .ok (.ldc_w 265, 3) := dk_19 1 9 (dk_at dksJ4_bitCount_0 4 rfl rfl)
theorem dJ4_bitCount_7 : decode cJ4_bitCount 7 = .ok (.iand, 1) := dk_126 (dk_at dksJ4_bitCount_0 7 rfl rfl)
theorem dJ4_bitCount_8 : decode cJ4_bitCount 8 = .ok (.isub, 1) := dk_100 (dk_at dksJ4_bitCount_0 8 rfl rfl)
theorem dJ4_bitCount_9 : decode cJ4_bitCount 9 = .ok (.istore_n 0, 1) := dk_59 (dk_at dksJ4_bitCount_0 9 rfl rfl)
theorem dJ4_bitCount_10 : decode cJ4_bitCount 10 = .ok (.iload_n 0, 1) := dk_26 (dk_at dksJ4_bitCount_0 10 rfl rfl)
theorem dJ4_bitCount_11 : decode cJ4_bitCount 11 = .ok (.ldc_w 266, 3) := dk_19 1 10 (dk_at dksJ4_bitCount_0 11 rfl rfl)
theorem dJ4_bitCount_14 : decode cJ4_bitCount 14 = .ok (.iand, 1) := dk_126 (dk_at dksJ4_bitCount_0 14 rfl rfl)
theorem dJ4_bitCount_15 : decode cJ4_bitCount 15 = .ok (.iload_n 0, 1) := dk_26 (dk_at dksJ4_bitCount_0 15 rfl rfl)
theorem dJ4_bitCount_16 : decode cJ4_bitCount 16 = .ok (.iconst 2, 1) := dk_5 (dk_at dksJ4_bitCount_0 16 rfl rfl)
theorem dJ4_bitCount_17 : decode cJ4_bitCount 17 = .ok (.iushr, 1) := dk_124 (dk_at dksJ4_bitCount_0 17 rfl rfl)
theorem dJ4_bitCount_18 : decode cJ4_bitCount 18 = .ok (.ldc_w 266, 3) := dk_19 1 10 (dk_at dksJ4_bitCount_0 18 rfl rfl)
theorem dJ4_bitCount_21 : decode cJ4_bitCount 21 = .ok (.iand, 1) := dk_126 (dk_at dksJ4_bitCount_0 21 rfl rfl)
theorem dJ4_bitCount_22 : decode cJ4_bitCount 22 = .ok (.iadd, 1) := dk_96 (dk_at dksJ4_bitCount_0 22 rfl rfl)
theorem dJ4_bitCount_23 : decode cJ4_bitCount 23 = .ok (.istore_n 0, 1) := dk_59 (dk_at dksJ4_bitCount_0 23 rfl rfl)
theorem dJ4_bitCount_24 : decode cJ4_bitCount 24 = .ok (.iload_n 0, 1) := dk_26 (dk_at dksJ4_bitCount_1 0 rfl rfl)
theorem dJ4_bitCount_25 : decode cJ4_bitCount 25 = .ok (.iload_n 0, 1) := dk_26 (dk_at dksJ4_bitCount_1 1 rfl rfl)
theorem dJ4_bitCount_26 : decode cJ4_bitCount 26 = .ok (.iconst 4, 1) := dk_7 (dk_at dksJ4_bitCount_1 2 rfl rfl)
theorem dJ4_bitCount_27 : decode cJ4_bitCount 27 = .ok (.iushr, 1) := dk_124 (dk_at dksJ4_bitCount_1 3 rfl rfl)
theorem dJ4_bitCount_28 : decode cJ4_bitCount 28 = .ok (.iadd, 1) := dk_96 (dk_at dksJ4_bitCount_1 4 rfl rfl)
theorem dJ4_bitCount_29 : decode cJ4_bitCount 29 = .ok (.ldc_w 267, 3) := dk_19 1 11 (dk_at dksJ4_bitCount_1 5 rfl rfl)
theorem dJ4_bitCount_32 : decode cJ4_bitCount 32 = .ok (.iand, 1) := dk_126 (dk_at dksJ4_bitCount_1 8 rfl rfl)
theorem dJ4_bitCount_33 : decode cJ4_bitCount 33 = .ok (.istore_n 0, 1) := dk_59 (dk_at dksJ4_bitCount_1 9 rfl rfl)
theorem dJ4_bitCount_34 : decode cJ4_bitCount 34 = .ok (.iload_n 0, 1) := dk_26 (dk_at dksJ4_bitCount_1 10 rfl rfl)
theorem dJ4_bitCount_35 : decode cJ4_bitCount 35 = .ok (.iload_n 0, 1) := dk_26 (dk_at dksJ4_bitCount_1 11 rfl rfl)
theorem dJ4_bitCount_36 : decode cJ4_bitCount 36 = .ok (.bipush 8, 2) := dk_16 8 (dk_at dksJ4_bitCount_1 12 rfl rfl)
theorem dJ4_bitCount_38 : decode cJ4_bitCount 38 = .ok (.iushr, 1) := dk_124 (dk_at dksJ4_bitCount_1 14 rfl rfl)
theorem dJ4_bitCount_39 : decode cJ4_bitCount 39 = .ok (.iadd, 1) := dk_96 (dk_at dksJ4_bitCount_1 15 rfl rfl)
theorem dJ4_bitCount_40 : decode cJ4_bitCount 40 = .ok (.istore_n 0, 1) := dk_59 (dk_at dksJ4_bitCount_1 16 rfl rfl)
theorem dJ4_bitCount_41 : decode cJ4_bitCount 41 = .ok (.iload_n 0, 1) := dk_26 (dk_at dksJ4_bitCount_1 17 rfl rfl)
theorem dJ4_bitCount_42 : decode cJ4_bitCount 42 = .ok (.iload_n 0, 1) := dk_26 (dk_at dksJ4_bitCount_1 18 rfl rfl)
theorem dJ4_bitCount_43 : decode cJ4_bitCount 43 = .ok (.bipush 16, 2) := dk_16 16 (dk_at dksJ4_bitCount_1 19 rfl rfl)
theorem dJ4_bitCount_45 : decode cJ4_bitCount 45 = .ok (.iushr, 1) := dk_124 (dk_at dksJ4_bitCount_1 21 rfl rfl)
theorem dJ4_bitCount_46 : decode cJ4_bitCount 46 = .ok (.iadd, 1) := dk_96 (dk_at dksJ4_bitCount_1 22 rfl rfl)
theorem dJ4_bitCount_47 : decode cJ4_bitCount 47 = .ok (.istore_n 0, 1) := dk_59 (dk_at dksJ4_bitCount_1 23 rfl rfl)
theorem dJ4_bitCount_48 : decode cJ4_bitCount 48 = .ok (.iload_n 0, 1) := dk_26 (dk_at dksJ4_bitCount_2 0 rfl rfl)
theorem dJ4_bitCount_49 : decode cJ4_bitCount 49 = .ok (.bipush 63, 2) := dk_16 63 (dk_at dksJ4_bitCount_2 1 rfl rfl)
theorem dJ4_bitCount_51 : decode cJ4_bitCount 51 = .ok (.iand, 1) := dk_126 (dk_at dksJ4_bitCount_2 3 rfl rfl)
theorem dJ4_bitCount_52 : decode cJ4_bitCount 52 = .ok (.ireturn, 1) := dk_172 (dk_at dksJ4_bitCount_2 4 rfl rfl)
theorem q63 : (Jvm.Cond.initialized "java/lang/Integer") ∈ lw_all := lw_g (lw_at lw_m1 13 rfl) rfl
theorem q602 : (Jvm.Cond.static ({ cls := "java/lang/Integer", name := "bitCount", desc := "(I)I" } : Jvm.MethodName)) ∈ lw_all := lw_g (lw_at lw_m3 72 rfl) rfl
theorem q603 : (Jvm.Cond.code ({ cls := "java/lang/Integer", name := "bitCount", desc := "(I)I" } : Jvm.MethodName) prog_11_method_49_code (1 : Nat) (Option.some Jvm.ClassFile.FieldType.int)) ∈ lw_all := lw_g (lw_at lw_m3 73 rfl) rfl
theorem q604 : (Jvm.Cond.constant "java/lang/Integer" (265 : Nat) (1431655765 : Int32)) ∈ lw_all := lw_g (lw_at lw_m3 74 rfl) rfl
theorem q605 : (Jvm.Cond.constant "java/lang/Integer" (266 : Nat) (858993459 : Int32)) ∈ lw_all := lw_g (lw_at lw_m3 75 rfl) rfl
theorem q606 : (Jvm.Cond.constant "java/lang/Integer" (267 : Nat) (252645135 : Int32)) ∈ lw_all := lw_g (lw_at lw_m3 76 rfl) rfl
/-! java/lang/Object -/
set_option maxRecDepth 100000
def RJ5 : String := "java/lang/Object"
abbrev cJ5_init : ByteArray := object_method_1_code
def yJ5_init : MethodName := ⟨RJ5, "<init>", "()V"⟩
theorem dJ5_init_0 : decode cJ5_init 0 = .ok (.return_, 1) := by decide +kernel
theorem q70 : (Jvm.Cond.instanceMethod ({ cls := "java/lang/Object", name := "<init>", desc := "()V" } : Jvm.MethodName)) ∈ lw_all := lw_g (lw_at lw_m1 20 rfl) rfl
theorem q71 : (Jvm.Cond.code ({ cls := "java/lang/Object", name := "<init>", desc := "()V" } : Jvm.MethodName) object_method_1_code (1 : Nat) (Option.none : Option Jvm.ClassFile.FieldType)) ∈ lw_all := lw_g (lw_at lw_m1 21 rfl) rfl
theorem q50 : (Jvm.Cond.initialized "LimbMeasuresLaw") ∈ lw_all := lw_g (lw_at lw_m1 0 rfl) rfl
set_option maxRecDepth 100000
theorem q64 : (Jvm.Cond.classLink "LimbMeasuresLaw" (7 : Nat) "LimbMeasures") ∈ lw_all := lw_g (lw_at lw_m1 14 rfl) rfl
theorem q66 : (Jvm.Cond.methodLink "LimbMeasuresLaw" (9 : Nat) ({ cls := "LimbMeasures", name := "<init>", desc := "()V" } : Jvm.MethodName)) ∈ lw_all := lw_g (lw_at lw_m1 16 rfl) rfl
theorem q265 : (Jvm.Cond.methodLink "LimbMeasuresLaw" (13 : Nat) ({ cls := "LimbMeasures", name := "feed", desc := "(I)I" } : Jvm.MethodName)) ∈ lw_all := lw_g (lw_at lw_m1 215 rfl) rfl
theorem q274 : (Jvm.Cond.methodLink "LimbMeasuresLaw" (18 : Nat) ({ cls := "LimbMeasures", name := "port", desc := "()I" } : Jvm.MethodName)) ∈ lw_all := lw_g (lw_at lw_m1 224 rfl) rfl
theorem q430 : (Jvm.Cond.methodLink "LimbMeasuresLaw" (23 : Nat) ({ cls := "LimbMeasures", name := "fault", desc := "()I" } : Jvm.MethodName)) ∈ lw_all := lw_g (lw_at lw_m2 140 rfl) rfl
theorem q434 : (Jvm.Cond.methodLink "LimbMeasuresLaw" (27 : Nat) ({ cls := "LimbMeasures", name := "told", desc := "(I)I" } : Jvm.MethodName)) ∈ lw_all := lw_g (lw_at lw_m2 144 rfl) rfl
theorem q442 : (Jvm.Cond.methodLink "LimbMeasuresLaw" (31 : Nat) ({ cls := "LimbMeasures", name := "limb", desc := "(II)I" } : Jvm.MethodName)) ∈ lw_all := lw_g (lw_at lw_m2 152 rfl) rfl
theorem q470 : (Jvm.Cond.methodLink "LimbMeasuresLaw" (36 : Nat) ({ cls := "LimbMeasures", name := "contract", desc := "(II)I" } : Jvm.MethodName)) ∈ lw_all := lw_g (lw_at lw_m2 180 rfl) rfl
theorem q478 : (Jvm.Cond.methodLink "LimbMeasuresLaw" (40 : Nat) ({ cls := "LimbMeasures", name := "rate", desc := "(II)I" } : Jvm.MethodName)) ∈ lw_all := lw_g (lw_at lw_m2 188 rfl) rfl
theorem q482 : (Jvm.Cond.methodLink "LimbMeasuresLaw" (44 : Nat) ({ cls := "LimbMeasures", name := "season", desc := "(I)I" } : Jvm.MethodName)) ∈ lw_all := lw_g (lw_at lw_m2 192 rfl) rfl
theorem q507 : (Jvm.Cond.methodLink "LimbMeasuresLaw" (48 : Nat) ({ cls := "LimbMeasures", name := "gout", desc := "(II)I" } : Jvm.MethodName)) ∈ lw_all := lw_g (lw_at lw_m2 217 rfl) rfl
theorem q517 : (Jvm.Cond.methodLink "LimbMeasuresLaw" (52 : Nat) ({ cls := "LimbMeasures", name := "stub", desc := "(I)I" } : Jvm.MethodName)) ∈ lw_all := lw_g (lw_at lw_m2 227 rfl) rfl
theorem q525 : (Jvm.Cond.methodLink "LimbMeasuresLaw" (56 : Nat) ({ cls := "LimbMeasures", name := "dies", desc := "(I)I" } : Jvm.MethodName)) ∈ lw_all := lw_g (lw_at lw_m2 235 rfl) rfl
theorem q529 : (Jvm.Cond.methodLink "LimbMeasuresLaw" (60 : Nat) ({ cls := "LimbMeasures", name := "copy", desc := "(I)I" } : Jvm.MethodName)) ∈ lw_all := lw_g (lw_at lw_m2 239 rfl) rfl
theorem q534 : (Jvm.Cond.methodLink "LimbMeasuresLaw" (64 : Nat) ({ cls := "LimbMeasures", name := "drift", desc := "(I)I" } : Jvm.MethodName)) ∈ lw_all := lw_g (lw_at lw_m3 4 rfl) rfl
theorem q553 : (Jvm.Cond.methodLink "LimbMeasuresLaw" (68 : Nat) ({ cls := "LimbMeasures", name := "undo", desc := "()I" } : Jvm.MethodName)) ∈ lw_all := lw_g (lw_at lw_m3 23 rfl) rfl
theorem q557 : (Jvm.Cond.methodLink "LimbMeasuresLaw" (72 : Nat) ({ cls := "LimbMeasures", name := "firstNought", desc := "()I" } : Jvm.MethodName)) ∈ lw_all := lw_g (lw_at lw_m3 27 rfl) rfl
theorem q561 : (Jvm.Cond.methodLink "LimbMeasuresLaw" (76 : Nat) ({ cls := "LimbMeasures", name := "means", desc := "(II)I" } : Jvm.MethodName)) ∈ lw_all := lw_g (lw_at lw_m3 31 rfl) rfl
theorem q565 : (Jvm.Cond.methodLink "LimbMeasuresLaw" (80 : Nat) ({ cls := "LimbMeasures", name := "basket", desc := "(I)I" } : Jvm.MethodName)) ∈ lw_all := lw_g (lw_at lw_m3 35 rfl) rfl
theorem q580 : (Jvm.Cond.methodLink "LimbMeasuresLaw" (84 : Nat) ({ cls := "LimbMeasures", name := "ring", desc := "(I)I" } : Jvm.MethodName)) ∈ lw_all := lw_g (lw_at lw_m3 50 rfl) rfl
theorem q593 : (Jvm.Cond.methodLink "LimbMeasuresLaw" (88 : Nat) ({ cls := "LimbMeasures", name := "mended", desc := "()I" } : Jvm.MethodName)) ∈ lw_all := lw_g (lw_at lw_m3 63 rfl) rfl
theorem q597 : (Jvm.Cond.methodLink "LimbMeasuresLaw" (92 : Nat) ({ cls := "LimbMeasures", name := "heirs", desc := "(I)I" } : Jvm.MethodName)) ∈ lw_all := lw_g (lw_at lw_m3 67 rfl) rfl
theorem q614 : (Jvm.Cond.methodLink "LimbMeasuresLaw" (96 : Nat) ({ cls := "LimbMeasures", name := "reach", desc := "(II)I" } : Jvm.MethodName)) ∈ lw_all := lw_g (lw_at lw_m3 84 rfl) rfl
theorem q619 : (Jvm.Cond.methodLink "LimbMeasuresLaw" (100 : Nat) ({ cls := "LimbMeasures", name := "bestCopy", desc := "(II)I" } : Jvm.MethodName)) ∈ lw_all := lw_g (lw_at lw_m3 89 rfl) rfl
theorem q623 : (Jvm.Cond.methodLink "LimbMeasuresLaw" (104 : Nat) ({ cls := "LimbMeasures", name := "nearest", desc := "(I)I" } : Jvm.MethodName)) ∈ lw_all := lw_g (lw_at lw_m3 93 rfl) rfl
theorem q627 : (Jvm.Cond.methodLink "LimbMeasuresLaw" (108 : Nat) ({ cls := "LimbMeasures", name := "odds", desc := "(III)I" } : Jvm.MethodName)) ∈ lw_all := lw_g (lw_at lw_m3 97 rfl) rfl
theorem q633 : (Jvm.Cond.methodLink "LimbMeasuresLaw" (113 : Nat) ({ cls := "LimbMeasures", name := "got", desc := "(II)I" } : Jvm.MethodName)) ∈ lw_all := lw_g (lw_at lw_m3 103 rfl) rfl
theorem q637 : (Jvm.Cond.methodLink "LimbMeasuresLaw" (117 : Nat) ({ cls := "LimbMeasures", name := "used", desc := "()I" } : Jvm.MethodName)) ∈ lw_all := lw_g (lw_at lw_m3 107 rfl) rfl
theorem q641 : (Jvm.Cond.methodLink "LimbMeasuresLaw" (121 : Nat) ({ cls := "LimbMeasures", name := "bale", desc := "()I" } : Jvm.MethodName)) ∈ lw_all := lw_g (lw_at lw_m3 111 rfl) rfl
theorem q650 : (Jvm.Cond.methodLink "LimbMeasuresLaw" (125 : Nat) ({ cls := "LimbMeasures", name := "write", desc := "(II)I" } : Jvm.MethodName)) ∈ lw_all := lw_g (lw_at lw_m3 120 rfl) rfl
theorem q654 : (Jvm.Cond.methodLink "LimbMeasuresLaw" (129 : Nat) ({ cls := "LimbMeasures", name := "tear", desc := "()I" } : Jvm.MethodName)) ∈ lw_all := lw_g (lw_at lw_m3 124 rfl) rfl
theorem q658 : (Jvm.Cond.methodLink "LimbMeasuresLaw" (133 : Nat) ({ cls := "LimbMeasures", name := "judge", desc := "()I" } : Jvm.MethodName)) ∈ lw_all := lw_g (lw_at lw_m3 128 rfl) rfl
theorem q662 : (Jvm.Cond.methodLink "LimbMeasuresLaw" (137 : Nat) ({ cls := "LimbMeasures", name := "seed", desc := "(I)I" } : Jvm.MethodName)) ∈ lw_all := lw_g (lw_at lw_m3 132 rfl) rfl
theorem q666 : (Jvm.Cond.methodLink "LimbMeasuresLaw" (141 : Nat) ({ cls := "LimbMeasures", name := "keep", desc := "(I)I" } : Jvm.MethodName)) ∈ lw_all := lw_g (lw_at lw_m3 136 rfl) rfl
theorem q670 : (Jvm.Cond.methodLink "LimbMeasuresLaw" (145 : Nat) ({ cls := "LimbMeasures", name := "goBack", desc := "(I)I" } : Jvm.MethodName)) ∈ lw_all := lw_g (lw_at lw_m3 140 rfl) rfl
theorem q674 : (Jvm.Cond.classLink "LimbMeasuresLaw" (10 : Nat) "LimbMeasuresModel") ∈ lw_all := lw_g (lw_at lw_m3 144 rfl) rfl
theorem q676 : (Jvm.Cond.methodLink "LimbMeasuresLaw" (12 : Nat) ({ cls := "LimbMeasuresModel", name := "<init>", desc := "()V" } : Jvm.MethodName)) ∈ lw_all := lw_g (lw_at lw_m3 146 rfl) rfl
theorem q817 : (Jvm.Cond.methodLink "LimbMeasuresLaw" (17 : Nat) ({ cls := "LimbMeasuresModel", name := "feed", desc := "(I)I" } : Jvm.MethodName)) ∈ lw_all := lw_g (lw_at lw_m4 47 rfl) rfl
theorem q827 : (Jvm.Cond.methodLink "LimbMeasuresLaw" (22 : Nat) ({ cls := "LimbMeasuresModel", name := "port", desc := "()I" } : Jvm.MethodName)) ∈ lw_all := lw_g (lw_at lw_m4 57 rfl) rfl
theorem q873 : (Jvm.Cond.methodLink "LimbMeasuresLaw" (26 : Nat) ({ cls := "LimbMeasuresModel", name := "fault", desc := "()I" } : Jvm.MethodName)) ∈ lw_all := lw_g (lw_at lw_m4 103 rfl) rfl
theorem q877 : (Jvm.Cond.methodLink "LimbMeasuresLaw" (30 : Nat) ({ cls := "LimbMeasuresModel", name := "told", desc := "(I)I" } : Jvm.MethodName)) ∈ lw_all := lw_g (lw_at lw_m4 107 rfl) rfl
theorem q885 : (Jvm.Cond.methodLink "LimbMeasuresLaw" (35 : Nat) ({ cls := "LimbMeasuresModel", name := "limb", desc := "(II)I" } : Jvm.MethodName)) ∈ lw_all := lw_g (lw_at lw_m4 115 rfl) rfl
theorem q915 : (Jvm.Cond.methodLink "LimbMeasuresLaw" (39 : Nat) ({ cls := "LimbMeasuresModel", name := "contract", desc := "(II)I" } : Jvm.MethodName)) ∈ lw_all := lw_g (lw_at lw_m4 145 rfl) rfl
theorem q919 : (Jvm.Cond.methodLink "LimbMeasuresLaw" (43 : Nat) ({ cls := "LimbMeasuresModel", name := "rate", desc := "(II)I" } : Jvm.MethodName)) ∈ lw_all := lw_g (lw_at lw_m4 149 rfl) rfl
theorem q923 : (Jvm.Cond.methodLink "LimbMeasuresLaw" (47 : Nat) ({ cls := "LimbMeasuresModel", name := "season", desc := "(I)I" } : Jvm.MethodName)) ∈ lw_all := lw_g (lw_at lw_m4 153 rfl) rfl
theorem q941 : (Jvm.Cond.methodLink "LimbMeasuresLaw" (51 : Nat) ({ cls := "LimbMeasuresModel", name := "gout", desc := "(II)I" } : Jvm.MethodName)) ∈ lw_all := lw_g (lw_at lw_m4 171 rfl) rfl
theorem q950 : (Jvm.Cond.methodLink "LimbMeasuresLaw" (55 : Nat) ({ cls := "LimbMeasuresModel", name := "stub", desc := "(I)I" } : Jvm.MethodName)) ∈ lw_all := lw_g (lw_at lw_m4 180 rfl) rfl
theorem q958 : (Jvm.Cond.methodLink "LimbMeasuresLaw" (59 : Nat) ({ cls := "LimbMeasuresModel", name := "dies", desc := "(I)I" } : Jvm.MethodName)) ∈ lw_all := lw_g (lw_at lw_m4 188 rfl) rfl
theorem q962 : (Jvm.Cond.methodLink "LimbMeasuresLaw" (63 : Nat) ({ cls := "LimbMeasuresModel", name := "copy", desc := "(I)I" } : Jvm.MethodName)) ∈ lw_all := lw_g (lw_at lw_m4 192 rfl) rfl
theorem q966 : (Jvm.Cond.methodLink "LimbMeasuresLaw" (67 : Nat) ({ cls := "LimbMeasuresModel", name := "drift", desc := "(I)I" } : Jvm.MethodName)) ∈ lw_all := lw_g (lw_at lw_m4 196 rfl) rfl
theorem q982 : (Jvm.Cond.methodLink "LimbMeasuresLaw" (71 : Nat) ({ cls := "LimbMeasuresModel", name := "undo", desc := "()I" } : Jvm.MethodName)) ∈ lw_all := lw_g (lw_at lw_m4 212 rfl) rfl
theorem q986 : (Jvm.Cond.methodLink "LimbMeasuresLaw" (75 : Nat) ({ cls := "LimbMeasuresModel", name := "firstNought", desc := "()I" } : Jvm.MethodName)) ∈ lw_all := lw_g (lw_at lw_m4 216 rfl) rfl
theorem q990 : (Jvm.Cond.methodLink "LimbMeasuresLaw" (79 : Nat) ({ cls := "LimbMeasuresModel", name := "means", desc := "(II)I" } : Jvm.MethodName)) ∈ lw_all := lw_g (lw_at lw_m4 220 rfl) rfl
theorem q995 : (Jvm.Cond.methodLink "LimbMeasuresLaw" (83 : Nat) ({ cls := "LimbMeasuresModel", name := "basket", desc := "(I)I" } : Jvm.MethodName)) ∈ lw_all := lw_g (lw_at lw_m4 225 rfl) rfl
theorem q1028 : (Jvm.Cond.methodLink "LimbMeasuresLaw" (87 : Nat) ({ cls := "LimbMeasuresModel", name := "ring", desc := "(I)I" } : Jvm.MethodName)) ∈ lw_all := lw_g (lw_at lw_m5 18 rfl) rfl
theorem q1047 : (Jvm.Cond.methodLink "LimbMeasuresLaw" (91 : Nat) ({ cls := "LimbMeasuresModel", name := "mended", desc := "()I" } : Jvm.MethodName)) ∈ lw_all := lw_g (lw_at lw_m5 37 rfl) rfl
theorem q1051 : (Jvm.Cond.methodLink "LimbMeasuresLaw" (95 : Nat) ({ cls := "LimbMeasuresModel", name := "heirs", desc := "(I)I" } : Jvm.MethodName)) ∈ lw_all := lw_g (lw_at lw_m5 41 rfl) rfl
theorem q1070 : (Jvm.Cond.methodLink "LimbMeasuresLaw" (99 : Nat) ({ cls := "LimbMeasuresModel", name := "reach", desc := "(II)I" } : Jvm.MethodName)) ∈ lw_all := lw_g (lw_at lw_m5 60 rfl) rfl
theorem q1074 : (Jvm.Cond.methodLink "LimbMeasuresLaw" (103 : Nat) ({ cls := "LimbMeasuresModel", name := "bestCopy", desc := "(II)I" } : Jvm.MethodName)) ∈ lw_all := lw_g (lw_at lw_m5 64 rfl) rfl
theorem q1078 : (Jvm.Cond.methodLink "LimbMeasuresLaw" (107 : Nat) ({ cls := "LimbMeasuresModel", name := "nearest", desc := "(I)I" } : Jvm.MethodName)) ∈ lw_all := lw_g (lw_at lw_m5 68 rfl) rfl
theorem q1083 : (Jvm.Cond.methodLink "LimbMeasuresLaw" (112 : Nat) ({ cls := "LimbMeasuresModel", name := "odds", desc := "(III)I" } : Jvm.MethodName)) ∈ lw_all := lw_g (lw_at lw_m5 73 rfl) rfl
theorem q1090 : (Jvm.Cond.methodLink "LimbMeasuresLaw" (116 : Nat) ({ cls := "LimbMeasuresModel", name := "got", desc := "(II)I" } : Jvm.MethodName)) ∈ lw_all := lw_g (lw_at lw_m5 80 rfl) rfl
theorem q1096 : (Jvm.Cond.methodLink "LimbMeasuresLaw" (120 : Nat) ({ cls := "LimbMeasuresModel", name := "used", desc := "()I" } : Jvm.MethodName)) ∈ lw_all := lw_g (lw_at lw_m5 86 rfl) rfl
theorem q1100 : (Jvm.Cond.methodLink "LimbMeasuresLaw" (124 : Nat) ({ cls := "LimbMeasuresModel", name := "bale", desc := "()I" } : Jvm.MethodName)) ∈ lw_all := lw_g (lw_at lw_m5 90 rfl) rfl
theorem q1105 : (Jvm.Cond.methodLink "LimbMeasuresLaw" (128 : Nat) ({ cls := "LimbMeasuresModel", name := "write", desc := "(II)I" } : Jvm.MethodName)) ∈ lw_all := lw_g (lw_at lw_m5 95 rfl) rfl
theorem q1109 : (Jvm.Cond.methodLink "LimbMeasuresLaw" (132 : Nat) ({ cls := "LimbMeasuresModel", name := "tear", desc := "()I" } : Jvm.MethodName)) ∈ lw_all := lw_g (lw_at lw_m5 99 rfl) rfl
theorem q1113 : (Jvm.Cond.methodLink "LimbMeasuresLaw" (136 : Nat) ({ cls := "LimbMeasuresModel", name := "judge", desc := "()I" } : Jvm.MethodName)) ∈ lw_all := lw_g (lw_at lw_m5 103 rfl) rfl
theorem q1117 : (Jvm.Cond.methodLink "LimbMeasuresLaw" (140 : Nat) ({ cls := "LimbMeasuresModel", name := "seed", desc := "(I)I" } : Jvm.MethodName)) ∈ lw_all := lw_g (lw_at lw_m5 107 rfl) rfl
theorem q1121 : (Jvm.Cond.methodLink "LimbMeasuresLaw" (144 : Nat) ({ cls := "LimbMeasuresModel", name := "keep", desc := "(I)I" } : Jvm.MethodName)) ∈ lw_all := lw_g (lw_at lw_m5 111 rfl) rfl
theorem q1125 : (Jvm.Cond.methodLink "LimbMeasuresLaw" (148 : Nat) ({ cls := "LimbMeasuresModel", name := "goBack", desc := "(I)I" } : Jvm.MethodName)) ∈ lw_all := lw_g (lw_at lw_m5 115 rfl) rfl
theorem q62 : (Jvm.Cond.initialized "java/lang/System") ∈ lw_all := lw_g (lw_at lw_m1 12 rfl) rfl
set_option maxRecDepth 100000
theorem q500 : (Jvm.Cond.static ({ cls := "java/lang/System", name := "arraycopy", desc := "(Ljava/lang/Object;ILjava/lang/Object;II)V" } : Jvm.MethodName)) ∈ lw_all := lw_g (lw_at lw_m2 210 rfl) rfl
theorem q501 : (Jvm.Cond.native ({ cls := "java/lang/System", name := "arraycopy", desc := "(Ljava/lang/Object;ILjava/lang/Object;II)V" } : Jvm.MethodName)) ∈ lw_all := lw_g (lw_at lw_m2 211 rfl) rfl
theorem q79 : (Jvm.Cond.arrayOver (Jvm.ClassFile.FieldType.object "LimbMeasures$Limb")) ∈ lw_tbl := lw_at lw_m1 29 rfl
set_option maxRecDepth 100000
theorem q139 : (Jvm.Cond.arrayClass Jvm.ClassFile.FieldType.int) ∈ lw_all := lw_g (lw_at lw_m1 89 rfl) rfl
theorem q185 : (Jvm.Cond.arrayOver (Jvm.ClassFile.FieldType.object "LimbMeasures$State")) ∈ lw_tbl := lw_at lw_m1 135 rfl
theorem q264 : (Jvm.Cond.arrayClass Jvm.ClassFile.FieldType.byte) ∈ lw_all := lw_g (lw_at lw_m1 214 rfl) rfl
theorem q816 : (Jvm.Cond.arrayClass Jvm.ClassFile.FieldType.boolean) ∈ lw_all := lw_g (lw_at lw_m4 46 rfl) rfl
