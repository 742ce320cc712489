/-! DECODE ROWS BY BYTES: one lemma an opcode; a method's code is cut into short pieces once, and a row reads its own piece alone. -/
set_option maxRecDepth 100000
/-- the code has just these bytes from pc on -/
def DkAt (code : ByteArray) (pc : Nat) (bs : List UInt8) : Prop := ∀ (j : Nat) (b : UInt8), bs[j]? = some b → code.data.toList[pc + j]? = some b
/-- the piece W has the bytes bs from its place j on -/
def dkIn (W : List UInt8) (j : Nat) (bs : List UInt8) : Bool := decide ((W.drop j).take bs.length = bs)
theorem dk_seg {l W T : List UInt8} {o o2 : Nat} (h : l.drop o = W ++ T) (n : Nat) (hn : W.length = n) (ho : o + n = o2) : l.drop o2 = T := by
  subst ho
  rw [← List.drop_drop, h, List.drop_left' hn]
theorem dk_at {code : ByteArray} {W T bs : List UInt8} {o pc : Nat} (h : code.data.toList.drop o = W ++ T) (j : Nat) (hp : o + j = pc) (hw : dkIn W j bs = true) : DkAt code pc bs := by
  subst hp
  intro i b e
  have h1 := of_decide_eq_true hw
  have h2 : i < bs.length := (List.getElem?_eq_some_iff.mp e).1
  have h3 : W[j + i]? = some b := by
    rw [← h1, List.getElem?_take, if_pos h2, List.getElem?_drop] at e
    exact e
  have h4 : j + i < W.length := (List.getElem?_eq_some_iff.mp h3).1
  have h5 : (code.data.toList.drop o)[j + i]? = some b := by
    rw [h, List.getElem?_append_left h4]
    exact h3
  rw [List.getElem?_drop, ← Nat.add_assoc] at h5
  exact h5
theorem dk_u1 {A : ByteArray} {p : Nat} {b : UInt8} (h : A.data.toList[p]? = some b) : (Reader.u1 : Reader DecodeError Nat) A p = .ok (b.toNat, p + 1) := by
  obtain ⟨h1, h2⟩ := List.getElem?_eq_some_iff.mp h
  have h3 : p < A.size := by simpa using h1
  have h4 : A[p]'h3 = b := h2
  have e : (Reader.u1 : Reader DecodeError Nat) A p = (if h : p < A.size then .ok (A[p].toNat, p + 1) else .error (HasTruncated.truncated p)) := by
    show (do if h : p < A.size then do set (p + 1); Pure.pure A[p].toNat else MonadExcept.throw (HasTruncated.truncated p) : Reader DecodeError Nat) A p = _
    by_cases hi : p < A.size
    · rw [dif_pos hi, dif_pos hi]; rfl
    · rw [dif_neg hi, dif_neg hi]; rfl
  rw [e, dif_pos h3, h4]
theorem dk_bind {α β : Type} {r : Reader DecodeError α} {f : α → Reader DecodeError β} {A : ByteArray} {p s : Nat} {a : α} (h : r A p = .ok (a, s)) : (r >>= f) A p = f a A s := by
  show (do let (a, s) ← r A p; f a A s : Except DecodeError (β × Nat)) = _
  rw [h]
  rfl
theorem dk_map {α β : Type} {r : Reader DecodeError α} {g : α → β} {A : ByteArray} {p s : Nat} {a : α} (h : r A p = .ok (a, s)) : (g <$> r) A p = .ok (g a, s) := by
  show (do let (a, s) ← r A p; .ok (g a, s) : Except DecodeError (β × Nat)) = _
  rw [h]
  rfl
theorem dk_u2 {A : ByteArray} {p : Nat} {a b : UInt8} (h : A.data.toList[p]? = some a) (h2 : A.data.toList[p + 1]? = some b) : (Reader.u2 : Reader DecodeError Nat) A p = .ok (a.toNat * 256 + b.toNat, p + 2) := by
  show (Reader.u1 >>= fun hi => Reader.u1 >>= fun lo => Pure.pure (hi * 256 + lo) : Reader DecodeError Nat) A p = _
  rw [dk_bind (dk_u1 h), dk_bind (dk_u1 h2)]
  rfl
theorem dk_of {code : ByteArray} {pc n : Nat} {i : Instr} (h : Decoder.instr pc code pc = .ok (i, pc + n)) : decode code pc = .ok (i, n) := by
  have e : decode code pc = (match Decoder.instr pc code pc with | .error x => .error x | .ok (j, s) => .ok (j, s - pc)) := by
    show (do let (j, s) ← Decoder.instr pc code pc; Pure.pure (j, s - pc) : Except DecodeError (Instr × Nat)) = _
    cases Decoder.instr pc code pc <;> rfl
  rw [e, h]
  show Except.ok (i, pc + n - pc) = _
  rw [Nat.add_sub_cancel_left]
theorem dk_2 {code : ByteArray} {pc : Nat} (h : DkAt code pc [2]) : decode code pc = .ok (.iconst (-1), 1) := dk_of ((dk_bind (dk_u1 (h 0 _ rfl))).trans rfl)
theorem dk_3 {code : ByteArray} {pc : Nat} (h : DkAt code pc [3]) : decode code pc = .ok (.iconst 0, 1) := dk_of ((dk_bind (dk_u1 (h 0 _ rfl))).trans rfl)
theorem dk_4 {code : ByteArray} {pc : Nat} (h : DkAt code pc [4]) : decode code pc = .ok (.iconst 1, 1) := dk_of ((dk_bind (dk_u1 (h 0 _ rfl))).trans rfl)
theorem dk_5 {code : ByteArray} {pc : Nat} (h : DkAt code pc [5]) : decode code pc = .ok (.iconst 2, 1) := dk_of ((dk_bind (dk_u1 (h 0 _ rfl))).trans rfl)
theorem dk_6 {code : ByteArray} {pc : Nat} (h : DkAt code pc [6]) : decode code pc = .ok (.iconst 3, 1) := dk_of ((dk_bind (dk_u1 (h 0 _ rfl))).trans rfl)
theorem dk_7 {code : ByteArray} {pc : Nat} (h : DkAt code pc [7]) : decode code pc = .ok (.iconst 4, 1) := dk_of ((dk_bind (dk_u1 (h 0 _ rfl))).trans rfl)
theorem dk_8 {code : ByteArray} {pc : Nat} (h : DkAt code pc [8]) : decode code pc = .ok (.iconst 5, 1) := dk_of ((dk_bind (dk_u1 (h 0 _ rfl))).trans rfl)
theorem dk_9 {code : ByteArray} {pc : Nat} (h : DkAt code pc [9]) : decode code pc = .ok (.lconst 0, 1) := dk_of ((dk_bind (dk_u1 (h 0 _ rfl))).trans rfl)
theorem dk_10 {code : ByteArray} {pc : Nat} (h : DkAt code pc [10]) : decode code pc = .ok (.lconst 1, 1) := dk_of ((dk_bind (dk_u1 (h 0 _ rfl))).trans rfl)
theorem dk_16 {code : ByteArray} {pc : Nat} (a : UInt8) (h : DkAt code pc [16, a]) : decode code pc = .ok (.bipush (Reader.signed 8 a.toNat), 2) := dk_of ((dk_bind (dk_u1 (h 0 _ rfl))).trans ((dk_bind (dk_map (dk_u1 (h 1 _ rfl)))).trans rfl))
theorem dk_17 {code : ByteArray} {pc : Nat} (a b : UInt8) (h : DkAt code pc [17, a, b]) : decode code pc = .ok (.sipush (Reader.signed 16 (a.toNat * 256 + b.toNat)), 3) := dk_of ((dk_bind (dk_u1 (h 0 _ rfl))).trans ((dk_bind (dk_map (dk_u2 (h 1 _ rfl) (h 2 _ rfl)))).trans rfl))
theorem dk_19 {code : ByteArray} {pc : Nat} (a b : UInt8) (h : DkAt code pc [19, a, b]) : decode code pc = .ok (.ldc_w (a.toNat * 256 + b.toNat), 3) := dk_of ((dk_bind (dk_u1 (h 0 _ rfl))).trans ((dk_bind (dk_u2 (h 1 _ rfl) (h 2 _ rfl))).trans rfl))
theorem dk_20 {code : ByteArray} {pc : Nat} (a b : UInt8) (h : DkAt code pc [20, a, b]) : decode code pc = .ok (.ldc2_w (a.toNat * 256 + b.toNat), 3) := dk_of ((dk_bind (dk_u1 (h 0 _ rfl))).trans ((dk_bind (dk_u2 (h 1 _ rfl) (h 2 _ rfl))).trans rfl))
theorem dk_21 {code : ByteArray} {pc : Nat} (a : UInt8) (h : DkAt code pc [21, a]) : decode code pc = .ok (.iload a.toNat, 2) := dk_of ((dk_bind (dk_u1 (h 0 _ rfl))).trans ((dk_bind (dk_u1 (h 1 _ rfl))).trans rfl))
theorem dk_22 {code : ByteArray} {pc : Nat} (a : UInt8) (h : DkAt code pc [22, a]) : decode code pc = .ok (.lload a.toNat, 2) := dk_of ((dk_bind (dk_u1 (h 0 _ rfl))).trans ((dk_bind (dk_u1 (h 1 _ rfl))).trans rfl))
theorem dk_26 {code : ByteArray} {pc : Nat} (h : DkAt code pc [26]) : decode code pc = .ok (.iload_n 0, 1) := dk_of ((dk_bind (dk_u1 (h 0 _ rfl))).trans rfl)
theorem dk_27 {code : ByteArray} {pc : Nat} (h : DkAt code pc [27]) : decode code pc = .ok (.iload_n 1, 1) := dk_of ((dk_bind (dk_u1 (h 0 _ rfl))).trans rfl)
theorem dk_28 {code : ByteArray} {pc : Nat} (h : DkAt code pc [28]) : decode code pc = .ok (.iload_n 2, 1) := dk_of ((dk_bind (dk_u1 (h 0 _ rfl))).trans rfl)
theorem dk_29 {code : ByteArray} {pc : Nat} (h : DkAt code pc [29]) : decode code pc = .ok (.iload_n 3, 1) := dk_of ((dk_bind (dk_u1 (h 0 _ rfl))).trans rfl)
theorem dk_30 {code : ByteArray} {pc : Nat} (h : DkAt code pc [30]) : decode code pc = .ok (.lload_n 0, 1) := dk_of ((dk_bind (dk_u1 (h 0 _ rfl))).trans rfl)
theorem dk_31 {code : ByteArray} {pc : Nat} (h : DkAt code pc [31]) : decode code pc = .ok (.lload_n 1, 1) := dk_of ((dk_bind (dk_u1 (h 0 _ rfl))).trans rfl)
theorem dk_32 {code : ByteArray} {pc : Nat} (h : DkAt code pc [32]) : decode code pc = .ok (.lload_n 2, 1) := dk_of ((dk_bind (dk_u1 (h 0 _ rfl))).trans rfl)
theorem dk_42 {code : ByteArray} {pc : Nat} (h : DkAt code pc [42]) : decode code pc = .ok (.aload_n 0, 1) := dk_of ((dk_bind (dk_u1 (h 0 _ rfl))).trans rfl)
theorem dk_43 {code : ByteArray} {pc : Nat} (h : DkAt code pc [43]) : decode code pc = .ok (.aload_n 1, 1) := dk_of ((dk_bind (dk_u1 (h 0 _ rfl))).trans rfl)
theorem dk_44 {code : ByteArray} {pc : Nat} (h : DkAt code pc [44]) : decode code pc = .ok (.aload_n 2, 1) := dk_of ((dk_bind (dk_u1 (h 0 _ rfl))).trans rfl)
theorem dk_46 {code : ByteArray} {pc : Nat} (h : DkAt code pc [46]) : decode code pc = .ok (.iaload, 1) := dk_of ((dk_bind (dk_u1 (h 0 _ rfl))).trans rfl)
theorem dk_50 {code : ByteArray} {pc : Nat} (h : DkAt code pc [50]) : decode code pc = .ok (.aaload, 1) := dk_of ((dk_bind (dk_u1 (h 0 _ rfl))).trans rfl)
theorem dk_51 {code : ByteArray} {pc : Nat} (h : DkAt code pc [51]) : decode code pc = .ok (.baload, 1) := dk_of ((dk_bind (dk_u1 (h 0 _ rfl))).trans rfl)
theorem dk_54 {code : ByteArray} {pc : Nat} (a : UInt8) (h : DkAt code pc [54, a]) : decode code pc = .ok (.istore a.toNat, 2) := dk_of ((dk_bind (dk_u1 (h 0 _ rfl))).trans ((dk_bind (dk_u1 (h 1 _ rfl))).trans rfl))
theorem dk_59 {code : ByteArray} {pc : Nat} (h : DkAt code pc [59]) : decode code pc = .ok (.istore_n 0, 1) := dk_of ((dk_bind (dk_u1 (h 0 _ rfl))).trans rfl)
theorem dk_60 {code : ByteArray} {pc : Nat} (h : DkAt code pc [60]) : decode code pc = .ok (.istore_n 1, 1) := dk_of ((dk_bind (dk_u1 (h 0 _ rfl))).trans rfl)
theorem dk_61 {code : ByteArray} {pc : Nat} (h : DkAt code pc [61]) : decode code pc = .ok (.istore_n 2, 1) := dk_of ((dk_bind (dk_u1 (h 0 _ rfl))).trans rfl)
theorem dk_62 {code : ByteArray} {pc : Nat} (h : DkAt code pc [62]) : decode code pc = .ok (.istore_n 3, 1) := dk_of ((dk_bind (dk_u1 (h 0 _ rfl))).trans rfl)
theorem dk_76 {code : ByteArray} {pc : Nat} (h : DkAt code pc [76]) : decode code pc = .ok (.astore_n 1, 1) := dk_of ((dk_bind (dk_u1 (h 0 _ rfl))).trans rfl)
theorem dk_77 {code : ByteArray} {pc : Nat} (h : DkAt code pc [77]) : decode code pc = .ok (.astore_n 2, 1) := dk_of ((dk_bind (dk_u1 (h 0 _ rfl))).trans rfl)
theorem dk_78 {code : ByteArray} {pc : Nat} (h : DkAt code pc [78]) : decode code pc = .ok (.astore_n 3, 1) := dk_of ((dk_bind (dk_u1 (h 0 _ rfl))).trans rfl)
theorem dk_79 {code : ByteArray} {pc : Nat} (h : DkAt code pc [79]) : decode code pc = .ok (.iastore, 1) := dk_of ((dk_bind (dk_u1 (h 0 _ rfl))).trans rfl)
theorem dk_83 {code : ByteArray} {pc : Nat} (h : DkAt code pc [83]) : decode code pc = .ok (.aastore, 1) := dk_of ((dk_bind (dk_u1 (h 0 _ rfl))).trans rfl)
theorem dk_84 {code : ByteArray} {pc : Nat} (h : DkAt code pc [84]) : decode code pc = .ok (.bastore, 1) := dk_of ((dk_bind (dk_u1 (h 0 _ rfl))).trans rfl)
theorem dk_87 {code : ByteArray} {pc : Nat} (h : DkAt code pc [87]) : decode code pc = .ok (.pop, 1) := dk_of ((dk_bind (dk_u1 (h 0 _ rfl))).trans rfl)
theorem dk_89 {code : ByteArray} {pc : Nat} (h : DkAt code pc [89]) : decode code pc = .ok (.dup, 1) := dk_of ((dk_bind (dk_u1 (h 0 _ rfl))).trans rfl)
theorem dk_92 {code : ByteArray} {pc : Nat} (h : DkAt code pc [92]) : decode code pc = .ok (.dup2, 1) := dk_of ((dk_bind (dk_u1 (h 0 _ rfl))).trans rfl)
theorem dk_96 {code : ByteArray} {pc : Nat} (h : DkAt code pc [96]) : decode code pc = .ok (.iadd, 1) := dk_of ((dk_bind (dk_u1 (h 0 _ rfl))).trans rfl)
theorem dk_97 {code : ByteArray} {pc : Nat} (h : DkAt code pc [97]) : decode code pc = .ok (.ladd, 1) := dk_of ((dk_bind (dk_u1 (h 0 _ rfl))).trans rfl)
theorem dk_100 {code : ByteArray} {pc : Nat} (h : DkAt code pc [100]) : decode code pc = .ok (.isub, 1) := dk_of ((dk_bind (dk_u1 (h 0 _ rfl))).trans rfl)
theorem dk_104 {code : ByteArray} {pc : Nat} (h : DkAt code pc [104]) : decode code pc = .ok (.imul, 1) := dk_of ((dk_bind (dk_u1 (h 0 _ rfl))).trans rfl)
theorem dk_105 {code : ByteArray} {pc : Nat} (h : DkAt code pc [105]) : decode code pc = .ok (.lmul, 1) := dk_of ((dk_bind (dk_u1 (h 0 _ rfl))).trans rfl)
theorem dk_108 {code : ByteArray} {pc : Nat} (h : DkAt code pc [108]) : decode code pc = .ok (.idiv, 1) := dk_of ((dk_bind (dk_u1 (h 0 _ rfl))).trans rfl)
theorem dk_109 {code : ByteArray} {pc : Nat} (h : DkAt code pc [109]) : decode code pc = .ok (.ldiv, 1) := dk_of ((dk_bind (dk_u1 (h 0 _ rfl))).trans rfl)
theorem dk_112 {code : ByteArray} {pc : Nat} (h : DkAt code pc [112]) : decode code pc = .ok (.irem, 1) := dk_of ((dk_bind (dk_u1 (h 0 _ rfl))).trans rfl)
theorem dk_113 {code : ByteArray} {pc : Nat} (h : DkAt code pc [113]) : decode code pc = .ok (.lrem, 1) := dk_of ((dk_bind (dk_u1 (h 0 _ rfl))).trans rfl)
theorem dk_120 {code : ByteArray} {pc : Nat} (h : DkAt code pc [120]) : decode code pc = .ok (.ishl, 1) := dk_of ((dk_bind (dk_u1 (h 0 _ rfl))).trans rfl)
theorem dk_121 {code : ByteArray} {pc : Nat} (h : DkAt code pc [121]) : decode code pc = .ok (.lshl, 1) := dk_of ((dk_bind (dk_u1 (h 0 _ rfl))).trans rfl)
theorem dk_122 {code : ByteArray} {pc : Nat} (h : DkAt code pc [122]) : decode code pc = .ok (.ishr, 1) := dk_of ((dk_bind (dk_u1 (h 0 _ rfl))).trans rfl)
theorem dk_123 {code : ByteArray} {pc : Nat} (h : DkAt code pc [123]) : decode code pc = .ok (.lshr, 1) := dk_of ((dk_bind (dk_u1 (h 0 _ rfl))).trans rfl)
theorem dk_124 {code : ByteArray} {pc : Nat} (h : DkAt code pc [124]) : decode code pc = .ok (.iushr, 1) := dk_of ((dk_bind (dk_u1 (h 0 _ rfl))).trans rfl)
theorem dk_125 {code : ByteArray} {pc : Nat} (h : DkAt code pc [125]) : decode code pc = .ok (.lushr, 1) := dk_of ((dk_bind (dk_u1 (h 0 _ rfl))).trans rfl)
theorem dk_126 {code : ByteArray} {pc : Nat} (h : DkAt code pc [126]) : decode code pc = .ok (.iand, 1) := dk_of ((dk_bind (dk_u1 (h 0 _ rfl))).trans rfl)
theorem dk_127 {code : ByteArray} {pc : Nat} (h : DkAt code pc [127]) : decode code pc = .ok (.land, 1) := dk_of ((dk_bind (dk_u1 (h 0 _ rfl))).trans rfl)
theorem dk_128 {code : ByteArray} {pc : Nat} (h : DkAt code pc [128]) : decode code pc = .ok (.ior, 1) := dk_of ((dk_bind (dk_u1 (h 0 _ rfl))).trans rfl)
theorem dk_129 {code : ByteArray} {pc : Nat} (h : DkAt code pc [129]) : decode code pc = .ok (.lor, 1) := dk_of ((dk_bind (dk_u1 (h 0 _ rfl))).trans rfl)
theorem dk_130 {code : ByteArray} {pc : Nat} (h : DkAt code pc [130]) : decode code pc = .ok (.ixor, 1) := dk_of ((dk_bind (dk_u1 (h 0 _ rfl))).trans rfl)
theorem dk_132 {code : ByteArray} {pc : Nat} (a b : UInt8) (h : DkAt code pc [132, a, b]) : decode code pc = .ok (.iinc a.toNat (Reader.signed 8 b.toNat), 3) := dk_of ((dk_bind (dk_u1 (h 0 _ rfl))).trans ((dk_bind (dk_u1 (h 1 _ rfl))).trans ((dk_bind (dk_map (dk_u1 (h 2 _ rfl)))).trans rfl)))
theorem dk_133 {code : ByteArray} {pc : Nat} (h : DkAt code pc [133]) : decode code pc = .ok (.i2l, 1) := dk_of ((dk_bind (dk_u1 (h 0 _ rfl))).trans rfl)
theorem dk_136 {code : ByteArray} {pc : Nat} (h : DkAt code pc [136]) : decode code pc = .ok (.l2i, 1) := dk_of ((dk_bind (dk_u1 (h 0 _ rfl))).trans rfl)
theorem dk_145 {code : ByteArray} {pc : Nat} (h : DkAt code pc [145]) : decode code pc = .ok (.i2b, 1) := dk_of ((dk_bind (dk_u1 (h 0 _ rfl))).trans rfl)
theorem dk_148 {code : ByteArray} {pc : Nat} (h : DkAt code pc [148]) : decode code pc = .ok (.lcmp, 1) := dk_of ((dk_bind (dk_u1 (h 0 _ rfl))).trans rfl)
theorem dk_153 {code : ByteArray} {pc : Nat} (a b : UInt8) (h : DkAt code pc [153, a, b]) : decode code pc = .ok (.ifCond .eq (Reader.signed 16 (a.toNat * 256 + b.toNat)), 3) := dk_of ((dk_bind (dk_u1 (h 0 _ rfl))).trans ((dk_bind (dk_map (dk_u2 (h 1 _ rfl) (h 2 _ rfl)))).trans rfl))
theorem dk_154 {code : ByteArray} {pc : Nat} (a b : UInt8) (h : DkAt code pc [154, a, b]) : decode code pc = .ok (.ifCond .ne (Reader.signed 16 (a.toNat * 256 + b.toNat)), 3) := dk_of ((dk_bind (dk_u1 (h 0 _ rfl))).trans ((dk_bind (dk_map (dk_u2 (h 1 _ rfl) (h 2 _ rfl)))).trans rfl))
theorem dk_155 {code : ByteArray} {pc : Nat} (a b : UInt8) (h : DkAt code pc [155, a, b]) : decode code pc = .ok (.ifCond .lt (Reader.signed 16 (a.toNat * 256 + b.toNat)), 3) := dk_of ((dk_bind (dk_u1 (h 0 _ rfl))).trans ((dk_bind (dk_map (dk_u2 (h 1 _ rfl) (h 2 _ rfl)))).trans rfl))
theorem dk_157 {code : ByteArray} {pc : Nat} (a b : UInt8) (h : DkAt code pc [157, a, b]) : decode code pc = .ok (.ifCond .gt (Reader.signed 16 (a.toNat * 256 + b.toNat)), 3) := dk_of ((dk_bind (dk_u1 (h 0 _ rfl))).trans ((dk_bind (dk_map (dk_u2 (h 1 _ rfl) (h 2 _ rfl)))).trans rfl))
theorem dk_158 {code : ByteArray} {pc : Nat} (a b : UInt8) (h : DkAt code pc [158, a, b]) : decode code pc = .ok (.ifCond .le (Reader.signed 16 (a.toNat * 256 + b.toNat)), 3) := dk_of ((dk_bind (dk_u1 (h 0 _ rfl))).trans ((dk_bind (dk_map (dk_u2 (h 1 _ rfl) (h 2 _ rfl)))).trans rfl))
theorem dk_159 {code : ByteArray} {pc : Nat} (a b : UInt8) (h : DkAt code pc [159, a, b]) : decode code pc = .ok (.if_icmp .eq (Reader.signed 16 (a.toNat * 256 + b.toNat)), 3) := dk_of ((dk_bind (dk_u1 (h 0 _ rfl))).trans ((dk_bind (dk_map (dk_u2 (h 1 _ rfl) (h 2 _ rfl)))).trans rfl))
theorem dk_160 {code : ByteArray} {pc : Nat} (a b : UInt8) (h : DkAt code pc [160, a, b]) : decode code pc = .ok (.if_icmp .ne (Reader.signed 16 (a.toNat * 256 + b.toNat)), 3) := dk_of ((dk_bind (dk_u1 (h 0 _ rfl))).trans ((dk_bind (dk_map (dk_u2 (h 1 _ rfl) (h 2 _ rfl)))).trans rfl))
theorem dk_161 {code : ByteArray} {pc : Nat} (a b : UInt8) (h : DkAt code pc [161, a, b]) : decode code pc = .ok (.if_icmp .lt (Reader.signed 16 (a.toNat * 256 + b.toNat)), 3) := dk_of ((dk_bind (dk_u1 (h 0 _ rfl))).trans ((dk_bind (dk_map (dk_u2 (h 1 _ rfl) (h 2 _ rfl)))).trans rfl))
theorem dk_162 {code : ByteArray} {pc : Nat} (a b : UInt8) (h : DkAt code pc [162, a, b]) : decode code pc = .ok (.if_icmp .ge (Reader.signed 16 (a.toNat * 256 + b.toNat)), 3) := dk_of ((dk_bind (dk_u1 (h 0 _ rfl))).trans ((dk_bind (dk_map (dk_u2 (h 1 _ rfl) (h 2 _ rfl)))).trans rfl))
theorem dk_163 {code : ByteArray} {pc : Nat} (a b : UInt8) (h : DkAt code pc [163, a, b]) : decode code pc = .ok (.if_icmp .gt (Reader.signed 16 (a.toNat * 256 + b.toNat)), 3) := dk_of ((dk_bind (dk_u1 (h 0 _ rfl))).trans ((dk_bind (dk_map (dk_u2 (h 1 _ rfl) (h 2 _ rfl)))).trans rfl))
theorem dk_164 {code : ByteArray} {pc : Nat} (a b : UInt8) (h : DkAt code pc [164, a, b]) : decode code pc = .ok (.if_icmp .le (Reader.signed 16 (a.toNat * 256 + b.toNat)), 3) := dk_of ((dk_bind (dk_u1 (h 0 _ rfl))).trans ((dk_bind (dk_map (dk_u2 (h 1 _ rfl) (h 2 _ rfl)))).trans rfl))
theorem dk_167 {code : ByteArray} {pc : Nat} (a b : UInt8) (h : DkAt code pc [167, a, b]) : decode code pc = .ok (.goto (Reader.signed 16 (a.toNat * 256 + b.toNat)), 3) := dk_of ((dk_bind (dk_u1 (h 0 _ rfl))).trans ((dk_bind (dk_map (dk_u2 (h 1 _ rfl) (h 2 _ rfl)))).trans rfl))
theorem dk_172 {code : ByteArray} {pc : Nat} (h : DkAt code pc [172]) : decode code pc = .ok (.ireturn, 1) := dk_of ((dk_bind (dk_u1 (h 0 _ rfl))).trans rfl)
theorem dk_173 {code : ByteArray} {pc : Nat} (h : DkAt code pc [173]) : decode code pc = .ok (.lreturn, 1) := dk_of ((dk_bind (dk_u1 (h 0 _ rfl))).trans rfl)
theorem dk_176 {code : ByteArray} {pc : Nat} (h : DkAt code pc [176]) : decode code pc = .ok (.areturn, 1) := dk_of ((dk_bind (dk_u1 (h 0 _ rfl))).trans rfl)
theorem dk_177 {code : ByteArray} {pc : Nat} (h : DkAt code pc [177]) : decode code pc = .ok (.return_, 1) := dk_of ((dk_bind (dk_u1 (h 0 _ rfl))).trans rfl)
theorem dk_178 {code : ByteArray} {pc : Nat} (a b : UInt8) (h : DkAt code pc [178, a, b]) : decode code pc = .ok (.getstatic (a.toNat * 256 + b.toNat), 3) := dk_of ((dk_bind (dk_u1 (h 0 _ rfl))).trans ((dk_bind (dk_u2 (h 1 _ rfl) (h 2 _ rfl))).trans rfl))
theorem dk_180 {code : ByteArray} {pc : Nat} (a b : UInt8) (h : DkAt code pc [180, a, b]) : decode code pc = .ok (.getfield (a.toNat * 256 + b.toNat), 3) := dk_of ((dk_bind (dk_u1 (h 0 _ rfl))).trans ((dk_bind (dk_u2 (h 1 _ rfl) (h 2 _ rfl))).trans rfl))
theorem dk_181 {code : ByteArray} {pc : Nat} (a b : UInt8) (h : DkAt code pc [181, a, b]) : decode code pc = .ok (.putfield (a.toNat * 256 + b.toNat), 3) := dk_of ((dk_bind (dk_u1 (h 0 _ rfl))).trans ((dk_bind (dk_u2 (h 1 _ rfl) (h 2 _ rfl))).trans rfl))
theorem dk_182 {code : ByteArray} {pc : Nat} (a b : UInt8) (h : DkAt code pc [182, a, b]) : decode code pc = .ok (.invokevirtual (a.toNat * 256 + b.toNat), 3) := dk_of ((dk_bind (dk_u1 (h 0 _ rfl))).trans ((dk_bind (dk_u2 (h 1 _ rfl) (h 2 _ rfl))).trans rfl))
theorem dk_183 {code : ByteArray} {pc : Nat} (a b : UInt8) (h : DkAt code pc [183, a, b]) : decode code pc = .ok (.invokespecial (a.toNat * 256 + b.toNat), 3) := dk_of ((dk_bind (dk_u1 (h 0 _ rfl))).trans ((dk_bind (dk_u2 (h 1 _ rfl) (h 2 _ rfl))).trans rfl))
theorem dk_184 {code : ByteArray} {pc : Nat} (a b : UInt8) (h : DkAt code pc [184, a, b]) : decode code pc = .ok (.invokestatic (a.toNat * 256 + b.toNat), 3) := dk_of ((dk_bind (dk_u1 (h 0 _ rfl))).trans ((dk_bind (dk_u2 (h 1 _ rfl) (h 2 _ rfl))).trans rfl))
theorem dk_187 {code : ByteArray} {pc : Nat} (a b : UInt8) (h : DkAt code pc [187, a, b]) : decode code pc = .ok (.new (a.toNat * 256 + b.toNat), 3) := dk_of ((dk_bind (dk_u1 (h 0 _ rfl))).trans ((dk_bind (dk_u2 (h 1 _ rfl) (h 2 _ rfl))).trans rfl))
theorem dk_188_8 {code : ByteArray} {pc : Nat} (h : DkAt code pc [188, 8]) : decode code pc = .ok (.newarray .byte, 2) := dk_of ((dk_bind (dk_u1 (h 0 _ rfl))).trans ((dk_bind (dk_u1 (h 1 _ rfl))).trans rfl))
theorem dk_188_10 {code : ByteArray} {pc : Nat} (h : DkAt code pc [188, 10]) : decode code pc = .ok (.newarray .int, 2) := dk_of ((dk_bind (dk_u1 (h 0 _ rfl))).trans ((dk_bind (dk_u1 (h 1 _ rfl))).trans rfl))
theorem dk_189 {code : ByteArray} {pc : Nat} (a b : UInt8) (h : DkAt code pc [189, a, b]) : decode code pc = .ok (.anewarray (a.toNat * 256 + b.toNat), 3) := dk_of ((dk_bind (dk_u1 (h 0 _ rfl))).trans ((dk_bind (dk_u2 (h 1 _ rfl) (h 2 _ rfl))).trans rfl))
theorem dk_190 {code : ByteArray} {pc : Nat} (h : DkAt code pc [190]) : decode code pc = .ok (.arraylength, 1) := dk_of ((dk_bind (dk_u1 (h 0 _ rfl))).trans rfl)
theorem dk_192 {code : ByteArray} {pc : Nat} (a b : UInt8) (h : DkAt code pc [192, a, b]) : decode code pc = .ok (.checkcast (a.toNat * 256 + b.toNat), 3) := dk_of ((dk_bind (dk_u1 (h 0 _ rfl))).trans ((dk_bind (dk_u2 (h 1 _ rfl) (h 2 _ rfl))).trans rfl))

/-! java/lang/Throwable -/
set_option maxRecDepth 100000
def RJ0 : String := "java/lang/Throwable"
def TJ0 : u_T := fun k => match k with
  | 0 => ("java/lang/Throwable", "cause", "Ljava/lang/Throwable;", false)
  | 1 => ("java/lang/Throwable", "stackTrace", "[Ljava/lang/StackTraceElement;", false)
  | 2 => ("java/lang/Throwable", "suppressedExceptions", "Ljava/util/List;", false)
  | 3 => ("java/lang/Throwable", "detailMessage", "Ljava/lang/String;", false)
  | _ => ("java/lang/Throwable", "backtrace", "Ljava/lang/Object;", false)
def tyJ0 : Nat → FieldType := fun k => match k with
  | 0 => .object "java/lang/Throwable"
  | 1 => .array (.object "java/lang/StackTraceElement")
  | 2 => .object "java/util/List"
  | 3 => .object "java/lang/String"
  | _ => .object "java/lang/Object"
abbrev wsJ00 : List Cond := u_ws RJ0 TJ0 5
theorem nmJ0 : ∀ a, a < 5 → ∀ b, b < 5 → a ≠ b → (TJ0 a).2.1 ≠ (TJ0 b).2.1 := by decide +kernel
theorem tyJ0_ok : ∀ k, k < 5 → parseFieldDescriptor (TJ0 k).2.2.1 = some (tyJ0 k) := by decide +kernel
abbrev cJ0_init : ByteArray := prog_19_method_2_code
def yJ0_init : MethodName := ⟨RJ0, "<init>", "(Ljava/lang/String;)V"⟩
def dkwJ0_init_1 : List UInt8 := [182, 0, 27, 87, 42, 43, 181, 0, 31, 177]
abbrev dktJ0_init_1 : List UInt8 := dkwJ0_init_1 ++ []
def dkwJ0_init_0 : List UInt8 := [42, 183, 0, 1, 42, 42, 181, 0, 7, 42, 178, 0, 13, 181, 0, 17, 42, 178, 0, 20, 181, 0, 24, 42]
abbrev dktJ0_init_0 : List UInt8 := dkwJ0_init_0 ++ dktJ0_init_1
theorem dksJ0_init_0 : cJ0_init.data.toList.drop 0 = dktJ0_init_0 := by decide +kernel
theorem dksJ0_init_1 : cJ0_init.data.toList.drop 24 = dktJ0_init_1 := dk_seg dksJ0_init_0 24 rfl rfl
theorem dJ0_init_0 : decode cJ0_init 0 = .ok (.aload_n 0, 1) := dk_42 (dk_at dksJ0_init_0 0 rfl rfl)
theorem dJ0_init_1 : decode cJ0_init 1 = .ok (.invokespecial 1, 3) := dk_183 0 1 (dk_at dksJ0_init_0 1 rfl rfl)
theorem dJ0_init_4 : decode cJ0_init 4 = .ok (.aload_n 0, 1) := dk_42 (dk_at dksJ0_init_0 4 rfl rfl)
theorem dJ0_init_5 : decode cJ0_init 5 = .ok (.aload_n 0, 1) := dk_42 (dk_at dksJ0_init_0 5 rfl rfl)
theorem dJ0_init_6 : decode cJ0_init 6 = .ok (.putfield 7, 3) := dk_181 0 7 (dk_at dksJ0_init_0 6 rfl rfl)
theorem dJ0_init_9 : decode cJ0_init 9 = .ok (.aload_n 0, 1) := dk_42 (dk_at dksJ0_init_0 9 rfl rfl)
theorem dJ0_init_10 : decode cJ0_init 10 = .ok (.getstatic 13, 3) := dk_178 0 13 (dk_at dksJ0_init_0 10 rfl rfl)
theorem dJ0_init_13 : decode cJ0_init 13 = .ok (.putfield 17, 3) := dk_181 0 17 (dk_at dksJ0_init_0 13 rfl rfl)
theorem dJ0_init_16 : decode cJ0_init 16 = .ok (.aload_n 0, 1) := dk_42 (dk_at dksJ0_init_0 16 rfl rfl)
theorem dJ0_init_17 : decode cJ0_init 17 = .ok (.getstatic 20, 3) := dk_178 0 20 (dk_at dksJ0_init_0 17 rfl rfl)
theorem dJ0_init_20 : decode cJ0_init 20 = .ok (.putfield 24, 3) := dk_181 0 24 (dk_at dksJ0_init_0 20 rfl rfl)
theorem dJ0_init_23 : decode cJ0_init 23 = .ok (.aload_n 0, 1) := dk_42 (dk_at dksJ0_init_0 23 rfl rfl)
theorem dJ0_init_24 : decode cJ0_init 24 = .ok (.invokevirtual 27, 3) := dk_182 0 27 (dk_at dksJ0_init_1 0 rfl rfl)
theorem dJ0_init_27 : decode cJ0_init 27 = .ok (.pop, 1) := dk_87 (dk_at dksJ0_init_1 3 rfl rfl)
theorem dJ0_init_28 : decode cJ0_init 28 = .ok (.aload_n 0, 1) := dk_42 (dk_at dksJ0_init_1 4 rfl rfl)
theorem dJ0_init_29 : decode cJ0_init 29 = .ok (.aload_n 1, 1) := dk_43 (dk_at dksJ0_init_1 5 rfl rfl)
theorem dJ0_init_30 : decode cJ0_init 30 = .ok (.putfield 31, 3) := dk_181 0 31 (dk_at dksJ0_init_1 6 rfl rfl)
theorem dJ0_init_33 : decode cJ0_init 33 = .ok (.return_, 1) := dk_177 (dk_at dksJ0_init_1 9 rfl rfl)
abbrev cJ0_init_2 : ByteArray := prog_19_method_1_code
def yJ0_init_2 : MethodName := ⟨RJ0, "<init>", "()V"⟩
def dkwJ0_init_2_1 : List UInt8 := [182, 0, 27, 87, 177]
abbrev dktJ0_init_2_1 : List UInt8 := dkwJ0_init_2_1 ++ []
def dkwJ0_init_2_0 : List UInt8 := [42, 183, 0, 1, 42, 42, 181, 0, 7, 42, 178, 0, 13, 181, 0, 17, 42, 178, 0, 20, 181, 0, 24, 42]
abbrev dktJ0_init_2_0 : List UInt8 := dkwJ0_init_2_0 ++ dktJ0_init_2_1
theorem dksJ0_init_2_0 : cJ0_init_2.data.toList.drop 0 = dktJ0_init_2_0 := by decide +kernel
theorem dksJ0_init_2_1 : cJ0_init_2.data.toList.drop 24 = dktJ0_init_2_1 := dk_seg dksJ0_init_2_0 24 rfl rfl
theorem dJ0_init_2_0 : decode cJ0_init_2 0 = .ok (.aload_n 0, 1) := dk_42 (dk_at dksJ0_init_2_0 0 rfl rfl)
theorem dJ0_init_2_1 : decode cJ0_init_2 1 = .ok (.invokespecial 1, 3) := dk_183 0 1 (dk_at dksJ0_init_2_0 1 rfl rfl)
theorem dJ0_init_2_4 : decode cJ0_init_2 4 = .ok (.aload_n 0, 1) := dk_42 (dk_at dksJ0_init_2_0 4 rfl rfl)
theorem dJ0_init_2_5 : decode cJ0_init_2 5 = .ok (.aload_n 0, 1) := dk_42 (dk_at dksJ0_init_2_0 5 rfl rfl)
theorem dJ0_init_2_6 : decode cJ0_init_2 6 = .ok (.putfield 7, 3) := dk_181 0 7 (dk_at dksJ0_init_2_0 6 rfl rfl)
theorem dJ0_init_2_9 : decode cJ0_init_2 9 = .ok (.aload_n 0, 1) := dk_42 (dk_at dksJ0_init_2_0 9 rfl rfl)
theorem dJ0_init_2_10 : decode cJ0_init_2 10 = .ok (.getstatic 13, 3) := dk_178 0 13 (dk_at dksJ0_init_2_0 10 rfl rfl)
theorem dJ0_init_2_13 : decode cJ0_init_2 13 = .ok (.putfield 17, 3) := dk_181 0 17 (dk_at dksJ0_init_2_0 13 rfl rfl)
theorem dJ0_init_2_16 : decode cJ0_init_2 16 = .ok (.aload_n 0, 1) := dk_42 (dk_at dksJ0_init_2_0 16 rfl rfl)
theorem dJ0_init_2_17 : decode cJ0_init_2 17 = .ok (.getstatic 20, 3) := dk_178 0 20 (dk_at dksJ0_init_2_0 17 rfl rfl)
theorem dJ0_init_2_20 : decode cJ0_init_2 20 = .ok (.putfield 24, 3) := dk_181 0 24 (dk_at dksJ0_init_2_0 20 rfl rfl)
theorem dJ0_init_2_23 : decode cJ0_init_2 23 = .ok (.aload_n 0, 1) := dk_42 (dk_at dksJ0_init_2_0 23 rfl rfl)
theorem dJ0_init_2_24 : decode cJ0_init_2 24 = .ok (.invokevirtual 27, 3) := dk_182 0 27 (dk_at dksJ0_init_2_1 0 rfl rfl)
theorem dJ0_init_2_27 : decode cJ0_init_2 27 = .ok (.pop, 1) := dk_87 (dk_at dksJ0_init_2_1 3 rfl rfl)
theorem dJ0_init_2_28 : decode cJ0_init_2 28 = .ok (.return_, 1) := dk_177 (dk_at dksJ0_init_2_1 4 rfl rfl)
theorem q65 : (Jvm.Cond.initialized "java/lang/Throwable") ∈ lw_all := lw_g (lw_at lw_m1 11 rfl) rfl
theorem q354 : (Jvm.Cond.instanceMethod ({ cls := "java/lang/Throwable", name := "<init>", desc := "(Ljava/lang/String;)V" } : Jvm.MethodName)) ∈ lw_all := lw_g (lw_at lw_m2 60 rfl) rfl
theorem q355 : (Jvm.Cond.code ({ cls := "java/lang/Throwable", name := "<init>", desc := "(Ljava/lang/String;)V" } : Jvm.MethodName) prog_19_method_2_code (2 : Nat) (Option.none : Option Jvm.ClassFile.FieldType)) ∈ lw_all := lw_g (lw_at lw_m2 61 rfl) rfl
theorem q356 : (Jvm.Cond.methodLink "java/lang/Throwable" (1 : Nat) ({ cls := "java/lang/Object", name := "<init>", desc := "()V" } : Jvm.MethodName)) ∈ lw_all := lw_g (lw_at lw_m2 62 rfl) rfl
theorem q357 : (Jvm.Cond.fieldLink "java/lang/Throwable" (13 : Nat) "java/lang/Throwable" "UNASSIGNED_STACK" "[Ljava/lang/StackTraceElement;") ∈ lw_all := lw_g (lw_at lw_m2 63 rfl) rfl
theorem q358 : (Jvm.Cond.laysStatic "java/lang/Throwable" "UNASSIGNED_STACK" "[Ljava/lang/StackTraceElement;") ∈ lw_tbl := lw_at lw_m2 64 rfl
theorem q359 : (Jvm.Cond.fieldLink "java/lang/Throwable" (20 : Nat) "java/lang/Throwable" "SUPPRESSED_SENTINEL" "Ljava/util/List;") ∈ lw_all := lw_g (lw_at lw_m2 65 rfl) rfl
theorem q360 : (Jvm.Cond.laysStatic "java/lang/Throwable" "SUPPRESSED_SENTINEL" "Ljava/util/List;") ∈ lw_tbl := lw_at lw_m2 66 rfl
theorem q361 : (Jvm.Cond.methodLink "java/lang/Throwable" (27 : Nat) ({ cls := "java/lang/Throwable", name := "fillInStackTrace", desc := "()Ljava/lang/Throwable;" } : Jvm.MethodName)) ∈ lw_all := lw_g (lw_at lw_m2 67 rfl) rfl
theorem q362 : (Jvm.Cond.instanceMethod ({ cls := "java/lang/Throwable", name := "fillInStackTrace", desc := "()Ljava/lang/Throwable;" } : Jvm.MethodName)) ∈ lw_all := lw_g (lw_at lw_m2 68 rfl) rfl
theorem q363 : (Jvm.Cond.sameMethod "java/lang/Throwable" "java/lang/Throwable" "fillInStackTrace" "()Ljava/lang/Throwable;") ∈ lw_all := lw_g (lw_at lw_m2 69 rfl) rfl
theorem q365 : (Jvm.Cond.codeSync ({ cls := "java/lang/Throwable", name := "fillInStackTrace", desc := "()Ljava/lang/Throwable;" } : Jvm.MethodName) prog_19_method_18_code (1 : Nat) (Option.some (Jvm.ClassFile.FieldType.object "java/lang/Throwable"))) ∈ lw_all := lw_g (lw_at lw_m2 71 rfl) rfl
theorem q366 : (Jvm.Cond.methodLink "java/lang/Throwable" (202 : Nat) ({ cls := "java/lang/Throwable", name := "fillInStackTrace", desc := "(I)Ljava/lang/Throwable;" } : Jvm.MethodName)) ∈ lw_all := lw_g (lw_at lw_m2 72 rfl) rfl
theorem q367 : (Jvm.Cond.privateMethod ({ cls := "java/lang/Throwable", name := "fillInStackTrace", desc := "(I)Ljava/lang/Throwable;" } : Jvm.MethodName)) ∈ lw_tbl := lw_at lw_m2 73 rfl
theorem q368 : (Jvm.Cond.instanceMethod ({ cls := "java/lang/Throwable", name := "fillInStackTrace", desc := "(I)Ljava/lang/Throwable;" } : Jvm.MethodName)) ∈ lw_all := lw_g (lw_at lw_m2 74 rfl) rfl
theorem q369 : (Jvm.Cond.instantiable "java/lang/Throwable" (6 : Nat)) ∈ lw_all := lw_g (lw_at lw_m2 75 rfl) rfl
theorem q370 : (Jvm.Cond.native ({ cls := "java/lang/Throwable", name := "fillInStackTrace", desc := "(I)Ljava/lang/Throwable;" } : Jvm.MethodName)) ∈ lw_all := lw_g (lw_at lw_m2 76 rfl) rfl
theorem q371 : (Jvm.Cond.fieldLink "java/lang/Throwable" (198 : Nat) "java/lang/Throwable" "backtrace" "Ljava/lang/Object;") ∈ lw_all := lw_g (lw_at lw_m2 77 rfl) rfl
theorem q372 : (Jvm.Cond.fieldLink "java/lang/Throwable" (31 : Nat) "java/lang/Throwable" "detailMessage" "Ljava/lang/String;") ∈ lw_all := lw_g (lw_at lw_m2 78 rfl) rfl
theorem q373 : (Jvm.Cond.fieldLink "java/lang/Throwable" (7 : Nat) "java/lang/Throwable" "cause" "Ljava/lang/Throwable;") ∈ lw_all := lw_g (lw_at lw_m2 79 rfl) rfl
theorem q374 : (Jvm.Cond.fieldLink "java/lang/Throwable" (17 : Nat) "java/lang/Throwable" "stackTrace" "[Ljava/lang/StackTraceElement;") ∈ lw_all := lw_g (lw_at lw_m2 80 rfl) rfl
theorem q375 : (Jvm.Cond.fieldLink "java/lang/Throwable" (24 : Nat) "java/lang/Throwable" "suppressedExceptions" "Ljava/util/List;") ∈ lw_all := lw_g (lw_at lw_m2 81 rfl) rfl
theorem q377 : (Jvm.Cond.soleField "java/lang/Throwable" "backtrace") ∈ lw_all := lw_g (lw_at lw_m2 83 rfl) rfl
theorem q379 : (Jvm.Cond.soleField "java/lang/Throwable" "detailMessage") ∈ lw_all := lw_g (lw_at lw_m2 85 rfl) rfl
theorem q381 : (Jvm.Cond.soleField "java/lang/Throwable" "cause") ∈ lw_all := lw_g (lw_at lw_m2 87 rfl) rfl
theorem q383 : (Jvm.Cond.soleField "java/lang/Throwable" "stackTrace") ∈ lw_all := lw_g (lw_at lw_m2 89 rfl) rfl
theorem q385 : (Jvm.Cond.soleField "java/lang/Throwable" "depth") ∈ lw_all := lw_g (lw_at lw_m2 91 rfl) rfl
theorem q387 : (Jvm.Cond.soleField "java/lang/Throwable" "suppressedExceptions") ∈ lw_all := lw_g (lw_at lw_m2 93 rfl) rfl
theorem q394 : (Jvm.Cond.declares ({ cls := "java/lang/Throwable", name := "<init>", desc := "()V" } : Jvm.MethodName)) ∈ lw_tbl := lw_at lw_m2 100 rfl
theorem q395 : (Jvm.Cond.declares ({ cls := "java/lang/Throwable", name := "<init>", desc := "(Ljava/lang/String;)V" } : Jvm.MethodName)) ∈ lw_tbl := lw_at lw_m2 101 rfl
theorem q397 : (Jvm.Cond.lays "java/lang/Throwable" "java/lang/Throwable" "cause" "Ljava/lang/Throwable;") ∈ lw_all := lw_g (lw_at lw_m2 103 rfl) rfl
theorem q398 : (Jvm.Cond.lays "java/lang/Throwable" "java/lang/Throwable" "stackTrace" "[Ljava/lang/StackTraceElement;") ∈ lw_all := lw_g (lw_at lw_m2 104 rfl) rfl
theorem q399 : (Jvm.Cond.lays "java/lang/Throwable" "java/lang/Throwable" "suppressedExceptions" "Ljava/util/List;") ∈ lw_all := lw_g (lw_at lw_m2 105 rfl) rfl
theorem q400 : (Jvm.Cond.lays "java/lang/Throwable" "java/lang/Throwable" "detailMessage" "Ljava/lang/String;") ∈ lw_all := lw_g (lw_at lw_m2 106 rfl) rfl
theorem q401 : (Jvm.Cond.lays "java/lang/Throwable" "java/lang/Throwable" "backtrace" "Ljava/lang/Object;") ∈ lw_all := lw_g (lw_at lw_m2 107 rfl) rfl
theorem q402 : (Jvm.Cond.fieldLink "java/lang/Throwable" (198 : Nat) "java/lang/Throwable" "backtrace" "Ljava/lang/Object;") ∈ lw_all := lw_g (lw_at lw_m2 108 rfl) rfl
theorem q403 : (Jvm.Cond.superclass "java/lang/Throwable" "java/lang/Object") ∈ lw_all := lw_g (lw_at lw_m2 109 rfl) rfl
theorem q404 : (Jvm.Cond.instanceMethod ({ cls := "java/lang/Throwable", name := "<init>", desc := "()V" } : Jvm.MethodName)) ∈ lw_all := lw_g (lw_at lw_m2 110 rfl) rfl
theorem q405 : (Jvm.Cond.code ({ cls := "java/lang/Throwable", name := "<init>", desc := "()V" } : Jvm.MethodName) prog_19_method_1_code (1 : Nat) (Option.none : Option Jvm.ClassFile.FieldType)) ∈ lw_all := lw_g (lw_at lw_m2 111 rfl) rfl
theorem q1068 : (Jvm.Cond.sameMethod "java/lang/Throwable" "java/lang/Throwable" "fillInStackTrace" "(I)Ljava/lang/Throwable;") ∈ lw_all := lw_g (lw_at lw_m5 54 rfl) rfl
theorem in_J0 : ∀ w ∈ wsJ00, w ∈ lw_all := lw_in wsJ00 [397, 398, 399, 400, 401] (by decide +kernel) (by decide +kernel)

/-! java/lang/Exception -/
set_option maxRecDepth 100000
def RJ1 : String := "java/lang/Exception"
abbrev cJ1_init : ByteArray := prog_13_method_2_code
def yJ1_init : MethodName := ⟨RJ1, "<init>", "(Ljava/lang/String;)V"⟩
def dkwJ1_init_0 : List UInt8 := [42, 43, 183, 0, 7, 177]
abbrev dktJ1_init_0 : List UInt8 := dkwJ1_init_0 ++ []
theorem dksJ1_init_0 : cJ1_init.data.toList.drop 0 = dktJ1_init_0 := by decide +kernel
theorem dJ1_init_0 : decode cJ1_init 0 = .ok (.aload_n 0, 1) := dk_42 (dk_at dksJ1_init_0 0 rfl rfl)
theorem dJ1_init_1 : decode cJ1_init 1 = .ok (.aload_n 1, 1) := dk_43 (dk_at dksJ1_init_0 1 rfl rfl)
theorem dJ1_init_2 : decode cJ1_init 2 = .ok (.invokespecial 7, 3) := dk_183 0 7 (dk_at dksJ1_init_0 2 rfl rfl)
theorem dJ1_init_5 : decode cJ1_init 5 = .ok (.return_, 1) := dk_177 (dk_at dksJ1_init_0 5 rfl rfl)
theorem q66 : (Jvm.Cond.initialized "java/lang/Exception") ∈ lw_all := lw_g (lw_at lw_m1 12 rfl) rfl
theorem q351 : (Jvm.Cond.instanceMethod ({ cls := "java/lang/Exception", name := "<init>", desc := "(Ljava/lang/String;)V" } : Jvm.MethodName)) ∈ lw_all := lw_g (lw_at lw_m2 57 rfl) rfl
theorem q352 : (Jvm.Cond.code ({ cls := "java/lang/Exception", name := "<init>", desc := "(Ljava/lang/String;)V" } : Jvm.MethodName) prog_13_method_2_code (2 : Nat) (Option.none : Option Jvm.ClassFile.FieldType)) ∈ lw_all := lw_g (lw_at lw_m2 58 rfl) rfl
theorem q353 : (Jvm.Cond.methodLink "java/lang/Exception" (7 : Nat) ({ cls := "java/lang/Throwable", name := "<init>", desc := "(Ljava/lang/String;)V" } : Jvm.MethodName)) ∈ lw_all := lw_g (lw_at lw_m2 59 rfl) rfl
theorem q392 : (Jvm.Cond.declares ({ cls := "java/lang/Exception", name := "<init>", desc := "()V" } : Jvm.MethodName)) ∈ lw_tbl := lw_at lw_m2 98 rfl
theorem q393 : (Jvm.Cond.declares ({ cls := "java/lang/Exception", name := "<init>", desc := "(Ljava/lang/String;)V" } : Jvm.MethodName)) ∈ lw_tbl := lw_at lw_m2 99 rfl

/-! java/lang/RuntimeException -/
set_option maxRecDepth 100000
def RJ2 : String := "java/lang/RuntimeException"
abbrev cJ2_init : ByteArray := prog_16_method_2_code
def yJ2_init : MethodName := ⟨RJ2, "<init>", "(Ljava/lang/String;)V"⟩
def dkwJ2_init_0 : List UInt8 := [42, 43, 183, 0, 7, 177]
abbrev dktJ2_init_0 : List UInt8 := dkwJ2_init_0 ++ []
theorem dksJ2_init_0 : cJ2_init.data.toList.drop 0 = dktJ2_init_0 := by decide +kernel
theorem dJ2_init_0 : decode cJ2_init 0 = .ok (.aload_n 0, 1) := dk_42 (dk_at dksJ2_init_0 0 rfl rfl)
theorem dJ2_init_1 : decode cJ2_init 1 = .ok (.aload_n 1, 1) := dk_43 (dk_at dksJ2_init_0 1 rfl rfl)
theorem dJ2_init_2 : decode cJ2_init 2 = .ok (.invokespecial 7, 3) := dk_183 0 7 (dk_at dksJ2_init_0 2 rfl rfl)
theorem dJ2_init_5 : decode cJ2_init 5 = .ok (.return_, 1) := dk_177 (dk_at dksJ2_init_0 5 rfl rfl)
theorem q67 : (Jvm.Cond.initialized "java/lang/RuntimeException") ∈ lw_all := lw_g (lw_at lw_m1 13 rfl) rfl
theorem q348 : (Jvm.Cond.instanceMethod ({ cls := "java/lang/RuntimeException", name := "<init>", desc := "(Ljava/lang/String;)V" } : Jvm.MethodName)) ∈ lw_all := lw_g (lw_at lw_m2 54 rfl) rfl
theorem q349 : (Jvm.Cond.code ({ cls := "java/lang/RuntimeException", name := "<init>", desc := "(Ljava/lang/String;)V" } : Jvm.MethodName) prog_16_method_2_code (2 : Nat) (Option.none : Option Jvm.ClassFile.FieldType)) ∈ lw_all := lw_g (lw_at lw_m2 55 rfl) rfl
theorem q350 : (Jvm.Cond.methodLink "java/lang/RuntimeException" (7 : Nat) ({ cls := "java/lang/Exception", name := "<init>", desc := "(Ljava/lang/String;)V" } : Jvm.MethodName)) ∈ lw_all := lw_g (lw_at lw_m2 56 rfl) rfl
theorem q390 : (Jvm.Cond.declares ({ cls := "java/lang/RuntimeException", name := "<init>", desc := "()V" } : Jvm.MethodName)) ∈ lw_tbl := lw_at lw_m2 96 rfl
theorem q391 : (Jvm.Cond.declares ({ cls := "java/lang/RuntimeException", name := "<init>", desc := "(Ljava/lang/String;)V" } : Jvm.MethodName)) ∈ lw_tbl := lw_at lw_m2 97 rfl

/-! java/lang/ClassCastException -/
set_option maxRecDepth 100000
def RJ3 : String := "java/lang/ClassCastException"
def TJ3 : u_T := fun k => match k with
  | 0 => ("java/lang/Throwable", "backtrace", "Ljava/lang/Object;", false)
  | 1 => ("java/lang/Throwable", "detailMessage", "Ljava/lang/String;", false)
  | 2 => ("java/lang/Throwable", "cause", "Ljava/lang/Throwable;", false)
  | 3 => ("java/lang/Throwable", "stackTrace", "[Ljava/lang/StackTraceElement;", false)
  | 4 => ("java/lang/Throwable", "depth", "I", false)
  | _ => ("java/lang/Throwable", "suppressedExceptions", "Ljava/util/List;", false)
def tyJ3 : Nat → FieldType := fun k => match k with
  | 0 => .object "java/lang/Object"
  | 1 => .object "java/lang/String"
  | 2 => .object "java/lang/Throwable"
  | 3 => .array (.object "java/lang/StackTraceElement")
  | 4 => .int
  | _ => .object "java/util/List"
abbrev wsJ30 : List Cond := u_ws RJ3 TJ3 6
theorem nmJ3 : ∀ a, a < 6 → ∀ b, b < 6 → a ≠ b → (TJ3 a).2.1 ≠ (TJ3 b).2.1 := by decide +kernel
theorem tyJ3_ok : ∀ k, k < 6 → parseFieldDescriptor (TJ3 k).2.2.1 = some (tyJ3 k) := by decide +kernel
abbrev cJ3_init : ByteArray := prog_12_method_2_code
def yJ3_init : MethodName := ⟨RJ3, "<init>", "(Ljava/lang/String;)V"⟩
def dkwJ3_init_0 : List UInt8 := [42, 43, 183, 0, 7, 177]
abbrev dktJ3_init_0 : List UInt8 := dkwJ3_init_0 ++ []
theorem dksJ3_init_0 : cJ3_init.data.toList.drop 0 = dktJ3_init_0 := by decide +kernel
theorem dJ3_init_0 : decode cJ3_init 0 = .ok (.aload_n 0, 1) := dk_42 (dk_at dksJ3_init_0 0 rfl rfl)
theorem dJ3_init_1 : decode cJ3_init 1 = .ok (.aload_n 1, 1) := dk_43 (dk_at dksJ3_init_0 1 rfl rfl)
theorem dJ3_init_2 : decode cJ3_init 2 = .ok (.invokespecial 7, 3) := dk_183 0 7 (dk_at dksJ3_init_0 2 rfl rfl)
theorem dJ3_init_5 : decode cJ3_init 5 = .ok (.return_, 1) := dk_177 (dk_at dksJ3_init_0 5 rfl rfl)
theorem q68 : (Jvm.Cond.initialized "java/lang/ClassCastException") ∈ lw_all := lw_g (lw_at lw_m1 14 rfl) rfl
theorem q344 : (Jvm.Cond.instantiable "java/lang/ClassCastException" (6 : Nat)) ∈ lw_all := lw_g (lw_at lw_m2 50 rfl) rfl
theorem q345 : (Jvm.Cond.instanceMethod ({ cls := "java/lang/ClassCastException", name := "<init>", desc := "(Ljava/lang/String;)V" } : Jvm.MethodName)) ∈ lw_all := lw_g (lw_at lw_m2 51 rfl) rfl
theorem q346 : (Jvm.Cond.code ({ cls := "java/lang/ClassCastException", name := "<init>", desc := "(Ljava/lang/String;)V" } : Jvm.MethodName) prog_12_method_2_code (2 : Nat) (Option.none : Option Jvm.ClassFile.FieldType)) ∈ lw_all := lw_g (lw_at lw_m2 52 rfl) rfl
theorem q347 : (Jvm.Cond.methodLink "java/lang/ClassCastException" (7 : Nat) ({ cls := "java/lang/RuntimeException", name := "<init>", desc := "(Ljava/lang/String;)V" } : Jvm.MethodName)) ∈ lw_all := lw_g (lw_at lw_m2 53 rfl) rfl
theorem q364 : (Jvm.Cond.selects "java/lang/ClassCastException" ({ cls := "java/lang/Throwable", name := "fillInStackTrace", desc := "()Ljava/lang/Throwable;" } : Jvm.MethodName) ({ cls := "java/lang/Throwable", name := "fillInStackTrace", desc := "()Ljava/lang/Throwable;" } : Jvm.MethodName)) ∈ lw_all := lw_g (lw_at lw_m2 70 rfl) rfl
theorem q376 : (Jvm.Cond.lays "java/lang/ClassCastException" "java/lang/Throwable" "backtrace" "Ljava/lang/Object;") ∈ lw_all := lw_g (lw_at lw_m2 82 rfl) rfl
theorem q378 : (Jvm.Cond.lays "java/lang/ClassCastException" "java/lang/Throwable" "detailMessage" "Ljava/lang/String;") ∈ lw_all := lw_g (lw_at lw_m2 84 rfl) rfl
theorem q380 : (Jvm.Cond.lays "java/lang/ClassCastException" "java/lang/Throwable" "cause" "Ljava/lang/Throwable;") ∈ lw_all := lw_g (lw_at lw_m2 86 rfl) rfl
theorem q382 : (Jvm.Cond.lays "java/lang/ClassCastException" "java/lang/Throwable" "stackTrace" "[Ljava/lang/StackTraceElement;") ∈ lw_all := lw_g (lw_at lw_m2 88 rfl) rfl
theorem q384 : (Jvm.Cond.lays "java/lang/ClassCastException" "java/lang/Throwable" "depth" "I") ∈ lw_all := lw_g (lw_at lw_m2 90 rfl) rfl
theorem q386 : (Jvm.Cond.lays "java/lang/ClassCastException" "java/lang/Throwable" "suppressedExceptions" "Ljava/util/List;") ∈ lw_all := lw_g (lw_at lw_m2 92 rfl) rfl
theorem q388 : (Jvm.Cond.superclass "java/lang/ClassCastException" "java/lang/RuntimeException") ∈ lw_all := lw_g (lw_at lw_m2 94 rfl) rfl
theorem q389 : (Jvm.Cond.castable "java/lang/ClassCastException" "java/lang/ClassCastException") ∈ lw_tbl := lw_at lw_m2 95 rfl
theorem q396 : (Jvm.Cond.selects "java/lang/ClassCastException" ({ cls := "java/lang/Throwable", name := "fillInStackTrace", desc := "(I)Ljava/lang/Throwable;" } : Jvm.MethodName) ({ cls := "java/lang/Throwable", name := "fillInStackTrace", desc := "(I)Ljava/lang/Throwable;" } : Jvm.MethodName)) ∈ lw_all := lw_g (lw_at lw_m2 102 rfl) rfl
theorem in_J3 : ∀ w ∈ wsJ30, w ∈ lw_all := lw_in wsJ30 [376, 378, 380, 382, 384, 386] (by decide +kernel) (by decide +kernel)

/-! java/lang/String -/
set_option maxRecDepth 100000
def RJ4 : String := "java/lang/String"
def TJ4 : u_T := fun k => match k with
  | 0 => ("java/lang/String", "value", "[B", true)
  | _ => ("java/lang/String", "coder", "B", true)
def tyJ4 : Nat → FieldType := fun k => match k with
  | 0 => .array .byte
  | _ => .byte
abbrev wsJ40 : List Cond := u_ws RJ4 TJ4 2
theorem nmJ4 : ∀ a, a < 2 → ∀ b, b < 2 → a ≠ b → (TJ4 a).2.1 ≠ (TJ4 b).2.1 := by decide +kernel
theorem tyJ4_ok : ∀ k, k < 2 → parseFieldDescriptor (TJ4 k).2.2.1 = some (tyJ4 k) := by decide +kernel
theorem q69 : (Jvm.Cond.initialized "java/lang/String") ∈ lw_all := lw_g (lw_at lw_m1 15 rfl) rfl
theorem q406 : (Jvm.Cond.instantiable "java/lang/String" (4 : Nat)) ∈ lw_all := lw_g (lw_at lw_m2 112 rfl) rfl
theorem q408 : (Jvm.Cond.laysFinal "java/lang/String" "java/lang/String" "value" "[B") ∈ lw_all := lw_g (lw_at lw_m2 114 rfl) rfl
theorem q409 : (Jvm.Cond.soleField "java/lang/String" "value") ∈ lw_all := lw_g (lw_at lw_m2 115 rfl) rfl
theorem q410 : (Jvm.Cond.laysFinal "java/lang/String" "java/lang/String" "coder" "B") ∈ lw_all := lw_g (lw_at lw_m2 116 rfl) rfl
theorem q411 : (Jvm.Cond.soleField "java/lang/String" "coder") ∈ lw_all := lw_g (lw_at lw_m2 117 rfl) rfl
theorem in_J4 : ∀ w ∈ wsJ40, w ∈ lw_all := lw_in wsJ40 [408, 410] (by decide +kernel) (by decide +kernel)

/-! java/lang/Math -/
set_option maxRecDepth 100000
def RJ5 : String := "java/lang/Math"
abbrev cJ5_min : ByteArray := prog_15_method_69_code
def yJ5_min : MethodName := ⟨RJ5, "min", "(II)I"⟩
def dkwJ5_min_0 : List UInt8 := [26, 27, 163, 0, 7, 26, 167, 0, 4, 27, 172]
abbrev dktJ5_min_0 : List UInt8 := dkwJ5_min_0 ++ []
theorem dksJ5_min_0 : cJ5_min.data.toList.drop 0 = dktJ5_min_0 := by decide +kernel
theorem dJ5_min_0 : decode cJ5_min 0 = .ok (.iload_n 0, 1) := dk_26 (dk_at dksJ5_min_0 0 rfl rfl)
theorem dJ5_min_1 : decode cJ5_min 1 = .ok (.iload_n 1, 1) := dk_27 (dk_at dksJ5_min_0 1 rfl rfl)
theorem dJ5_min_2 : decode cJ5_min 2 = .ok (.if_icmp .gt 7, 3) := dk_163 0 7 (dk_at dksJ5_min_0 2 rfl rfl)
theorem dJ5_min_5 : decode cJ5_min 5 = .ok (.iload_n 0, 1) := dk_26 (dk_at dksJ5_min_0 5 rfl rfl)
theorem dJ5_min_6 : decode cJ5_min 6 = .ok (.goto 4, 3) := dk_167 0 4 (dk_at dksJ5_min_0 6 rfl rfl)
theorem dJ5_min_9 : decode cJ5_min 9 = .ok (.iload_n 1, 1) := dk_27 (dk_at dksJ5_min_0 9 rfl rfl)
theorem dJ5_min_10 : decode cJ5_min 10 = .ok (.ireturn, 1) := dk_172 (dk_at dksJ5_min_0 10 rfl rfl)
abbrev cJ5_max : ByteArray := prog_15_method_65_code
def yJ5_max : MethodName := ⟨RJ5, "max", "(II)I"⟩
def dkwJ5_max_0 : List UInt8 := [26, 27, 161, 0, 7, 26, 167, 0, 4, 27, 172]
abbrev dktJ5_max_0 : List UInt8 := dkwJ5_max_0 ++ []
theorem dksJ5_max_0 : cJ5_max.data.toList.drop 0 = dktJ5_max_0 := by decide +kernel
theorem dJ5_max_0 : decode cJ5_max 0 = .ok (.iload_n 0, 1) := dk_26 (dk_at dksJ5_max_0 0 rfl rfl)
theorem dJ5_max_1 : decode cJ5_max 1 = .ok (.iload_n 1, 1) := dk_27 (dk_at dksJ5_max_0 1 rfl rfl)
theorem dJ5_max_2 : decode cJ5_max 2 = .ok (.if_icmp .lt 7, 3) := dk_161 0 7 (dk_at dksJ5_max_0 2 rfl rfl)
theorem dJ5_max_5 : decode cJ5_max 5 = .ok (.iload_n 0, 1) := dk_26 (dk_at dksJ5_max_0 5 rfl rfl)
theorem dJ5_max_6 : decode cJ5_max 6 = .ok (.goto 4, 3) := dk_167 0 4 (dk_at dksJ5_max_0 6 rfl rfl)
theorem dJ5_max_9 : decode cJ5_max 9 = .ok (.iload_n 1, 1) := dk_27 (dk_at dksJ5_max_0 9 rfl rfl)
theorem dJ5_max_10 : decode cJ5_max 10 = .ok (.ireturn, 1) := dk_172 (dk_at dksJ5_max_0 10 rfl rfl)
theorem q70 : (Jvm.Cond.initialized "java/lang/Math") ∈ lw_all := lw_g (lw_at lw_m1 16 rfl) rfl
theorem q540 : (Jvm.Cond.static ({ cls := "java/lang/Math", name := "min", desc := "(II)I" } : Jvm.MethodName)) ∈ lw_all := lw_g (lw_at lw_m3 6 rfl) rfl
theorem q541 : (Jvm.Cond.code ({ cls := "java/lang/Math", name := "min", desc := "(II)I" } : Jvm.MethodName) prog_15_method_69_code (2 : Nat) (Option.some Jvm.ClassFile.FieldType.int)) ∈ lw_all := lw_g (lw_at lw_m3 7 rfl) rfl
theorem q646 : (Jvm.Cond.static ({ cls := "java/lang/Math", name := "max", desc := "(II)I" } : Jvm.MethodName)) ∈ lw_all := lw_g (lw_at lw_m3 112 rfl) rfl
theorem q647 : (Jvm.Cond.code ({ cls := "java/lang/Math", name := "max", desc := "(II)I" } : Jvm.MethodName) prog_15_method_65_code (2 : Nat) (Option.some Jvm.ClassFile.FieldType.int)) ∈ lw_all := lw_g (lw_at lw_m3 113 rfl) rfl

/-! java/lang/Integer -/
set_option maxRecDepth 100000
def RJ6 : String := "java/lang/Integer"
abbrev cJ6_bitCount : ByteArray := prog_14_method_49_code
def yJ6_bitCount : MethodName := ⟨RJ6, "bitCount", "(I)I"⟩
def dkwJ6_bitCount_2 : List UInt8 := [26, 16, 63, 126, 172]
abbrev dktJ6_bitCount_2 : List UInt8 := dkwJ6_bitCount_2 ++ []
def dkwJ6_bitCount_1 : List UInt8 := [26, 26, 7, 124, 96, 19, 1, 11, 126, 59, 26, 26, 16, 8, 124, 96, 59, 26, 26, 16, 16, 124, 96, 59]
abbrev dktJ6_bitCount_1 : List UInt8 := dkwJ6_bitCount_1 ++ dktJ6_bitCount_2
def dkwJ6_bitCount_0 : List UInt8 := [26, 26, 4, 124, 19, 1, 9, 126, 100, 59, 26, 19, 1, 10, 126, 26, 5, 124, 19, 1, 10, 126, 96, 59]
abbrev dktJ6_bitCount_0 : List UInt8 := dkwJ6_bitCount_0 ++ dktJ6_bitCount_1
theorem dksJ6_bitCount_0 : cJ6_bitCount.data.toList.drop 0 = dktJ6_bitCount_0 := by decide +kernel
theorem dksJ6_bitCount_1 : cJ6_bitCount.data.toList.drop 24 = dktJ6_bitCount_1 := dk_seg dksJ6_bitCount_0 24 rfl rfl
theorem dksJ6_bitCount_2 : cJ6_bitCount.data.toList.drop 48 = dktJ6_bitCount_2 := dk_seg dksJ6_bitCount_1 24 rfl rfl
theorem dJ6_bitCount_0 : decode cJ6_bitCount 0 = .ok (.iload_n 0, 1) := dk_26 (dk_at dksJ6_bitCount_0 0 rfl rfl)
theorem dJ6_bitCount_1 : decode cJ6_bitCount 1 = .ok (.iload_n 0, 1) := dk_26 (dk_at dksJ6_bitCount_0 1 rfl rfl)
theorem dJ6_bitCount_2 : decode cJ6_bitCount 2 = .ok (.iconst 1, 1) := dk_4 (dk_at dksJ6_bitCount_0 2 rfl rfl)
theorem dJ6_bitCount_3 : decode cJ6_bitCount 3 = .ok (.iushr, 1) := dk_124 (dk_at dksJ6_bitCount_0 3 rfl rfl)
theorem dJ6_bitCount_4 : decode cJ6_bitCount 4 = .ok (.ldc_w 265, 3) := dk_19 1 9 (dk_at dksJ6_bitCount_0 4 rfl rfl)
theorem dJ6_bitCount_7 : decode cJ6_bitCount 7 = .ok (.iand, 1) := dk_126 (dk_at dksJ6_bitCount_0 7 rfl rfl)
theorem dJ6_bitCount_8 : decode cJ6_bitCount 8 = .ok (.isub, 1) := dk_100 (dk_at dksJ6_bitCount_0 8 rfl rfl)
theorem dJ6_bitCount_9 : decode cJ6_bitCount 9 = .ok (.istore_n 0, 1) := dk_59 (dk_at dksJ6_bitCount_0 9 rfl rfl)
theorem dJ6_bitCount_10 : decode cJ6_bitCount 10 = .ok (.iload_n 0, 1) := dk_26 (dk_at dksJ6_bitCount_0 10 rfl rfl)
theorem dJ6_bitCount_11 : decode cJ6_bitCount 11 = .ok (.ldc_w 266, 3) := dk_19 1 10 (dk_at dksJ6_bitCount_0 11 rfl rfl)
theorem dJ6_bitCount_14 : decode cJ6_bitCount 14 = .ok (.iand, 1) := dk_126 (dk_at dksJ6_bitCount_0 14 rfl rfl)
theorem dJ6_bitCount_15 : decode cJ6_bitCount 15 = .ok (.iload_n 0, 1) := dk_26 (dk_at dksJ6_bitCount_0 15 rfl rfl)
theorem dJ6_bitCount_16 : decode cJ6_bitCount 16 = .ok (.iconst 2, 1) := dk_5 (dk_at dksJ6_bitCount_0 16 rfl rfl)
theorem dJ6_bitCount_17 : decode cJ6_bitCount 17 = .ok (.iushr, 1) := dk_124 (dk_at dksJ6_bitCount_0 17 rfl rfl)
theorem dJ6_bitCount_18 : decode cJ6_bitCount 18 = .ok (.ldc_w 266, 3) := dk_19 1 10 (dk_at dksJ6_bitCount_0 18 rfl rfl)
theorem dJ6_bitCount_21 : decode cJ6_bitCount 21 = .ok (.iand, 1) := dk_126 (dk_at dksJ6_bitCount_0 21 rfl rfl)
theorem dJ6_bitCount_22 : decode cJ6_bitCount 22 = .ok (.iadd, 1) := dk_96 (dk_at dksJ6_bitCount_0 22 rfl rfl)
theorem dJ6_bitCount_23 : decode cJ6_bitCount 23 = .ok (.istore_n 0, 1) := dk_59 (dk_at dksJ6_bitCount_0 23 rfl rfl)
theorem dJ6_bitCount_24 : decode cJ6_bitCount 24 = .ok (.iload_n 0, 1) := dk_26 (dk_at dksJ6_bitCount_1 0 rfl rfl)
theorem dJ6_bitCount_25 : decode cJ6_bitCount 25 = .ok (.iload_n 0, 1) := dk_26 (dk_at dksJ6_bitCount_1 1 rfl rfl)
theorem dJ6_bitCount_26 : decode cJ6_bitCount 26 = .ok (.iconst 4, 1) := dk_7 (dk_at dksJ6_bitCount_1 2 rfl rfl)
theorem dJ6_bitCount_27 : decode cJ6_bitCount 27 = .ok (.iushr, 1) := dk_124 (dk_at dksJ6_bitCount_1 3 rfl rfl)
theorem dJ6_bitCount_28 : decode cJ6_bitCount 28 = .ok (.iadd, 1) := dk_96 (dk_at dksJ6_bitCount_1 4 rfl rfl)
theorem dJ6_bitCount_29 : decode cJ6_bitCount 29 = .ok (.ldc_w 267, 3) := dk_19 1 11 (dk_at dksJ6_bitCount_1 5 rfl rfl)
theorem dJ6_bitCount_32 : decode cJ6_bitCount 32 = .ok (.iand, 1) := dk_126 (dk_at dksJ6_bitCount_1 8 rfl rfl)
theorem dJ6_bitCount_33 : decode cJ6_bitCount 33 = .ok (.istore_n 0, 1) := dk_59 (dk_at dksJ6_bitCount_1 9 rfl rfl)
theorem dJ6_bitCount_34 : decode cJ6_bitCount 34 = .ok (.iload_n 0, 1) := dk_26 (dk_at dksJ6_bitCount_1 10 rfl rfl)
theorem dJ6_bitCount_35 : decode cJ6_bitCount 35 = .ok (.iload_n 0, 1) := dk_26 (dk_at dksJ6_bitCount_1 11 rfl rfl)
theorem dJ6_bitCount_36 : decode cJ6_bitCount 36 = .ok (.bipush 8, 2) := dk_16 8 (dk_at dksJ6_bitCount_1 12 rfl rfl)
theorem dJ6_bitCount_38 : decode cJ6_bitCount 38 = .ok (.iushr, 1) := dk_124 (dk_at dksJ6_bitCount_1 14 rfl rfl)
theorem dJ6_bitCount_39 : decode cJ6_bitCount 39 = .ok (.iadd, 1) := dk_96 (dk_at dksJ6_bitCount_1 15 rfl rfl)
theorem dJ6_bitCount_40 : decode cJ6_bitCount 40 = .ok (.istore_n 0, 1) := dk_59 (dk_at dksJ6_bitCount_1 16 rfl rfl)
theorem dJ6_bitCount_41 : decode cJ6_bitCount 41 = .ok (.iload_n 0, 1) := dk_26 (dk_at dksJ6_bitCount_1 17 rfl rfl)
theorem dJ6_bitCount_42 : decode cJ6_bitCount 42 = .ok (.iload_n 0, 1) := dk_26 (dk_at dksJ6_bitCount_1 18 rfl rfl)
theorem dJ6_bitCount_43 : decode cJ6_bitCount 43 = .ok (.bipush 16, 2) := dk_16 16 (dk_at dksJ6_bitCount_1 19 rfl rfl)
theorem dJ6_bitCount_45 : decode cJ6_bitCount 45 = .ok (.iushr, 1) := dk_124 (dk_at dksJ6_bitCount_1 21 rfl rfl)
theorem dJ6_bitCount_46 : decode cJ6_bitCount 46 = .ok (.iadd, 1) := dk_96 (dk_at dksJ6_bitCount_1 22 rfl rfl)
theorem dJ6_bitCount_47 : decode cJ6_bitCount 47 = .ok (.istore_n 0, 1) := dk_59 (dk_at dksJ6_bitCount_1 23 rfl rfl)
theorem dJ6_bitCount_48 : decode cJ6_bitCount 48 = .ok (.iload_n 0, 1) := dk_26 (dk_at dksJ6_bitCount_2 0 rfl rfl)
theorem dJ6_bitCount_49 : decode cJ6_bitCount 49 = .ok (.bipush 63, 2) := dk_16 63 (dk_at dksJ6_bitCount_2 1 rfl rfl)
theorem dJ6_bitCount_51 : decode cJ6_bitCount 51 = .ok (.iand, 1) := dk_126 (dk_at dksJ6_bitCount_2 3 rfl rfl)
theorem dJ6_bitCount_52 : decode cJ6_bitCount 52 = .ok (.ireturn, 1) := dk_172 (dk_at dksJ6_bitCount_2 4 rfl rfl)
theorem q71 : (Jvm.Cond.initialized "java/lang/Integer") ∈ lw_all := lw_g (lw_at lw_m1 17 rfl) rfl
theorem q564 : (Jvm.Cond.static ({ cls := "java/lang/Integer", name := "bitCount", desc := "(I)I" } : Jvm.MethodName)) ∈ lw_all := lw_g (lw_at lw_m3 30 rfl) rfl
theorem q565 : (Jvm.Cond.code ({ cls := "java/lang/Integer", name := "bitCount", desc := "(I)I" } : Jvm.MethodName) prog_14_method_49_code (1 : Nat) (Option.some Jvm.ClassFile.FieldType.int)) ∈ lw_all := lw_g (lw_at lw_m3 31 rfl) rfl
theorem q566 : (Jvm.Cond.constant "java/lang/Integer" (265 : Nat) (1431655765 : Int32)) ∈ lw_all := lw_g (lw_at lw_m3 32 rfl) rfl
theorem q567 : (Jvm.Cond.constant "java/lang/Integer" (266 : Nat) (858993459 : Int32)) ∈ lw_all := lw_g (lw_at lw_m3 33 rfl) rfl
theorem q568 : (Jvm.Cond.constant "java/lang/Integer" (267 : Nat) (252645135 : Int32)) ∈ lw_all := lw_g (lw_at lw_m3 34 rfl) rfl

/-! java/lang/Object -/
set_option maxRecDepth 100000
def RJ7 : String := "java/lang/Object"
abbrev cJ7_init : ByteArray := object_method_1_code
def yJ7_init : MethodName := ⟨RJ7, "<init>", "()V"⟩
theorem dJ7_init_0 : decode cJ7_init 0 = .ok (.return_, 1) := by decide +kernel
theorem q78 : (Jvm.Cond.instanceMethod ({ cls := "java/lang/Object", name := "<init>", desc := "()V" } : Jvm.MethodName)) ∈ lw_all := lw_g (lw_at lw_m1 24 rfl) rfl
theorem q79 : (Jvm.Cond.code ({ cls := "java/lang/Object", name := "<init>", desc := "()V" } : Jvm.MethodName) object_method_1_code (1 : Nat) (Option.none : Option Jvm.ClassFile.FieldType)) ∈ lw_all := lw_g (lw_at lw_m1 25 rfl) rfl

/-! TownOnWeight$Day -/
set_option maxRecDepth 100000
def RX1 : String := "TownOnWeight$Day"
def TX1 : u_T := fun k => match k with
  | 0 => ("TownOnWeight$Day", "length", "I", false)
  | 1 => ("TownOnWeight$Day", "hangs", "I", false)
  | 2 => ("TownOnWeight$Day", "hour", "I", false)
  | 3 => ("TownOnWeight$Day", "lost", "I", false)
  | 4 => ("TownOnWeight$Day", "worked", "I", false)
  | 5 => ("TownOnWeight$Day", "brakes", "I", false)
  | 6 => ("TownOnWeight$Day", "isDown", "Z", false)
  | 7 => ("TownOnWeight$Day", "isRain", "Z", false)
  | _ => ("TownOnWeight$Day", "taken", "[I", true)
def tyX1 : Nat → FieldType := fun k => match k with
  | 0 => .int
  | 1 => .int
  | 2 => .int
  | 3 => .int
  | 4 => .int
  | 5 => .int
  | 6 => .boolean
  | 7 => .boolean
  | _ => .array .int
abbrev wsX10 : List Cond := u_ws RX1 TX1 9
theorem nmX1 : ∀ a, a < 9 → ∀ b, b < 9 → a ≠ b → (TX1 a).2.1 ≠ (TX1 b).2.1 := by decide +kernel
theorem tyX1_ok : ∀ k, k < 9 → parseFieldDescriptor (TX1 k).2.2.1 = some (tyX1 k) := by decide +kernel
abbrev cX1_init : ByteArray := prog_3_method_1_code
def yX1_init : MethodName := ⟨RX1, "<init>", "()V"⟩
def dkwX1_init_1 : List UInt8 := [177]
abbrev dktX1_init_1 : List UInt8 := dkwX1_init_1 ++ []
def dkwX1_init_0 : List UInt8 := [42, 183, 0, 3, 42, 16, 60, 181, 0, 9, 42, 16, 60, 181, 0, 15, 42, 16, 8, 188, 10, 181, 0, 18]
abbrev dktX1_init_0 : List UInt8 := dkwX1_init_0 ++ dktX1_init_1
theorem dksX1_init_0 : cX1_init.data.toList.drop 0 = dktX1_init_0 := by decide +kernel
theorem dksX1_init_1 : cX1_init.data.toList.drop 24 = dktX1_init_1 := dk_seg dksX1_init_0 24 rfl rfl
theorem dX1_init_0 : decode cX1_init 0 = .ok (.aload_n 0, 1) := dk_42 (dk_at dksX1_init_0 0 rfl rfl)
theorem dX1_init_1 : decode cX1_init 1 = .ok (.invokespecial 3, 3) := dk_183 0 3 (dk_at dksX1_init_0 1 rfl rfl)
theorem dX1_init_4 : decode cX1_init 4 = .ok (.aload_n 0, 1) := dk_42 (dk_at dksX1_init_0 4 rfl rfl)
theorem dX1_init_5 : decode cX1_init 5 = .ok (.bipush 60, 2) := dk_16 60 (dk_at dksX1_init_0 5 rfl rfl)
theorem dX1_init_7 : decode cX1_init 7 = .ok (.putfield 9, 3) := dk_181 0 9 (dk_at dksX1_init_0 7 rfl rfl)
theorem dX1_init_10 : decode cX1_init 10 = .ok (.aload_n 0, 1) := dk_42 (dk_at dksX1_init_0 10 rfl rfl)
theorem dX1_init_11 : decode cX1_init 11 = .ok (.bipush 60, 2) := dk_16 60 (dk_at dksX1_init_0 11 rfl rfl)
theorem dX1_init_13 : decode cX1_init 13 = .ok (.putfield 15, 3) := dk_181 0 15 (dk_at dksX1_init_0 13 rfl rfl)
theorem dX1_init_16 : decode cX1_init 16 = .ok (.aload_n 0, 1) := dk_42 (dk_at dksX1_init_0 16 rfl rfl)
theorem dX1_init_17 : decode cX1_init 17 = .ok (.bipush 8, 2) := dk_16 8 (dk_at dksX1_init_0 17 rfl rfl)
theorem dX1_init_19 : decode cX1_init 19 = .ok (.newarray .int, 2) := dk_188_10 (dk_at dksX1_init_0 19 rfl rfl)
theorem dX1_init_21 : decode cX1_init 21 = .ok (.putfield 18, 3) := dk_181 0 18 (dk_at dksX1_init_0 21 rfl rfl)
theorem dX1_init_24 : decode cX1_init 24 = .ok (.return_, 1) := dk_177 (dk_at dksX1_init_1 0 rfl rfl)
abbrev cX1_isOver : ByteArray := prog_3_method_3_code
def yX1_isOver : MethodName := ⟨RX1, "isOver", "()Z"⟩
def dkwX1_isOver_0 : List UInt8 := [42, 180, 0, 34, 154, 0, 12, 42, 180, 0, 22, 16, 9, 160, 0, 7, 4, 167, 0, 4, 3, 172]
abbrev dktX1_isOver_0 : List UInt8 := dkwX1_isOver_0 ++ []
theorem dksX1_isOver_0 : cX1_isOver.data.toList.drop 0 = dktX1_isOver_0 := by decide +kernel
theorem dX1_isOver_0 : decode cX1_isOver 0 = .ok (.aload_n 0, 1) := dk_42 (dk_at dksX1_isOver_0 0 rfl rfl)
theorem dX1_isOver_1 : decode cX1_isOver 1 = .ok (.getfield 34, 3) := dk_180 0 34 (dk_at dksX1_isOver_0 1 rfl rfl)
theorem dX1_isOver_4 : decode cX1_isOver 4 = .ok (.ifCond .ne 12, 3) := dk_154 0 12 (dk_at dksX1_isOver_0 4 rfl rfl)
theorem dX1_isOver_7 : decode cX1_isOver 7 = .ok (.aload_n 0, 1) := dk_42 (dk_at dksX1_isOver_0 7 rfl rfl)
theorem dX1_isOver_8 : decode cX1_isOver 8 = .ok (.getfield 22, 3) := dk_180 0 22 (dk_at dksX1_isOver_0 8 rfl rfl)
theorem dX1_isOver_11 : decode cX1_isOver 11 = .ok (.bipush 9, 2) := dk_16 9 (dk_at dksX1_isOver_0 11 rfl rfl)
theorem dX1_isOver_13 : decode cX1_isOver 13 = .ok (.if_icmp .ne 7, 3) := dk_160 0 7 (dk_at dksX1_isOver_0 13 rfl rfl)
theorem dX1_isOver_16 : decode cX1_isOver 16 = .ok (.iconst 1, 1) := dk_4 (dk_at dksX1_isOver_0 16 rfl rfl)
theorem dX1_isOver_17 : decode cX1_isOver 17 = .ok (.goto 4, 3) := dk_167 0 4 (dk_at dksX1_isOver_0 17 rfl rfl)
theorem dX1_isOver_20 : decode cX1_isOver 20 = .ok (.iconst 0, 1) := dk_3 (dk_at dksX1_isOver_0 20 rfl rfl)
theorem dX1_isOver_21 : decode cX1_isOver 21 = .ok (.ireturn, 1) := dk_172 (dk_at dksX1_isOver_0 21 rfl rfl)
abbrev cX1_all : ByteArray := prog_3_method_4_code
def yX1_all : MethodName := ⟨RX1, "all", "()I"⟩
def dkwX1_all_1 : List UInt8 := [167, 255, 238, 27, 172]
abbrev dktX1_all_1 : List UInt8 := dkwX1_all_1 ++ []
def dkwX1_all_0 : List UInt8 := [3, 60, 3, 61, 28, 16, 8, 162, 0, 18, 27, 42, 180, 0, 18, 28, 46, 96, 60, 132, 2, 1]
abbrev dktX1_all_0 : List UInt8 := dkwX1_all_0 ++ dktX1_all_1
theorem dksX1_all_0 : cX1_all.data.toList.drop 0 = dktX1_all_0 := by decide +kernel
theorem dksX1_all_1 : cX1_all.data.toList.drop 22 = dktX1_all_1 := dk_seg dksX1_all_0 22 rfl rfl
theorem dX1_all_0 : decode cX1_all 0 = .ok (.iconst 0, 1) := dk_3 (dk_at dksX1_all_0 0 rfl rfl)
theorem dX1_all_1 : decode cX1_all 1 = .ok (.istore_n 1, 1) := dk_60 (dk_at dksX1_all_0 1 rfl rfl)
theorem dX1_all_2 : decode cX1_all 2 = .ok (.iconst 0, 1) := dk_3 (dk_at dksX1_all_0 2 rfl rfl)
theorem dX1_all_3 : decode cX1_all 3 = .ok (.istore_n 2, 1) := dk_61 (dk_at dksX1_all_0 3 rfl rfl)
theorem dX1_all_4 : decode cX1_all 4 = .ok (.iload_n 2, 1) := dk_28 (dk_at dksX1_all_0 4 rfl rfl)
theorem dX1_all_5 : decode cX1_all 5 = .ok (.bipush 8, 2) := dk_16 8 (dk_at dksX1_all_0 5 rfl rfl)
theorem dX1_all_7 : decode cX1_all 7 = .ok (.if_icmp .ge 18, 3) := dk_162 0 18 (dk_at dksX1_all_0 7 rfl rfl)
theorem dX1_all_10 : decode cX1_all 10 = .ok (.iload_n 1, 1) := dk_27 (dk_at dksX1_all_0 10 rfl rfl)
theorem dX1_all_11 : decode cX1_all 11 = .ok (.aload_n 0, 1) := dk_42 (dk_at dksX1_all_0 11 rfl rfl)
theorem dX1_all_12 : decode cX1_all 12 = .ok (.getfield 18, 3) := dk_180 0 18 (dk_at dksX1_all_0 12 rfl rfl)
theorem dX1_all_15 : decode cX1_all 15 = .ok (.iload_n 2, 1) := dk_28 (dk_at dksX1_all_0 15 rfl rfl)
theorem dX1_all_16 : decode cX1_all 16 = .ok (.iaload, 1) := dk_46 (dk_at dksX1_all_0 16 rfl rfl)
theorem dX1_all_17 : decode cX1_all 17 = .ok (.iadd, 1) := dk_96 (dk_at dksX1_all_0 17 rfl rfl)
theorem dX1_all_18 : decode cX1_all 18 = .ok (.istore_n 1, 1) := dk_60 (dk_at dksX1_all_0 18 rfl rfl)
theorem dX1_all_19 : decode cX1_all 19 = .ok (.iinc 2 1, 3) := dk_132 2 1 (dk_at dksX1_all_0 19 rfl rfl)
theorem dX1_all_22 : decode cX1_all 22 = .ok (.goto (-18), 3) := dk_167 255 238 (dk_at dksX1_all_1 0 rfl rfl)
theorem dX1_all_25 : decode cX1_all 25 = .ok (.iload_n 1, 1) := dk_27 (dk_at dksX1_all_1 3 rfl rfl)
theorem dX1_all_26 : decode cX1_all 26 = .ok (.ireturn, 1) := dk_172 (dk_at dksX1_all_1 4 rfl rfl)
abbrev cX1_like : ByteArray := prog_3_method_2_code
def yX1_like : MethodName := ⟨RX1, "like", "(LTownOnWeight$Day;)V"⟩
def dkwX1_like_3 : List UInt8 := [180, 0, 18, 3, 16, 8, 184, 0, 41, 177]
abbrev dktX1_like_3 : List UInt8 := dkwX1_like_3 ++ []
def dkwX1_like_2 : List UInt8 := [42, 43, 180, 0, 34, 181, 0, 34, 42, 43, 180, 0, 38, 181, 0, 38, 43, 180, 0, 18, 3, 42]
abbrev dktX1_like_2 : List UInt8 := dkwX1_like_2 ++ dktX1_like_3
def dkwX1_like_1 : List UInt8 := [42, 43, 180, 0, 25, 181, 0, 25, 42, 43, 180, 0, 28, 181, 0, 28, 42, 43, 180, 0, 31, 181, 0, 31]
abbrev dktX1_like_1 : List UInt8 := dkwX1_like_1 ++ dktX1_like_2
def dkwX1_like_0 : List UInt8 := [42, 43, 180, 0, 9, 181, 0, 9, 42, 43, 180, 0, 15, 181, 0, 15, 42, 43, 180, 0, 22, 181, 0, 22]
abbrev dktX1_like_0 : List UInt8 := dkwX1_like_0 ++ dktX1_like_1
theorem dksX1_like_0 : cX1_like.data.toList.drop 0 = dktX1_like_0 := by decide +kernel
theorem dksX1_like_1 : cX1_like.data.toList.drop 24 = dktX1_like_1 := dk_seg dksX1_like_0 24 rfl rfl
theorem dksX1_like_2 : cX1_like.data.toList.drop 48 = dktX1_like_2 := dk_seg dksX1_like_1 24 rfl rfl
theorem dksX1_like_3 : cX1_like.data.toList.drop 70 = dktX1_like_3 := dk_seg dksX1_like_2 22 rfl rfl
theorem dX1_like_0 : decode cX1_like 0 = .ok (.aload_n 0, 1) := dk_42 (dk_at dksX1_like_0 0 rfl rfl)
theorem dX1_like_1 : decode cX1_like 1 = .ok (.aload_n 1, 1) := dk_43 (dk_at dksX1_like_0 1 rfl rfl)
theorem dX1_like_2 : decode cX1_like 2 = .ok (.getfield 9, 3) := dk_180 0 9 (dk_at dksX1_like_0 2 rfl rfl)
theorem dX1_like_5 : decode cX1_like 5 = .ok (.putfield 9, 3) := dk_181 0 9 (dk_at dksX1_like_0 5 rfl rfl)
theorem dX1_like_8 : decode cX1_like 8 = .ok (.aload_n 0, 1) := dk_42 (dk_at dksX1_like_0 8 rfl rfl)
theorem dX1_like_9 : decode cX1_like 9 = .ok (.aload_n 1, 1) := dk_43 (dk_at dksX1_like_0 9 rfl rfl)
theorem dX1_like_10 : decode cX1_like 10 = .ok (.getfield 15, 3) := dk_180 0 15 (dk_at dksX1_like_0 10 rfl rfl)
theorem dX1_like_13 : decode cX1_like 13 = .ok (.putfield 15, 3) := dk_181 0 15 (dk_at dksX1_like_0 13 rfl rfl)
theorem dX1_like_16 : decode cX1_like 16 = .ok (.aload_n 0, 1) := dk_42 (dk_at dksX1_like_0 16 rfl rfl)
theorem dX1_like_17 : decode cX1_like 17 = .ok (.aload_n 1, 1) := dk_43 (dk_at dksX1_like_0 17 rfl rfl)
theorem dX1_like_18 : decode cX1_like 18 = .ok (.getfield 22, 3) := dk_180 0 22 (dk_at dksX1_like_0 18 rfl rfl)
theorem dX1_like_21 : decode cX1_like 21 = .ok (.putfield 22, 3) := dk_181 0 22 (dk_at dksX1_like_0 21 rfl rfl)
theorem dX1_like_24 : decode cX1_like 24 = .ok (.aload_n 0, 1) := dk_42 (dk_at dksX1_like_1 0 rfl rfl)
theorem dX1_like_25 : decode cX1_like 25 = .ok (.aload_n 1, 1) := dk_43 (dk_at dksX1_like_1 1 rfl rfl)
theorem dX1_like_26 : decode cX1_like 26 = .ok (.getfield 25, 3) := dk_180 0 25 (dk_at dksX1_like_1 2 rfl rfl)
theorem dX1_like_29 : decode cX1_like 29 = .ok (.putfield 25, 3) := dk_181 0 25 (dk_at dksX1_like_1 5 rfl rfl)
theorem dX1_like_32 : decode cX1_like 32 = .ok (.aload_n 0, 1) := dk_42 (dk_at dksX1_like_1 8 rfl rfl)
theorem dX1_like_33 : decode cX1_like 33 = .ok (.aload_n 1, 1) := dk_43 (dk_at dksX1_like_1 9 rfl rfl)
theorem dX1_like_34 : decode cX1_like 34 = .ok (.getfield 28, 3) := dk_180 0 28 (dk_at dksX1_like_1 10 rfl rfl)
theorem dX1_like_37 : decode cX1_like 37 = .ok (.putfield 28, 3) := dk_181 0 28 (dk_at dksX1_like_1 13 rfl rfl)
theorem dX1_like_40 : decode cX1_like 40 = .ok (.aload_n 0, 1) := dk_42 (dk_at dksX1_like_1 16 rfl rfl)
theorem dX1_like_41 : decode cX1_like 41 = .ok (.aload_n 1, 1) := dk_43 (dk_at dksX1_like_1 17 rfl rfl)
theorem dX1_like_42 : decode cX1_like 42 = .ok (.getfield 31, 3) := dk_180 0 31 (dk_at dksX1_like_1 18 rfl rfl)
theorem dX1_like_45 : decode cX1_like 45 = .ok (.putfield 31, 3) := dk_181 0 31 (dk_at dksX1_like_1 21 rfl rfl)
theorem dX1_like_48 : decode cX1_like 48 = .ok (.aload_n 0, 1) := dk_42 (dk_at dksX1_like_2 0 rfl rfl)
theorem dX1_like_49 : decode cX1_like 49 = .ok (.aload_n 1, 1) := dk_43 (dk_at dksX1_like_2 1 rfl rfl)
theorem dX1_like_50 : decode cX1_like 50 = .ok (.getfield 34, 3) := dk_180 0 34 (dk_at dksX1_like_2 2 rfl rfl)
theorem dX1_like_53 : decode cX1_like 53 = .ok (.putfield 34, 3) := dk_181 0 34 (dk_at dksX1_like_2 5 rfl rfl)
theorem dX1_like_56 : decode cX1_like 56 = .ok (.aload_n 0, 1) := dk_42 (dk_at dksX1_like_2 8 rfl rfl)
theorem dX1_like_57 : decode cX1_like 57 = .ok (.aload_n 1, 1) := dk_43 (dk_at dksX1_like_2 9 rfl rfl)
theorem dX1_like_58 : decode cX1_like 58 = .ok (.getfield 38, 3) := dk_180 0 38 (dk_at dksX1_like_2 10 rfl rfl)
theorem dX1_like_61 : decode cX1_like 61 = .ok (.putfield 38, 3) := dk_181 0 38 (dk_at dksX1_like_2 13 rfl rfl)
theorem dX1_like_64 : decode cX1_like 64 = .ok (.aload_n 1, 1) := dk_43 (dk_at dksX1_like_2 16 rfl rfl)
theorem dX1_like_65 : decode cX1_like 65 = .ok (.getfield 18, 3) := dk_180 0 18 (dk_at dksX1_like_2 17 rfl rfl)
theorem dX1_like_68 : decode cX1_like 68 = .ok (.iconst 0, 1) := dk_3 (dk_at dksX1_like_2 20 rfl rfl)
theorem dX1_like_69 : decode cX1_like 69 = .ok (.aload_n 0, 1) := dk_42 (dk_at dksX1_like_2 21 rfl rfl)
theorem dX1_like_70 : decode cX1_like 70 = .ok (.getfield 18, 3) := dk_180 0 18 (dk_at dksX1_like_3 0 rfl rfl)
theorem dX1_like_73 : decode cX1_like 73 = .ok (.iconst 0, 1) := dk_3 (dk_at dksX1_like_3 3 rfl rfl)
theorem dX1_like_74 : decode cX1_like 74 = .ok (.bipush 8, 2) := dk_16 8 (dk_at dksX1_like_3 4 rfl rfl)
theorem dX1_like_76 : decode cX1_like 76 = .ok (.invokestatic 41, 3) := dk_184 0 41 (dk_at dksX1_like_3 6 rfl rfl)
theorem dX1_like_79 : decode cX1_like 79 = .ok (.return_, 1) := dk_177 (dk_at dksX1_like_3 9 rfl rfl)
theorem q56 : (Jvm.Cond.initialized "TownOnWeight$Day") ∈ lw_all := lw_g (lw_at lw_m1 2 rfl) rfl
theorem q83 : (Jvm.Cond.instantiable "TownOnWeight$Day" (9 : Nat)) ∈ lw_all := lw_g (lw_at lw_m1 29 rfl) rfl
theorem q85 : (Jvm.Cond.instanceMethod ({ cls := "TownOnWeight$Day", name := "<init>", desc := "()V" } : Jvm.MethodName)) ∈ lw_all := lw_g (lw_at lw_m1 31 rfl) rfl
theorem q86 : (Jvm.Cond.code ({ cls := "TownOnWeight$Day", name := "<init>", desc := "()V" } : Jvm.MethodName) prog_3_method_1_code (1 : Nat) (Option.none : Option Jvm.ClassFile.FieldType)) ∈ lw_all := lw_g (lw_at lw_m1 32 rfl) rfl
theorem q87 : (Jvm.Cond.methodLink "TownOnWeight$Day" (3 : Nat) ({ cls := "java/lang/Object", name := "<init>", desc := "()V" } : Jvm.MethodName)) ∈ lw_all := lw_g (lw_at lw_m1 33 rfl) rfl
theorem q88 : (Jvm.Cond.fieldLink "TownOnWeight$Day" (9 : Nat) "TownOnWeight$Day" "length" "I") ∈ lw_all := lw_g (lw_at lw_m1 34 rfl) rfl
theorem q90 : (Jvm.Cond.fieldLink "TownOnWeight$Day" (15 : Nat) "TownOnWeight$Day" "hangs" "I") ∈ lw_all := lw_g (lw_at lw_m1 36 rfl) rfl
theorem q92 : (Jvm.Cond.fieldLink "TownOnWeight$Day" (22 : Nat) "TownOnWeight$Day" "hour" "I") ∈ lw_all := lw_g (lw_at lw_m1 38 rfl) rfl
theorem q94 : (Jvm.Cond.fieldLink "TownOnWeight$Day" (25 : Nat) "TownOnWeight$Day" "lost" "I") ∈ lw_all := lw_g (lw_at lw_m1 40 rfl) rfl
theorem q96 : (Jvm.Cond.fieldLink "TownOnWeight$Day" (28 : Nat) "TownOnWeight$Day" "worked" "I") ∈ lw_all := lw_g (lw_at lw_m1 42 rfl) rfl
theorem q98 : (Jvm.Cond.fieldLink "TownOnWeight$Day" (31 : Nat) "TownOnWeight$Day" "brakes" "I") ∈ lw_all := lw_g (lw_at lw_m1 44 rfl) rfl
theorem q100 : (Jvm.Cond.fieldLink "TownOnWeight$Day" (34 : Nat) "TownOnWeight$Day" "isDown" "Z") ∈ lw_all := lw_g (lw_at lw_m1 46 rfl) rfl
theorem q102 : (Jvm.Cond.fieldLink "TownOnWeight$Day" (38 : Nat) "TownOnWeight$Day" "isRain" "Z") ∈ lw_all := lw_g (lw_at lw_m1 48 rfl) rfl
theorem q104 : (Jvm.Cond.fieldLink "TownOnWeight$Day" (18 : Nat) "TownOnWeight$Day" "taken" "[I") ∈ lw_all := lw_g (lw_at lw_m1 50 rfl) rfl
theorem q106 : (Jvm.Cond.lays "TownOnWeight$Day" "TownOnWeight$Day" "length" "I") ∈ lw_all := lw_g (lw_at lw_m1 52 rfl) rfl
theorem q107 : (Jvm.Cond.soleField "TownOnWeight$Day" "length") ∈ lw_all := lw_g (lw_at lw_m1 53 rfl) rfl
theorem q108 : (Jvm.Cond.lays "TownOnWeight$Day" "TownOnWeight$Day" "hangs" "I") ∈ lw_all := lw_g (lw_at lw_m1 54 rfl) rfl
theorem q109 : (Jvm.Cond.soleField "TownOnWeight$Day" "hangs") ∈ lw_all := lw_g (lw_at lw_m1 55 rfl) rfl
theorem q110 : (Jvm.Cond.lays "TownOnWeight$Day" "TownOnWeight$Day" "hour" "I") ∈ lw_all := lw_g (lw_at lw_m1 56 rfl) rfl
theorem q111 : (Jvm.Cond.soleField "TownOnWeight$Day" "hour") ∈ lw_all := lw_g (lw_at lw_m1 57 rfl) rfl
theorem q112 : (Jvm.Cond.lays "TownOnWeight$Day" "TownOnWeight$Day" "lost" "I") ∈ lw_all := lw_g (lw_at lw_m1 58 rfl) rfl
theorem q113 : (Jvm.Cond.soleField "TownOnWeight$Day" "lost") ∈ lw_all := lw_g (lw_at lw_m1 59 rfl) rfl
theorem q114 : (Jvm.Cond.lays "TownOnWeight$Day" "TownOnWeight$Day" "worked" "I") ∈ lw_all := lw_g (lw_at lw_m1 60 rfl) rfl
theorem q115 : (Jvm.Cond.soleField "TownOnWeight$Day" "worked") ∈ lw_all := lw_g (lw_at lw_m1 61 rfl) rfl
theorem q116 : (Jvm.Cond.lays "TownOnWeight$Day" "TownOnWeight$Day" "brakes" "I") ∈ lw_all := lw_g (lw_at lw_m1 62 rfl) rfl
theorem q117 : (Jvm.Cond.soleField "TownOnWeight$Day" "brakes") ∈ lw_all := lw_g (lw_at lw_m1 63 rfl) rfl
theorem q118 : (Jvm.Cond.lays "TownOnWeight$Day" "TownOnWeight$Day" "isDown" "Z") ∈ lw_all := lw_g (lw_at lw_m1 64 rfl) rfl
theorem q119 : (Jvm.Cond.soleField "TownOnWeight$Day" "isDown") ∈ lw_all := lw_g (lw_at lw_m1 65 rfl) rfl
theorem q120 : (Jvm.Cond.lays "TownOnWeight$Day" "TownOnWeight$Day" "isRain" "Z") ∈ lw_all := lw_g (lw_at lw_m1 66 rfl) rfl
theorem q121 : (Jvm.Cond.soleField "TownOnWeight$Day" "isRain") ∈ lw_all := lw_g (lw_at lw_m1 67 rfl) rfl
theorem q122 : (Jvm.Cond.laysFinal "TownOnWeight$Day" "TownOnWeight$Day" "taken" "[I") ∈ lw_all := lw_g (lw_at lw_m1 68 rfl) rfl
theorem q123 : (Jvm.Cond.soleField "TownOnWeight$Day" "taken") ∈ lw_all := lw_g (lw_at lw_m1 69 rfl) rfl
theorem q124 : (Jvm.Cond.superclass "TownOnWeight$Day" "java/lang/Object") ∈ lw_all := lw_g (lw_at lw_m1 70 rfl) rfl
theorem q497 : (Jvm.Cond.instanceMethod ({ cls := "TownOnWeight$Day", name := "isOver", desc := "()Z" } : Jvm.MethodName)) ∈ lw_all := lw_g (lw_at lw_m2 203 rfl) rfl
theorem q498 : (Jvm.Cond.selects "TownOnWeight$Day" ({ cls := "TownOnWeight$Day", name := "isOver", desc := "()Z" } : Jvm.MethodName) ({ cls := "TownOnWeight$Day", name := "isOver", desc := "()Z" } : Jvm.MethodName)) ∈ lw_all := lw_g (lw_at lw_m2 204 rfl) rfl
theorem q499 : (Jvm.Cond.code ({ cls := "TownOnWeight$Day", name := "isOver", desc := "()Z" } : Jvm.MethodName) prog_3_method_3_code (1 : Nat) (Option.some Jvm.ClassFile.FieldType.boolean)) ∈ lw_all := lw_g (lw_at lw_m2 205 rfl) rfl
theorem q532 : (Jvm.Cond.instanceMethod ({ cls := "TownOnWeight$Day", name := "all", desc := "()I" } : Jvm.MethodName)) ∈ lw_all := lw_g (lw_at lw_m2 238 rfl) rfl
theorem q533 : (Jvm.Cond.selects "TownOnWeight$Day" ({ cls := "TownOnWeight$Day", name := "all", desc := "()I" } : Jvm.MethodName) ({ cls := "TownOnWeight$Day", name := "all", desc := "()I" } : Jvm.MethodName)) ∈ lw_all := lw_g (lw_at lw_m2 239 rfl) rfl
theorem q534 : (Jvm.Cond.code ({ cls := "TownOnWeight$Day", name := "all", desc := "()I" } : Jvm.MethodName) prog_3_method_4_code (3 : Nat) (Option.some Jvm.ClassFile.FieldType.int)) ∈ lw_all := lw_g (lw_at lw_m3 0 rfl) rfl
theorem q555 : (Jvm.Cond.instanceMethod ({ cls := "TownOnWeight$Day", name := "like", desc := "(LTownOnWeight$Day;)V" } : Jvm.MethodName)) ∈ lw_all := lw_g (lw_at lw_m3 21 rfl) rfl
theorem q556 : (Jvm.Cond.selects "TownOnWeight$Day" ({ cls := "TownOnWeight$Day", name := "like", desc := "(LTownOnWeight$Day;)V" } : Jvm.MethodName) ({ cls := "TownOnWeight$Day", name := "like", desc := "(LTownOnWeight$Day;)V" } : Jvm.MethodName)) ∈ lw_all := lw_g (lw_at lw_m3 22 rfl) rfl
theorem q557 : (Jvm.Cond.code ({ cls := "TownOnWeight$Day", name := "like", desc := "(LTownOnWeight$Day;)V" } : Jvm.MethodName) prog_3_method_2_code (2 : Nat) (Option.none : Option Jvm.ClassFile.FieldType)) ∈ lw_all := lw_g (lw_at lw_m3 23 rfl) rfl
theorem q558 : (Jvm.Cond.methodLink "TownOnWeight$Day" (41 : Nat) ({ cls := "java/lang/System", name := "arraycopy", desc := "(Ljava/lang/Object;ILjava/lang/Object;II)V" } : Jvm.MethodName)) ∈ lw_all := lw_g (lw_at lw_m3 24 rfl) rfl
theorem in_X1 : ∀ w ∈ wsX10, w ∈ lw_all := lw_in wsX10 [106, 108, 110, 112, 114, 116, 118, 120, 122] (by decide +kernel) (by decide +kernel)

/-! TownOnWeight$Reader -/
set_option maxRecDepth 100000
def RX3 : String := "TownOnWeight$Reader"
def TX3 : u_T := fun k => match k with
  | 0 => ("TownOnWeight$Reader", "houses", "I", true)
  | 1 => ("TownOnWeight$Reader", "told", "[I", true)
  | 2 => ("TownOnWeight$Reader", "kind", "I", false)
  | 3 => ("TownOnWeight$Reader", "parent", "I", false)
  | _ => ("TownOnWeight$Reader", "due", "I", false)
def tyX3 : Nat → FieldType := fun k => match k with
  | 0 => .int
  | 1 => .array .int
  | 2 => .int
  | 3 => .int
  | _ => .int
abbrev wsX30 : List Cond := u_ws RX3 TX3 5
theorem nmX3 : ∀ a, a < 5 → ∀ b, b < 5 → a ≠ b → (TX3 a).2.1 ≠ (TX3 b).2.1 := by decide +kernel
theorem tyX3_ok : ∀ k, k < 5 → parseFieldDescriptor (TX3 k).2.2.1 = some (tyX3 k) := by decide +kernel
abbrev cX3_init : ByteArray := prog_7_method_1_code
def yX3_init : MethodName := ⟨RX3, "<init>", "(I)V"⟩
def dkwX3_init_0 : List UInt8 := [42, 183, 0, 3, 42, 7, 188, 10, 181, 0, 9, 42, 27, 181, 0, 15, 177]
abbrev dktX3_init_0 : List UInt8 := dkwX3_init_0 ++ []
theorem dksX3_init_0 : cX3_init.data.toList.drop 0 = dktX3_init_0 := by decide +kernel
theorem dX3_init_0 : decode cX3_init 0 = .ok (.aload_n 0, 1) := dk_42 (dk_at dksX3_init_0 0 rfl rfl)
theorem dX3_init_1 : decode cX3_init 1 = .ok (.invokespecial 3, 3) := dk_183 0 3 (dk_at dksX3_init_0 1 rfl rfl)
theorem dX3_init_4 : decode cX3_init 4 = .ok (.aload_n 0, 1) := dk_42 (dk_at dksX3_init_0 4 rfl rfl)
theorem dX3_init_5 : decode cX3_init 5 = .ok (.iconst 4, 1) := dk_7 (dk_at dksX3_init_0 5 rfl rfl)
theorem dX3_init_6 : decode cX3_init 6 = .ok (.newarray .int, 2) := dk_188_10 (dk_at dksX3_init_0 6 rfl rfl)
theorem dX3_init_8 : decode cX3_init 8 = .ok (.putfield 9, 3) := dk_181 0 9 (dk_at dksX3_init_0 8 rfl rfl)
theorem dX3_init_11 : decode cX3_init 11 = .ok (.aload_n 0, 1) := dk_42 (dk_at dksX3_init_0 11 rfl rfl)
theorem dX3_init_12 : decode cX3_init 12 = .ok (.iload_n 1, 1) := dk_27 (dk_at dksX3_init_0 12 rfl rfl)
theorem dX3_init_13 : decode cX3_init 13 = .ok (.putfield 15, 3) := dk_181 0 15 (dk_at dksX3_init_0 13 rfl rfl)
theorem dX3_init_16 : decode cX3_init 16 = .ok (.return_, 1) := dk_177 (dk_at dksX3_init_0 16 rfl rfl)
abbrev cX3_go : ByteArray := prog_7_method_3_code
def yX3_go : MethodName := ⟨RX3, "go", "(I)Z"⟩
def dkwX3_go_8 : List UInt8 := [3, 172]
abbrev dktX3_go_8 : List UInt8 := dkwX3_go_8 ++ []
def dkwX3_go_7 : List UInt8 := [20, 0, 38, 184, 0, 32, 172, 42, 180, 0, 9, 6, 28, 79, 28, 133, 9, 20, 0, 38, 184, 0, 32, 172]
abbrev dktX3_go_7 : List UInt8 := dkwX3_go_7 ++ dktX3_go_8
def dkwX3_go_6 : List UInt8 := [3, 46, 4, 96, 133, 20, 0, 38, 184, 0, 32, 172, 42, 180, 0, 9, 5, 28, 79, 28, 133, 10]
abbrev dktX3_go_6 : List UInt8 := dkwX3_go_6 ++ dktX3_go_7
def dkwX3_go_5 : List UInt8 := [79, 28, 133, 9, 20, 0, 36, 184, 0, 32, 172, 42, 180, 0, 9, 4, 28, 79, 28, 133, 42, 180, 0, 9]
abbrev dktX3_go_5 : List UInt8 := dkwX3_go_5 ++ dktX3_go_6
def dkwX3_go_4 : List UInt8 := [180, 0, 15, 4, 100, 133, 184, 0, 32, 153, 0, 7, 4, 167, 0, 4, 3, 172, 42, 180, 0, 9, 3, 28]
abbrev dktX3_go_4 : List UInt8 := dkwX3_go_4 ++ dktX3_go_5
def dkwX3_go_3 : List UInt8 := [16, 45, 160, 0, 7, 2, 167, 0, 4, 28, 181, 0, 29, 27, 16, 45, 159, 0, 19, 28, 133, 9, 42]
abbrev dktX3_go_3 : List UInt8 := dkwX3_go_3 ++ dktX3_go_4
def dkwX3_go_2 : List UInt8 := [42, 27, 184, 0, 22, 181, 0, 26, 42, 180, 0, 26, 2, 159, 0, 7, 4, 167, 0, 4, 3, 172, 42, 27]
abbrev dktX3_go_2 : List UInt8 := dkwX3_go_2 ++ dktX3_go_3
def dkwX3_go_1 : List UInt8 := [170, 0, 0, 0, 178, 0, 0, 0, 1, 0, 0, 0, 6, 0, 0, 0, 37, 0, 0, 0, 59, 0, 0, 0, 102, 0, 0, 0, 119, 0, 0, 0, 144, 0, 0, 0, 161]
abbrev dktX3_go_1 : List UInt8 := dkwX3_go_1 ++ dktX3_go_2
def dkwX3_go_0 : List UInt8 := [27, 16, 48, 100, 61, 42, 89, 180, 0, 19, 4, 96, 181, 0, 19, 42, 180, 0, 19]
abbrev dktX3_go_0 : List UInt8 := dkwX3_go_0 ++ dktX3_go_1
theorem dksX3_go_0 : cX3_go.data.toList.drop 0 = dktX3_go_0 := by decide +kernel
theorem dksX3_go_1 : cX3_go.data.toList.drop 19 = dktX3_go_1 := dk_seg dksX3_go_0 19 rfl rfl
theorem dksX3_go_2 : cX3_go.data.toList.drop 56 = dktX3_go_2 := dk_seg dksX3_go_1 37 rfl rfl
theorem dksX3_go_3 : cX3_go.data.toList.drop 80 = dktX3_go_3 := dk_seg dksX3_go_2 24 rfl rfl
theorem dksX3_go_4 : cX3_go.data.toList.drop 103 = dktX3_go_4 := dk_seg dksX3_go_3 23 rfl rfl
theorem dksX3_go_5 : cX3_go.data.toList.drop 127 = dktX3_go_5 := dk_seg dksX3_go_4 24 rfl rfl
theorem dksX3_go_6 : cX3_go.data.toList.drop 151 = dktX3_go_6 := dk_seg dksX3_go_5 24 rfl rfl
theorem dksX3_go_7 : cX3_go.data.toList.drop 173 = dktX3_go_7 := dk_seg dksX3_go_6 22 rfl rfl
theorem dksX3_go_8 : cX3_go.data.toList.drop 197 = dktX3_go_8 := dk_seg dksX3_go_7 24 rfl rfl
theorem dX3_go_0 : decode cX3_go 0 = .ok (.iload_n 1, 1) := dk_27 (dk_at dksX3_go_0 0 rfl rfl)
theorem dX3_go_1 : decode cX3_go 1 = .ok (.bipush 48, 2) := dk_16 48 (dk_at dksX3_go_0 1 rfl rfl)
theorem dX3_go_3 : decode cX3_go 3 = .ok (.isub, 1) := dk_100 (dk_at dksX3_go_0 3 rfl rfl)
theorem dX3_go_4 : decode cX3_go 4 = .ok (.istore_n 2, 1) := dk_61 (dk_at dksX3_go_0 4 rfl rfl)
theorem dX3_go_5 : decode cX3_go 5 = .ok (.aload_n 0, 1) := dk_42 (dk_at dksX3_go_0 5 rfl rfl)
theorem dX3_go_6 : decode cX3_go 6 = .ok (.dup, 1) := dk_89 (dk_at dksX3_go_0 6 rfl rfl)
theorem dX3_go_7 : decode cX3_go 7 = .ok (.getfield 19, 3) := dk_180 0 19 (dk_at dksX3_go_0 7 rfl rfl)
theorem dX3_go_10 : decode cX3_go 10 = .ok (.iconst 1, 1) := dk_4 (dk_at dksX3_go_0 10 rfl rfl)
theorem dX3_go_11 : decode cX3_go 11 = .ok (.iadd, 1) := dk_96 (dk_at dksX3_go_0 11 rfl rfl)
theorem dX3_go_12 : decode cX3_go 12 = .ok (.putfield 19, 3) := dk_181 0 19 (dk_at dksX3_go_0 12 rfl rfl)
theorem dX3_go_15 : decode cX3_go 15 = .ok (.aload_n 0, 1) := dk_42 (dk_at dksX3_go_0 15 rfl rfl)
theorem dX3_go_16 : decode cX3_go 16 = .ok (.getfield 19, 3) := dk_180 0 19 (dk_at dksX3_go_0 16 rfl rfl)
theorem dX3_go_19 : decode cX3_go 19 = .ok (.tableswitch 178 1 6 #[37, 59, 102, 119, 144, 161], 37) := by decide +kernel
theorem dX3_go_56 : decode cX3_go 56 = .ok (.aload_n 0, 1) := dk_42 (dk_at dksX3_go_2 0 rfl rfl)
theorem dX3_go_57 : decode cX3_go 57 = .ok (.iload_n 1, 1) := dk_27 (dk_at dksX3_go_2 1 rfl rfl)
theorem dX3_go_58 : decode cX3_go 58 = .ok (.invokestatic 22, 3) := dk_184 0 22 (dk_at dksX3_go_2 2 rfl rfl)
theorem dX3_go_61 : decode cX3_go 61 = .ok (.putfield 26, 3) := dk_181 0 26 (dk_at dksX3_go_2 5 rfl rfl)
theorem dX3_go_64 : decode cX3_go 64 = .ok (.aload_n 0, 1) := dk_42 (dk_at dksX3_go_2 8 rfl rfl)
theorem dX3_go_65 : decode cX3_go 65 = .ok (.getfield 26, 3) := dk_180 0 26 (dk_at dksX3_go_2 9 rfl rfl)
theorem dX3_go_68 : decode cX3_go 68 = .ok (.iconst (-1), 1) := dk_2 (dk_at dksX3_go_2 12 rfl rfl)
theorem dX3_go_69 : decode cX3_go 69 = .ok (.if_icmp .eq 7, 3) := dk_159 0 7 (dk_at dksX3_go_2 13 rfl rfl)
theorem dX3_go_72 : decode cX3_go 72 = .ok (.iconst 1, 1) := dk_4 (dk_at dksX3_go_2 16 rfl rfl)
theorem dX3_go_73 : decode cX3_go 73 = .ok (.goto 4, 3) := dk_167 0 4 (dk_at dksX3_go_2 17 rfl rfl)
theorem dX3_go_76 : decode cX3_go 76 = .ok (.iconst 0, 1) := dk_3 (dk_at dksX3_go_2 20 rfl rfl)
theorem dX3_go_77 : decode cX3_go 77 = .ok (.ireturn, 1) := dk_172 (dk_at dksX3_go_2 21 rfl rfl)
theorem dX3_go_78 : decode cX3_go 78 = .ok (.aload_n 0, 1) := dk_42 (dk_at dksX3_go_2 22 rfl rfl)
theorem dX3_go_79 : decode cX3_go 79 = .ok (.iload_n 1, 1) := dk_27 (dk_at dksX3_go_2 23 rfl rfl)
theorem dX3_go_80 : decode cX3_go 80 = .ok (.bipush 45, 2) := dk_16 45 (dk_at dksX3_go_3 0 rfl rfl)
theorem dX3_go_82 : decode cX3_go 82 = .ok (.if_icmp .ne 7, 3) := dk_160 0 7 (dk_at dksX3_go_3 2 rfl rfl)
theorem dX3_go_85 : decode cX3_go 85 = .ok (.iconst (-1), 1) := dk_2 (dk_at dksX3_go_3 5 rfl rfl)
theorem dX3_go_86 : decode cX3_go 86 = .ok (.goto 4, 3) := dk_167 0 4 (dk_at dksX3_go_3 6 rfl rfl)
theorem dX3_go_89 : decode cX3_go 89 = .ok (.iload_n 2, 1) := dk_28 (dk_at dksX3_go_3 9 rfl rfl)
theorem dX3_go_90 : decode cX3_go 90 = .ok (.putfield 29, 3) := dk_181 0 29 (dk_at dksX3_go_3 10 rfl rfl)
theorem dX3_go_93 : decode cX3_go 93 = .ok (.iload_n 1, 1) := dk_27 (dk_at dksX3_go_3 13 rfl rfl)
theorem dX3_go_94 : decode cX3_go 94 = .ok (.bipush 45, 2) := dk_16 45 (dk_at dksX3_go_3 14 rfl rfl)
theorem dX3_go_96 : decode cX3_go 96 = .ok (.if_icmp .eq 19, 3) := dk_159 0 19 (dk_at dksX3_go_3 16 rfl rfl)
theorem dX3_go_99 : decode cX3_go 99 = .ok (.iload_n 2, 1) := dk_28 (dk_at dksX3_go_3 19 rfl rfl)
theorem dX3_go_100 : decode cX3_go 100 = .ok (.i2l, 1) := dk_133 (dk_at dksX3_go_3 20 rfl rfl)
theorem dX3_go_101 : decode cX3_go 101 = .ok (.lconst 0, 1) := dk_9 (dk_at dksX3_go_3 21 rfl rfl)
theorem dX3_go_102 : decode cX3_go 102 = .ok (.aload_n 0, 1) := dk_42 (dk_at dksX3_go_3 22 rfl rfl)
theorem dX3_go_103 : decode cX3_go 103 = .ok (.getfield 15, 3) := dk_180 0 15 (dk_at dksX3_go_4 0 rfl rfl)
theorem dX3_go_106 : decode cX3_go 106 = .ok (.iconst 1, 1) := dk_4 (dk_at dksX3_go_4 3 rfl rfl)
theorem dX3_go_107 : decode cX3_go 107 = .ok (.isub, 1) := dk_100 (dk_at dksX3_go_4 4 rfl rfl)
theorem dX3_go_108 : decode cX3_go 108 = .ok (.i2l, 1) := dk_133 (dk_at dksX3_go_4 5 rfl rfl)
theorem dX3_go_109 : decode cX3_go 109 = .ok (.invokestatic 32, 3) := dk_184 0 32 (dk_at dksX3_go_4 6 rfl rfl)
theorem dX3_go_112 : decode cX3_go 112 = .ok (.ifCond .eq 7, 3) := dk_153 0 7 (dk_at dksX3_go_4 9 rfl rfl)
theorem dX3_go_115 : decode cX3_go 115 = .ok (.iconst 1, 1) := dk_4 (dk_at dksX3_go_4 12 rfl rfl)
theorem dX3_go_116 : decode cX3_go 116 = .ok (.goto 4, 3) := dk_167 0 4 (dk_at dksX3_go_4 13 rfl rfl)
theorem dX3_go_119 : decode cX3_go 119 = .ok (.iconst 0, 1) := dk_3 (dk_at dksX3_go_4 16 rfl rfl)
theorem dX3_go_120 : decode cX3_go 120 = .ok (.ireturn, 1) := dk_172 (dk_at dksX3_go_4 17 rfl rfl)
theorem dX3_go_121 : decode cX3_go 121 = .ok (.aload_n 0, 1) := dk_42 (dk_at dksX3_go_4 18 rfl rfl)
theorem dX3_go_122 : decode cX3_go 122 = .ok (.getfield 9, 3) := dk_180 0 9 (dk_at dksX3_go_4 19 rfl rfl)
theorem dX3_go_125 : decode cX3_go 125 = .ok (.iconst 0, 1) := dk_3 (dk_at dksX3_go_4 22 rfl rfl)
theorem dX3_go_126 : decode cX3_go 126 = .ok (.iload_n 2, 1) := dk_28 (dk_at dksX3_go_4 23 rfl rfl)
theorem dX3_go_127 : decode cX3_go 127 = .ok (.iastore, 1) := dk_79 (dk_at dksX3_go_5 0 rfl rfl)
theorem dX3_go_128 : decode cX3_go 128 = .ok (.iload_n 2, 1) := dk_28 (dk_at dksX3_go_5 1 rfl rfl)
theorem dX3_go_129 : decode cX3_go 129 = .ok (.i2l, 1) := dk_133 (dk_at dksX3_go_5 2 rfl rfl)
theorem dX3_go_130 : decode cX3_go 130 = .ok (.lconst 0, 1) := dk_9 (dk_at dksX3_go_5 3 rfl rfl)
theorem dX3_go_131 : decode cX3_go 131 = .ok (.ldc2_w 36, 3) := dk_20 0 36 (dk_at dksX3_go_5 4 rfl rfl)
theorem dX3_go_134 : decode cX3_go 134 = .ok (.invokestatic 32, 3) := dk_184 0 32 (dk_at dksX3_go_5 7 rfl rfl)
theorem dX3_go_137 : decode cX3_go 137 = .ok (.ireturn, 1) := dk_172 (dk_at dksX3_go_5 10 rfl rfl)
theorem dX3_go_138 : decode cX3_go 138 = .ok (.aload_n 0, 1) := dk_42 (dk_at dksX3_go_5 11 rfl rfl)
theorem dX3_go_139 : decode cX3_go 139 = .ok (.getfield 9, 3) := dk_180 0 9 (dk_at dksX3_go_5 12 rfl rfl)
theorem dX3_go_142 : decode cX3_go 142 = .ok (.iconst 1, 1) := dk_4 (dk_at dksX3_go_5 15 rfl rfl)
theorem dX3_go_143 : decode cX3_go 143 = .ok (.iload_n 2, 1) := dk_28 (dk_at dksX3_go_5 16 rfl rfl)
theorem dX3_go_144 : decode cX3_go 144 = .ok (.iastore, 1) := dk_79 (dk_at dksX3_go_5 17 rfl rfl)
theorem dX3_go_145 : decode cX3_go 145 = .ok (.iload_n 2, 1) := dk_28 (dk_at dksX3_go_5 18 rfl rfl)
theorem dX3_go_146 : decode cX3_go 146 = .ok (.i2l, 1) := dk_133 (dk_at dksX3_go_5 19 rfl rfl)
theorem dX3_go_147 : decode cX3_go 147 = .ok (.aload_n 0, 1) := dk_42 (dk_at dksX3_go_5 20 rfl rfl)
theorem dX3_go_148 : decode cX3_go 148 = .ok (.getfield 9, 3) := dk_180 0 9 (dk_at dksX3_go_5 21 rfl rfl)
theorem dX3_go_151 : decode cX3_go 151 = .ok (.iconst 0, 1) := dk_3 (dk_at dksX3_go_6 0 rfl rfl)
theorem dX3_go_152 : decode cX3_go 152 = .ok (.iaload, 1) := dk_46 (dk_at dksX3_go_6 1 rfl rfl)
theorem dX3_go_153 : decode cX3_go 153 = .ok (.iconst 1, 1) := dk_4 (dk_at dksX3_go_6 2 rfl rfl)
theorem dX3_go_154 : decode cX3_go 154 = .ok (.iadd, 1) := dk_96 (dk_at dksX3_go_6 3 rfl rfl)
theorem dX3_go_155 : decode cX3_go 155 = .ok (.i2l, 1) := dk_133 (dk_at dksX3_go_6 4 rfl rfl)
theorem dX3_go_156 : decode cX3_go 156 = .ok (.ldc2_w 38, 3) := dk_20 0 38 (dk_at dksX3_go_6 5 rfl rfl)
theorem dX3_go_159 : decode cX3_go 159 = .ok (.invokestatic 32, 3) := dk_184 0 32 (dk_at dksX3_go_6 8 rfl rfl)
theorem dX3_go_162 : decode cX3_go 162 = .ok (.ireturn, 1) := dk_172 (dk_at dksX3_go_6 11 rfl rfl)
theorem dX3_go_163 : decode cX3_go 163 = .ok (.aload_n 0, 1) := dk_42 (dk_at dksX3_go_6 12 rfl rfl)
theorem dX3_go_164 : decode cX3_go 164 = .ok (.getfield 9, 3) := dk_180 0 9 (dk_at dksX3_go_6 13 rfl rfl)
theorem dX3_go_167 : decode cX3_go 167 = .ok (.iconst 2, 1) := dk_5 (dk_at dksX3_go_6 16 rfl rfl)
theorem dX3_go_168 : decode cX3_go 168 = .ok (.iload_n 2, 1) := dk_28 (dk_at dksX3_go_6 17 rfl rfl)
theorem dX3_go_169 : decode cX3_go 169 = .ok (.iastore, 1) := dk_79 (dk_at dksX3_go_6 18 rfl rfl)
theorem dX3_go_170 : decode cX3_go 170 = .ok (.iload_n 2, 1) := dk_28 (dk_at dksX3_go_6 19 rfl rfl)
theorem dX3_go_171 : decode cX3_go 171 = .ok (.i2l, 1) := dk_133 (dk_at dksX3_go_6 20 rfl rfl)
theorem dX3_go_172 : decode cX3_go 172 = .ok (.lconst 1, 1) := dk_10 (dk_at dksX3_go_6 21 rfl rfl)
theorem dX3_go_173 : decode cX3_go 173 = .ok (.ldc2_w 38, 3) := dk_20 0 38 (dk_at dksX3_go_7 0 rfl rfl)
theorem dX3_go_176 : decode cX3_go 176 = .ok (.invokestatic 32, 3) := dk_184 0 32 (dk_at dksX3_go_7 3 rfl rfl)
theorem dX3_go_179 : decode cX3_go 179 = .ok (.ireturn, 1) := dk_172 (dk_at dksX3_go_7 6 rfl rfl)
theorem dX3_go_180 : decode cX3_go 180 = .ok (.aload_n 0, 1) := dk_42 (dk_at dksX3_go_7 7 rfl rfl)
theorem dX3_go_181 : decode cX3_go 181 = .ok (.getfield 9, 3) := dk_180 0 9 (dk_at dksX3_go_7 8 rfl rfl)
theorem dX3_go_184 : decode cX3_go 184 = .ok (.iconst 3, 1) := dk_6 (dk_at dksX3_go_7 11 rfl rfl)
theorem dX3_go_185 : decode cX3_go 185 = .ok (.iload_n 2, 1) := dk_28 (dk_at dksX3_go_7 12 rfl rfl)
theorem dX3_go_186 : decode cX3_go 186 = .ok (.iastore, 1) := dk_79 (dk_at dksX3_go_7 13 rfl rfl)
theorem dX3_go_187 : decode cX3_go 187 = .ok (.iload_n 2, 1) := dk_28 (dk_at dksX3_go_7 14 rfl rfl)
theorem dX3_go_188 : decode cX3_go 188 = .ok (.i2l, 1) := dk_133 (dk_at dksX3_go_7 15 rfl rfl)
theorem dX3_go_189 : decode cX3_go 189 = .ok (.lconst 0, 1) := dk_9 (dk_at dksX3_go_7 16 rfl rfl)
theorem dX3_go_190 : decode cX3_go 190 = .ok (.ldc2_w 38, 3) := dk_20 0 38 (dk_at dksX3_go_7 17 rfl rfl)
theorem dX3_go_193 : decode cX3_go 193 = .ok (.invokestatic 32, 3) := dk_184 0 32 (dk_at dksX3_go_7 20 rfl rfl)
theorem dX3_go_196 : decode cX3_go 196 = .ok (.ireturn, 1) := dk_172 (dk_at dksX3_go_7 23 rfl rfl)
theorem dX3_go_197 : decode cX3_go 197 = .ok (.iconst 0, 1) := dk_3 (dk_at dksX3_go_8 0 rfl rfl)
theorem dX3_go_198 : decode cX3_go 198 = .ok (.ireturn, 1) := dk_172 (dk_at dksX3_go_8 1 rfl rfl)
abbrev cX3_kindOf : ByteArray := prog_7_method_2_code
def yX3_kindOf : MethodName := ⟨RX3, "kindOf", "(I)I"⟩
def dkwX3_kindOf_2 : List UInt8 := [167, 0, 4, 2, 172]
abbrev dktX3_kindOf_2 : List UInt8 := dkwX3_kindOf_2 ++ []
def dkwX3_kindOf_1 : List UInt8 := [160, 0, 7, 5, 167, 0, 24, 26, 16, 115, 160, 0, 7, 6, 167, 0, 14, 26, 16, 120, 160, 0, 7, 7]
abbrev dktX3_kindOf_1 : List UInt8 := dkwX3_kindOf_1 ++ dktX3_kindOf_2
def dkwX3_kindOf_0 : List UInt8 := [26, 16, 104, 160, 0, 7, 3, 167, 0, 44, 26, 16, 99, 160, 0, 7, 4, 167, 0, 34, 26, 16, 117]
abbrev dktX3_kindOf_0 : List UInt8 := dkwX3_kindOf_0 ++ dktX3_kindOf_1
theorem dksX3_kindOf_0 : cX3_kindOf.data.toList.drop 0 = dktX3_kindOf_0 := by decide +kernel
theorem dksX3_kindOf_1 : cX3_kindOf.data.toList.drop 23 = dktX3_kindOf_1 := dk_seg dksX3_kindOf_0 23 rfl rfl
theorem dksX3_kindOf_2 : cX3_kindOf.data.toList.drop 47 = dktX3_kindOf_2 := dk_seg dksX3_kindOf_1 24 rfl rfl
theorem dX3_kindOf_0 : decode cX3_kindOf 0 = .ok (.iload_n 0, 1) := dk_26 (dk_at dksX3_kindOf_0 0 rfl rfl)
theorem dX3_kindOf_1 : decode cX3_kindOf 1 = .ok (.bipush 104, 2) := dk_16 104 (dk_at dksX3_kindOf_0 1 rfl rfl)
theorem dX3_kindOf_3 : decode cX3_kindOf 3 = .ok (.if_icmp .ne 7, 3) := dk_160 0 7 (dk_at dksX3_kindOf_0 3 rfl rfl)
theorem dX3_kindOf_6 : decode cX3_kindOf 6 = .ok (.iconst 0, 1) := dk_3 (dk_at dksX3_kindOf_0 6 rfl rfl)
theorem dX3_kindOf_7 : decode cX3_kindOf 7 = .ok (.goto 44, 3) := dk_167 0 44 (dk_at dksX3_kindOf_0 7 rfl rfl)
theorem dX3_kindOf_10 : decode cX3_kindOf 10 = .ok (.iload_n 0, 1) := dk_26 (dk_at dksX3_kindOf_0 10 rfl rfl)
theorem dX3_kindOf_11 : decode cX3_kindOf 11 = .ok (.bipush 99, 2) := dk_16 99 (dk_at dksX3_kindOf_0 11 rfl rfl)
theorem dX3_kindOf_13 : decode cX3_kindOf 13 = .ok (.if_icmp .ne 7, 3) := dk_160 0 7 (dk_at dksX3_kindOf_0 13 rfl rfl)
theorem dX3_kindOf_16 : decode cX3_kindOf 16 = .ok (.iconst 1, 1) := dk_4 (dk_at dksX3_kindOf_0 16 rfl rfl)
theorem dX3_kindOf_17 : decode cX3_kindOf 17 = .ok (.goto 34, 3) := dk_167 0 34 (dk_at dksX3_kindOf_0 17 rfl rfl)
theorem dX3_kindOf_20 : decode cX3_kindOf 20 = .ok (.iload_n 0, 1) := dk_26 (dk_at dksX3_kindOf_0 20 rfl rfl)
theorem dX3_kindOf_21 : decode cX3_kindOf 21 = .ok (.bipush 117, 2) := dk_16 117 (dk_at dksX3_kindOf_0 21 rfl rfl)
theorem dX3_kindOf_23 : decode cX3_kindOf 23 = .ok (.if_icmp .ne 7, 3) := dk_160 0 7 (dk_at dksX3_kindOf_1 0 rfl rfl)
theorem dX3_kindOf_26 : decode cX3_kindOf 26 = .ok (.iconst 2, 1) := dk_5 (dk_at dksX3_kindOf_1 3 rfl rfl)
theorem dX3_kindOf_27 : decode cX3_kindOf 27 = .ok (.goto 24, 3) := dk_167 0 24 (dk_at dksX3_kindOf_1 4 rfl rfl)
theorem dX3_kindOf_30 : decode cX3_kindOf 30 = .ok (.iload_n 0, 1) := dk_26 (dk_at dksX3_kindOf_1 7 rfl rfl)
theorem dX3_kindOf_31 : decode cX3_kindOf 31 = .ok (.bipush 115, 2) := dk_16 115 (dk_at dksX3_kindOf_1 8 rfl rfl)
theorem dX3_kindOf_33 : decode cX3_kindOf 33 = .ok (.if_icmp .ne 7, 3) := dk_160 0 7 (dk_at dksX3_kindOf_1 10 rfl rfl)
theorem dX3_kindOf_36 : decode cX3_kindOf 36 = .ok (.iconst 3, 1) := dk_6 (dk_at dksX3_kindOf_1 13 rfl rfl)
theorem dX3_kindOf_37 : decode cX3_kindOf 37 = .ok (.goto 14, 3) := dk_167 0 14 (dk_at dksX3_kindOf_1 14 rfl rfl)
theorem dX3_kindOf_40 : decode cX3_kindOf 40 = .ok (.iload_n 0, 1) := dk_26 (dk_at dksX3_kindOf_1 17 rfl rfl)
theorem dX3_kindOf_41 : decode cX3_kindOf 41 = .ok (.bipush 120, 2) := dk_16 120 (dk_at dksX3_kindOf_1 18 rfl rfl)
theorem dX3_kindOf_43 : decode cX3_kindOf 43 = .ok (.if_icmp .ne 7, 3) := dk_160 0 7 (dk_at dksX3_kindOf_1 20 rfl rfl)
theorem dX3_kindOf_46 : decode cX3_kindOf 46 = .ok (.iconst 4, 1) := dk_7 (dk_at dksX3_kindOf_1 23 rfl rfl)
theorem dX3_kindOf_47 : decode cX3_kindOf 47 = .ok (.goto 4, 3) := dk_167 0 4 (dk_at dksX3_kindOf_2 0 rfl rfl)
theorem dX3_kindOf_50 : decode cX3_kindOf 50 = .ok (.iconst (-1), 1) := dk_2 (dk_at dksX3_kindOf_2 3 rfl rfl)
theorem dX3_kindOf_51 : decode cX3_kindOf 51 = .ok (.ireturn, 1) := dk_172 (dk_at dksX3_kindOf_2 4 rfl rfl)
abbrev cX3_isWhole : ByteArray := prog_7_method_4_code
def yX3_isWhole : MethodName := ⟨RX3, "isWhole", "()Z"⟩
def dkwX3_isWhole_0 : List UInt8 := [42, 180, 0, 19, 16, 6, 160, 0, 7, 4, 167, 0, 4, 3, 172]
abbrev dktX3_isWhole_0 : List UInt8 := dkwX3_isWhole_0 ++ []
theorem dksX3_isWhole_0 : cX3_isWhole.data.toList.drop 0 = dktX3_isWhole_0 := by decide +kernel
theorem dX3_isWhole_0 : decode cX3_isWhole 0 = .ok (.aload_n 0, 1) := dk_42 (dk_at dksX3_isWhole_0 0 rfl rfl)
theorem dX3_isWhole_1 : decode cX3_isWhole 1 = .ok (.getfield 19, 3) := dk_180 0 19 (dk_at dksX3_isWhole_0 1 rfl rfl)
theorem dX3_isWhole_4 : decode cX3_isWhole 4 = .ok (.bipush 6, 2) := dk_16 6 (dk_at dksX3_isWhole_0 4 rfl rfl)
theorem dX3_isWhole_6 : decode cX3_isWhole 6 = .ok (.if_icmp .ne 7, 3) := dk_160 0 7 (dk_at dksX3_isWhole_0 6 rfl rfl)
theorem dX3_isWhole_9 : decode cX3_isWhole 9 = .ok (.iconst 1, 1) := dk_4 (dk_at dksX3_isWhole_0 9 rfl rfl)
theorem dX3_isWhole_10 : decode cX3_isWhole 10 = .ok (.goto 4, 3) := dk_167 0 4 (dk_at dksX3_isWhole_0 10 rfl rfl)
theorem dX3_isWhole_13 : decode cX3_isWhole 13 = .ok (.iconst 0, 1) := dk_3 (dk_at dksX3_isWhole_0 13 rfl rfl)
theorem dX3_isWhole_14 : decode cX3_isWhole 14 = .ok (.ireturn, 1) := dk_172 (dk_at dksX3_isWhole_0 14 rfl rfl)
theorem q58 : (Jvm.Cond.initialized "TownOnWeight$Reader") ∈ lw_all := lw_g (lw_at lw_m1 4 rfl) rfl
theorem q185 : (Jvm.Cond.instantiable "TownOnWeight$Reader" (5 : Nat)) ∈ lw_all := lw_g (lw_at lw_m1 131 rfl) rfl
theorem q187 : (Jvm.Cond.instanceMethod ({ cls := "TownOnWeight$Reader", name := "<init>", desc := "(I)V" } : Jvm.MethodName)) ∈ lw_all := lw_g (lw_at lw_m1 133 rfl) rfl
theorem q188 : (Jvm.Cond.code ({ cls := "TownOnWeight$Reader", name := "<init>", desc := "(I)V" } : Jvm.MethodName) prog_7_method_1_code (2 : Nat) (Option.none : Option Jvm.ClassFile.FieldType)) ∈ lw_all := lw_g (lw_at lw_m1 134 rfl) rfl
theorem q189 : (Jvm.Cond.methodLink "TownOnWeight$Reader" (3 : Nat) ({ cls := "java/lang/Object", name := "<init>", desc := "()V" } : Jvm.MethodName)) ∈ lw_all := lw_g (lw_at lw_m1 135 rfl) rfl
theorem q190 : (Jvm.Cond.fieldLink "TownOnWeight$Reader" (15 : Nat) "TownOnWeight$Reader" "houses" "I") ∈ lw_all := lw_g (lw_at lw_m1 136 rfl) rfl
theorem q191 : (Jvm.Cond.fieldLink "TownOnWeight$Reader" (9 : Nat) "TownOnWeight$Reader" "told" "[I") ∈ lw_all := lw_g (lw_at lw_m1 137 rfl) rfl
theorem q193 : (Jvm.Cond.fieldLink "TownOnWeight$Reader" (26 : Nat) "TownOnWeight$Reader" "kind" "I") ∈ lw_all := lw_g (lw_at lw_m1 139 rfl) rfl
theorem q195 : (Jvm.Cond.fieldLink "TownOnWeight$Reader" (29 : Nat) "TownOnWeight$Reader" "parent" "I") ∈ lw_all := lw_g (lw_at lw_m1 141 rfl) rfl
theorem q197 : (Jvm.Cond.fieldLink "TownOnWeight$Reader" (19 : Nat) "TownOnWeight$Reader" "due" "I") ∈ lw_all := lw_g (lw_at lw_m1 143 rfl) rfl
theorem q198 : (Jvm.Cond.laysFinal "TownOnWeight$Reader" "TownOnWeight$Reader" "houses" "I") ∈ lw_all := lw_g (lw_at lw_m1 144 rfl) rfl
theorem q199 : (Jvm.Cond.soleField "TownOnWeight$Reader" "houses") ∈ lw_all := lw_g (lw_at lw_m1 145 rfl) rfl
theorem q200 : (Jvm.Cond.laysFinal "TownOnWeight$Reader" "TownOnWeight$Reader" "told" "[I") ∈ lw_all := lw_g (lw_at lw_m1 146 rfl) rfl
theorem q201 : (Jvm.Cond.soleField "TownOnWeight$Reader" "told") ∈ lw_all := lw_g (lw_at lw_m1 147 rfl) rfl
theorem q202 : (Jvm.Cond.lays "TownOnWeight$Reader" "TownOnWeight$Reader" "kind" "I") ∈ lw_all := lw_g (lw_at lw_m1 148 rfl) rfl
theorem q203 : (Jvm.Cond.soleField "TownOnWeight$Reader" "kind") ∈ lw_all := lw_g (lw_at lw_m1 149 rfl) rfl
theorem q204 : (Jvm.Cond.lays "TownOnWeight$Reader" "TownOnWeight$Reader" "parent" "I") ∈ lw_all := lw_g (lw_at lw_m1 150 rfl) rfl
theorem q205 : (Jvm.Cond.soleField "TownOnWeight$Reader" "parent") ∈ lw_all := lw_g (lw_at lw_m1 151 rfl) rfl
theorem q206 : (Jvm.Cond.lays "TownOnWeight$Reader" "TownOnWeight$Reader" "due" "I") ∈ lw_all := lw_g (lw_at lw_m1 152 rfl) rfl
theorem q207 : (Jvm.Cond.soleField "TownOnWeight$Reader" "due") ∈ lw_all := lw_g (lw_at lw_m1 153 rfl) rfl
theorem q208 : (Jvm.Cond.superclass "TownOnWeight$Reader" "java/lang/Object") ∈ lw_all := lw_g (lw_at lw_m1 154 rfl) rfl
theorem q214 : (Jvm.Cond.instanceMethod ({ cls := "TownOnWeight$Reader", name := "go", desc := "(I)Z" } : Jvm.MethodName)) ∈ lw_all := lw_g (lw_at lw_m1 160 rfl) rfl
theorem q215 : (Jvm.Cond.selects "TownOnWeight$Reader" ({ cls := "TownOnWeight$Reader", name := "go", desc := "(I)Z" } : Jvm.MethodName) ({ cls := "TownOnWeight$Reader", name := "go", desc := "(I)Z" } : Jvm.MethodName)) ∈ lw_all := lw_g (lw_at lw_m1 161 rfl) rfl
theorem q216 : (Jvm.Cond.code ({ cls := "TownOnWeight$Reader", name := "go", desc := "(I)Z" } : Jvm.MethodName) prog_7_method_3_code (3 : Nat) (Option.some Jvm.ClassFile.FieldType.boolean)) ∈ lw_all := lw_g (lw_at lw_m1 162 rfl) rfl
theorem q217 : (Jvm.Cond.methodLink "TownOnWeight$Reader" (22 : Nat) ({ cls := "TownOnWeight$Reader", name := "kindOf", desc := "(I)I" } : Jvm.MethodName)) ∈ lw_all := lw_g (lw_at lw_m1 163 rfl) rfl
theorem q218 : (Jvm.Cond.static ({ cls := "TownOnWeight$Reader", name := "kindOf", desc := "(I)I" } : Jvm.MethodName)) ∈ lw_all := lw_g (lw_at lw_m1 164 rfl) rfl
theorem q219 : (Jvm.Cond.code ({ cls := "TownOnWeight$Reader", name := "kindOf", desc := "(I)I" } : Jvm.MethodName) prog_7_method_2_code (1 : Nat) (Option.some Jvm.ClassFile.FieldType.int)) ∈ lw_all := lw_g (lw_at lw_m1 165 rfl) rfl
theorem q220 : (Jvm.Cond.methodLinkNest "TownOnWeight$Reader" (32 : Nat) ({ cls := "TownOnWeight", name := "isIn", desc := "(JJJ)Z" } : Jvm.MethodName) "TownOnWeight") ∈ lw_tbl := lw_at lw_m1 166 rfl
theorem q223 : (Jvm.Cond.constantLong "TownOnWeight$Reader" (36 : Nat) (8 : Int64)) ∈ lw_all := lw_g (lw_at lw_m1 169 rfl) rfl
theorem q224 : (Jvm.Cond.constantLong "TownOnWeight$Reader" (38 : Nat) (9 : Int64)) ∈ lw_all := lw_g (lw_at lw_m1 170 rfl) rfl
theorem q230 : (Jvm.Cond.instanceMethod ({ cls := "TownOnWeight$Reader", name := "isWhole", desc := "()Z" } : Jvm.MethodName)) ∈ lw_all := lw_g (lw_at lw_m1 176 rfl) rfl
theorem q231 : (Jvm.Cond.selects "TownOnWeight$Reader" ({ cls := "TownOnWeight$Reader", name := "isWhole", desc := "()Z" } : Jvm.MethodName) ({ cls := "TownOnWeight$Reader", name := "isWhole", desc := "()Z" } : Jvm.MethodName)) ∈ lw_all := lw_g (lw_at lw_m1 177 rfl) rfl
theorem q232 : (Jvm.Cond.code ({ cls := "TownOnWeight$Reader", name := "isWhole", desc := "()Z" } : Jvm.MethodName) prog_7_method_4_code (1 : Nat) (Option.some Jvm.ClassFile.FieldType.boolean)) ∈ lw_all := lw_g (lw_at lw_m1 178 rfl) rfl
theorem in_X3 : ∀ w ∈ wsX30, w ∈ lw_all := lw_in wsX30 [198, 200, 202, 204, 206] (by decide +kernel) (by decide +kernel)

/-! TownOnWeight$House -/
set_option maxRecDepth 100000
def RX4 : String := "TownOnWeight$House"
def TX4 : u_T := fun k => match k with
  | 0 => ("TownOnWeight$House", "number", "I", false)
  | 1 => ("TownOnWeight$House", "parent", "I", false)
  | _ => ("TownOnWeight$House", "told", "[I", true)
def tyX4 : Nat → FieldType := fun k => match k with
  | 0 => .int
  | 1 => .int
  | _ => .array .int
abbrev wsX40 : List Cond := u_ws RX4 TX4 3
theorem nmX4 : ∀ a, a < 3 → ∀ b, b < 3 → a ≠ b → (TX4 a).2.1 ≠ (TX4 b).2.1 := by decide +kernel
theorem tyX4_ok : ∀ k, k < 3 → parseFieldDescriptor (TX4 k).2.2.1 = some (tyX4 k) := by decide +kernel
abbrev cX4_init : ByteArray := prog_5_method_1_code
def yX4_init : MethodName := ⟨RX4, "<init>", "()V"⟩
def dkwX4_init_0 : List UInt8 := [42, 183, 0, 1, 42, 7, 188, 10, 181, 0, 7, 177]
abbrev dktX4_init_0 : List UInt8 := dkwX4_init_0 ++ []
theorem dksX4_init_0 : cX4_init.data.toList.drop 0 = dktX4_init_0 := by decide +kernel
theorem dX4_init_0 : decode cX4_init 0 = .ok (.aload_n 0, 1) := dk_42 (dk_at dksX4_init_0 0 rfl rfl)
theorem dX4_init_1 : decode cX4_init 1 = .ok (.invokespecial 1, 3) := dk_183 0 1 (dk_at dksX4_init_0 1 rfl rfl)
theorem dX4_init_4 : decode cX4_init 4 = .ok (.aload_n 0, 1) := dk_42 (dk_at dksX4_init_0 4 rfl rfl)
theorem dX4_init_5 : decode cX4_init 5 = .ok (.iconst 4, 1) := dk_7 (dk_at dksX4_init_0 5 rfl rfl)
theorem dX4_init_6 : decode cX4_init 6 = .ok (.newarray .int, 2) := dk_188_10 (dk_at dksX4_init_0 6 rfl rfl)
theorem dX4_init_8 : decode cX4_init 8 = .ok (.putfield 7, 3) := dk_181 0 7 (dk_at dksX4_init_0 8 rfl rfl)
theorem dX4_init_11 : decode cX4_init 11 = .ok (.return_, 1) := dk_177 (dk_at dksX4_init_0 11 rfl rfl)
abbrev cX4_kind : ByteArray := prog_5_method_2_code
def yX4_kind : MethodName := ⟨RX4, "kind", "()I"⟩
theorem dX4_kind_0 : decode cX4_kind 0 = .ok (.iconst 0, 1) := by decide +kernel
theorem dX4_kind_1 : decode cX4_kind 1 = .ok (.ireturn, 1) := by decide +kernel
abbrev cX4_isOpen : ByteArray := prog_5_method_5_code
def yX4_isOpen : MethodName := ⟨RX4, "isOpen", "(I)Z"⟩
def dkwX4_isOpen_1 : List UInt8 := [3, 172]
abbrev dktX4_isOpen_1 : List UInt8 := dkwX4_isOpen_1 ++ []
def dkwX4_isOpen_0 : List UInt8 := [27, 42, 180, 0, 7, 3, 46, 161, 0, 17, 27, 42, 180, 0, 7, 4, 46, 162, 0, 7, 4, 167, 0, 4]
abbrev dktX4_isOpen_0 : List UInt8 := dkwX4_isOpen_0 ++ dktX4_isOpen_1
theorem dksX4_isOpen_0 : cX4_isOpen.data.toList.drop 0 = dktX4_isOpen_0 := by decide +kernel
theorem dksX4_isOpen_1 : cX4_isOpen.data.toList.drop 24 = dktX4_isOpen_1 := dk_seg dksX4_isOpen_0 24 rfl rfl
theorem dX4_isOpen_0 : decode cX4_isOpen 0 = .ok (.iload_n 1, 1) := dk_27 (dk_at dksX4_isOpen_0 0 rfl rfl)
theorem dX4_isOpen_1 : decode cX4_isOpen 1 = .ok (.aload_n 0, 1) := dk_42 (dk_at dksX4_isOpen_0 1 rfl rfl)
theorem dX4_isOpen_2 : decode cX4_isOpen 2 = .ok (.getfield 7, 3) := dk_180 0 7 (dk_at dksX4_isOpen_0 2 rfl rfl)
theorem dX4_isOpen_5 : decode cX4_isOpen 5 = .ok (.iconst 0, 1) := dk_3 (dk_at dksX4_isOpen_0 5 rfl rfl)
theorem dX4_isOpen_6 : decode cX4_isOpen 6 = .ok (.iaload, 1) := dk_46 (dk_at dksX4_isOpen_0 6 rfl rfl)
theorem dX4_isOpen_7 : decode cX4_isOpen 7 = .ok (.if_icmp .lt 17, 3) := dk_161 0 17 (dk_at dksX4_isOpen_0 7 rfl rfl)
theorem dX4_isOpen_10 : decode cX4_isOpen 10 = .ok (.iload_n 1, 1) := dk_27 (dk_at dksX4_isOpen_0 10 rfl rfl)
theorem dX4_isOpen_11 : decode cX4_isOpen 11 = .ok (.aload_n 0, 1) := dk_42 (dk_at dksX4_isOpen_0 11 rfl rfl)
theorem dX4_isOpen_12 : decode cX4_isOpen 12 = .ok (.getfield 7, 3) := dk_180 0 7 (dk_at dksX4_isOpen_0 12 rfl rfl)
theorem dX4_isOpen_15 : decode cX4_isOpen 15 = .ok (.iconst 1, 1) := dk_4 (dk_at dksX4_isOpen_0 15 rfl rfl)
theorem dX4_isOpen_16 : decode cX4_isOpen 16 = .ok (.iaload, 1) := dk_46 (dk_at dksX4_isOpen_0 16 rfl rfl)
theorem dX4_isOpen_17 : decode cX4_isOpen 17 = .ok (.if_icmp .ge 7, 3) := dk_162 0 7 (dk_at dksX4_isOpen_0 17 rfl rfl)
theorem dX4_isOpen_20 : decode cX4_isOpen 20 = .ok (.iconst 1, 1) := dk_4 (dk_at dksX4_isOpen_0 20 rfl rfl)
theorem dX4_isOpen_21 : decode cX4_isOpen 21 = .ok (.goto 4, 3) := dk_167 0 4 (dk_at dksX4_isOpen_0 21 rfl rfl)
theorem dX4_isOpen_24 : decode cX4_isOpen 24 = .ok (.iconst 0, 1) := dk_3 (dk_at dksX4_isOpen_1 0 rfl rfl)
theorem dX4_isOpen_25 : decode cX4_isOpen 25 = .ok (.ireturn, 1) := dk_172 (dk_at dksX4_isOpen_1 1 rfl rfl)
abbrev cX4_feet : ByteArray := prog_5_method_3_code
def yX4_feet : MethodName := ⟨RX4, "feet", "(IZ)I"⟩
def dkwX4_feet_0 : List UInt8 := [42, 180, 0, 7, 5, 46, 172]
abbrev dktX4_feet_0 : List UInt8 := dkwX4_feet_0 ++ []
theorem dksX4_feet_0 : cX4_feet.data.toList.drop 0 = dktX4_feet_0 := by decide +kernel
theorem dX4_feet_0 : decode cX4_feet 0 = .ok (.aload_n 0, 1) := dk_42 (dk_at dksX4_feet_0 0 rfl rfl)
theorem dX4_feet_1 : decode cX4_feet 1 = .ok (.getfield 7, 3) := dk_180 0 7 (dk_at dksX4_feet_0 1 rfl rfl)
theorem dX4_feet_4 : decode cX4_feet 4 = .ok (.iconst 2, 1) := dk_5 (dk_at dksX4_feet_0 4 rfl rfl)
theorem dX4_feet_5 : decode cX4_feet 5 = .ok (.iaload, 1) := dk_46 (dk_at dksX4_feet_0 5 rfl rfl)
theorem dX4_feet_6 : decode cX4_feet 6 = .ok (.ireturn, 1) := dk_172 (dk_at dksX4_feet_0 6 rfl rfl)
abbrev cX4_loses : ByteArray := prog_5_method_4_code
def yX4_loses : MethodName := ⟨RX4, "loses", "(Z)I"⟩
def dkwX4_loses_0 : List UInt8 := [42, 180, 0, 7, 6, 46, 27, 153, 0, 7, 4, 167, 0, 4, 3, 96, 172]
abbrev dktX4_loses_0 : List UInt8 := dkwX4_loses_0 ++ []
theorem dksX4_loses_0 : cX4_loses.data.toList.drop 0 = dktX4_loses_0 := by decide +kernel
theorem dX4_loses_0 : decode cX4_loses 0 = .ok (.aload_n 0, 1) := dk_42 (dk_at dksX4_loses_0 0 rfl rfl)
theorem dX4_loses_1 : decode cX4_loses 1 = .ok (.getfield 7, 3) := dk_180 0 7 (dk_at dksX4_loses_0 1 rfl rfl)
theorem dX4_loses_4 : decode cX4_loses 4 = .ok (.iconst 3, 1) := dk_6 (dk_at dksX4_loses_0 4 rfl rfl)
theorem dX4_loses_5 : decode cX4_loses 5 = .ok (.iaload, 1) := dk_46 (dk_at dksX4_loses_0 5 rfl rfl)
theorem dX4_loses_6 : decode cX4_loses 6 = .ok (.iload_n 1, 1) := dk_27 (dk_at dksX4_loses_0 6 rfl rfl)
theorem dX4_loses_7 : decode cX4_loses 7 = .ok (.ifCond .eq 7, 3) := dk_153 0 7 (dk_at dksX4_loses_0 7 rfl rfl)
theorem dX4_loses_10 : decode cX4_loses 10 = .ok (.iconst 1, 1) := dk_4 (dk_at dksX4_loses_0 10 rfl rfl)
theorem dX4_loses_11 : decode cX4_loses 11 = .ok (.goto 4, 3) := dk_167 0 4 (dk_at dksX4_loses_0 11 rfl rfl)
theorem dX4_loses_14 : decode cX4_loses 14 = .ok (.iconst 0, 1) := dk_3 (dk_at dksX4_loses_0 14 rfl rfl)
theorem dX4_loses_15 : decode cX4_loses 15 = .ok (.iadd, 1) := dk_96 (dk_at dksX4_loses_0 15 rfl rfl)
theorem dX4_loses_16 : decode cX4_loses 16 = .ok (.ireturn, 1) := dk_172 (dk_at dksX4_loses_0 16 rfl rfl)
theorem q59 : (Jvm.Cond.initialized "TownOnWeight$House") ∈ lw_all := lw_g (lw_at lw_m1 5 rfl) rfl
theorem q236 : (Jvm.Cond.instantiable "TownOnWeight$House" (3 : Nat)) ∈ lw_all := lw_g (lw_at lw_m1 182 rfl) rfl
theorem q238 : (Jvm.Cond.instanceMethod ({ cls := "TownOnWeight$House", name := "<init>", desc := "()V" } : Jvm.MethodName)) ∈ lw_all := lw_g (lw_at lw_m1 184 rfl) rfl
theorem q239 : (Jvm.Cond.code ({ cls := "TownOnWeight$House", name := "<init>", desc := "()V" } : Jvm.MethodName) prog_5_method_1_code (1 : Nat) (Option.none : Option Jvm.ClassFile.FieldType)) ∈ lw_all := lw_g (lw_at lw_m1 185 rfl) rfl
theorem q240 : (Jvm.Cond.methodLink "TownOnWeight$House" (1 : Nat) ({ cls := "java/lang/Object", name := "<init>", desc := "()V" } : Jvm.MethodName)) ∈ lw_all := lw_g (lw_at lw_m1 186 rfl) rfl
theorem q251 : (Jvm.Cond.fieldLink "TownOnWeight$House" (7 : Nat) "TownOnWeight$House" "told" "[I") ∈ lw_all := lw_g (lw_at lw_m1 197 rfl) rfl
theorem q255 : (Jvm.Cond.lays "TownOnWeight$House" "TownOnWeight$House" "number" "I") ∈ lw_all := lw_g (lw_at lw_m1 201 rfl) rfl
theorem q256 : (Jvm.Cond.soleField "TownOnWeight$House" "number") ∈ lw_all := lw_g (lw_at lw_m1 202 rfl) rfl
theorem q257 : (Jvm.Cond.lays "TownOnWeight$House" "TownOnWeight$House" "parent" "I") ∈ lw_all := lw_g (lw_at lw_m1 203 rfl) rfl
theorem q258 : (Jvm.Cond.soleField "TownOnWeight$House" "parent") ∈ lw_all := lw_g (lw_at lw_m1 204 rfl) rfl
theorem q259 : (Jvm.Cond.laysFinal "TownOnWeight$House" "TownOnWeight$House" "told" "[I") ∈ lw_all := lw_g (lw_at lw_m1 205 rfl) rfl
theorem q260 : (Jvm.Cond.soleField "TownOnWeight$House" "told") ∈ lw_all := lw_g (lw_at lw_m1 206 rfl) rfl
theorem q261 : (Jvm.Cond.superclass "TownOnWeight$House" "java/lang/Object") ∈ lw_all := lw_g (lw_at lw_m1 207 rfl) rfl
theorem q319 : (Jvm.Cond.instanceMethod ({ cls := "TownOnWeight$House", name := "kind", desc := "()I" } : Jvm.MethodName)) ∈ lw_all := lw_g (lw_at lw_m2 25 rfl) rfl
theorem q320 : (Jvm.Cond.selects "TownOnWeight$House" ({ cls := "TownOnWeight$House", name := "kind", desc := "()I" } : Jvm.MethodName) ({ cls := "TownOnWeight$House", name := "kind", desc := "()I" } : Jvm.MethodName)) ∈ lw_all := lw_g (lw_at lw_m2 26 rfl) rfl
theorem q321 : (Jvm.Cond.sameMethod "TownOnWeight$House" "TownOnWeight$House" "kind" "()I") ∈ lw_all := lw_g (lw_at lw_m2 27 rfl) rfl
theorem q335 : (Jvm.Cond.code ({ cls := "TownOnWeight$House", name := "kind", desc := "()I" } : Jvm.MethodName) prog_5_method_2_code (1 : Nat) (Option.some Jvm.ClassFile.FieldType.int)) ∈ lw_all := lw_g (lw_at lw_m2 41 rfl) rfl
theorem q438 : (Jvm.Cond.instanceMethod ({ cls := "TownOnWeight$House", name := "isOpen", desc := "(I)Z" } : Jvm.MethodName)) ∈ lw_all := lw_g (lw_at lw_m2 144 rfl) rfl
theorem q439 : (Jvm.Cond.selects "TownOnWeight$House" ({ cls := "TownOnWeight$House", name := "isOpen", desc := "(I)Z" } : Jvm.MethodName) ({ cls := "TownOnWeight$House", name := "isOpen", desc := "(I)Z" } : Jvm.MethodName)) ∈ lw_all := lw_g (lw_at lw_m2 145 rfl) rfl
theorem q440 : (Jvm.Cond.sameMethod "TownOnWeight$House" "TownOnWeight$House" "isOpen" "(I)Z") ∈ lw_all := lw_g (lw_at lw_m2 146 rfl) rfl
theorem q445 : (Jvm.Cond.code ({ cls := "TownOnWeight$House", name := "isOpen", desc := "(I)Z" } : Jvm.MethodName) prog_5_method_5_code (2 : Nat) (Option.some Jvm.ClassFile.FieldType.boolean)) ∈ lw_all := lw_g (lw_at lw_m2 151 rfl) rfl
theorem q447 : (Jvm.Cond.instanceMethod ({ cls := "TownOnWeight$House", name := "feet", desc := "(IZ)I" } : Jvm.MethodName)) ∈ lw_all := lw_g (lw_at lw_m2 153 rfl) rfl
theorem q448 : (Jvm.Cond.selects "TownOnWeight$House" ({ cls := "TownOnWeight$House", name := "feet", desc := "(IZ)I" } : Jvm.MethodName) ({ cls := "TownOnWeight$House", name := "feet", desc := "(IZ)I" } : Jvm.MethodName)) ∈ lw_all := lw_g (lw_at lw_m2 154 rfl) rfl
theorem q449 : (Jvm.Cond.sameMethod "TownOnWeight$House" "TownOnWeight$House" "feet" "(IZ)I") ∈ lw_all := lw_g (lw_at lw_m2 155 rfl) rfl
theorem q460 : (Jvm.Cond.code ({ cls := "TownOnWeight$House", name := "feet", desc := "(IZ)I" } : Jvm.MethodName) prog_5_method_3_code (3 : Nat) (Option.some Jvm.ClassFile.FieldType.int)) ∈ lw_all := lw_g (lw_at lw_m2 166 rfl) rfl
theorem q482 : (Jvm.Cond.instanceMethod ({ cls := "TownOnWeight$House", name := "loses", desc := "(Z)I" } : Jvm.MethodName)) ∈ lw_all := lw_g (lw_at lw_m2 188 rfl) rfl
theorem q483 : (Jvm.Cond.selects "TownOnWeight$House" ({ cls := "TownOnWeight$House", name := "loses", desc := "(Z)I" } : Jvm.MethodName) ({ cls := "TownOnWeight$House", name := "loses", desc := "(Z)I" } : Jvm.MethodName)) ∈ lw_all := lw_g (lw_at lw_m2 189 rfl) rfl
theorem q484 : (Jvm.Cond.sameMethod "TownOnWeight$House" "TownOnWeight$House" "loses" "(Z)I") ∈ lw_all := lw_g (lw_at lw_m2 190 rfl) rfl
theorem q491 : (Jvm.Cond.code ({ cls := "TownOnWeight$House", name := "loses", desc := "(Z)I" } : Jvm.MethodName) prog_5_method_4_code (2 : Nat) (Option.some Jvm.ClassFile.FieldType.int)) ∈ lw_all := lw_g (lw_at lw_m2 197 rfl) rfl
theorem q512 : (Jvm.Cond.unhidden "TownOnWeight$House" "mayStop" "()Z") ∈ lw_tbl := lw_at lw_m2 218 rfl
theorem in_X4 : ∀ w ∈ wsX40, w ∈ lw_all := lw_in wsX40 [255, 257, 259] (by decide +kernel) (by decide +kernel)

/-! TownOnWeight$Clock -/
set_option maxRecDepth 100000
def RX5 : String := "TownOnWeight$Clock"
def TX5 : u_T := fun k => match k with
  | 0 => ("TownOnWeight$House", "number", "I", false)
  | 1 => ("TownOnWeight$House", "parent", "I", false)
  | _ => ("TownOnWeight$House", "told", "[I", true)
def tyX5 : Nat → FieldType := fun k => match k with
  | 0 => .int
  | 1 => .int
  | _ => .array .int
abbrev wsX50 : List Cond := u_ws RX5 TX5 3
theorem nmX5 : ∀ a, a < 3 → ∀ b, b < 3 → a ≠ b → (TX5 a).2.1 ≠ (TX5 b).2.1 := by decide +kernel
theorem tyX5_ok : ∀ k, k < 3 → parseFieldDescriptor (TX5 k).2.2.1 = some (tyX5 k) := by decide +kernel
abbrev cX5_init : ByteArray := prog_2_method_1_code
def yX5_init : MethodName := ⟨RX5, "<init>", "()V"⟩
theorem dX5_init_0 : decode cX5_init 0 = .ok (.aload_n 0, 1) := by decide +kernel
theorem dX5_init_1 : decode cX5_init 1 = .ok (.invokespecial 1, 3) := by decide +kernel
theorem dX5_init_4 : decode cX5_init 4 = .ok (.return_, 1) := by decide +kernel
abbrev cX5_kind : ByteArray := prog_2_method_2_code
def yX5_kind : MethodName := ⟨RX5, "kind", "()I"⟩
theorem dX5_kind_0 : decode cX5_kind 0 = .ok (.iconst 1, 1) := by decide +kernel
theorem dX5_kind_1 : decode cX5_kind 1 = .ok (.ireturn, 1) := by decide +kernel
abbrev cX5_mayStop : ByteArray := prog_2_method_3_code
def yX5_mayStop : MethodName := ⟨RX5, "mayStop", "()Z"⟩
theorem dX5_mayStop_0 : decode cX5_mayStop 0 = .ok (.iconst 0, 1) := by decide +kernel
theorem dX5_mayStop_1 : decode cX5_mayStop 1 = .ok (.ireturn, 1) := by decide +kernel
theorem q60 : (Jvm.Cond.initialized "TownOnWeight$Clock") ∈ lw_all := lw_g (lw_at lw_m1 6 rfl) rfl
theorem q243 : (Jvm.Cond.sameField "TownOnWeight$Clock" "TownOnWeight$House" "number" "I") ∈ lw_all := lw_g (lw_at lw_m1 189 rfl) rfl
theorem q263 : (Jvm.Cond.instantiable "TownOnWeight$Clock" (3 : Nat)) ∈ lw_all := lw_g (lw_at lw_m1 209 rfl) rfl
theorem q265 : (Jvm.Cond.instanceMethod ({ cls := "TownOnWeight$Clock", name := "<init>", desc := "()V" } : Jvm.MethodName)) ∈ lw_all := lw_g (lw_at lw_m1 211 rfl) rfl
theorem q266 : (Jvm.Cond.code ({ cls := "TownOnWeight$Clock", name := "<init>", desc := "()V" } : Jvm.MethodName) prog_2_method_1_code (1 : Nat) (Option.none : Option Jvm.ClassFile.FieldType)) ∈ lw_all := lw_g (lw_at lw_m1 212 rfl) rfl
theorem q267 : (Jvm.Cond.methodLinkNest "TownOnWeight$Clock" (1 : Nat) ({ cls := "TownOnWeight$House", name := "<init>", desc := "()V" } : Jvm.MethodName) "TownOnWeight") ∈ lw_tbl := lw_at lw_m1 213 rfl
theorem q268 : (Jvm.Cond.lays "TownOnWeight$Clock" "TownOnWeight$House" "number" "I") ∈ lw_all := lw_g (lw_at lw_m1 214 rfl) rfl
theorem q269 : (Jvm.Cond.lays "TownOnWeight$Clock" "TownOnWeight$House" "parent" "I") ∈ lw_all := lw_g (lw_at lw_m1 215 rfl) rfl
theorem q270 : (Jvm.Cond.laysFinal "TownOnWeight$Clock" "TownOnWeight$House" "told" "[I") ∈ lw_all := lw_g (lw_at lw_m1 216 rfl) rfl
theorem q271 : (Jvm.Cond.superclass "TownOnWeight$Clock" "TownOnWeight$House") ∈ lw_all := lw_g (lw_at lw_m1 217 rfl) rfl
theorem q322 : (Jvm.Cond.selects "TownOnWeight$Clock" ({ cls := "TownOnWeight$House", name := "kind", desc := "()I" } : Jvm.MethodName) ({ cls := "TownOnWeight$Clock", name := "kind", desc := "()I" } : Jvm.MethodName)) ∈ lw_all := lw_g (lw_at lw_m2 28 rfl) rfl
theorem q323 : (Jvm.Cond.instanceMethod ({ cls := "TownOnWeight$Clock", name := "kind", desc := "()I" } : Jvm.MethodName)) ∈ lw_all := lw_g (lw_at lw_m2 29 rfl) rfl
theorem q324 : (Jvm.Cond.code ({ cls := "TownOnWeight$Clock", name := "kind", desc := "()I" } : Jvm.MethodName) prog_2_method_2_code (1 : Nat) (Option.some Jvm.ClassFile.FieldType.int)) ∈ lw_all := lw_g (lw_at lw_m2 30 rfl) rfl
theorem q441 : (Jvm.Cond.selects "TownOnWeight$Clock" ({ cls := "TownOnWeight$House", name := "isOpen", desc := "(I)Z" } : Jvm.MethodName) ({ cls := "TownOnWeight$House", name := "isOpen", desc := "(I)Z" } : Jvm.MethodName)) ∈ lw_all := lw_g (lw_at lw_m2 147 rfl) rfl
theorem q450 : (Jvm.Cond.selects "TownOnWeight$Clock" ({ cls := "TownOnWeight$House", name := "feet", desc := "(IZ)I" } : Jvm.MethodName) ({ cls := "TownOnWeight$House", name := "feet", desc := "(IZ)I" } : Jvm.MethodName)) ∈ lw_all := lw_g (lw_at lw_m2 156 rfl) rfl
theorem q485 : (Jvm.Cond.selects "TownOnWeight$Clock" ({ cls := "TownOnWeight$House", name := "loses", desc := "(Z)I" } : Jvm.MethodName) ({ cls := "TownOnWeight$House", name := "loses", desc := "(Z)I" } : Jvm.MethodName)) ∈ lw_all := lw_g (lw_at lw_m2 191 rfl) rfl
theorem q509 : (Jvm.Cond.selects "TownOnWeight$Clock" ({ cls := "TownOnWeight$Hangs", name := "mayStop", desc := "()Z" } : Jvm.MethodName) ({ cls := "TownOnWeight$Clock", name := "mayStop", desc := "()Z" } : Jvm.MethodName)) ∈ lw_all := lw_g (lw_at lw_m2 215 rfl) rfl
theorem q510 : (Jvm.Cond.instanceMethod ({ cls := "TownOnWeight$Clock", name := "mayStop", desc := "()Z" } : Jvm.MethodName)) ∈ lw_all := lw_g (lw_at lw_m2 216 rfl) rfl
theorem q511 : (Jvm.Cond.code ({ cls := "TownOnWeight$Clock", name := "mayStop", desc := "()Z" } : Jvm.MethodName) prog_2_method_3_code (1 : Nat) (Option.some Jvm.ClassFile.FieldType.boolean)) ∈ lw_all := lw_g (lw_at lw_m2 217 rfl) rfl
theorem q1069 : (Jvm.Cond.castable "TownOnWeight$Clock" "TownOnWeight$House") ∈ lw_tbl := lw_at lw_m5 55 rfl
theorem in_X5 : ∀ w ∈ wsX50, w ∈ lw_all := lw_in wsX50 [268, 269, 270] (by decide +kernel) (by decide +kernel)

/-! TownOnWeight$Hungry -/
set_option maxRecDepth 100000
def RX6 : String := "TownOnWeight$Hungry"
def TX6 : u_T := fun k => match k with
  | 0 => ("TownOnWeight$House", "number", "I", false)
  | 1 => ("TownOnWeight$House", "parent", "I", false)
  | _ => ("TownOnWeight$House", "told", "[I", true)
def tyX6 : Nat → FieldType := fun k => match k with
  | 0 => .int
  | 1 => .int
  | _ => .array .int
abbrev wsX60 : List Cond := u_ws RX6 TX6 3
theorem nmX6 : ∀ a, a < 3 → ∀ b, b < 3 → a ≠ b → (TX6 a).2.1 ≠ (TX6 b).2.1 := by decide +kernel
theorem tyX6_ok : ∀ k, k < 3 → parseFieldDescriptor (TX6 k).2.2.1 = some (tyX6 k) := by decide +kernel
abbrev cX6_init : ByteArray := prog_6_method_1_code
def yX6_init : MethodName := ⟨RX6, "<init>", "()V"⟩
theorem dX6_init_0 : decode cX6_init 0 = .ok (.aload_n 0, 1) := by decide +kernel
theorem dX6_init_1 : decode cX6_init 1 = .ok (.invokespecial 1, 3) := by decide +kernel
theorem dX6_init_4 : decode cX6_init 4 = .ok (.return_, 1) := by decide +kernel
abbrev cX6_kind : ByteArray := prog_6_method_2_code
def yX6_kind : MethodName := ⟨RX6, "kind", "()I"⟩
theorem dX6_kind_0 : decode cX6_kind 0 = .ok (.iconst 2, 1) := by decide +kernel
theorem dX6_kind_1 : decode cX6_kind 1 = .ok (.ireturn, 1) := by decide +kernel
abbrev cX6_feet : ByteArray := prog_6_method_3_code
def yX6_feet : MethodName := ⟨RX6, "feet", "(IZ)I"⟩
def dkwX6_feet_1 : List UInt8 := [172]
abbrev dktX6_feet_1 : List UInt8 := dkwX6_feet_1 ++ []
def dkwX6_feet_0 : List UInt8 := [42, 27, 28, 183, 0, 7, 62, 27, 42, 180, 0, 11, 3, 46, 160, 0, 9, 5, 29, 104, 167, 0, 4, 29]
abbrev dktX6_feet_0 : List UInt8 := dkwX6_feet_0 ++ dktX6_feet_1
theorem dksX6_feet_0 : cX6_feet.data.toList.drop 0 = dktX6_feet_0 := by decide +kernel
theorem dksX6_feet_1 : cX6_feet.data.toList.drop 24 = dktX6_feet_1 := dk_seg dksX6_feet_0 24 rfl rfl
theorem dX6_feet_0 : decode cX6_feet 0 = .ok (.aload_n 0, 1) := dk_42 (dk_at dksX6_feet_0 0 rfl rfl)
theorem dX6_feet_1 : decode cX6_feet 1 = .ok (.iload_n 1, 1) := dk_27 (dk_at dksX6_feet_0 1 rfl rfl)
theorem dX6_feet_2 : decode cX6_feet 2 = .ok (.iload_n 2, 1) := dk_28 (dk_at dksX6_feet_0 2 rfl rfl)
theorem dX6_feet_3 : decode cX6_feet 3 = .ok (.invokespecial 7, 3) := dk_183 0 7 (dk_at dksX6_feet_0 3 rfl rfl)
theorem dX6_feet_6 : decode cX6_feet 6 = .ok (.istore_n 3, 1) := dk_62 (dk_at dksX6_feet_0 6 rfl rfl)
theorem dX6_feet_7 : decode cX6_feet 7 = .ok (.iload_n 1, 1) := dk_27 (dk_at dksX6_feet_0 7 rfl rfl)
theorem dX6_feet_8 : decode cX6_feet 8 = .ok (.aload_n 0, 1) := dk_42 (dk_at dksX6_feet_0 8 rfl rfl)
theorem dX6_feet_9 : decode cX6_feet 9 = .ok (.getfield 11, 3) := dk_180 0 11 (dk_at dksX6_feet_0 9 rfl rfl)
theorem dX6_feet_12 : decode cX6_feet 12 = .ok (.iconst 0, 1) := dk_3 (dk_at dksX6_feet_0 12 rfl rfl)
theorem dX6_feet_13 : decode cX6_feet 13 = .ok (.iaload, 1) := dk_46 (dk_at dksX6_feet_0 13 rfl rfl)
theorem dX6_feet_14 : decode cX6_feet 14 = .ok (.if_icmp .ne 9, 3) := dk_160 0 9 (dk_at dksX6_feet_0 14 rfl rfl)
theorem dX6_feet_17 : decode cX6_feet 17 = .ok (.iconst 2, 1) := dk_5 (dk_at dksX6_feet_0 17 rfl rfl)
theorem dX6_feet_18 : decode cX6_feet 18 = .ok (.iload_n 3, 1) := dk_29 (dk_at dksX6_feet_0 18 rfl rfl)
theorem dX6_feet_19 : decode cX6_feet 19 = .ok (.imul, 1) := dk_104 (dk_at dksX6_feet_0 19 rfl rfl)
theorem dX6_feet_20 : decode cX6_feet 20 = .ok (.goto 4, 3) := dk_167 0 4 (dk_at dksX6_feet_0 20 rfl rfl)
theorem dX6_feet_23 : decode cX6_feet 23 = .ok (.iload_n 3, 1) := dk_29 (dk_at dksX6_feet_0 23 rfl rfl)
theorem dX6_feet_24 : decode cX6_feet 24 = .ok (.ireturn, 1) := dk_172 (dk_at dksX6_feet_1 0 rfl rfl)
theorem q61 : (Jvm.Cond.initialized "TownOnWeight$Hungry") ∈ lw_all := lw_g (lw_at lw_m1 7 rfl) rfl
theorem q245 : (Jvm.Cond.sameField "TownOnWeight$Hungry" "TownOnWeight$House" "number" "I") ∈ lw_all := lw_g (lw_at lw_m1 191 rfl) rfl
theorem q252 : (Jvm.Cond.fieldLink "TownOnWeight$Hungry" (11 : Nat) "TownOnWeight$Hungry" "told" "[I") ∈ lw_all := lw_g (lw_at lw_m1 198 rfl) rfl
theorem q253 : (Jvm.Cond.sameField "TownOnWeight$Hungry" "TownOnWeight$House" "told" "[I") ∈ lw_all := lw_g (lw_at lw_m1 199 rfl) rfl
theorem q273 : (Jvm.Cond.instantiable "TownOnWeight$Hungry" (3 : Nat)) ∈ lw_all := lw_g (lw_at lw_m1 219 rfl) rfl
theorem q275 : (Jvm.Cond.instanceMethod ({ cls := "TownOnWeight$Hungry", name := "<init>", desc := "()V" } : Jvm.MethodName)) ∈ lw_all := lw_g (lw_at lw_m1 221 rfl) rfl
theorem q276 : (Jvm.Cond.code ({ cls := "TownOnWeight$Hungry", name := "<init>", desc := "()V" } : Jvm.MethodName) prog_6_method_1_code (1 : Nat) (Option.none : Option Jvm.ClassFile.FieldType)) ∈ lw_all := lw_g (lw_at lw_m1 222 rfl) rfl
theorem q277 : (Jvm.Cond.methodLinkNest "TownOnWeight$Hungry" (1 : Nat) ({ cls := "TownOnWeight$House", name := "<init>", desc := "()V" } : Jvm.MethodName) "TownOnWeight") ∈ lw_tbl := lw_at lw_m1 223 rfl
theorem q278 : (Jvm.Cond.lays "TownOnWeight$Hungry" "TownOnWeight$House" "number" "I") ∈ lw_all := lw_g (lw_at lw_m1 224 rfl) rfl
theorem q279 : (Jvm.Cond.lays "TownOnWeight$Hungry" "TownOnWeight$House" "parent" "I") ∈ lw_all := lw_g (lw_at lw_m1 225 rfl) rfl
theorem q280 : (Jvm.Cond.laysFinal "TownOnWeight$Hungry" "TownOnWeight$House" "told" "[I") ∈ lw_all := lw_g (lw_at lw_m1 226 rfl) rfl
theorem q281 : (Jvm.Cond.superclass "TownOnWeight$Hungry" "TownOnWeight$House") ∈ lw_all := lw_g (lw_at lw_m1 227 rfl) rfl
theorem q325 : (Jvm.Cond.selects "TownOnWeight$Hungry" ({ cls := "TownOnWeight$House", name := "kind", desc := "()I" } : Jvm.MethodName) ({ cls := "TownOnWeight$Hungry", name := "kind", desc := "()I" } : Jvm.MethodName)) ∈ lw_all := lw_g (lw_at lw_m2 31 rfl) rfl
theorem q326 : (Jvm.Cond.instanceMethod ({ cls := "TownOnWeight$Hungry", name := "kind", desc := "()I" } : Jvm.MethodName)) ∈ lw_all := lw_g (lw_at lw_m2 32 rfl) rfl
theorem q327 : (Jvm.Cond.code ({ cls := "TownOnWeight$Hungry", name := "kind", desc := "()I" } : Jvm.MethodName) prog_6_method_2_code (1 : Nat) (Option.some Jvm.ClassFile.FieldType.int)) ∈ lw_all := lw_g (lw_at lw_m2 33 rfl) rfl
theorem q442 : (Jvm.Cond.selects "TownOnWeight$Hungry" ({ cls := "TownOnWeight$House", name := "isOpen", desc := "(I)Z" } : Jvm.MethodName) ({ cls := "TownOnWeight$House", name := "isOpen", desc := "(I)Z" } : Jvm.MethodName)) ∈ lw_all := lw_g (lw_at lw_m2 148 rfl) rfl
theorem q451 : (Jvm.Cond.selects "TownOnWeight$Hungry" ({ cls := "TownOnWeight$House", name := "feet", desc := "(IZ)I" } : Jvm.MethodName) ({ cls := "TownOnWeight$Hungry", name := "feet", desc := "(IZ)I" } : Jvm.MethodName)) ∈ lw_all := lw_g (lw_at lw_m2 157 rfl) rfl
theorem q452 : (Jvm.Cond.instanceMethod ({ cls := "TownOnWeight$Hungry", name := "feet", desc := "(IZ)I" } : Jvm.MethodName)) ∈ lw_all := lw_g (lw_at lw_m2 158 rfl) rfl
theorem q453 : (Jvm.Cond.code ({ cls := "TownOnWeight$Hungry", name := "feet", desc := "(IZ)I" } : Jvm.MethodName) prog_6_method_3_code (4 : Nat) (Option.some Jvm.ClassFile.FieldType.int)) ∈ lw_all := lw_g (lw_at lw_m2 159 rfl) rfl
theorem q454 : (Jvm.Cond.methodLink "TownOnWeight$Hungry" (7 : Nat) ({ cls := "TownOnWeight$House", name := "feet", desc := "(IZ)I" } : Jvm.MethodName)) ∈ lw_all := lw_g (lw_at lw_m2 160 rfl) rfl
theorem q486 : (Jvm.Cond.selects "TownOnWeight$Hungry" ({ cls := "TownOnWeight$House", name := "loses", desc := "(Z)I" } : Jvm.MethodName) ({ cls := "TownOnWeight$House", name := "loses", desc := "(Z)I" } : Jvm.MethodName)) ∈ lw_all := lw_g (lw_at lw_m2 192 rfl) rfl
theorem q513 : (Jvm.Cond.unhidden "TownOnWeight$Hungry" "mayStop" "()Z") ∈ lw_tbl := lw_at lw_m2 219 rfl
theorem q1067 : (Jvm.Cond.sameMethod "TownOnWeight$Hungry" "TownOnWeight$Hungry" "kind" "()I") ∈ lw_all := lw_g (lw_at lw_m5 53 rfl) rfl
theorem q1070 : (Jvm.Cond.castable "TownOnWeight$Hungry" "TownOnWeight$House") ∈ lw_tbl := lw_at lw_m5 56 rfl
theorem in_X6 : ∀ w ∈ wsX60, w ∈ lw_all := lw_in wsX60 [278, 279, 280] (by decide +kernel) (by decide +kernel)

/-! TownOnWeight$Storing -/
set_option maxRecDepth 100000
def RX7 : String := "TownOnWeight$Storing"
def TX7 : u_T := fun k => match k with
  | 0 => ("TownOnWeight$House", "number", "I", false)
  | 1 => ("TownOnWeight$House", "parent", "I", false)
  | _ => ("TownOnWeight$House", "told", "[I", true)
def tyX7 : Nat → FieldType := fun k => match k with
  | 0 => .int
  | 1 => .int
  | _ => .array .int
abbrev wsX70 : List Cond := u_ws RX7 TX7 3
theorem nmX7 : ∀ a, a < 3 → ∀ b, b < 3 → a ≠ b → (TX7 a).2.1 ≠ (TX7 b).2.1 := by decide +kernel
theorem tyX7_ok : ∀ k, k < 3 → parseFieldDescriptor (TX7 k).2.2.1 = some (tyX7 k) := by decide +kernel
abbrev cX7_init : ByteArray := prog_9_method_1_code
def yX7_init : MethodName := ⟨RX7, "<init>", "()V"⟩
theorem dX7_init_0 : decode cX7_init 0 = .ok (.aload_n 0, 1) := by decide +kernel
theorem dX7_init_1 : decode cX7_init 1 = .ok (.invokespecial 1, 3) := by decide +kernel
theorem dX7_init_4 : decode cX7_init 4 = .ok (.return_, 1) := by decide +kernel
abbrev cX7_kind : ByteArray := prog_9_method_2_code
def yX7_kind : MethodName := ⟨RX7, "kind", "()I"⟩
theorem dX7_kind_0 : decode cX7_kind 0 = .ok (.iconst 3, 1) := by decide +kernel
theorem dX7_kind_1 : decode cX7_kind 1 = .ok (.ireturn, 1) := by decide +kernel
abbrev cX7_feet : ByteArray := prog_9_method_3_code
def yX7_feet : MethodName := ⟨RX7, "feet", "(IZ)I"⟩
def dkwX7_feet_0 : List UInt8 := [42, 27, 28, 183, 0, 7, 28, 153, 0, 7, 4, 167, 0, 4, 3, 100, 172]
abbrev dktX7_feet_0 : List UInt8 := dkwX7_feet_0 ++ []
theorem dksX7_feet_0 : cX7_feet.data.toList.drop 0 = dktX7_feet_0 := by decide +kernel
theorem dX7_feet_0 : decode cX7_feet 0 = .ok (.aload_n 0, 1) := dk_42 (dk_at dksX7_feet_0 0 rfl rfl)
theorem dX7_feet_1 : decode cX7_feet 1 = .ok (.iload_n 1, 1) := dk_27 (dk_at dksX7_feet_0 1 rfl rfl)
theorem dX7_feet_2 : decode cX7_feet 2 = .ok (.iload_n 2, 1) := dk_28 (dk_at dksX7_feet_0 2 rfl rfl)
theorem dX7_feet_3 : decode cX7_feet 3 = .ok (.invokespecial 7, 3) := dk_183 0 7 (dk_at dksX7_feet_0 3 rfl rfl)
theorem dX7_feet_6 : decode cX7_feet 6 = .ok (.iload_n 2, 1) := dk_28 (dk_at dksX7_feet_0 6 rfl rfl)
theorem dX7_feet_7 : decode cX7_feet 7 = .ok (.ifCond .eq 7, 3) := dk_153 0 7 (dk_at dksX7_feet_0 7 rfl rfl)
theorem dX7_feet_10 : decode cX7_feet 10 = .ok (.iconst 1, 1) := dk_4 (dk_at dksX7_feet_0 10 rfl rfl)
theorem dX7_feet_11 : decode cX7_feet 11 = .ok (.goto 4, 3) := dk_167 0 4 (dk_at dksX7_feet_0 11 rfl rfl)
theorem dX7_feet_14 : decode cX7_feet 14 = .ok (.iconst 0, 1) := dk_3 (dk_at dksX7_feet_0 14 rfl rfl)
theorem dX7_feet_15 : decode cX7_feet 15 = .ok (.isub, 1) := dk_100 (dk_at dksX7_feet_0 15 rfl rfl)
theorem dX7_feet_16 : decode cX7_feet 16 = .ok (.ireturn, 1) := dk_172 (dk_at dksX7_feet_0 16 rfl rfl)
theorem q62 : (Jvm.Cond.initialized "TownOnWeight$Storing") ∈ lw_all := lw_g (lw_at lw_m1 8 rfl) rfl
theorem q247 : (Jvm.Cond.sameField "TownOnWeight$Storing" "TownOnWeight$House" "number" "I") ∈ lw_all := lw_g (lw_at lw_m1 193 rfl) rfl
theorem q283 : (Jvm.Cond.instantiable "TownOnWeight$Storing" (3 : Nat)) ∈ lw_all := lw_g (lw_at lw_m1 229 rfl) rfl
theorem q285 : (Jvm.Cond.instanceMethod ({ cls := "TownOnWeight$Storing", name := "<init>", desc := "()V" } : Jvm.MethodName)) ∈ lw_all := lw_g (lw_at lw_m1 231 rfl) rfl
theorem q286 : (Jvm.Cond.code ({ cls := "TownOnWeight$Storing", name := "<init>", desc := "()V" } : Jvm.MethodName) prog_9_method_1_code (1 : Nat) (Option.none : Option Jvm.ClassFile.FieldType)) ∈ lw_all := lw_g (lw_at lw_m1 232 rfl) rfl
theorem q287 : (Jvm.Cond.methodLinkNest "TownOnWeight$Storing" (1 : Nat) ({ cls := "TownOnWeight$House", name := "<init>", desc := "()V" } : Jvm.MethodName) "TownOnWeight") ∈ lw_tbl := lw_at lw_m1 233 rfl
theorem q288 : (Jvm.Cond.lays "TownOnWeight$Storing" "TownOnWeight$House" "number" "I") ∈ lw_all := lw_g (lw_at lw_m1 234 rfl) rfl
theorem q289 : (Jvm.Cond.lays "TownOnWeight$Storing" "TownOnWeight$House" "parent" "I") ∈ lw_all := lw_g (lw_at lw_m1 235 rfl) rfl
theorem q290 : (Jvm.Cond.laysFinal "TownOnWeight$Storing" "TownOnWeight$House" "told" "[I") ∈ lw_all := lw_g (lw_at lw_m1 236 rfl) rfl
theorem q291 : (Jvm.Cond.superclass "TownOnWeight$Storing" "TownOnWeight$House") ∈ lw_all := lw_g (lw_at lw_m1 237 rfl) rfl
theorem q332 : (Jvm.Cond.selects "TownOnWeight$Storing" ({ cls := "TownOnWeight$House", name := "kind", desc := "()I" } : Jvm.MethodName) ({ cls := "TownOnWeight$Storing", name := "kind", desc := "()I" } : Jvm.MethodName)) ∈ lw_all := lw_g (lw_at lw_m2 38 rfl) rfl
theorem q333 : (Jvm.Cond.instanceMethod ({ cls := "TownOnWeight$Storing", name := "kind", desc := "()I" } : Jvm.MethodName)) ∈ lw_all := lw_g (lw_at lw_m2 39 rfl) rfl
theorem q334 : (Jvm.Cond.code ({ cls := "TownOnWeight$Storing", name := "kind", desc := "()I" } : Jvm.MethodName) prog_9_method_2_code (1 : Nat) (Option.some Jvm.ClassFile.FieldType.int)) ∈ lw_all := lw_g (lw_at lw_m2 40 rfl) rfl
theorem q444 : (Jvm.Cond.selects "TownOnWeight$Storing" ({ cls := "TownOnWeight$House", name := "isOpen", desc := "(I)Z" } : Jvm.MethodName) ({ cls := "TownOnWeight$House", name := "isOpen", desc := "(I)Z" } : Jvm.MethodName)) ∈ lw_all := lw_g (lw_at lw_m2 150 rfl) rfl
theorem q456 : (Jvm.Cond.selects "TownOnWeight$Storing" ({ cls := "TownOnWeight$House", name := "feet", desc := "(IZ)I" } : Jvm.MethodName) ({ cls := "TownOnWeight$Storing", name := "feet", desc := "(IZ)I" } : Jvm.MethodName)) ∈ lw_all := lw_g (lw_at lw_m2 162 rfl) rfl
theorem q457 : (Jvm.Cond.instanceMethod ({ cls := "TownOnWeight$Storing", name := "feet", desc := "(IZ)I" } : Jvm.MethodName)) ∈ lw_all := lw_g (lw_at lw_m2 163 rfl) rfl
theorem q458 : (Jvm.Cond.code ({ cls := "TownOnWeight$Storing", name := "feet", desc := "(IZ)I" } : Jvm.MethodName) prog_9_method_3_code (3 : Nat) (Option.some Jvm.ClassFile.FieldType.int)) ∈ lw_all := lw_g (lw_at lw_m2 164 rfl) rfl
theorem q459 : (Jvm.Cond.methodLink "TownOnWeight$Storing" (7 : Nat) ({ cls := "TownOnWeight$House", name := "feet", desc := "(IZ)I" } : Jvm.MethodName)) ∈ lw_all := lw_g (lw_at lw_m2 165 rfl) rfl
theorem q490 : (Jvm.Cond.selects "TownOnWeight$Storing" ({ cls := "TownOnWeight$House", name := "loses", desc := "(Z)I" } : Jvm.MethodName) ({ cls := "TownOnWeight$House", name := "loses", desc := "(Z)I" } : Jvm.MethodName)) ∈ lw_all := lw_g (lw_at lw_m2 196 rfl) rfl
theorem q515 : (Jvm.Cond.unhidden "TownOnWeight$Storing" "mayStop" "()Z") ∈ lw_tbl := lw_at lw_m2 221 rfl
theorem q1072 : (Jvm.Cond.castable "TownOnWeight$Storing" "TownOnWeight$House") ∈ lw_tbl := lw_at lw_m5 58 rfl
theorem in_X7 : ∀ w ∈ wsX70, w ∈ lw_all := lw_in wsX70 [288, 289, 290] (by decide +kernel) (by decide +kernel)

/-! TownOnWeight$Secret -/
set_option maxRecDepth 100000
def RX8 : String := "TownOnWeight$Secret"
def TX8 : u_T := fun k => match k with
  | 0 => ("TownOnWeight$House", "number", "I", false)
  | 1 => ("TownOnWeight$House", "parent", "I", false)
  | _ => ("TownOnWeight$House", "told", "[I", true)
def tyX8 : Nat → FieldType := fun k => match k with
  | 0 => .int
  | 1 => .int
  | _ => .array .int
abbrev wsX80 : List Cond := u_ws RX8 TX8 3
theorem nmX8 : ∀ a, a < 3 → ∀ b, b < 3 → a ≠ b → (TX8 a).2.1 ≠ (TX8 b).2.1 := by decide +kernel
theorem tyX8_ok : ∀ k, k < 3 → parseFieldDescriptor (TX8 k).2.2.1 = some (tyX8 k) := by decide +kernel
abbrev cX8_init : ByteArray := prog_8_method_1_code
def yX8_init : MethodName := ⟨RX8, "<init>", "()V"⟩
theorem dX8_init_0 : decode cX8_init 0 = .ok (.aload_n 0, 1) := by decide +kernel
theorem dX8_init_1 : decode cX8_init 1 = .ok (.invokespecial 1, 3) := by decide +kernel
theorem dX8_init_4 : decode cX8_init 4 = .ok (.return_, 1) := by decide +kernel
abbrev cX8_kind : ByteArray := prog_8_method_2_code
def yX8_kind : MethodName := ⟨RX8, "kind", "()I"⟩
def dkwX8_kind_0 : List UInt8 := [5, 42, 183, 0, 7, 96, 172]
abbrev dktX8_kind_0 : List UInt8 := dkwX8_kind_0 ++ []
theorem dksX8_kind_0 : cX8_kind.data.toList.drop 0 = dktX8_kind_0 := by decide +kernel
theorem dX8_kind_0 : decode cX8_kind 0 = .ok (.iconst 2, 1) := dk_5 (dk_at dksX8_kind_0 0 rfl rfl)
theorem dX8_kind_1 : decode cX8_kind 1 = .ok (.aload_n 0, 1) := dk_42 (dk_at dksX8_kind_0 1 rfl rfl)
theorem dX8_kind_2 : decode cX8_kind 2 = .ok (.invokespecial 7, 3) := dk_183 0 7 (dk_at dksX8_kind_0 2 rfl rfl)
theorem dX8_kind_5 : decode cX8_kind 5 = .ok (.iadd, 1) := dk_96 (dk_at dksX8_kind_0 5 rfl rfl)
theorem dX8_kind_6 : decode cX8_kind 6 = .ok (.ireturn, 1) := dk_172 (dk_at dksX8_kind_0 6 rfl rfl)
abbrev cX8_loses : ByteArray := prog_8_method_3_code
def yX8_loses : MethodName := ⟨RX8, "loses", "(Z)I"⟩
theorem dX8_loses_0 : decode cX8_loses 0 = .ok (.iconst 0, 1) := by decide +kernel
theorem dX8_loses_1 : decode cX8_loses 1 = .ok (.ireturn, 1) := by decide +kernel
theorem q63 : (Jvm.Cond.initialized "TownOnWeight$Secret") ∈ lw_all := lw_g (lw_at lw_m1 9 rfl) rfl
theorem q249 : (Jvm.Cond.sameField "TownOnWeight$Secret" "TownOnWeight$House" "number" "I") ∈ lw_all := lw_g (lw_at lw_m1 195 rfl) rfl
theorem q293 : (Jvm.Cond.instantiable "TownOnWeight$Secret" (3 : Nat)) ∈ lw_all := lw_g (lw_at lw_m1 239 rfl) rfl
theorem q295 : (Jvm.Cond.instanceMethod ({ cls := "TownOnWeight$Secret", name := "<init>", desc := "()V" } : Jvm.MethodName)) ∈ lw_all := lw_g (lw_at lw_m2 1 rfl) rfl
theorem q296 : (Jvm.Cond.code ({ cls := "TownOnWeight$Secret", name := "<init>", desc := "()V" } : Jvm.MethodName) prog_8_method_1_code (1 : Nat) (Option.none : Option Jvm.ClassFile.FieldType)) ∈ lw_all := lw_g (lw_at lw_m2 2 rfl) rfl
theorem q297 : (Jvm.Cond.methodLinkNest "TownOnWeight$Secret" (1 : Nat) ({ cls := "TownOnWeight$Hungry", name := "<init>", desc := "()V" } : Jvm.MethodName) "TownOnWeight") ∈ lw_tbl := lw_at lw_m2 3 rfl
theorem q298 : (Jvm.Cond.lays "TownOnWeight$Secret" "TownOnWeight$House" "number" "I") ∈ lw_all := lw_g (lw_at lw_m2 4 rfl) rfl
theorem q299 : (Jvm.Cond.lays "TownOnWeight$Secret" "TownOnWeight$House" "parent" "I") ∈ lw_all := lw_g (lw_at lw_m2 5 rfl) rfl
theorem q300 : (Jvm.Cond.laysFinal "TownOnWeight$Secret" "TownOnWeight$House" "told" "[I") ∈ lw_all := lw_g (lw_at lw_m2 6 rfl) rfl
theorem q301 : (Jvm.Cond.superclass "TownOnWeight$Secret" "TownOnWeight$Hungry") ∈ lw_all := lw_g (lw_at lw_m2 7 rfl) rfl
theorem q328 : (Jvm.Cond.selects "TownOnWeight$Secret" ({ cls := "TownOnWeight$House", name := "kind", desc := "()I" } : Jvm.MethodName) ({ cls := "TownOnWeight$Secret", name := "kind", desc := "()I" } : Jvm.MethodName)) ∈ lw_all := lw_g (lw_at lw_m2 34 rfl) rfl
theorem q329 : (Jvm.Cond.instanceMethod ({ cls := "TownOnWeight$Secret", name := "kind", desc := "()I" } : Jvm.MethodName)) ∈ lw_all := lw_g (lw_at lw_m2 35 rfl) rfl
theorem q330 : (Jvm.Cond.code ({ cls := "TownOnWeight$Secret", name := "kind", desc := "()I" } : Jvm.MethodName) prog_8_method_2_code (1 : Nat) (Option.some Jvm.ClassFile.FieldType.int)) ∈ lw_all := lw_g (lw_at lw_m2 36 rfl) rfl
theorem q331 : (Jvm.Cond.methodLink "TownOnWeight$Secret" (7 : Nat) ({ cls := "TownOnWeight$Hungry", name := "kind", desc := "()I" } : Jvm.MethodName)) ∈ lw_all := lw_g (lw_at lw_m2 37 rfl) rfl
theorem q443 : (Jvm.Cond.selects "TownOnWeight$Secret" ({ cls := "TownOnWeight$House", name := "isOpen", desc := "(I)Z" } : Jvm.MethodName) ({ cls := "TownOnWeight$House", name := "isOpen", desc := "(I)Z" } : Jvm.MethodName)) ∈ lw_all := lw_g (lw_at lw_m2 149 rfl) rfl
theorem q455 : (Jvm.Cond.selects "TownOnWeight$Secret" ({ cls := "TownOnWeight$House", name := "feet", desc := "(IZ)I" } : Jvm.MethodName) ({ cls := "TownOnWeight$Hungry", name := "feet", desc := "(IZ)I" } : Jvm.MethodName)) ∈ lw_all := lw_g (lw_at lw_m2 161 rfl) rfl
theorem q487 : (Jvm.Cond.selects "TownOnWeight$Secret" ({ cls := "TownOnWeight$House", name := "loses", desc := "(Z)I" } : Jvm.MethodName) ({ cls := "TownOnWeight$Secret", name := "loses", desc := "(Z)I" } : Jvm.MethodName)) ∈ lw_all := lw_g (lw_at lw_m2 193 rfl) rfl
theorem q488 : (Jvm.Cond.instanceMethod ({ cls := "TownOnWeight$Secret", name := "loses", desc := "(Z)I" } : Jvm.MethodName)) ∈ lw_all := lw_g (lw_at lw_m2 194 rfl) rfl
theorem q489 : (Jvm.Cond.code ({ cls := "TownOnWeight$Secret", name := "loses", desc := "(Z)I" } : Jvm.MethodName) prog_8_method_3_code (2 : Nat) (Option.some Jvm.ClassFile.FieldType.int)) ∈ lw_all := lw_g (lw_at lw_m2 195 rfl) rfl
theorem q514 : (Jvm.Cond.unhidden "TownOnWeight$Secret" "mayStop" "()Z") ∈ lw_tbl := lw_at lw_m2 220 rfl
theorem q1071 : (Jvm.Cond.castable "TownOnWeight$Secret" "TownOnWeight$House") ∈ lw_tbl := lw_at lw_m5 57 rfl
theorem q1073 : (Jvm.Cond.castable "TownOnWeight$Secret" "TownOnWeight$Hungry") ∈ lw_tbl := lw_at lw_m5 59 rfl
theorem in_X8 : ∀ w ∈ wsX80, w ∈ lw_all := lw_in wsX80 [298, 299, 300] (by decide +kernel) (by decide +kernel)

/-! TownOnWeight$Hangs -/
set_option maxRecDepth 100000
def RX9 : String := "TownOnWeight$Hangs"
abbrev cX9_mayStop : ByteArray := prog_4_method_2_code
def yX9_mayStop : MethodName := ⟨RX9, "mayStop", "()Z"⟩
theorem dX9_mayStop_0 : decode cX9_mayStop 0 = .ok (.iconst 1, 1) := by decide +kernel
theorem dX9_mayStop_1 : decode cX9_mayStop 1 = .ok (.ireturn, 1) := by decide +kernel
theorem q508 : (Jvm.Cond.declares ({ cls := "TownOnWeight$Hangs", name := "mayStop", desc := "()Z" } : Jvm.MethodName)) ∈ lw_tbl := lw_at lw_m2 214 rfl
theorem q516 : (Jvm.Cond.instanceMethod ({ cls := "TownOnWeight$Hangs", name := "mayStop", desc := "()Z" } : Jvm.MethodName)) ∈ lw_all := lw_g (lw_at lw_m2 222 rfl) rfl
theorem q517 : (Jvm.Cond.publicMethod ({ cls := "TownOnWeight$Hangs", name := "mayStop", desc := "()Z" } : Jvm.MethodName)) ∈ lw_tbl := lw_at lw_m2 223 rfl
theorem q518 : (Jvm.Cond.code ({ cls := "TownOnWeight$Hangs", name := "mayStop", desc := "()Z" } : Jvm.MethodName) prog_4_method_2_code (1 : Nat) (Option.some Jvm.ClassFile.FieldType.boolean)) ∈ lw_all := lw_g (lw_at lw_m2 224 rfl) rfl

theorem q54 : (Jvm.Cond.initialized "TownOnWeightLaw") ∈ lw_all := lw_g (lw_at lw_m1 0 rfl) rfl
set_option maxRecDepth 100000
theorem q72 : (Jvm.Cond.classLink "TownOnWeightLaw" (7 : Nat) "TownOnWeight") ∈ lw_all := lw_g (lw_at lw_m1 18 rfl) rfl
theorem q74 : (Jvm.Cond.methodLink "TownOnWeightLaw" (9 : Nat) ({ cls := "TownOnWeight", name := "<init>", desc := "()V" } : Jvm.MethodName)) ∈ lw_all := lw_g (lw_at lw_m1 20 rfl) rfl
theorem q172 : (Jvm.Cond.methodLink "TownOnWeightLaw" (15 : Nat) ({ cls := "TownOnWeight", name := "letters", desc := "(J)I" } : Jvm.MethodName)) ∈ lw_all := lw_g (lw_at lw_m1 118 rfl) rfl
theorem q176 : (Jvm.Cond.methodLink "TownOnWeightLaw" (20 : Nat) ({ cls := "TownOnWeight", name := "blank", desc := "()I" } : Jvm.MethodName)) ∈ lw_all := lw_g (lw_at lw_m1 122 rfl) rfl
theorem q180 : (Jvm.Cond.methodLink "TownOnWeightLaw" (25 : Nat) ({ cls := "TownOnWeight", name := "fault", desc := "()I" } : Jvm.MethodName)) ∈ lw_all := lw_g (lw_at lw_m1 126 rfl) rfl
theorem q225 : (Jvm.Cond.methodLink "TownOnWeightLaw" (29 : Nat) ({ cls := "TownOnWeight", name := "house", desc := "()I" } : Jvm.MethodName)) ∈ lw_all := lw_g (lw_at lw_m1 171 rfl) rfl
theorem q305 : (Jvm.Cond.methodLink "TownOnWeightLaw" (33 : Nat) ({ cls := "TownOnWeight", name := "about", desc := "(II)I" } : Jvm.MethodName)) ∈ lw_all := lw_g (lw_at lw_m2 11 rfl) rfl
theorem q339 : (Jvm.Cond.methodLink "TownOnWeightLaw" (38 : Nat) ({ cls := "TownOnWeight", name := "as", desc := "(II)I" } : Jvm.MethodName)) ∈ lw_all := lw_g (lw_at lw_m2 45 rfl) rfl
theorem q416 : (Jvm.Cond.methodLink "TownOnWeightLaw" (42 : Nat) ({ cls := "TownOnWeight", name := "length", desc := "(I)I" } : Jvm.MethodName)) ∈ lw_all := lw_g (lw_at lw_m2 122 rfl) rfl
theorem q421 : (Jvm.Cond.methodLink "TownOnWeightLaw" (47 : Nat) ({ cls := "TownOnWeight", name := "brake", desc := "(IZ)I" } : Jvm.MethodName)) ∈ lw_all := lw_g (lw_at lw_m2 127 rfl) rfl
theorem q425 : (Jvm.Cond.methodLink "TownOnWeightLaw" (52 : Nat) ({ cls := "TownOnWeight", name := "rain", desc := "(Z)I" } : Jvm.MethodName)) ∈ lw_all := lw_g (lw_at lw_m2 131 rfl) rfl
theorem q429 : (Jvm.Cond.methodLink "TownOnWeightLaw" (57 : Nat) ({ cls := "TownOnWeight", name := "wants", desc := "(I)I" } : Jvm.MethodName)) ∈ lw_all := lw_g (lw_at lw_m2 135 rfl) rfl
theorem q461 : (Jvm.Cond.methodLink "TownOnWeightLaw" (61 : Nat) ({ cls := "TownOnWeight", name := "goes", desc := "(I)I" } : Jvm.MethodName)) ∈ lw_all := lw_g (lw_at lw_m2 167 rfl) rfl
theorem q492 : (Jvm.Cond.methodLink "TownOnWeightLaw" (65 : Nat) ({ cls := "TownOnWeight", name := "hour", desc := "()I" } : Jvm.MethodName)) ∈ lw_all := lw_g (lw_at lw_m2 198 rfl) rfl
theorem q519 : (Jvm.Cond.methodLink "TownOnWeightLaw" (69 : Nat) ({ cls := "TownOnWeight", name := "worked", desc := "()I" } : Jvm.MethodName)) ∈ lw_all := lw_g (lw_at lw_m2 225 rfl) rfl
theorem q523 : (Jvm.Cond.methodLink "TownOnWeightLaw" (73 : Nat) ({ cls := "TownOnWeight", name := "part", desc := "(I)I" } : Jvm.MethodName)) ∈ lw_all := lw_g (lw_at lw_m2 229 rfl) rfl
theorem q535 : (Jvm.Cond.methodLink "TownOnWeightLaw" (77 : Nat) ({ cls := "TownOnWeight", name := "night", desc := "()I" } : Jvm.MethodName)) ∈ lw_all := lw_g (lw_at lw_m3 1 rfl) rfl
theorem q542 : (Jvm.Cond.methodLink "TownOnWeightLaw" (81 : Nat) ({ cls := "TownOnWeight", name := "plan", desc := "(I)I" } : Jvm.MethodName)) ∈ lw_all := lw_g (lw_at lw_m3 8 rfl) rfl
theorem q569 : (Jvm.Cond.methodLink "TownOnWeightLaw" (85 : Nat) ({ cls := "TownOnWeight", name := "more", desc := "(I)I" } : Jvm.MethodName)) ∈ lw_all := lw_g (lw_at lw_m3 35 rfl) rfl
theorem q577 : (Jvm.Cond.methodLink "TownOnWeightLaw" (89 : Nat) ({ cls := "TownOnWeight", name := "missing", desc := "(II)I" } : Jvm.MethodName)) ∈ lw_all := lw_g (lw_at lw_m3 43 rfl) rfl
theorem q591 : (Jvm.Cond.methodLink "TownOnWeightLaw" (93 : Nat) ({ cls := "TownOnWeight", name := "rest", desc := "(II)I" } : Jvm.MethodName)) ∈ lw_all := lw_g (lw_at lw_m3 57 rfl) rfl
theorem q604 : (Jvm.Cond.methodLink "TownOnWeightLaw" (97 : Nat) ({ cls := "TownOnWeight", name := "read", desc := "(II)I" } : Jvm.MethodName)) ∈ lw_all := lw_g (lw_at lw_m3 70 rfl) rfl
theorem q609 : (Jvm.Cond.methodLink "TownOnWeightLaw" (101 : Nat) ({ cls := "TownOnWeight", name := "wipe", desc := "()I" } : Jvm.MethodName)) ∈ lw_all := lw_g (lw_at lw_m3 75 rfl) rfl
theorem q613 : (Jvm.Cond.methodLink "TownOnWeightLaw" (105 : Nat) ({ cls := "TownOnWeight", name := "leaks", desc := "()I" } : Jvm.MethodName)) ∈ lw_all := lw_g (lw_at lw_m3 79 rfl) rfl
theorem q633 : (Jvm.Cond.methodLink "TownOnWeightLaw" (109 : Nat) ({ cls := "TownOnWeight", name := "leak", desc := "(I)I" } : Jvm.MethodName)) ∈ lw_all := lw_g (lw_at lw_m3 99 rfl) rfl
theorem q637 : (Jvm.Cond.methodLink "TownOnWeightLaw" (113 : Nat) ({ cls := "TownOnWeight", name := "look", desc := "()I" } : Jvm.MethodName)) ∈ lw_all := lw_g (lw_at lw_m3 103 rfl) rfl
theorem q648 : (Jvm.Cond.methodLink "TownOnWeightLaw" (117 : Nat) ({ cls := "TownOnWeight", name := "image", desc := "()I" } : Jvm.MethodName)) ∈ lw_all := lw_g (lw_at lw_m3 114 rfl) rfl
theorem q652 : (Jvm.Cond.methodLink "TownOnWeightLaw" (121 : Nat) ({ cls := "TownOnWeight", name := "restore", desc := "()I" } : Jvm.MethodName)) ∈ lw_all := lw_g (lw_at lw_m3 118 rfl) rfl
theorem q656 : (Jvm.Cond.methodLink "TownOnWeightLaw" (125 : Nat) ({ cls := "TownOnWeight", name := "count", desc := "(I)I" } : Jvm.MethodName)) ∈ lw_all := lw_g (lw_at lw_m3 122 rfl) rfl
theorem q660 : (Jvm.Cond.methodLink "TownOnWeightLaw" (129 : Nat) ({ cls := "TownOnWeight", name := "digest", desc := "()J" } : Jvm.MethodName)) ∈ lw_all := lw_g (lw_at lw_m3 126 rfl) rfl
theorem q671 : (Jvm.Cond.classLink "TownOnWeightLaw" (10 : Nat) "TownOnWeightModel") ∈ lw_all := lw_g (lw_at lw_m3 137 rfl) rfl
theorem q673 : (Jvm.Cond.methodLink "TownOnWeightLaw" (12 : Nat) ({ cls := "TownOnWeightModel", name := "<init>", desc := "()V" } : Jvm.MethodName)) ∈ lw_all := lw_g (lw_at lw_m3 139 rfl) rfl
theorem q819 : (Jvm.Cond.methodLink "TownOnWeightLaw" (19 : Nat) ({ cls := "TownOnWeightModel", name := "letters", desc := "(J)I" } : Jvm.MethodName)) ∈ lw_all := lw_g (lw_at lw_m4 45 rfl) rfl
theorem q824 : (Jvm.Cond.methodLink "TownOnWeightLaw" (24 : Nat) ({ cls := "TownOnWeightModel", name := "blank", desc := "()I" } : Jvm.MethodName)) ∈ lw_all := lw_g (lw_at lw_m4 50 rfl) rfl
theorem q828 : (Jvm.Cond.methodLink "TownOnWeightLaw" (28 : Nat) ({ cls := "TownOnWeightModel", name := "fault", desc := "()I" } : Jvm.MethodName)) ∈ lw_all := lw_g (lw_at lw_m4 54 rfl) rfl
theorem q846 : (Jvm.Cond.methodLink "TownOnWeightLaw" (32 : Nat) ({ cls := "TownOnWeightModel", name := "house", desc := "()I" } : Jvm.MethodName)) ∈ lw_all := lw_g (lw_at lw_m4 72 rfl) rfl
theorem q850 : (Jvm.Cond.methodLink "TownOnWeightLaw" (37 : Nat) ({ cls := "TownOnWeightModel", name := "about", desc := "(II)I" } : Jvm.MethodName)) ∈ lw_all := lw_g (lw_at lw_m4 76 rfl) rfl
theorem q865 : (Jvm.Cond.methodLink "TownOnWeightLaw" (41 : Nat) ({ cls := "TownOnWeightModel", name := "as", desc := "(II)I" } : Jvm.MethodName)) ∈ lw_all := lw_g (lw_at lw_m4 91 rfl) rfl
theorem q869 : (Jvm.Cond.methodLink "TownOnWeightLaw" (46 : Nat) ({ cls := "TownOnWeightModel", name := "length", desc := "(I)I" } : Jvm.MethodName)) ∈ lw_all := lw_g (lw_at lw_m4 95 rfl) rfl
theorem q873 : (Jvm.Cond.methodLink "TownOnWeightLaw" (51 : Nat) ({ cls := "TownOnWeightModel", name := "brake", desc := "(IZ)I" } : Jvm.MethodName)) ∈ lw_all := lw_g (lw_at lw_m4 99 rfl) rfl
theorem q877 : (Jvm.Cond.methodLink "TownOnWeightLaw" (56 : Nat) ({ cls := "TownOnWeightModel", name := "rain", desc := "(Z)I" } : Jvm.MethodName)) ∈ lw_all := lw_g (lw_at lw_m4 103 rfl) rfl
theorem q881 : (Jvm.Cond.methodLink "TownOnWeightLaw" (60 : Nat) ({ cls := "TownOnWeightModel", name := "wants", desc := "(I)I" } : Jvm.MethodName)) ∈ lw_all := lw_g (lw_at lw_m4 107 rfl) rfl
theorem q893 : (Jvm.Cond.methodLink "TownOnWeightLaw" (64 : Nat) ({ cls := "TownOnWeightModel", name := "goes", desc := "(I)I" } : Jvm.MethodName)) ∈ lw_all := lw_g (lw_at lw_m4 119 rfl) rfl
theorem q917 : (Jvm.Cond.methodLink "TownOnWeightLaw" (68 : Nat) ({ cls := "TownOnWeightModel", name := "hour", desc := "()I" } : Jvm.MethodName)) ∈ lw_all := lw_g (lw_at lw_m4 143 rfl) rfl
theorem q933 : (Jvm.Cond.methodLink "TownOnWeightLaw" (72 : Nat) ({ cls := "TownOnWeightModel", name := "worked", desc := "()I" } : Jvm.MethodName)) ∈ lw_all := lw_g (lw_at lw_m4 159 rfl) rfl
theorem q937 : (Jvm.Cond.methodLink "TownOnWeightLaw" (76 : Nat) ({ cls := "TownOnWeightModel", name := "part", desc := "(I)I" } : Jvm.MethodName)) ∈ lw_all := lw_g (lw_at lw_m4 163 rfl) rfl
theorem q949 : (Jvm.Cond.methodLink "TownOnWeightLaw" (80 : Nat) ({ cls := "TownOnWeightModel", name := "night", desc := "()I" } : Jvm.MethodName)) ∈ lw_all := lw_g (lw_at lw_m4 175 rfl) rfl
theorem q953 : (Jvm.Cond.methodLink "TownOnWeightLaw" (84 : Nat) ({ cls := "TownOnWeightModel", name := "plan", desc := "(I)I" } : Jvm.MethodName)) ∈ lw_all := lw_g (lw_at lw_m4 179 rfl) rfl
theorem q976 : (Jvm.Cond.methodLink "TownOnWeightLaw" (88 : Nat) ({ cls := "TownOnWeightModel", name := "more", desc := "(I)I" } : Jvm.MethodName)) ∈ lw_all := lw_g (lw_at lw_m4 202 rfl) rfl
theorem q984 : (Jvm.Cond.methodLink "TownOnWeightLaw" (92 : Nat) ({ cls := "TownOnWeightModel", name := "missing", desc := "(II)I" } : Jvm.MethodName)) ∈ lw_all := lw_g (lw_at lw_m4 210 rfl) rfl
theorem q992 : (Jvm.Cond.methodLink "TownOnWeightLaw" (96 : Nat) ({ cls := "TownOnWeightModel", name := "rest", desc := "(II)I" } : Jvm.MethodName)) ∈ lw_all := lw_g (lw_at lw_m4 218 rfl) rfl
theorem q1004 : (Jvm.Cond.methodLink "TownOnWeightLaw" (100 : Nat) ({ cls := "TownOnWeightModel", name := "read", desc := "(II)I" } : Jvm.MethodName)) ∈ lw_all := lw_g (lw_at lw_m4 230 rfl) rfl
theorem q1008 : (Jvm.Cond.methodLink "TownOnWeightLaw" (104 : Nat) ({ cls := "TownOnWeightModel", name := "wipe", desc := "()I" } : Jvm.MethodName)) ∈ lw_all := lw_g (lw_at lw_m4 234 rfl) rfl
theorem q1012 : (Jvm.Cond.methodLink "TownOnWeightLaw" (112 : Nat) ({ cls := "TownOnWeightModel", name := "leak", desc := "(I)I" } : Jvm.MethodName)) ∈ lw_all := lw_g (lw_at lw_m4 238 rfl) rfl
theorem q1024 : (Jvm.Cond.methodLink "TownOnWeightLaw" (108 : Nat) ({ cls := "TownOnWeightModel", name := "leaks", desc := "()I" } : Jvm.MethodName)) ∈ lw_all := lw_g (lw_at lw_m5 10 rfl) rfl
theorem q1032 : (Jvm.Cond.methodLink "TownOnWeightLaw" (116 : Nat) ({ cls := "TownOnWeightModel", name := "look", desc := "()I" } : Jvm.MethodName)) ∈ lw_all := lw_g (lw_at lw_m5 18 rfl) rfl
theorem q1040 : (Jvm.Cond.methodLink "TownOnWeightLaw" (120 : Nat) ({ cls := "TownOnWeightModel", name := "image", desc := "()I" } : Jvm.MethodName)) ∈ lw_all := lw_g (lw_at lw_m5 26 rfl) rfl
theorem q1044 : (Jvm.Cond.methodLink "TownOnWeightLaw" (124 : Nat) ({ cls := "TownOnWeightModel", name := "restore", desc := "()I" } : Jvm.MethodName)) ∈ lw_all := lw_g (lw_at lw_m5 30 rfl) rfl
theorem q1048 : (Jvm.Cond.methodLink "TownOnWeightLaw" (128 : Nat) ({ cls := "TownOnWeightModel", name := "count", desc := "(I)I" } : Jvm.MethodName)) ∈ lw_all := lw_g (lw_at lw_m5 34 rfl) rfl
theorem q1056 : (Jvm.Cond.methodLink "TownOnWeightLaw" (133 : Nat) ({ cls := "TownOnWeightModel", name := "digest", desc := "()J" } : Jvm.MethodName)) ∈ lw_all := lw_g (lw_at lw_m5 42 rfl) rfl
theorem q1066 : (Jvm.Cond.constantLong "TownOnWeightLaw" (13 : Nat) (4294967295 : Int64)) ∈ lw_all := lw_g (lw_at lw_m5 52 rfl) rfl

theorem q64 : (Jvm.Cond.initialized "java/lang/System") ∈ lw_all := lw_g (lw_at lw_m1 10 rfl) rfl
set_option maxRecDepth 100000
theorem q303 : (Jvm.Cond.static ({ cls := "java/lang/System", name := "arraycopy", desc := "(Ljava/lang/Object;ILjava/lang/Object;II)V" } : Jvm.MethodName)) ∈ lw_all := lw_g (lw_at lw_m2 9 rfl) rfl
theorem q304 : (Jvm.Cond.native ({ cls := "java/lang/System", name := "arraycopy", desc := "(Ljava/lang/Object;ILjava/lang/Object;II)V" } : Jvm.MethodName)) ∈ lw_all := lw_g (lw_at lw_m2 10 rfl) rfl

theorem q81 : (Jvm.Cond.arrayOver (Jvm.ClassFile.FieldType.object "TownOnWeight$House")) ∈ lw_tbl := lw_at lw_m1 27 rfl
set_option maxRecDepth 100000
theorem q125 : (Jvm.Cond.arrayClass Jvm.ClassFile.FieldType.int) ∈ lw_all := lw_g (lw_at lw_m1 71 rfl) rfl
theorem q407 : (Jvm.Cond.arrayClass Jvm.ClassFile.FieldType.byte) ∈ lw_all := lw_g (lw_at lw_m2 113 rfl) rfl
