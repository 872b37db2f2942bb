/-! DECODE ROWS BY BYTES: one lemma an opcode; a method's code is cut into short pieces once, and a row reads its own piece alone. -/
set_option maxRecDepth 100000
/-- the code has just these bytes from pc on -/
def DkAt (code : ByteArray) (pc : Nat) (bs : List UInt8) : Prop := ∀ (j : Nat) (b : UInt8), bs[j]? = some b → code.data.toList[pc + j]? = some b
/-- the piece W has the bytes bs from its place j on -/
def dkIn (W : List UInt8) (j : Nat) (bs : List UInt8) : Bool := decide ((W.drop j).take bs.length = bs)
theorem dk_seg {l W T : List UInt8} {o o2 : Nat} (h : l.drop o = W ++ T) (n : Nat) (hn : W.length = n) (ho : o + n = o2) : l.drop o2 = T := by
  subst ho
  rw [← List.drop_drop, h, List.drop_left' hn]
theorem dk_at {code : ByteArray} {W T bs : List UInt8} {o pc : Nat} (h : code.data.toList.drop o = W ++ T) (j : Nat) (hp : o + j = pc) (hw : dkIn W j bs = true) : DkAt code pc bs := by
  subst hp
  intro i b e
  have h1 := of_decide_eq_true hw
  have h2 : i < bs.length := (List.getElem?_eq_some_iff.mp e).1
  have h3 : W[j + i]? = some b := by
    rw [← h1, List.getElem?_take, if_pos h2, List.getElem?_drop] at e
    exact e
  have h4 : j + i < W.length := (List.getElem?_eq_some_iff.mp h3).1
  have h5 : (code.data.toList.drop o)[j + i]? = some b := by
    rw [h, List.getElem?_append_left h4]
    exact h3
  rw [List.getElem?_drop, ← Nat.add_assoc] at h5
  exact h5
theorem dk_u1 {A : ByteArray} {p : Nat} {b : UInt8} (h : A.data.toList[p]? = some b) : (Reader.u1 : Reader DecodeError Nat) A p = .ok (b.toNat, p + 1) := by
  obtain ⟨h1, h2⟩ := List.getElem?_eq_some_iff.mp h
  have h3 : p < A.size := by simpa using h1
  have h4 : A[p]'h3 = b := h2
  have e : (Reader.u1 : Reader DecodeError Nat) A p = (if h : p < A.size then .ok (A[p].toNat, p + 1) else .error (HasTruncated.truncated p)) := by
    show (do if h : p < A.size then do set (p + 1); Pure.pure A[p].toNat else MonadExcept.throw (HasTruncated.truncated p) : Reader DecodeError Nat) A p = _
    by_cases hi : p < A.size
    · rw [dif_pos hi, dif_pos hi]; rfl
    · rw [dif_neg hi, dif_neg hi]; rfl
  rw [e, dif_pos h3, h4]
theorem dk_bind {α β : Type} {r : Reader DecodeError α} {f : α → Reader DecodeError β} {A : ByteArray} {p s : Nat} {a : α} (h : r A p = .ok (a, s)) : (r >>= f) A p = f a A s := by
  show (do let (a, s) ← r A p; f a A s : Except DecodeError (β × Nat)) = _
  rw [h]
  rfl
theorem dk_map {α β : Type} {r : Reader DecodeError α} {g : α → β} {A : ByteArray} {p s : Nat} {a : α} (h : r A p = .ok (a, s)) : (g <$> r) A p = .ok (g a, s) := by
  show (do let (a, s) ← r A p; .ok (g a, s) : Except DecodeError (β × Nat)) = _
  rw [h]
  rfl
theorem dk_u2 {A : ByteArray} {p : Nat} {a b : UInt8} (h : A.data.toList[p]? = some a) (h2 : A.data.toList[p + 1]? = some b) : (Reader.u2 : Reader DecodeError Nat) A p = .ok (a.toNat * 256 + b.toNat, p + 2) := by
  show (Reader.u1 >>= fun hi => Reader.u1 >>= fun lo => Pure.pure (hi * 256 + lo) : Reader DecodeError Nat) A p = _
  rw [dk_bind (dk_u1 h), dk_bind (dk_u1 h2)]
  rfl
theorem dk_of {code : ByteArray} {pc n : Nat} {i : Instr} (h : Decoder.instr pc code pc = .ok (i, pc + n)) : decode code pc = .ok (i, n) := by
  have e : decode code pc = (match Decoder.instr pc code pc with | .error x => .error x | .ok (j, s) => .ok (j, s - pc)) := by
    show (do let (j, s) ← Decoder.instr pc code pc; Pure.pure (j, s - pc) : Except DecodeError (Instr × Nat)) = _
    cases Decoder.instr pc code pc <;> rfl
  rw [e, h]
  show Except.ok (i, pc + n - pc) = _
  rw [Nat.add_sub_cancel_left]
theorem dk_1 {code : ByteArray} {pc : Nat} (h : DkAt code pc [1]) : decode code pc = .ok (.aconst_null, 1) := dk_of ((dk_bind (dk_u1 (h 0 _ rfl))).trans rfl)
theorem dk_2 {code : ByteArray} {pc : Nat} (h : DkAt code pc [2]) : decode code pc = .ok (.iconst (-1), 1) := dk_of ((dk_bind (dk_u1 (h 0 _ rfl))).trans rfl)
theorem dk_3 {code : ByteArray} {pc : Nat} (h : DkAt code pc [3]) : decode code pc = .ok (.iconst 0, 1) := dk_of ((dk_bind (dk_u1 (h 0 _ rfl))).trans rfl)
theorem dk_4 {code : ByteArray} {pc : Nat} (h : DkAt code pc [4]) : decode code pc = .ok (.iconst 1, 1) := dk_of ((dk_bind (dk_u1 (h 0 _ rfl))).trans rfl)
theorem dk_5 {code : ByteArray} {pc : Nat} (h : DkAt code pc [5]) : decode code pc = .ok (.iconst 2, 1) := dk_of ((dk_bind (dk_u1 (h 0 _ rfl))).trans rfl)
theorem dk_6 {code : ByteArray} {pc : Nat} (h : DkAt code pc [6]) : decode code pc = .ok (.iconst 3, 1) := dk_of ((dk_bind (dk_u1 (h 0 _ rfl))).trans rfl)
theorem dk_7 {code : ByteArray} {pc : Nat} (h : DkAt code pc [7]) : decode code pc = .ok (.iconst 4, 1) := dk_of ((dk_bind (dk_u1 (h 0 _ rfl))).trans rfl)
theorem dk_8 {code : ByteArray} {pc : Nat} (h : DkAt code pc [8]) : decode code pc = .ok (.iconst 5, 1) := dk_of ((dk_bind (dk_u1 (h 0 _ rfl))).trans rfl)
theorem dk_10 {code : ByteArray} {pc : Nat} (h : DkAt code pc [10]) : decode code pc = .ok (.lconst 1, 1) := dk_of ((dk_bind (dk_u1 (h 0 _ rfl))).trans rfl)
theorem dk_16 {code : ByteArray} {pc : Nat} (a : UInt8) (h : DkAt code pc [16, a]) : decode code pc = .ok (.bipush (Reader.signed 8 a.toNat), 2) := dk_of ((dk_bind (dk_u1 (h 0 _ rfl))).trans ((dk_bind (dk_map (dk_u1 (h 1 _ rfl)))).trans rfl))
theorem dk_17 {code : ByteArray} {pc : Nat} (a b : UInt8) (h : DkAt code pc [17, a, b]) : decode code pc = .ok (.sipush (Reader.signed 16 (a.toNat * 256 + b.toNat)), 3) := dk_of ((dk_bind (dk_u1 (h 0 _ rfl))).trans ((dk_bind (dk_map (dk_u2 (h 1 _ rfl) (h 2 _ rfl)))).trans rfl))
theorem dk_18 {code : ByteArray} {pc : Nat} (a : UInt8) (h : DkAt code pc [18, a]) : decode code pc = .ok (.ldc a.toNat, 2) := dk_of ((dk_bind (dk_u1 (h 0 _ rfl))).trans ((dk_bind (dk_u1 (h 1 _ rfl))).trans rfl))
theorem dk_19 {code : ByteArray} {pc : Nat} (a b : UInt8) (h : DkAt code pc [19, a, b]) : decode code pc = .ok (.ldc_w (a.toNat * 256 + b.toNat), 3) := dk_of ((dk_bind (dk_u1 (h 0 _ rfl))).trans ((dk_bind (dk_u2 (h 1 _ rfl) (h 2 _ rfl))).trans rfl))
theorem dk_20 {code : ByteArray} {pc : Nat} (a b : UInt8) (h : DkAt code pc [20, a, b]) : decode code pc = .ok (.ldc2_w (a.toNat * 256 + b.toNat), 3) := dk_of ((dk_bind (dk_u1 (h 0 _ rfl))).trans ((dk_bind (dk_u2 (h 1 _ rfl) (h 2 _ rfl))).trans rfl))
theorem dk_21 {code : ByteArray} {pc : Nat} (a : UInt8) (h : DkAt code pc [21, a]) : decode code pc = .ok (.iload a.toNat, 2) := dk_of ((dk_bind (dk_u1 (h 0 _ rfl))).trans ((dk_bind (dk_u1 (h 1 _ rfl))).trans rfl))
theorem dk_22 {code : ByteArray} {pc : Nat} (a : UInt8) (h : DkAt code pc [22, a]) : decode code pc = .ok (.lload a.toNat, 2) := dk_of ((dk_bind (dk_u1 (h 0 _ rfl))).trans ((dk_bind (dk_u1 (h 1 _ rfl))).trans rfl))
theorem dk_25 {code : ByteArray} {pc : Nat} (a : UInt8) (h : DkAt code pc [25, a]) : decode code pc = .ok (.aload a.toNat, 2) := dk_of ((dk_bind (dk_u1 (h 0 _ rfl))).trans ((dk_bind (dk_u1 (h 1 _ rfl))).trans rfl))
theorem dk_26 {code : ByteArray} {pc : Nat} (h : DkAt code pc [26]) : decode code pc = .ok (.iload_n 0, 1) := dk_of ((dk_bind (dk_u1 (h 0 _ rfl))).trans rfl)
theorem dk_27 {code : ByteArray} {pc : Nat} (h : DkAt code pc [27]) : decode code pc = .ok (.iload_n 1, 1) := dk_of ((dk_bind (dk_u1 (h 0 _ rfl))).trans rfl)
theorem dk_28 {code : ByteArray} {pc : Nat} (h : DkAt code pc [28]) : decode code pc = .ok (.iload_n 2, 1) := dk_of ((dk_bind (dk_u1 (h 0 _ rfl))).trans rfl)
theorem dk_29 {code : ByteArray} {pc : Nat} (h : DkAt code pc [29]) : decode code pc = .ok (.iload_n 3, 1) := dk_of ((dk_bind (dk_u1 (h 0 _ rfl))).trans rfl)
theorem dk_30 {code : ByteArray} {pc : Nat} (h : DkAt code pc [30]) : decode code pc = .ok (.lload_n 0, 1) := dk_of ((dk_bind (dk_u1 (h 0 _ rfl))).trans rfl)
theorem dk_31 {code : ByteArray} {pc : Nat} (h : DkAt code pc [31]) : decode code pc = .ok (.lload_n 1, 1) := dk_of ((dk_bind (dk_u1 (h 0 _ rfl))).trans rfl)
theorem dk_32 {code : ByteArray} {pc : Nat} (h : DkAt code pc [32]) : decode code pc = .ok (.lload_n 2, 1) := dk_of ((dk_bind (dk_u1 (h 0 _ rfl))).trans rfl)
theorem dk_33 {code : ByteArray} {pc : Nat} (h : DkAt code pc [33]) : decode code pc = .ok (.lload_n 3, 1) := dk_of ((dk_bind (dk_u1 (h 0 _ rfl))).trans rfl)
theorem dk_42 {code : ByteArray} {pc : Nat} (h : DkAt code pc [42]) : decode code pc = .ok (.aload_n 0, 1) := dk_of ((dk_bind (dk_u1 (h 0 _ rfl))).trans rfl)
theorem dk_43 {code : ByteArray} {pc : Nat} (h : DkAt code pc [43]) : decode code pc = .ok (.aload_n 1, 1) := dk_of ((dk_bind (dk_u1 (h 0 _ rfl))).trans rfl)
theorem dk_44 {code : ByteArray} {pc : Nat} (h : DkAt code pc [44]) : decode code pc = .ok (.aload_n 2, 1) := dk_of ((dk_bind (dk_u1 (h 0 _ rfl))).trans rfl)
theorem dk_45 {code : ByteArray} {pc : Nat} (h : DkAt code pc [45]) : decode code pc = .ok (.aload_n 3, 1) := dk_of ((dk_bind (dk_u1 (h 0 _ rfl))).trans rfl)
theorem dk_46 {code : ByteArray} {pc : Nat} (h : DkAt code pc [46]) : decode code pc = .ok (.iaload, 1) := dk_of ((dk_bind (dk_u1 (h 0 _ rfl))).trans rfl)
theorem dk_50 {code : ByteArray} {pc : Nat} (h : DkAt code pc [50]) : decode code pc = .ok (.aaload, 1) := dk_of ((dk_bind (dk_u1 (h 0 _ rfl))).trans rfl)
theorem dk_51 {code : ByteArray} {pc : Nat} (h : DkAt code pc [51]) : decode code pc = .ok (.baload, 1) := dk_of ((dk_bind (dk_u1 (h 0 _ rfl))).trans rfl)
theorem dk_52 {code : ByteArray} {pc : Nat} (h : DkAt code pc [52]) : decode code pc = .ok (.caload, 1) := dk_of ((dk_bind (dk_u1 (h 0 _ rfl))).trans rfl)
theorem dk_53 {code : ByteArray} {pc : Nat} (h : DkAt code pc [53]) : decode code pc = .ok (.saload, 1) := dk_of ((dk_bind (dk_u1 (h 0 _ rfl))).trans rfl)
theorem dk_54 {code : ByteArray} {pc : Nat} (a : UInt8) (h : DkAt code pc [54, a]) : decode code pc = .ok (.istore a.toNat, 2) := dk_of ((dk_bind (dk_u1 (h 0 _ rfl))).trans ((dk_bind (dk_u1 (h 1 _ rfl))).trans rfl))
theorem dk_55 {code : ByteArray} {pc : Nat} (a : UInt8) (h : DkAt code pc [55, a]) : decode code pc = .ok (.lstore a.toNat, 2) := dk_of ((dk_bind (dk_u1 (h 0 _ rfl))).trans ((dk_bind (dk_u1 (h 1 _ rfl))).trans rfl))
theorem dk_58 {code : ByteArray} {pc : Nat} (a : UInt8) (h : DkAt code pc [58, a]) : decode code pc = .ok (.astore a.toNat, 2) := dk_of ((dk_bind (dk_u1 (h 0 _ rfl))).trans ((dk_bind (dk_u1 (h 1 _ rfl))).trans rfl))
theorem dk_59 {code : ByteArray} {pc : Nat} (h : DkAt code pc [59]) : decode code pc = .ok (.istore_n 0, 1) := dk_of ((dk_bind (dk_u1 (h 0 _ rfl))).trans rfl)
theorem dk_60 {code : ByteArray} {pc : Nat} (h : DkAt code pc [60]) : decode code pc = .ok (.istore_n 1, 1) := dk_of ((dk_bind (dk_u1 (h 0 _ rfl))).trans rfl)
theorem dk_61 {code : ByteArray} {pc : Nat} (h : DkAt code pc [61]) : decode code pc = .ok (.istore_n 2, 1) := dk_of ((dk_bind (dk_u1 (h 0 _ rfl))).trans rfl)
theorem dk_62 {code : ByteArray} {pc : Nat} (h : DkAt code pc [62]) : decode code pc = .ok (.istore_n 3, 1) := dk_of ((dk_bind (dk_u1 (h 0 _ rfl))).trans rfl)
theorem dk_64 {code : ByteArray} {pc : Nat} (h : DkAt code pc [64]) : decode code pc = .ok (.lstore_n 1, 1) := dk_of ((dk_bind (dk_u1 (h 0 _ rfl))).trans rfl)
theorem dk_66 {code : ByteArray} {pc : Nat} (h : DkAt code pc [66]) : decode code pc = .ok (.lstore_n 3, 1) := dk_of ((dk_bind (dk_u1 (h 0 _ rfl))).trans rfl)
theorem dk_76 {code : ByteArray} {pc : Nat} (h : DkAt code pc [76]) : decode code pc = .ok (.astore_n 1, 1) := dk_of ((dk_bind (dk_u1 (h 0 _ rfl))).trans rfl)
theorem dk_77 {code : ByteArray} {pc : Nat} (h : DkAt code pc [77]) : decode code pc = .ok (.astore_n 2, 1) := dk_of ((dk_bind (dk_u1 (h 0 _ rfl))).trans rfl)
theorem dk_78 {code : ByteArray} {pc : Nat} (h : DkAt code pc [78]) : decode code pc = .ok (.astore_n 3, 1) := dk_of ((dk_bind (dk_u1 (h 0 _ rfl))).trans rfl)
theorem dk_79 {code : ByteArray} {pc : Nat} (h : DkAt code pc [79]) : decode code pc = .ok (.iastore, 1) := dk_of ((dk_bind (dk_u1 (h 0 _ rfl))).trans rfl)
theorem dk_83 {code : ByteArray} {pc : Nat} (h : DkAt code pc [83]) : decode code pc = .ok (.aastore, 1) := dk_of ((dk_bind (dk_u1 (h 0 _ rfl))).trans rfl)
theorem dk_84 {code : ByteArray} {pc : Nat} (h : DkAt code pc [84]) : decode code pc = .ok (.bastore, 1) := dk_of ((dk_bind (dk_u1 (h 0 _ rfl))).trans rfl)
theorem dk_87 {code : ByteArray} {pc : Nat} (h : DkAt code pc [87]) : decode code pc = .ok (.pop, 1) := dk_of ((dk_bind (dk_u1 (h 0 _ rfl))).trans rfl)
theorem dk_89 {code : ByteArray} {pc : Nat} (h : DkAt code pc [89]) : decode code pc = .ok (.dup, 1) := dk_of ((dk_bind (dk_u1 (h 0 _ rfl))).trans rfl)
theorem dk_90 {code : ByteArray} {pc : Nat} (h : DkAt code pc [90]) : decode code pc = .ok (.dup_x1, 1) := dk_of ((dk_bind (dk_u1 (h 0 _ rfl))).trans rfl)
theorem dk_96 {code : ByteArray} {pc : Nat} (h : DkAt code pc [96]) : decode code pc = .ok (.iadd, 1) := dk_of ((dk_bind (dk_u1 (h 0 _ rfl))).trans rfl)
theorem dk_97 {code : ByteArray} {pc : Nat} (h : DkAt code pc [97]) : decode code pc = .ok (.ladd, 1) := dk_of ((dk_bind (dk_u1 (h 0 _ rfl))).trans rfl)
theorem dk_100 {code : ByteArray} {pc : Nat} (h : DkAt code pc [100]) : decode code pc = .ok (.isub, 1) := dk_of ((dk_bind (dk_u1 (h 0 _ rfl))).trans rfl)
theorem dk_104 {code : ByteArray} {pc : Nat} (h : DkAt code pc [104]) : decode code pc = .ok (.imul, 1) := dk_of ((dk_bind (dk_u1 (h 0 _ rfl))).trans rfl)
theorem dk_105 {code : ByteArray} {pc : Nat} (h : DkAt code pc [105]) : decode code pc = .ok (.lmul, 1) := dk_of ((dk_bind (dk_u1 (h 0 _ rfl))).trans rfl)
theorem dk_108 {code : ByteArray} {pc : Nat} (h : DkAt code pc [108]) : decode code pc = .ok (.idiv, 1) := dk_of ((dk_bind (dk_u1 (h 0 _ rfl))).trans rfl)
theorem dk_109 {code : ByteArray} {pc : Nat} (h : DkAt code pc [109]) : decode code pc = .ok (.ldiv, 1) := dk_of ((dk_bind (dk_u1 (h 0 _ rfl))).trans rfl)
theorem dk_112 {code : ByteArray} {pc : Nat} (h : DkAt code pc [112]) : decode code pc = .ok (.irem, 1) := dk_of ((dk_bind (dk_u1 (h 0 _ rfl))).trans rfl)
theorem dk_113 {code : ByteArray} {pc : Nat} (h : DkAt code pc [113]) : decode code pc = .ok (.lrem, 1) := dk_of ((dk_bind (dk_u1 (h 0 _ rfl))).trans rfl)
theorem dk_116 {code : ByteArray} {pc : Nat} (h : DkAt code pc [116]) : decode code pc = .ok (.ineg, 1) := dk_of ((dk_bind (dk_u1 (h 0 _ rfl))).trans rfl)
theorem dk_120 {code : ByteArray} {pc : Nat} (h : DkAt code pc [120]) : decode code pc = .ok (.ishl, 1) := dk_of ((dk_bind (dk_u1 (h 0 _ rfl))).trans rfl)
theorem dk_122 {code : ByteArray} {pc : Nat} (h : DkAt code pc [122]) : decode code pc = .ok (.ishr, 1) := dk_of ((dk_bind (dk_u1 (h 0 _ rfl))).trans rfl)
theorem dk_124 {code : ByteArray} {pc : Nat} (h : DkAt code pc [124]) : decode code pc = .ok (.iushr, 1) := dk_of ((dk_bind (dk_u1 (h 0 _ rfl))).trans rfl)
theorem dk_126 {code : ByteArray} {pc : Nat} (h : DkAt code pc [126]) : decode code pc = .ok (.iand, 1) := dk_of ((dk_bind (dk_u1 (h 0 _ rfl))).trans rfl)
theorem dk_127 {code : ByteArray} {pc : Nat} (h : DkAt code pc [127]) : decode code pc = .ok (.land, 1) := dk_of ((dk_bind (dk_u1 (h 0 _ rfl))).trans rfl)
theorem dk_128 {code : ByteArray} {pc : Nat} (h : DkAt code pc [128]) : decode code pc = .ok (.ior, 1) := dk_of ((dk_bind (dk_u1 (h 0 _ rfl))).trans rfl)
theorem dk_130 {code : ByteArray} {pc : Nat} (h : DkAt code pc [130]) : decode code pc = .ok (.ixor, 1) := dk_of ((dk_bind (dk_u1 (h 0 _ rfl))).trans rfl)
theorem dk_132 {code : ByteArray} {pc : Nat} (a b : UInt8) (h : DkAt code pc [132, a, b]) : decode code pc = .ok (.iinc a.toNat (Reader.signed 8 b.toNat), 3) := dk_of ((dk_bind (dk_u1 (h 0 _ rfl))).trans ((dk_bind (dk_u1 (h 1 _ rfl))).trans ((dk_bind (dk_map (dk_u1 (h 2 _ rfl)))).trans rfl)))
theorem dk_133 {code : ByteArray} {pc : Nat} (h : DkAt code pc [133]) : decode code pc = .ok (.i2l, 1) := dk_of ((dk_bind (dk_u1 (h 0 _ rfl))).trans rfl)
theorem dk_136 {code : ByteArray} {pc : Nat} (h : DkAt code pc [136]) : decode code pc = .ok (.l2i, 1) := dk_of ((dk_bind (dk_u1 (h 0 _ rfl))).trans rfl)
theorem dk_145 {code : ByteArray} {pc : Nat} (h : DkAt code pc [145]) : decode code pc = .ok (.i2b, 1) := dk_of ((dk_bind (dk_u1 (h 0 _ rfl))).trans rfl)
theorem dk_146 {code : ByteArray} {pc : Nat} (h : DkAt code pc [146]) : decode code pc = .ok (.i2c, 1) := dk_of ((dk_bind (dk_u1 (h 0 _ rfl))).trans rfl)
theorem dk_148 {code : ByteArray} {pc : Nat} (h : DkAt code pc [148]) : decode code pc = .ok (.lcmp, 1) := dk_of ((dk_bind (dk_u1 (h 0 _ rfl))).trans rfl)
theorem dk_153 {code : ByteArray} {pc : Nat} (a b : UInt8) (h : DkAt code pc [153, a, b]) : decode code pc = .ok (.ifCond .eq (Reader.signed 16 (a.toNat * 256 + b.toNat)), 3) := dk_of ((dk_bind (dk_u1 (h 0 _ rfl))).trans ((dk_bind (dk_map (dk_u2 (h 1 _ rfl) (h 2 _ rfl)))).trans rfl))
theorem dk_154 {code : ByteArray} {pc : Nat} (a b : UInt8) (h : DkAt code pc [154, a, b]) : decode code pc = .ok (.ifCond .ne (Reader.signed 16 (a.toNat * 256 + b.toNat)), 3) := dk_of ((dk_bind (dk_u1 (h 0 _ rfl))).trans ((dk_bind (dk_map (dk_u2 (h 1 _ rfl) (h 2 _ rfl)))).trans rfl))
theorem dk_155 {code : ByteArray} {pc : Nat} (a b : UInt8) (h : DkAt code pc [155, a, b]) : decode code pc = .ok (.ifCond .lt (Reader.signed 16 (a.toNat * 256 + b.toNat)), 3) := dk_of ((dk_bind (dk_u1 (h 0 _ rfl))).trans ((dk_bind (dk_map (dk_u2 (h 1 _ rfl) (h 2 _ rfl)))).trans rfl))
theorem dk_156 {code : ByteArray} {pc : Nat} (a b : UInt8) (h : DkAt code pc [156, a, b]) : decode code pc = .ok (.ifCond .ge (Reader.signed 16 (a.toNat * 256 + b.toNat)), 3) := dk_of ((dk_bind (dk_u1 (h 0 _ rfl))).trans ((dk_bind (dk_map (dk_u2 (h 1 _ rfl) (h 2 _ rfl)))).trans rfl))
theorem dk_157 {code : ByteArray} {pc : Nat} (a b : UInt8) (h : DkAt code pc [157, a, b]) : decode code pc = .ok (.ifCond .gt (Reader.signed 16 (a.toNat * 256 + b.toNat)), 3) := dk_of ((dk_bind (dk_u1 (h 0 _ rfl))).trans ((dk_bind (dk_map (dk_u2 (h 1 _ rfl) (h 2 _ rfl)))).trans rfl))
theorem dk_158 {code : ByteArray} {pc : Nat} (a b : UInt8) (h : DkAt code pc [158, a, b]) : decode code pc = .ok (.ifCond .le (Reader.signed 16 (a.toNat * 256 + b.toNat)), 3) := dk_of ((dk_bind (dk_u1 (h 0 _ rfl))).trans ((dk_bind (dk_map (dk_u2 (h 1 _ rfl) (h 2 _ rfl)))).trans rfl))
theorem dk_159 {code : ByteArray} {pc : Nat} (a b : UInt8) (h : DkAt code pc [159, a, b]) : decode code pc = .ok (.if_icmp .eq (Reader.signed 16 (a.toNat * 256 + b.toNat)), 3) := dk_of ((dk_bind (dk_u1 (h 0 _ rfl))).trans ((dk_bind (dk_map (dk_u2 (h 1 _ rfl) (h 2 _ rfl)))).trans rfl))
theorem dk_160 {code : ByteArray} {pc : Nat} (a b : UInt8) (h : DkAt code pc [160, a, b]) : decode code pc = .ok (.if_icmp .ne (Reader.signed 16 (a.toNat * 256 + b.toNat)), 3) := dk_of ((dk_bind (dk_u1 (h 0 _ rfl))).trans ((dk_bind (dk_map (dk_u2 (h 1 _ rfl) (h 2 _ rfl)))).trans rfl))
theorem dk_161 {code : ByteArray} {pc : Nat} (a b : UInt8) (h : DkAt code pc [161, a, b]) : decode code pc = .ok (.if_icmp .lt (Reader.signed 16 (a.toNat * 256 + b.toNat)), 3) := dk_of ((dk_bind (dk_u1 (h 0 _ rfl))).trans ((dk_bind (dk_map (dk_u2 (h 1 _ rfl) (h 2 _ rfl)))).trans rfl))
theorem dk_162 {code : ByteArray} {pc : Nat} (a b : UInt8) (h : DkAt code pc [162, a, b]) : decode code pc = .ok (.if_icmp .ge (Reader.signed 16 (a.toNat * 256 + b.toNat)), 3) := dk_of ((dk_bind (dk_u1 (h 0 _ rfl))).trans ((dk_bind (dk_map (dk_u2 (h 1 _ rfl) (h 2 _ rfl)))).trans rfl))
theorem dk_163 {code : ByteArray} {pc : Nat} (a b : UInt8) (h : DkAt code pc [163, a, b]) : decode code pc = .ok (.if_icmp .gt (Reader.signed 16 (a.toNat * 256 + b.toNat)), 3) := dk_of ((dk_bind (dk_u1 (h 0 _ rfl))).trans ((dk_bind (dk_map (dk_u2 (h 1 _ rfl) (h 2 _ rfl)))).trans rfl))
theorem dk_164 {code : ByteArray} {pc : Nat} (a b : UInt8) (h : DkAt code pc [164, a, b]) : decode code pc = .ok (.if_icmp .le (Reader.signed 16 (a.toNat * 256 + b.toNat)), 3) := dk_of ((dk_bind (dk_u1 (h 0 _ rfl))).trans ((dk_bind (dk_map (dk_u2 (h 1 _ rfl) (h 2 _ rfl)))).trans rfl))
theorem dk_165 {code : ByteArray} {pc : Nat} (a b : UInt8) (h : DkAt code pc [165, a, b]) : decode code pc = .ok (.if_acmp .eq (Reader.signed 16 (a.toNat * 256 + b.toNat)), 3) := dk_of ((dk_bind (dk_u1 (h 0 _ rfl))).trans ((dk_bind (dk_map (dk_u2 (h 1 _ rfl) (h 2 _ rfl)))).trans rfl))
theorem dk_166 {code : ByteArray} {pc : Nat} (a b : UInt8) (h : DkAt code pc [166, a, b]) : decode code pc = .ok (.if_acmp .ne (Reader.signed 16 (a.toNat * 256 + b.toNat)), 3) := dk_of ((dk_bind (dk_u1 (h 0 _ rfl))).trans ((dk_bind (dk_map (dk_u2 (h 1 _ rfl) (h 2 _ rfl)))).trans rfl))
theorem dk_167 {code : ByteArray} {pc : Nat} (a b : UInt8) (h : DkAt code pc [167, a, b]) : decode code pc = .ok (.goto (Reader.signed 16 (a.toNat * 256 + b.toNat)), 3) := dk_of ((dk_bind (dk_u1 (h 0 _ rfl))).trans ((dk_bind (dk_map (dk_u2 (h 1 _ rfl) (h 2 _ rfl)))).trans rfl))
theorem dk_172 {code : ByteArray} {pc : Nat} (h : DkAt code pc [172]) : decode code pc = .ok (.ireturn, 1) := dk_of ((dk_bind (dk_u1 (h 0 _ rfl))).trans rfl)
theorem dk_173 {code : ByteArray} {pc : Nat} (h : DkAt code pc [173]) : decode code pc = .ok (.lreturn, 1) := dk_of ((dk_bind (dk_u1 (h 0 _ rfl))).trans rfl)
theorem dk_176 {code : ByteArray} {pc : Nat} (h : DkAt code pc [176]) : decode code pc = .ok (.areturn, 1) := dk_of ((dk_bind (dk_u1 (h 0 _ rfl))).trans rfl)
theorem dk_177 {code : ByteArray} {pc : Nat} (h : DkAt code pc [177]) : decode code pc = .ok (.return_, 1) := dk_of ((dk_bind (dk_u1 (h 0 _ rfl))).trans rfl)
theorem dk_178 {code : ByteArray} {pc : Nat} (a b : UInt8) (h : DkAt code pc [178, a, b]) : decode code pc = .ok (.getstatic (a.toNat * 256 + b.toNat), 3) := dk_of ((dk_bind (dk_u1 (h 0 _ rfl))).trans ((dk_bind (dk_u2 (h 1 _ rfl) (h 2 _ rfl))).trans rfl))
theorem dk_180 {code : ByteArray} {pc : Nat} (a b : UInt8) (h : DkAt code pc [180, a, b]) : decode code pc = .ok (.getfield (a.toNat * 256 + b.toNat), 3) := dk_of ((dk_bind (dk_u1 (h 0 _ rfl))).trans ((dk_bind (dk_u2 (h 1 _ rfl) (h 2 _ rfl))).trans rfl))
theorem dk_181 {code : ByteArray} {pc : Nat} (a b : UInt8) (h : DkAt code pc [181, a, b]) : decode code pc = .ok (.putfield (a.toNat * 256 + b.toNat), 3) := dk_of ((dk_bind (dk_u1 (h 0 _ rfl))).trans ((dk_bind (dk_u2 (h 1 _ rfl) (h 2 _ rfl))).trans rfl))
theorem dk_182 {code : ByteArray} {pc : Nat} (a b : UInt8) (h : DkAt code pc [182, a, b]) : decode code pc = .ok (.invokevirtual (a.toNat * 256 + b.toNat), 3) := dk_of ((dk_bind (dk_u1 (h 0 _ rfl))).trans ((dk_bind (dk_u2 (h 1 _ rfl) (h 2 _ rfl))).trans rfl))
theorem dk_183 {code : ByteArray} {pc : Nat} (a b : UInt8) (h : DkAt code pc [183, a, b]) : decode code pc = .ok (.invokespecial (a.toNat * 256 + b.toNat), 3) := dk_of ((dk_bind (dk_u1 (h 0 _ rfl))).trans ((dk_bind (dk_u2 (h 1 _ rfl) (h 2 _ rfl))).trans rfl))
theorem dk_184 {code : ByteArray} {pc : Nat} (a b : UInt8) (h : DkAt code pc [184, a, b]) : decode code pc = .ok (.invokestatic (a.toNat * 256 + b.toNat), 3) := dk_of ((dk_bind (dk_u1 (h 0 _ rfl))).trans ((dk_bind (dk_u2 (h 1 _ rfl) (h 2 _ rfl))).trans rfl))
theorem dk_187 {code : ByteArray} {pc : Nat} (a b : UInt8) (h : DkAt code pc [187, a, b]) : decode code pc = .ok (.new (a.toNat * 256 + b.toNat), 3) := dk_of ((dk_bind (dk_u1 (h 0 _ rfl))).trans ((dk_bind (dk_u2 (h 1 _ rfl) (h 2 _ rfl))).trans rfl))
theorem dk_188_8 {code : ByteArray} {pc : Nat} (h : DkAt code pc [188, 8]) : decode code pc = .ok (.newarray .byte, 2) := dk_of ((dk_bind (dk_u1 (h 0 _ rfl))).trans ((dk_bind (dk_u1 (h 1 _ rfl))).trans rfl))
theorem dk_188_10 {code : ByteArray} {pc : Nat} (h : DkAt code pc [188, 10]) : decode code pc = .ok (.newarray .int, 2) := dk_of ((dk_bind (dk_u1 (h 0 _ rfl))).trans ((dk_bind (dk_u1 (h 1 _ rfl))).trans rfl))
theorem dk_189 {code : ByteArray} {pc : Nat} (a b : UInt8) (h : DkAt code pc [189, a, b]) : decode code pc = .ok (.anewarray (a.toNat * 256 + b.toNat), 3) := dk_of ((dk_bind (dk_u1 (h 0 _ rfl))).trans ((dk_bind (dk_u2 (h 1 _ rfl) (h 2 _ rfl))).trans rfl))
theorem dk_190 {code : ByteArray} {pc : Nat} (h : DkAt code pc [190]) : decode code pc = .ok (.arraylength, 1) := dk_of ((dk_bind (dk_u1 (h 0 _ rfl))).trans rfl)
theorem dk_191 {code : ByteArray} {pc : Nat} (h : DkAt code pc [191]) : decode code pc = .ok (.athrow, 1) := dk_of ((dk_bind (dk_u1 (h 0 _ rfl))).trans rfl)
theorem dk_192 {code : ByteArray} {pc : Nat} (a b : UInt8) (h : DkAt code pc [192, a, b]) : decode code pc = .ok (.checkcast (a.toNat * 256 + b.toNat), 3) := dk_of ((dk_bind (dk_u1 (h 0 _ rfl))).trans ((dk_bind (dk_u2 (h 1 _ rfl) (h 2 _ rfl))).trans rfl))
theorem dk_193 {code : ByteArray} {pc : Nat} (a b : UInt8) (h : DkAt code pc [193, a, b]) : decode code pc = .ok (.instanceof (a.toNat * 256 + b.toNat), 3) := dk_of ((dk_bind (dk_u1 (h 0 _ rfl))).trans ((dk_bind (dk_u2 (h 1 _ rfl) (h 2 _ rfl))).trans rfl))
theorem dk_199 {code : ByteArray} {pc : Nat} (a b : UInt8) (h : DkAt code pc [199, a, b]) : decode code pc = .ok (.ifnonnull (Reader.signed 16 (a.toNat * 256 + b.toNat)), 3) := dk_of ((dk_bind (dk_u1 (h 0 _ rfl))).trans ((dk_bind (dk_map (dk_u2 (h 1 _ rfl) (h 2 _ rfl)))).trans rfl))
theorem q215 : (Jvm.Cond.arrayClass Jvm.ClassFile.FieldType.byte) ∈ lw_all := lw_g (lw_at lw_m1 135 rfl) rfl
set_option maxRecDepth 100000
theorem q657 : (Jvm.Cond.arrayOver (Jvm.ClassFile.FieldType.object "java/lang/Object")) ∈ lw_tbl := lw_at lw_m3 97 rfl
theorem q1278 : (Jvm.Cond.arrayClass Jvm.ClassFile.FieldType.int) ∈ lw_all := lw_g (lw_at lw_m5 238 rfl) rfl
theorem q1664 : (Jvm.Cond.arrayClass Jvm.ClassFile.FieldType.char) ∈ lw_all := lw_g (lw_at lw_m7 144 rfl) rfl
theorem q1665 : (Jvm.Cond.arrayClass Jvm.ClassFile.FieldType.short) ∈ lw_all := lw_g (lw_at lw_m7 145 rfl) rfl
theorem q80 : (Jvm.Cond.initialized "RiverWordsLaw") ∈ lw_all := lw_g (lw_at lw_m1 0 rfl) rfl
set_option maxRecDepth 100000
theorem q103 : (Jvm.Cond.classLink "RiverWordsLaw" (7 : Nat) "RiverWords") ∈ lw_all := lw_g (lw_at lw_m1 23 rfl) rfl
theorem q105 : (Jvm.Cond.methodLink "RiverWordsLaw" (9 : Nat) ({ cls := "RiverWords", name := "<init>", desc := "()V" } : Jvm.MethodName)) ∈ lw_all := lw_g (lw_at lw_m1 25 rfl) rfl
theorem q307 : (Jvm.Cond.methodLink "RiverWordsLaw" (13 : Nat) ({ cls := "RiverWords", name := "letter", desc := "(I)I" } : Jvm.MethodName)) ∈ lw_all := lw_g (lw_at lw_m1 227 rfl) rfl
theorem q409 : (Jvm.Cond.methodLink "RiverWordsLaw" (18 : Nat) ({ cls := "RiverWords", name := "blank", desc := "()I" } : Jvm.MethodName)) ∈ lw_all := lw_g (lw_at lw_m2 89 rfl) rfl
theorem q433 : (Jvm.Cond.methodLink "RiverWordsLaw" (23 : Nat) ({ cls := "RiverWords", name := "fault", desc := "()I" } : Jvm.MethodName)) ∈ lw_all := lw_g (lw_at lw_m2 113 rfl) rfl
theorem q518 : (Jvm.Cond.methodLink "RiverWordsLaw" (27 : Nat) ({ cls := "RiverWords", name := "word", desc := "()I" } : Jvm.MethodName)) ∈ lw_all := lw_g (lw_at lw_m2 198 rfl) rfl
theorem q661 : (Jvm.Cond.methodLink "RiverWordsLaw" (31 : Nat) ({ cls := "RiverWords", name := "road", desc := "(II)I" } : Jvm.MethodName)) ∈ lw_all := lw_g (lw_at lw_m3 101 rfl) rfl
theorem q778 : (Jvm.Cond.methodLink "RiverWordsLaw" (36 : Nat) ({ cls := "RiverWords", name := "sign", desc := "(II)I" } : Jvm.MethodName)) ∈ lw_all := lw_g (lw_at lw_m3 218 rfl) rfl
theorem q782 : (Jvm.Cond.methodLink "RiverWordsLaw" (40 : Nat) ({ cls := "RiverWords", name := "table", desc := "(II)I" } : Jvm.MethodName)) ∈ lw_all := lw_g (lw_at lw_m3 222 rfl) rfl
theorem q790 : (Jvm.Cond.methodLink "RiverWordsLaw" (44 : Nat) ({ cls := "RiverWords", name := "form", desc := "(II)I" } : Jvm.MethodName)) ∈ lw_all := lw_g (lw_at lw_m3 230 rfl) rfl
theorem q849 : (Jvm.Cond.methodLink "RiverWordsLaw" (48 : Nat) ({ cls := "RiverWords", name := "end", desc := "(II)I" } : Jvm.MethodName)) ∈ lw_all := lw_g (lw_at lw_m4 49 rfl) rfl
theorem q856 : (Jvm.Cond.methodLink "RiverWordsLaw" (52 : Nat) ({ cls := "RiverWords", name := "alike", desc := "(II)I" } : Jvm.MethodName)) ∈ lw_all := lw_g (lw_at lw_m4 56 rfl) rfl
theorem q864 : (Jvm.Cond.methodLink "RiverWordsLaw" (56 : Nat) ({ cls := "RiverWords", name := "cross", desc := "(II)I" } : Jvm.MethodName)) ∈ lw_all := lw_g (lw_at lw_m4 64 rfl) rfl
theorem q880 : (Jvm.Cond.methodLink "RiverWordsLaw" (60 : Nat) ({ cls := "RiverWords", name := "turn", desc := "(II)I" } : Jvm.MethodName)) ∈ lw_all := lw_g (lw_at lw_m4 80 rfl) rfl
theorem q886 : (Jvm.Cond.methodLink "RiverWordsLaw" (64 : Nat) ({ cls := "RiverWords", name := "change", desc := "(II)I" } : Jvm.MethodName)) ∈ lw_all := lw_g (lw_at lw_m4 86 rfl) rfl
theorem q894 : (Jvm.Cond.methodLink "RiverWordsLaw" (68 : Nat) ({ cls := "RiverWords", name := "join", desc := "(II)I" } : Jvm.MethodName)) ∈ lw_all := lw_g (lw_at lw_m4 94 rfl) rfl
theorem q940 : (Jvm.Cond.methodLink "RiverWordsLaw" (72 : Nat) ({ cls := "RiverWords", name := "times", desc := "(II)I" } : Jvm.MethodName)) ∈ lw_all := lw_g (lw_at lw_m4 140 rfl) rfl
theorem q959 : (Jvm.Cond.methodLink "RiverWordsLaw" (76 : Nat) ({ cls := "RiverWords", name := "cut", desc := "(II)I" } : Jvm.MethodName)) ∈ lw_all := lw_g (lw_at lw_m4 159 rfl) rfl
theorem q967 : (Jvm.Cond.methodLink "RiverWordsLaw" (80 : Nat) ({ cls := "RiverWords", name := "drop", desc := "()I" } : Jvm.MethodName)) ∈ lw_all := lw_g (lw_at lw_m4 167 rfl) rfl
theorem q984 : (Jvm.Cond.methodLink "RiverWordsLaw" (84 : Nat) ({ cls := "RiverWords", name := "river", desc := "(I)I" } : Jvm.MethodName)) ∈ lw_all := lw_g (lw_at lw_m4 184 rfl) rfl
theorem q1039 : (Jvm.Cond.methodLink "RiverWordsLaw" (88 : Nat) ({ cls := "RiverWords", name := "simple", desc := "(II)I" } : Jvm.MethodName)) ∈ lw_all := lw_g (lw_at lw_m4 239 rfl) rfl
theorem q1051 : (Jvm.Cond.methodLink "RiverWordsLaw" (92 : Nat) ({ cls := "RiverWords", name := "cycle", desc := "(II)I" } : Jvm.MethodName)) ∈ lw_all := lw_g (lw_at lw_m5 11 rfl) rfl
theorem q1063 : (Jvm.Cond.methodLink "RiverWordsLaw" (96 : Nat) ({ cls := "RiverWords", name := "step", desc := "(II)I" } : Jvm.MethodName)) ∈ lw_all := lw_g (lw_at lw_m5 23 rfl) rfl
theorem q1067 : (Jvm.Cond.methodLink "RiverWordsLaw" (100 : Nat) ({ cls := "RiverWords", name := "trace", desc := "(II)I" } : Jvm.MethodName)) ∈ lw_all := lw_g (lw_at lw_m5 27 rfl) rfl
theorem q1074 : (Jvm.Cond.methodLink "RiverWordsLaw" (104 : Nat) ({ cls := "RiverWords", name := "flow", desc := "(IIIZ)I" } : Jvm.MethodName)) ∈ lw_all := lw_g (lw_at lw_m5 34 rfl) rfl
theorem q1102 : (Jvm.Cond.methodLink "RiverWordsLaw" (109 : Nat) ({ cls := "RiverWords", name := "lay", desc := "(I)I" } : Jvm.MethodName)) ∈ lw_all := lw_g (lw_at lw_m5 62 rfl) rfl
theorem q1106 : (Jvm.Cond.methodLink "RiverWordsLaw" (113 : Nat) ({ cls := "RiverWords", name := "where", desc := "(I)I" } : Jvm.MethodName)) ∈ lw_all := lw_g (lw_at lw_m5 66 rfl) rfl
theorem q1110 : (Jvm.Cond.methodLink "RiverWordsLaw" (117 : Nat) ({ cls := "RiverWords", name := "drawn", desc := "(III)I" } : Jvm.MethodName)) ∈ lw_all := lw_g (lw_at lw_m5 70 rfl) rfl
theorem q1127 : (Jvm.Cond.methodLink "RiverWordsLaw" (122 : Nat) ({ cls := "RiverWords", name := "count", desc := "(I)I" } : Jvm.MethodName)) ∈ lw_all := lw_g (lw_at lw_m5 87 rfl) rfl
theorem q1143 : (Jvm.Cond.methodLink "RiverWordsLaw" (126 : Nat) ({ cls := "RiverWords", name := "digest", desc := "()J" } : Jvm.MethodName)) ∈ lw_all := lw_g (lw_at lw_m5 103 rfl) rfl
theorem q1166 : (Jvm.Cond.classLink "RiverWordsLaw" (10 : Nat) "RiverWordsModel") ∈ lw_all := lw_g (lw_at lw_m5 126 rfl) rfl
theorem q1168 : (Jvm.Cond.methodLink "RiverWordsLaw" (12 : Nat) ({ cls := "RiverWordsModel", name := "<init>", desc := "()V" } : Jvm.MethodName)) ∈ lw_all := lw_g (lw_at lw_m5 128 rfl) rfl
theorem q1279 : (Jvm.Cond.methodLink "RiverWordsLaw" (17 : Nat) ({ cls := "RiverWordsModel", name := "letter", desc := "(I)I" } : Jvm.MethodName)) ∈ lw_all := lw_g (lw_at lw_m5 239 rfl) rfl
theorem q1288 : (Jvm.Cond.methodLink "RiverWordsLaw" (22 : Nat) ({ cls := "RiverWordsModel", name := "blank", desc := "()I" } : Jvm.MethodName)) ∈ lw_all := lw_g (lw_at lw_m6 8 rfl) rfl
theorem q1292 : (Jvm.Cond.methodLink "RiverWordsLaw" (26 : Nat) ({ cls := "RiverWordsModel", name := "fault", desc := "()I" } : Jvm.MethodName)) ∈ lw_all := lw_g (lw_at lw_m6 12 rfl) rfl
theorem q1304 : (Jvm.Cond.methodLink "RiverWordsLaw" (30 : Nat) ({ cls := "RiverWordsModel", name := "word", desc := "()I" } : Jvm.MethodName)) ∈ lw_all := lw_g (lw_at lw_m6 24 rfl) rfl
theorem q1313 : (Jvm.Cond.methodLink "RiverWordsLaw" (35 : Nat) ({ cls := "RiverWordsModel", name := "road", desc := "(II)I" } : Jvm.MethodName)) ∈ lw_all := lw_g (lw_at lw_m6 33 rfl) rfl
theorem q1371 : (Jvm.Cond.methodLink "RiverWordsLaw" (39 : Nat) ({ cls := "RiverWordsModel", name := "sign", desc := "(II)I" } : Jvm.MethodName)) ∈ lw_all := lw_g (lw_at lw_m6 91 rfl) rfl
theorem q1378 : (Jvm.Cond.methodLink "RiverWordsLaw" (43 : Nat) ({ cls := "RiverWordsModel", name := "table", desc := "(II)I" } : Jvm.MethodName)) ∈ lw_all := lw_g (lw_at lw_m6 98 rfl) rfl
theorem q1386 : (Jvm.Cond.methodLink "RiverWordsLaw" (47 : Nat) ({ cls := "RiverWordsModel", name := "form", desc := "(II)I" } : Jvm.MethodName)) ∈ lw_all := lw_g (lw_at lw_m6 106 rfl) rfl
theorem q1411 : (Jvm.Cond.methodLink "RiverWordsLaw" (51 : Nat) ({ cls := "RiverWordsModel", name := "end", desc := "(II)I" } : Jvm.MethodName)) ∈ lw_all := lw_g (lw_at lw_m6 131 rfl) rfl
theorem q1419 : (Jvm.Cond.methodLink "RiverWordsLaw" (55 : Nat) ({ cls := "RiverWordsModel", name := "alike", desc := "(II)I" } : Jvm.MethodName)) ∈ lw_all := lw_g (lw_at lw_m6 139 rfl) rfl
theorem q1427 : (Jvm.Cond.methodLink "RiverWordsLaw" (59 : Nat) ({ cls := "RiverWordsModel", name := "cross", desc := "(II)I" } : Jvm.MethodName)) ∈ lw_all := lw_g (lw_at lw_m6 147 rfl) rfl
theorem q1443 : (Jvm.Cond.methodLink "RiverWordsLaw" (63 : Nat) ({ cls := "RiverWordsModel", name := "turn", desc := "(II)I" } : Jvm.MethodName)) ∈ lw_all := lw_g (lw_at lw_m6 163 rfl) rfl
theorem q1451 : (Jvm.Cond.methodLink "RiverWordsLaw" (67 : Nat) ({ cls := "RiverWordsModel", name := "change", desc := "(II)I" } : Jvm.MethodName)) ∈ lw_all := lw_g (lw_at lw_m6 171 rfl) rfl
theorem q1455 : (Jvm.Cond.methodLink "RiverWordsLaw" (71 : Nat) ({ cls := "RiverWordsModel", name := "join", desc := "(II)I" } : Jvm.MethodName)) ∈ lw_all := lw_g (lw_at lw_m6 175 rfl) rfl
theorem q1463 : (Jvm.Cond.methodLink "RiverWordsLaw" (75 : Nat) ({ cls := "RiverWordsModel", name := "times", desc := "(II)I" } : Jvm.MethodName)) ∈ lw_all := lw_g (lw_at lw_m6 183 rfl) rfl
theorem q1467 : (Jvm.Cond.methodLink "RiverWordsLaw" (79 : Nat) ({ cls := "RiverWordsModel", name := "cut", desc := "(II)I" } : Jvm.MethodName)) ∈ lw_all := lw_g (lw_at lw_m6 187 rfl) rfl
theorem q1475 : (Jvm.Cond.methodLink "RiverWordsLaw" (83 : Nat) ({ cls := "RiverWordsModel", name := "drop", desc := "()I" } : Jvm.MethodName)) ∈ lw_all := lw_g (lw_at lw_m6 195 rfl) rfl
theorem q1479 : (Jvm.Cond.methodLink "RiverWordsLaw" (87 : Nat) ({ cls := "RiverWordsModel", name := "river", desc := "(I)I" } : Jvm.MethodName)) ∈ lw_all := lw_g (lw_at lw_m6 199 rfl) rfl
theorem q1506 : (Jvm.Cond.methodLink "RiverWordsLaw" (91 : Nat) ({ cls := "RiverWordsModel", name := "simple", desc := "(II)I" } : Jvm.MethodName)) ∈ lw_all := lw_g (lw_at lw_m6 226 rfl) rfl
theorem q1514 : (Jvm.Cond.methodLink "RiverWordsLaw" (95 : Nat) ({ cls := "RiverWordsModel", name := "cycle", desc := "(II)I" } : Jvm.MethodName)) ∈ lw_all := lw_g (lw_at lw_m6 234 rfl) rfl
theorem q1534 : (Jvm.Cond.methodLink "RiverWordsLaw" (99 : Nat) ({ cls := "RiverWordsModel", name := "step", desc := "(II)I" } : Jvm.MethodName)) ∈ lw_all := lw_g (lw_at lw_m7 14 rfl) rfl
theorem q1542 : (Jvm.Cond.methodLink "RiverWordsLaw" (103 : Nat) ({ cls := "RiverWordsModel", name := "trace", desc := "(II)I" } : Jvm.MethodName)) ∈ lw_all := lw_g (lw_at lw_m7 22 rfl) rfl
theorem q1550 : (Jvm.Cond.methodLink "RiverWordsLaw" (108 : Nat) ({ cls := "RiverWordsModel", name := "flow", desc := "(IIIZ)I" } : Jvm.MethodName)) ∈ lw_all := lw_g (lw_at lw_m7 30 rfl) rfl
theorem q1566 : (Jvm.Cond.methodLink "RiverWordsLaw" (112 : Nat) ({ cls := "RiverWordsModel", name := "lay", desc := "(I)I" } : Jvm.MethodName)) ∈ lw_all := lw_g (lw_at lw_m7 46 rfl) rfl
theorem q1570 : (Jvm.Cond.methodLink "RiverWordsLaw" (116 : Nat) ({ cls := "RiverWordsModel", name := "where", desc := "(I)I" } : Jvm.MethodName)) ∈ lw_all := lw_g (lw_at lw_m7 50 rfl) rfl
theorem q1578 : (Jvm.Cond.methodLink "RiverWordsLaw" (121 : Nat) ({ cls := "RiverWordsModel", name := "drawn", desc := "(III)I" } : Jvm.MethodName)) ∈ lw_all := lw_g (lw_at lw_m7 58 rfl) rfl
theorem q1594 : (Jvm.Cond.methodLink "RiverWordsLaw" (125 : Nat) ({ cls := "RiverWordsModel", name := "count", desc := "(I)I" } : Jvm.MethodName)) ∈ lw_all := lw_g (lw_at lw_m7 74 rfl) rfl
theorem q1610 : (Jvm.Cond.methodLink "RiverWordsLaw" (130 : Nat) ({ cls := "RiverWordsModel", name := "digest", desc := "()J" } : Jvm.MethodName)) ∈ lw_all := lw_g (lw_at lw_m7 90 rfl) rfl
theorem q95 : (Jvm.Cond.initialized "java/lang/System") ∈ lw_all := lw_g (lw_at lw_m1 15 rfl) rfl
set_option maxRecDepth 100000
theorem q363 : (Jvm.Cond.static ({ cls := "java/lang/System", name := "arraycopy", desc := "(Ljava/lang/Object;ILjava/lang/Object;II)V" } : Jvm.MethodName)) ∈ lw_all := lw_g (lw_at lw_m2 43 rfl) rfl
theorem q364 : (Jvm.Cond.native ({ cls := "java/lang/System", name := "arraycopy", desc := "(Ljava/lang/Object;ILjava/lang/Object;II)V" } : Jvm.MethodName)) ∈ lw_all := lw_g (lw_at lw_m2 44 rfl) rfl
theorem q142 : (Jvm.Cond.interfaceMethod "jdk/internal/access/JavaLangAccess" "jdk/internal/access/JavaLangAccess" "getUTF16Char" "([BI)C") ∈ lw_tbl := lw_at lw_m1 62 rfl
set_option maxRecDepth 100000
theorem q143 : (Jvm.Cond.declares ({ cls := "jdk/internal/access/JavaLangAccess", name := "getUTF16Char", desc := "([BI)C" } : Jvm.MethodName)) ∈ lw_tbl := lw_at lw_m1 63 rfl
theorem q353 : (Jvm.Cond.sameMethod "[B" "java/lang/Object" "clone" "()Ljava/lang/Object;") ∈ lw_all := lw_g (lw_at lw_m2 33 rfl) rfl
set_option maxRecDepth 100000
theorem q356 : (Jvm.Cond.selects "[B" ({ cls := "[B", name := "clone", desc := "()Ljava/lang/Object;" } : Jvm.MethodName) ({ cls := "java/lang/Object", name := "clone", desc := "()Ljava/lang/Object;" } : Jvm.MethodName)) ∈ lw_all := lw_g (lw_at lw_m2 36 rfl) rfl
theorem q357 : (Jvm.Cond.castable "[B" "java/lang/Cloneable") ∈ lw_tbl := lw_at lw_m2 37 rfl
theorem q1661 : (Jvm.Cond.castable "[B" "java/lang/Object") ∈ lw_tbl := lw_at lw_m7 141 rfl
theorem q447 : (Jvm.Cond.interfaceMethod "java/lang/CharSequence" "java/lang/CharSequence" "length" "()I") ∈ lw_tbl := lw_at lw_m2 127 rfl
set_option maxRecDepth 100000
theorem q448 : (Jvm.Cond.declares ({ cls := "java/lang/CharSequence", name := "length", desc := "()I" } : Jvm.MethodName)) ∈ lw_tbl := lw_at lw_m2 128 rfl
theorem q465 : (Jvm.Cond.interfaceMethod "java/lang/CharSequence" "java/lang/CharSequence" "charAt" "(I)C") ∈ lw_tbl := lw_at lw_m2 145 rfl
theorem q466 : (Jvm.Cond.declares ({ cls := "java/lang/CharSequence", name := "charAt", desc := "(I)C" } : Jvm.MethodName)) ∈ lw_tbl := lw_at lw_m2 146 rfl
theorem q1658 : (Jvm.Cond.sameMethod "[Ljava/lang/Object;" "java/lang/Object" "getClass" "()Ljava/lang/Class;") ∈ lw_all := lw_g (lw_at lw_m7 138 rfl) rfl
set_option maxRecDepth 100000
theorem q1659 : (Jvm.Cond.selects "[Ljava/lang/Object;" ({ cls := "java/lang/Object", name := "getClass", desc := "()Ljava/lang/Class;" } : Jvm.MethodName) ({ cls := "java/lang/Object", name := "getClass", desc := "()Ljava/lang/Class;" } : Jvm.MethodName)) ∈ lw_all := lw_g (lw_at lw_m7 139 rfl) rfl
theorem q1662 : (Jvm.Cond.castable "[Ljava/lang/Object;" "java/lang/Object") ∈ lw_tbl := lw_at lw_m7 142 rfl
theorem q1663 : (Jvm.Cond.castable "[I" "java/lang/Object") ∈ lw_tbl := lw_at lw_m7 143 rfl
set_option maxRecDepth 100000
/-! RiverWords$Table -/
set_option maxRecDepth 100000
def RX1 : String := "RiverWords$Table"
def TX1 : u_T := fun k => match k with
  | 0 => ("RiverWords$Table", "a", "I", true)
  | 1 => ("RiverWords$Table", "b", "I", true)
  | 2 => ("RiverWords$Table", "c", "I", true)
  | _ => ("RiverWords$Table", "d", "I", true)
def tyX1 : Nat → FieldType := fun k => match k with
  | 0 => .int
  | 1 => .int
  | 2 => .int
  | _ => .int
abbrev wsX10 : List Cond := u_ws RX1 TX1 4
theorem nmX1 : ∀ a, a < 4 → ∀ b, b < 4 → a ≠ b → (TX1 a).2.1 ≠ (TX1 b).2.1 := by decide +kernel
theorem tyX1_ok : ∀ k, k < 4 → parseFieldDescriptor (TX1 k).2.2.1 = some (tyX1 k) := by decide +kernel
abbrev cX1_of : ByteArray := prog_6_method_2_code
def yX1_of : MethodName := ⟨RX1, "of", "(Ljava/lang/String;)LRiverWords$Table;"⟩
def dkwX1_of_6 : List UInt8 := [183, 0, 36, 167, 0, 14, 187, 0, 8, 89, 4, 3, 3, 4, 183, 0, 36, 176]
abbrev dktX1_of_6 : List UInt8 := dkwX1_of_6 ++ []
def dkwX1_of_5 : List UInt8 := [187, 0, 8, 89, 4, 3, 4, 4, 183, 0, 36, 167, 0, 28, 187, 0, 8, 89, 4, 4, 3, 4]
abbrev dktX1_of_5 : List UInt8 := dkwX1_of_5 ++ dktX1_of_6
def dkwX1_of_4 : List UInt8 := [171, 0, 0, 0, 0, 54, 0, 0, 0, 2, 0, 0, 0, 0, 0, 0, 0, 26, 0, 0, 0, 1, 0, 0, 0, 40]
abbrev dktX1_of_4 : List UInt8 := dkwX1_of_4 ++ dktX1_of_5
def dkwX1_of_3 : List UInt8 := [61, 28]
abbrev dktX1_of_3 : List UInt8 := dkwX1_of_3 ++ dktX1_of_4
def dkwX1_of_2 : List UInt8 := [43, 18, 28, 182, 0, 30, 153, 0, 19, 3, 61, 167, 0, 14, 43, 18, 34, 182, 0, 30, 153, 0, 5, 4]
abbrev dktX1_of_2 : List UInt8 := dkwX1_of_2 ++ dktX1_of_3
def dkwX1_of_1 : List UInt8 := [171, 0, 0, 0, 0, 0, 0, 53, 0, 0, 0, 2, 0, 0, 0, 76, 0, 0, 0, 28, 0, 0, 0, 82, 0, 0, 0, 42]
abbrev dktX1_of_1 : List UInt8 := dkwX1_of_1 ++ dktX1_of_2
def dkwX1_of_0 : List UInt8 := [42, 76, 2, 61, 43, 182, 0, 22]
abbrev dktX1_of_0 : List UInt8 := dkwX1_of_0 ++ dktX1_of_1
theorem dksX1_of_0 : cX1_of.data.toList.drop 0 = dktX1_of_0 := by decide +kernel
theorem dksX1_of_1 : cX1_of.data.toList.drop 8 = dktX1_of_1 := dk_seg dksX1_of_0 8 rfl rfl
theorem dksX1_of_2 : cX1_of.data.toList.drop 36 = dktX1_of_2 := dk_seg dksX1_of_1 28 rfl rfl
theorem dksX1_of_3 : cX1_of.data.toList.drop 60 = dktX1_of_3 := dk_seg dksX1_of_2 24 rfl rfl
theorem dksX1_of_4 : cX1_of.data.toList.drop 62 = dktX1_of_4 := dk_seg dksX1_of_3 2 rfl rfl
theorem dksX1_of_5 : cX1_of.data.toList.drop 88 = dktX1_of_5 := dk_seg dksX1_of_4 26 rfl rfl
theorem dksX1_of_6 : cX1_of.data.toList.drop 110 = dktX1_of_6 := dk_seg dksX1_of_5 22 rfl rfl
theorem dX1_of_0 : decode cX1_of 0 = .ok (.aload_n 0, 1) := dk_42 (dk_at dksX1_of_0 0 rfl rfl)
theorem dX1_of_1 : decode cX1_of 1 = .ok (.astore_n 1, 1) := dk_76 (dk_at dksX1_of_0 1 rfl rfl)
theorem dX1_of_2 : decode cX1_of 2 = .ok (.iconst (-1), 1) := dk_2 (dk_at dksX1_of_0 2 rfl rfl)
theorem dX1_of_3 : decode cX1_of 3 = .ok (.istore_n 2, 1) := dk_61 (dk_at dksX1_of_0 3 rfl rfl)
theorem dX1_of_4 : decode cX1_of 4 = .ok (.aload_n 1, 1) := dk_43 (dk_at dksX1_of_0 4 rfl rfl)
theorem dX1_of_5 : decode cX1_of 5 = .ok (.invokevirtual 22, 3) := dk_182 0 22 (dk_at dksX1_of_0 5 rfl rfl)
theorem dX1_of_8 : decode cX1_of 8 = .ok (.lookupswitch 53 #[(76, 28), (82, 42)], 28) := by decide +kernel
theorem dX1_of_36 : decode cX1_of 36 = .ok (.aload_n 1, 1) := dk_43 (dk_at dksX1_of_2 0 rfl rfl)
theorem dX1_of_37 : decode cX1_of 37 = .ok (.ldc 28, 2) := dk_18 28 (dk_at dksX1_of_2 1 rfl rfl)
theorem dX1_of_39 : decode cX1_of 39 = .ok (.invokevirtual 30, 3) := dk_182 0 30 (dk_at dksX1_of_2 3 rfl rfl)
theorem dX1_of_42 : decode cX1_of 42 = .ok (.ifCond .eq 19, 3) := dk_153 0 19 (dk_at dksX1_of_2 6 rfl rfl)
theorem dX1_of_45 : decode cX1_of 45 = .ok (.iconst 0, 1) := dk_3 (dk_at dksX1_of_2 9 rfl rfl)
theorem dX1_of_46 : decode cX1_of 46 = .ok (.istore_n 2, 1) := dk_61 (dk_at dksX1_of_2 10 rfl rfl)
theorem dX1_of_47 : decode cX1_of 47 = .ok (.goto 14, 3) := dk_167 0 14 (dk_at dksX1_of_2 11 rfl rfl)
theorem dX1_of_50 : decode cX1_of 50 = .ok (.aload_n 1, 1) := dk_43 (dk_at dksX1_of_2 14 rfl rfl)
theorem dX1_of_51 : decode cX1_of 51 = .ok (.ldc 34, 2) := dk_18 34 (dk_at dksX1_of_2 15 rfl rfl)
theorem dX1_of_53 : decode cX1_of 53 = .ok (.invokevirtual 30, 3) := dk_182 0 30 (dk_at dksX1_of_2 17 rfl rfl)
theorem dX1_of_56 : decode cX1_of 56 = .ok (.ifCond .eq 5, 3) := dk_153 0 5 (dk_at dksX1_of_2 20 rfl rfl)
theorem dX1_of_59 : decode cX1_of 59 = .ok (.iconst 1, 1) := dk_4 (dk_at dksX1_of_2 23 rfl rfl)
theorem dX1_of_60 : decode cX1_of 60 = .ok (.istore_n 2, 1) := dk_61 (dk_at dksX1_of_3 0 rfl rfl)
theorem dX1_of_61 : decode cX1_of 61 = .ok (.iload_n 2, 1) := dk_28 (dk_at dksX1_of_3 1 rfl rfl)
theorem dX1_of_62 : decode cX1_of 62 = .ok (.lookupswitch 54 #[(0, 26), (1, 40)], 26) := by decide +kernel
theorem dX1_of_88 : decode cX1_of 88 = .ok (.new 8, 3) := dk_187 0 8 (dk_at dksX1_of_5 0 rfl rfl)
theorem dX1_of_91 : decode cX1_of 91 = .ok (.dup, 1) := dk_89 (dk_at dksX1_of_5 3 rfl rfl)
theorem dX1_of_92 : decode cX1_of 92 = .ok (.iconst 1, 1) := dk_4 (dk_at dksX1_of_5 4 rfl rfl)
theorem dX1_of_93 : decode cX1_of 93 = .ok (.iconst 0, 1) := dk_3 (dk_at dksX1_of_5 5 rfl rfl)
theorem dX1_of_94 : decode cX1_of 94 = .ok (.iconst 1, 1) := dk_4 (dk_at dksX1_of_5 6 rfl rfl)
theorem dX1_of_95 : decode cX1_of 95 = .ok (.iconst 1, 1) := dk_4 (dk_at dksX1_of_5 7 rfl rfl)
theorem dX1_of_96 : decode cX1_of 96 = .ok (.invokespecial 36, 3) := dk_183 0 36 (dk_at dksX1_of_5 8 rfl rfl)
theorem dX1_of_99 : decode cX1_of 99 = .ok (.goto 28, 3) := dk_167 0 28 (dk_at dksX1_of_5 11 rfl rfl)
theorem dX1_of_102 : decode cX1_of 102 = .ok (.new 8, 3) := dk_187 0 8 (dk_at dksX1_of_5 14 rfl rfl)
theorem dX1_of_105 : decode cX1_of 105 = .ok (.dup, 1) := dk_89 (dk_at dksX1_of_5 17 rfl rfl)
theorem dX1_of_106 : decode cX1_of 106 = .ok (.iconst 1, 1) := dk_4 (dk_at dksX1_of_5 18 rfl rfl)
theorem dX1_of_107 : decode cX1_of 107 = .ok (.iconst 1, 1) := dk_4 (dk_at dksX1_of_5 19 rfl rfl)
theorem dX1_of_108 : decode cX1_of 108 = .ok (.iconst 0, 1) := dk_3 (dk_at dksX1_of_5 20 rfl rfl)
theorem dX1_of_109 : decode cX1_of 109 = .ok (.iconst 1, 1) := dk_4 (dk_at dksX1_of_5 21 rfl rfl)
theorem dX1_of_110 : decode cX1_of 110 = .ok (.invokespecial 36, 3) := dk_183 0 36 (dk_at dksX1_of_6 0 rfl rfl)
theorem dX1_of_113 : decode cX1_of 113 = .ok (.goto 14, 3) := dk_167 0 14 (dk_at dksX1_of_6 3 rfl rfl)
theorem dX1_of_116 : decode cX1_of 116 = .ok (.new 8, 3) := dk_187 0 8 (dk_at dksX1_of_6 6 rfl rfl)
theorem dX1_of_119 : decode cX1_of 119 = .ok (.dup, 1) := dk_89 (dk_at dksX1_of_6 9 rfl rfl)
theorem dX1_of_120 : decode cX1_of 120 = .ok (.iconst 1, 1) := dk_4 (dk_at dksX1_of_6 10 rfl rfl)
theorem dX1_of_121 : decode cX1_of 121 = .ok (.iconst 0, 1) := dk_3 (dk_at dksX1_of_6 11 rfl rfl)
theorem dX1_of_122 : decode cX1_of 122 = .ok (.iconst 0, 1) := dk_3 (dk_at dksX1_of_6 12 rfl rfl)
theorem dX1_of_123 : decode cX1_of 123 = .ok (.iconst 1, 1) := dk_4 (dk_at dksX1_of_6 13 rfl rfl)
theorem dX1_of_124 : decode cX1_of 124 = .ok (.invokespecial 36, 3) := dk_183 0 36 (dk_at dksX1_of_6 14 rfl rfl)
theorem dX1_of_127 : decode cX1_of 127 = .ok (.areturn, 1) := dk_176 (dk_at dksX1_of_6 17 rfl rfl)
abbrev cX1_init : ByteArray := prog_6_method_1_code
def yX1_init : MethodName := ⟨RX1, "<init>", "(IIII)V"⟩
def dkwX1_init_1 : List UInt8 := [181, 0, 19, 177]
abbrev dktX1_init_1 : List UInt8 := dkwX1_init_1 ++ []
def dkwX1_init_0 : List UInt8 := [42, 183, 0, 1, 42, 27, 181, 0, 7, 42, 28, 181, 0, 13, 42, 29, 181, 0, 16, 42, 21, 4]
abbrev dktX1_init_0 : List UInt8 := dkwX1_init_0 ++ dktX1_init_1
theorem dksX1_init_0 : cX1_init.data.toList.drop 0 = dktX1_init_0 := by decide +kernel
theorem dksX1_init_1 : cX1_init.data.toList.drop 22 = dktX1_init_1 := dk_seg dksX1_init_0 22 rfl rfl
theorem dX1_init_0 : decode cX1_init 0 = .ok (.aload_n 0, 1) := dk_42 (dk_at dksX1_init_0 0 rfl rfl)
theorem dX1_init_1 : decode cX1_init 1 = .ok (.invokespecial 1, 3) := dk_183 0 1 (dk_at dksX1_init_0 1 rfl rfl)
theorem dX1_init_4 : decode cX1_init 4 = .ok (.aload_n 0, 1) := dk_42 (dk_at dksX1_init_0 4 rfl rfl)
theorem dX1_init_5 : decode cX1_init 5 = .ok (.iload_n 1, 1) := dk_27 (dk_at dksX1_init_0 5 rfl rfl)
theorem dX1_init_6 : decode cX1_init 6 = .ok (.putfield 7, 3) := dk_181 0 7 (dk_at dksX1_init_0 6 rfl rfl)
theorem dX1_init_9 : decode cX1_init 9 = .ok (.aload_n 0, 1) := dk_42 (dk_at dksX1_init_0 9 rfl rfl)
theorem dX1_init_10 : decode cX1_init 10 = .ok (.iload_n 2, 1) := dk_28 (dk_at dksX1_init_0 10 rfl rfl)
theorem dX1_init_11 : decode cX1_init 11 = .ok (.putfield 13, 3) := dk_181 0 13 (dk_at dksX1_init_0 11 rfl rfl)
theorem dX1_init_14 : decode cX1_init 14 = .ok (.aload_n 0, 1) := dk_42 (dk_at dksX1_init_0 14 rfl rfl)
theorem dX1_init_15 : decode cX1_init 15 = .ok (.iload_n 3, 1) := dk_29 (dk_at dksX1_init_0 15 rfl rfl)
theorem dX1_init_16 : decode cX1_init 16 = .ok (.putfield 16, 3) := dk_181 0 16 (dk_at dksX1_init_0 16 rfl rfl)
theorem dX1_init_19 : decode cX1_init 19 = .ok (.aload_n 0, 1) := dk_42 (dk_at dksX1_init_0 19 rfl rfl)
theorem dX1_init_20 : decode cX1_init 20 = .ok (.iload 4, 2) := dk_21 4 (dk_at dksX1_init_0 20 rfl rfl)
theorem dX1_init_22 : decode cX1_init 22 = .ok (.putfield 19, 3) := dk_181 0 19 (dk_at dksX1_init_1 0 rfl rfl)
theorem dX1_init_25 : decode cX1_init 25 = .ok (.return_, 1) := dk_177 (dk_at dksX1_init_1 3 rfl rfl)
abbrev cX1_times : ByteArray := prog_6_method_3_code
def yX1_times : MethodName := ⟨RX1, "times", "(LRiverWords$Table;)LRiverWords$Table;"⟩
def dkwX1_times_3 : List UInt8 := [180, 0, 19, 43, 180, 0, 19, 104, 96, 183, 0, 36, 176]
abbrev dktX1_times_3 : List UInt8 := dkwX1_times_3 ++ []
def dkwX1_times_2 : List UInt8 := [180, 0, 7, 104, 42, 180, 0, 19, 43, 180, 0, 16, 104, 96, 42, 180, 0, 16, 43, 180, 0, 13, 104, 42]
abbrev dktX1_times_2 : List UInt8 := dkwX1_times_2 ++ dktX1_times_3
def dkwX1_times_1 : List UInt8 := [180, 0, 7, 43, 180, 0, 13, 104, 42, 180, 0, 13, 43, 180, 0, 19, 104, 96, 42, 180, 0, 16, 43]
abbrev dktX1_times_1 : List UInt8 := dkwX1_times_1 ++ dktX1_times_2
def dkwX1_times_0 : List UInt8 := [187, 0, 8, 89, 42, 180, 0, 7, 43, 180, 0, 7, 104, 42, 180, 0, 13, 43, 180, 0, 16, 104, 96, 42]
abbrev dktX1_times_0 : List UInt8 := dkwX1_times_0 ++ dktX1_times_1
theorem dksX1_times_0 : cX1_times.data.toList.drop 0 = dktX1_times_0 := by decide +kernel
theorem dksX1_times_1 : cX1_times.data.toList.drop 24 = dktX1_times_1 := dk_seg dksX1_times_0 24 rfl rfl
theorem dksX1_times_2 : cX1_times.data.toList.drop 47 = dktX1_times_2 := dk_seg dksX1_times_1 23 rfl rfl
theorem dksX1_times_3 : cX1_times.data.toList.drop 71 = dktX1_times_3 := dk_seg dksX1_times_2 24 rfl rfl
theorem dX1_times_0 : decode cX1_times 0 = .ok (.new 8, 3) := dk_187 0 8 (dk_at dksX1_times_0 0 rfl rfl)
theorem dX1_times_3 : decode cX1_times 3 = .ok (.dup, 1) := dk_89 (dk_at dksX1_times_0 3 rfl rfl)
theorem dX1_times_4 : decode cX1_times 4 = .ok (.aload_n 0, 1) := dk_42 (dk_at dksX1_times_0 4 rfl rfl)
theorem dX1_times_5 : decode cX1_times 5 = .ok (.getfield 7, 3) := dk_180 0 7 (dk_at dksX1_times_0 5 rfl rfl)
theorem dX1_times_8 : decode cX1_times 8 = .ok (.aload_n 1, 1) := dk_43 (dk_at dksX1_times_0 8 rfl rfl)
theorem dX1_times_9 : decode cX1_times 9 = .ok (.getfield 7, 3) := dk_180 0 7 (dk_at dksX1_times_0 9 rfl rfl)
theorem dX1_times_12 : decode cX1_times 12 = .ok (.imul, 1) := dk_104 (dk_at dksX1_times_0 12 rfl rfl)
theorem dX1_times_13 : decode cX1_times 13 = .ok (.aload_n 0, 1) := dk_42 (dk_at dksX1_times_0 13 rfl rfl)
theorem dX1_times_14 : decode cX1_times 14 = .ok (.getfield 13, 3) := dk_180 0 13 (dk_at dksX1_times_0 14 rfl rfl)
theorem dX1_times_17 : decode cX1_times 17 = .ok (.aload_n 1, 1) := dk_43 (dk_at dksX1_times_0 17 rfl rfl)
theorem dX1_times_18 : decode cX1_times 18 = .ok (.getfield 16, 3) := dk_180 0 16 (dk_at dksX1_times_0 18 rfl rfl)
theorem dX1_times_21 : decode cX1_times 21 = .ok (.imul, 1) := dk_104 (dk_at dksX1_times_0 21 rfl rfl)
theorem dX1_times_22 : decode cX1_times 22 = .ok (.iadd, 1) := dk_96 (dk_at dksX1_times_0 22 rfl rfl)
theorem dX1_times_23 : decode cX1_times 23 = .ok (.aload_n 0, 1) := dk_42 (dk_at dksX1_times_0 23 rfl rfl)
theorem dX1_times_24 : decode cX1_times 24 = .ok (.getfield 7, 3) := dk_180 0 7 (dk_at dksX1_times_1 0 rfl rfl)
theorem dX1_times_27 : decode cX1_times 27 = .ok (.aload_n 1, 1) := dk_43 (dk_at dksX1_times_1 3 rfl rfl)
theorem dX1_times_28 : decode cX1_times 28 = .ok (.getfield 13, 3) := dk_180 0 13 (dk_at dksX1_times_1 4 rfl rfl)
theorem dX1_times_31 : decode cX1_times 31 = .ok (.imul, 1) := dk_104 (dk_at dksX1_times_1 7 rfl rfl)
theorem dX1_times_32 : decode cX1_times 32 = .ok (.aload_n 0, 1) := dk_42 (dk_at dksX1_times_1 8 rfl rfl)
theorem dX1_times_33 : decode cX1_times 33 = .ok (.getfield 13, 3) := dk_180 0 13 (dk_at dksX1_times_1 9 rfl rfl)
theorem dX1_times_36 : decode cX1_times 36 = .ok (.aload_n 1, 1) := dk_43 (dk_at dksX1_times_1 12 rfl rfl)
theorem dX1_times_37 : decode cX1_times 37 = .ok (.getfield 19, 3) := dk_180 0 19 (dk_at dksX1_times_1 13 rfl rfl)
theorem dX1_times_40 : decode cX1_times 40 = .ok (.imul, 1) := dk_104 (dk_at dksX1_times_1 16 rfl rfl)
theorem dX1_times_41 : decode cX1_times 41 = .ok (.iadd, 1) := dk_96 (dk_at dksX1_times_1 17 rfl rfl)
theorem dX1_times_42 : decode cX1_times 42 = .ok (.aload_n 0, 1) := dk_42 (dk_at dksX1_times_1 18 rfl rfl)
theorem dX1_times_43 : decode cX1_times 43 = .ok (.getfield 16, 3) := dk_180 0 16 (dk_at dksX1_times_1 19 rfl rfl)
theorem dX1_times_46 : decode cX1_times 46 = .ok (.aload_n 1, 1) := dk_43 (dk_at dksX1_times_1 22 rfl rfl)
theorem dX1_times_47 : decode cX1_times 47 = .ok (.getfield 7, 3) := dk_180 0 7 (dk_at dksX1_times_2 0 rfl rfl)
theorem dX1_times_50 : decode cX1_times 50 = .ok (.imul, 1) := dk_104 (dk_at dksX1_times_2 3 rfl rfl)
theorem dX1_times_51 : decode cX1_times 51 = .ok (.aload_n 0, 1) := dk_42 (dk_at dksX1_times_2 4 rfl rfl)
theorem dX1_times_52 : decode cX1_times 52 = .ok (.getfield 19, 3) := dk_180 0 19 (dk_at dksX1_times_2 5 rfl rfl)
theorem dX1_times_55 : decode cX1_times 55 = .ok (.aload_n 1, 1) := dk_43 (dk_at dksX1_times_2 8 rfl rfl)
theorem dX1_times_56 : decode cX1_times 56 = .ok (.getfield 16, 3) := dk_180 0 16 (dk_at dksX1_times_2 9 rfl rfl)
theorem dX1_times_59 : decode cX1_times 59 = .ok (.imul, 1) := dk_104 (dk_at dksX1_times_2 12 rfl rfl)
theorem dX1_times_60 : decode cX1_times 60 = .ok (.iadd, 1) := dk_96 (dk_at dksX1_times_2 13 rfl rfl)
theorem dX1_times_61 : decode cX1_times 61 = .ok (.aload_n 0, 1) := dk_42 (dk_at dksX1_times_2 14 rfl rfl)
theorem dX1_times_62 : decode cX1_times 62 = .ok (.getfield 16, 3) := dk_180 0 16 (dk_at dksX1_times_2 15 rfl rfl)
theorem dX1_times_65 : decode cX1_times 65 = .ok (.aload_n 1, 1) := dk_43 (dk_at dksX1_times_2 18 rfl rfl)
theorem dX1_times_66 : decode cX1_times 66 = .ok (.getfield 13, 3) := dk_180 0 13 (dk_at dksX1_times_2 19 rfl rfl)
theorem dX1_times_69 : decode cX1_times 69 = .ok (.imul, 1) := dk_104 (dk_at dksX1_times_2 22 rfl rfl)
theorem dX1_times_70 : decode cX1_times 70 = .ok (.aload_n 0, 1) := dk_42 (dk_at dksX1_times_2 23 rfl rfl)
theorem dX1_times_71 : decode cX1_times 71 = .ok (.getfield 19, 3) := dk_180 0 19 (dk_at dksX1_times_3 0 rfl rfl)
theorem dX1_times_74 : decode cX1_times 74 = .ok (.aload_n 1, 1) := dk_43 (dk_at dksX1_times_3 3 rfl rfl)
theorem dX1_times_75 : decode cX1_times 75 = .ok (.getfield 19, 3) := dk_180 0 19 (dk_at dksX1_times_3 4 rfl rfl)
theorem dX1_times_78 : decode cX1_times 78 = .ok (.imul, 1) := dk_104 (dk_at dksX1_times_3 7 rfl rfl)
theorem dX1_times_79 : decode cX1_times 79 = .ok (.iadd, 1) := dk_96 (dk_at dksX1_times_3 8 rfl rfl)
theorem dX1_times_80 : decode cX1_times 80 = .ok (.invokespecial 36, 3) := dk_183 0 36 (dk_at dksX1_times_3 9 rfl rfl)
theorem dX1_times_83 : decode cX1_times 83 = .ok (.areturn, 1) := dk_176 (dk_at dksX1_times_3 12 rfl rfl)
abbrev cX1_trace : ByteArray := prog_6_method_5_code
def yX1_trace : MethodName := ⟨RX1, "trace", "()I"⟩
def dkwX1_trace_0 : List UInt8 := [42, 180, 0, 7, 42, 180, 0, 19, 96, 172]
abbrev dktX1_trace_0 : List UInt8 := dkwX1_trace_0 ++ []
theorem dksX1_trace_0 : cX1_trace.data.toList.drop 0 = dktX1_trace_0 := by decide +kernel
theorem dX1_trace_0 : decode cX1_trace 0 = .ok (.aload_n 0, 1) := dk_42 (dk_at dksX1_trace_0 0 rfl rfl)
theorem dX1_trace_1 : decode cX1_trace 1 = .ok (.getfield 7, 3) := dk_180 0 7 (dk_at dksX1_trace_0 1 rfl rfl)
theorem dX1_trace_4 : decode cX1_trace 4 = .ok (.aload_n 0, 1) := dk_42 (dk_at dksX1_trace_0 4 rfl rfl)
theorem dX1_trace_5 : decode cX1_trace 5 = .ok (.getfield 19, 3) := dk_180 0 19 (dk_at dksX1_trace_0 5 rfl rfl)
theorem dX1_trace_8 : decode cX1_trace 8 = .ok (.iadd, 1) := dk_96 (dk_at dksX1_trace_0 8 rfl rfl)
theorem dX1_trace_9 : decode cX1_trace 9 = .ok (.ireturn, 1) := dk_172 (dk_at dksX1_trace_0 9 rfl rfl)
abbrev cX1_told : ByteArray := prog_6_method_4_code
def yX1_told : MethodName := ⟨RX1, "told", "(I)I"⟩
def dkwX1_told_3 : List UInt8 := [180, 0, 19, 172]
abbrev dktX1_told_3 : List UInt8 := dkwX1_told_3 ++ []
def dkwX1_told_2 : List UInt8 := [42, 180, 0, 7, 167, 0, 21, 42, 180, 0, 13, 167, 0, 14, 42, 180, 0, 16, 167, 0, 7, 42]
abbrev dktX1_told_2 : List UInt8 := dkwX1_told_2 ++ dktX1_told_3
def dkwX1_told_1 : List UInt8 := [170, 0, 0, 0, 0, 0, 48, 0, 0, 0, 0, 0, 0, 0, 2, 0, 0, 0, 27, 0, 0, 0, 34, 0, 0, 0, 41]
abbrev dktX1_told_1 : List UInt8 := dkwX1_told_1 ++ dktX1_told_2
def dkwX1_told_0 : List UInt8 := [27]
abbrev dktX1_told_0 : List UInt8 := dkwX1_told_0 ++ dktX1_told_1
theorem dksX1_told_0 : cX1_told.data.toList.drop 0 = dktX1_told_0 := by decide +kernel
theorem dksX1_told_1 : cX1_told.data.toList.drop 1 = dktX1_told_1 := dk_seg dksX1_told_0 1 rfl rfl
theorem dksX1_told_2 : cX1_told.data.toList.drop 28 = dktX1_told_2 := dk_seg dksX1_told_1 27 rfl rfl
theorem dksX1_told_3 : cX1_told.data.toList.drop 50 = dktX1_told_3 := dk_seg dksX1_told_2 22 rfl rfl
theorem dX1_told_0 : decode cX1_told 0 = .ok (.iload_n 1, 1) := dk_27 (dk_at dksX1_told_0 0 rfl rfl)
theorem dX1_told_1 : decode cX1_told 1 = .ok (.tableswitch 48 0 2 #[27, 34, 41], 27) := by decide +kernel
theorem dX1_told_28 : decode cX1_told 28 = .ok (.aload_n 0, 1) := dk_42 (dk_at dksX1_told_2 0 rfl rfl)
theorem dX1_told_29 : decode cX1_told 29 = .ok (.getfield 7, 3) := dk_180 0 7 (dk_at dksX1_told_2 1 rfl rfl)
theorem dX1_told_32 : decode cX1_told 32 = .ok (.goto 21, 3) := dk_167 0 21 (dk_at dksX1_told_2 4 rfl rfl)
theorem dX1_told_35 : decode cX1_told 35 = .ok (.aload_n 0, 1) := dk_42 (dk_at dksX1_told_2 7 rfl rfl)
theorem dX1_told_36 : decode cX1_told 36 = .ok (.getfield 13, 3) := dk_180 0 13 (dk_at dksX1_told_2 8 rfl rfl)
theorem dX1_told_39 : decode cX1_told 39 = .ok (.goto 14, 3) := dk_167 0 14 (dk_at dksX1_told_2 11 rfl rfl)
theorem dX1_told_42 : decode cX1_told 42 = .ok (.aload_n 0, 1) := dk_42 (dk_at dksX1_told_2 14 rfl rfl)
theorem dX1_told_43 : decode cX1_told 43 = .ok (.getfield 16, 3) := dk_180 0 16 (dk_at dksX1_told_2 15 rfl rfl)
theorem dX1_told_46 : decode cX1_told 46 = .ok (.goto 7, 3) := dk_167 0 7 (dk_at dksX1_told_2 18 rfl rfl)
theorem dX1_told_49 : decode cX1_told 49 = .ok (.aload_n 0, 1) := dk_42 (dk_at dksX1_told_2 21 rfl rfl)
theorem dX1_told_50 : decode cX1_told 50 = .ok (.getfield 19, 3) := dk_180 0 19 (dk_at dksX1_told_3 0 rfl rfl)
theorem dX1_told_53 : decode cX1_told 53 = .ok (.ireturn, 1) := dk_172 (dk_at dksX1_told_3 3 rfl rfl)
abbrev cX1_grade : ByteArray := prog_6_method_6_code
def yX1_grade : MethodName := ⟨RX1, "grade", "()I"⟩
def dkwX1_grade_0 : List UInt8 := [42, 180, 0, 16, 42, 180, 0, 19, 42, 180, 0, 7, 100, 184, 0, 39, 42, 180, 0, 13, 184, 0, 39, 172]
abbrev dktX1_grade_0 : List UInt8 := dkwX1_grade_0 ++ []
theorem dksX1_grade_0 : cX1_grade.data.toList.drop 0 = dktX1_grade_0 := by decide +kernel
theorem dX1_grade_0 : decode cX1_grade 0 = .ok (.aload_n 0, 1) := dk_42 (dk_at dksX1_grade_0 0 rfl rfl)
theorem dX1_grade_1 : decode cX1_grade 1 = .ok (.getfield 16, 3) := dk_180 0 16 (dk_at dksX1_grade_0 1 rfl rfl)
theorem dX1_grade_4 : decode cX1_grade 4 = .ok (.aload_n 0, 1) := dk_42 (dk_at dksX1_grade_0 4 rfl rfl)
theorem dX1_grade_5 : decode cX1_grade 5 = .ok (.getfield 19, 3) := dk_180 0 19 (dk_at dksX1_grade_0 5 rfl rfl)
theorem dX1_grade_8 : decode cX1_grade 8 = .ok (.aload_n 0, 1) := dk_42 (dk_at dksX1_grade_0 8 rfl rfl)
theorem dX1_grade_9 : decode cX1_grade 9 = .ok (.getfield 7, 3) := dk_180 0 7 (dk_at dksX1_grade_0 9 rfl rfl)
theorem dX1_grade_12 : decode cX1_grade 12 = .ok (.isub, 1) := dk_100 (dk_at dksX1_grade_0 12 rfl rfl)
theorem dX1_grade_13 : decode cX1_grade 13 = .ok (.invokestatic 39, 3) := dk_184 0 39 (dk_at dksX1_grade_0 13 rfl rfl)
theorem dX1_grade_16 : decode cX1_grade 16 = .ok (.aload_n 0, 1) := dk_42 (dk_at dksX1_grade_0 16 rfl rfl)
theorem dX1_grade_17 : decode cX1_grade 17 = .ok (.getfield 13, 3) := dk_180 0 13 (dk_at dksX1_grade_0 17 rfl rfl)
theorem dX1_grade_20 : decode cX1_grade 20 = .ok (.invokestatic 39, 3) := dk_184 0 39 (dk_at dksX1_grade_0 20 rfl rfl)
theorem dX1_grade_23 : decode cX1_grade 23 = .ok (.ireturn, 1) := dk_172 (dk_at dksX1_grade_0 23 rfl rfl)
theorem q82 : (Jvm.Cond.initialized "RiverWords$Table") ∈ lw_all := lw_g (lw_at lw_m1 2 rfl) rfl
theorem q113 : (Jvm.Cond.static ({ cls := "RiverWords$Table", name := "of", desc := "(Ljava/lang/String;)LRiverWords$Table;" } : Jvm.MethodName)) ∈ lw_all := lw_g (lw_at lw_m1 33 rfl) rfl
theorem q114 : (Jvm.Cond.code ({ cls := "RiverWords$Table", name := "of", desc := "(Ljava/lang/String;)LRiverWords$Table;" } : Jvm.MethodName) prog_6_method_2_code (3 : Nat) (Option.some (Jvm.ClassFile.FieldType.object "RiverWords$Table"))) ∈ lw_all := lw_g (lw_at lw_m1 34 rfl) rfl
theorem q115 : (Jvm.Cond.methodLink "RiverWords$Table" (22 : Nat) ({ cls := "java/lang/String", name := "hashCode", desc := "()I" } : Jvm.MethodName)) ∈ lw_all := lw_g (lw_at lw_m1 35 rfl) rfl
theorem q182 : (Jvm.Cond.stringRef "RiverWords$Table" (28 : Nat) "L") ∈ lw_tbl := lw_at lw_m1 102 rfl
theorem q183 : (Jvm.Cond.methodLink "RiverWords$Table" (30 : Nat) ({ cls := "java/lang/String", name := "equals", desc := "(Ljava/lang/Object;)Z" } : Jvm.MethodName)) ∈ lw_all := lw_g (lw_at lw_m1 103 rfl) rfl
theorem q191 : (Jvm.Cond.stringRef "RiverWords$Table" (34 : Nat) "R") ∈ lw_tbl := lw_at lw_m1 111 rfl
theorem q192 : (Jvm.Cond.classLink "RiverWords$Table" (8 : Nat) "RiverWords$Table") ∈ lw_all := lw_g (lw_at lw_m1 112 rfl) rfl
theorem q193 : (Jvm.Cond.instantiable "RiverWords$Table" (4 : Nat)) ∈ lw_all := lw_g (lw_at lw_m1 113 rfl) rfl
theorem q194 : (Jvm.Cond.methodLink "RiverWords$Table" (36 : Nat) ({ cls := "RiverWords$Table", name := "<init>", desc := "(IIII)V" } : Jvm.MethodName)) ∈ lw_all := lw_g (lw_at lw_m1 114 rfl) rfl
theorem q195 : (Jvm.Cond.instanceMethod ({ cls := "RiverWords$Table", name := "<init>", desc := "(IIII)V" } : Jvm.MethodName)) ∈ lw_all := lw_g (lw_at lw_m1 115 rfl) rfl
theorem q196 : (Jvm.Cond.code ({ cls := "RiverWords$Table", name := "<init>", desc := "(IIII)V" } : Jvm.MethodName) prog_6_method_1_code (5 : Nat) (Option.none : Option Jvm.ClassFile.FieldType)) ∈ lw_all := lw_g (lw_at lw_m1 116 rfl) rfl
theorem q197 : (Jvm.Cond.methodLink "RiverWords$Table" (1 : Nat) ({ cls := "java/lang/Object", name := "<init>", desc := "()V" } : Jvm.MethodName)) ∈ lw_all := lw_g (lw_at lw_m1 117 rfl) rfl
theorem q198 : (Jvm.Cond.fieldLink "RiverWords$Table" (7 : Nat) "RiverWords$Table" "a" "I") ∈ lw_all := lw_g (lw_at lw_m1 118 rfl) rfl
theorem q200 : (Jvm.Cond.fieldLink "RiverWords$Table" (13 : Nat) "RiverWords$Table" "b" "I") ∈ lw_all := lw_g (lw_at lw_m1 120 rfl) rfl
theorem q202 : (Jvm.Cond.fieldLink "RiverWords$Table" (16 : Nat) "RiverWords$Table" "c" "I") ∈ lw_all := lw_g (lw_at lw_m1 122 rfl) rfl
theorem q204 : (Jvm.Cond.fieldLink "RiverWords$Table" (19 : Nat) "RiverWords$Table" "d" "I") ∈ lw_all := lw_g (lw_at lw_m1 124 rfl) rfl
theorem q206 : (Jvm.Cond.laysFinal "RiverWords$Table" "RiverWords$Table" "a" "I") ∈ lw_all := lw_g (lw_at lw_m1 126 rfl) rfl
theorem q207 : (Jvm.Cond.soleField "RiverWords$Table" "a") ∈ lw_all := lw_g (lw_at lw_m1 127 rfl) rfl
theorem q208 : (Jvm.Cond.laysFinal "RiverWords$Table" "RiverWords$Table" "b" "I") ∈ lw_all := lw_g (lw_at lw_m1 128 rfl) rfl
theorem q209 : (Jvm.Cond.soleField "RiverWords$Table" "b") ∈ lw_all := lw_g (lw_at lw_m1 129 rfl) rfl
theorem q210 : (Jvm.Cond.laysFinal "RiverWords$Table" "RiverWords$Table" "c" "I") ∈ lw_all := lw_g (lw_at lw_m1 130 rfl) rfl
theorem q211 : (Jvm.Cond.soleField "RiverWords$Table" "c") ∈ lw_all := lw_g (lw_at lw_m1 131 rfl) rfl
theorem q212 : (Jvm.Cond.laysFinal "RiverWords$Table" "RiverWords$Table" "d" "I") ∈ lw_all := lw_g (lw_at lw_m1 132 rfl) rfl
theorem q213 : (Jvm.Cond.soleField "RiverWords$Table" "d") ∈ lw_all := lw_g (lw_at lw_m1 133 rfl) rfl
theorem q214 : (Jvm.Cond.superclass "RiverWords$Table" "java/lang/Object") ∈ lw_all := lw_g (lw_at lw_m1 134 rfl) rfl
theorem q603 : (Jvm.Cond.instanceMethod ({ cls := "RiverWords$Table", name := "times", desc := "(LRiverWords$Table;)LRiverWords$Table;" } : Jvm.MethodName)) ∈ lw_all := lw_g (lw_at lw_m3 43 rfl) rfl
theorem q604 : (Jvm.Cond.selects "RiverWords$Table" ({ cls := "RiverWords$Table", name := "times", desc := "(LRiverWords$Table;)LRiverWords$Table;" } : Jvm.MethodName) ({ cls := "RiverWords$Table", name := "times", desc := "(LRiverWords$Table;)LRiverWords$Table;" } : Jvm.MethodName)) ∈ lw_all := lw_g (lw_at lw_m3 44 rfl) rfl
theorem q605 : (Jvm.Cond.code ({ cls := "RiverWords$Table", name := "times", desc := "(LRiverWords$Table;)LRiverWords$Table;" } : Jvm.MethodName) prog_6_method_3_code (2 : Nat) (Option.some (Jvm.ClassFile.FieldType.object "RiverWords$Table"))) ∈ lw_all := lw_g (lw_at lw_m3 45 rfl) rfl
theorem q646 : (Jvm.Cond.selects "RiverWords$Table" ({ cls := "java/lang/Object", name := "getClass", desc := "()Ljava/lang/Class;" } : Jvm.MethodName) ({ cls := "java/lang/Object", name := "getClass", desc := "()Ljava/lang/Class;" } : Jvm.MethodName)) ∈ lw_all := lw_g (lw_at lw_m3 86 rfl) rfl
theorem q742 : (Jvm.Cond.instanceMethod ({ cls := "RiverWords$Table", name := "trace", desc := "()I" } : Jvm.MethodName)) ∈ lw_all := lw_g (lw_at lw_m3 182 rfl) rfl
theorem q743 : (Jvm.Cond.selects "RiverWords$Table" ({ cls := "RiverWords$Table", name := "trace", desc := "()I" } : Jvm.MethodName) ({ cls := "RiverWords$Table", name := "trace", desc := "()I" } : Jvm.MethodName)) ∈ lw_all := lw_g (lw_at lw_m3 183 rfl) rfl
theorem q744 : (Jvm.Cond.code ({ cls := "RiverWords$Table", name := "trace", desc := "()I" } : Jvm.MethodName) prog_6_method_5_code (1 : Nat) (Option.some Jvm.ClassFile.FieldType.int)) ∈ lw_all := lw_g (lw_at lw_m3 184 rfl) rfl
theorem q787 : (Jvm.Cond.instanceMethod ({ cls := "RiverWords$Table", name := "told", desc := "(I)I" } : Jvm.MethodName)) ∈ lw_all := lw_g (lw_at lw_m3 227 rfl) rfl
theorem q788 : (Jvm.Cond.selects "RiverWords$Table" ({ cls := "RiverWords$Table", name := "told", desc := "(I)I" } : Jvm.MethodName) ({ cls := "RiverWords$Table", name := "told", desc := "(I)I" } : Jvm.MethodName)) ∈ lw_all := lw_g (lw_at lw_m3 228 rfl) rfl
theorem q789 : (Jvm.Cond.code ({ cls := "RiverWords$Table", name := "told", desc := "(I)I" } : Jvm.MethodName) prog_6_method_4_code (2 : Nat) (Option.some Jvm.ClassFile.FieldType.int)) ∈ lw_all := lw_g (lw_at lw_m3 229 rfl) rfl
theorem q801 : (Jvm.Cond.instanceMethod ({ cls := "RiverWords$Table", name := "grade", desc := "()I" } : Jvm.MethodName)) ∈ lw_all := lw_g (lw_at lw_m4 1 rfl) rfl
theorem q802 : (Jvm.Cond.selects "RiverWords$Table" ({ cls := "RiverWords$Table", name := "grade", desc := "()I" } : Jvm.MethodName) ({ cls := "RiverWords$Table", name := "grade", desc := "()I" } : Jvm.MethodName)) ∈ lw_all := lw_g (lw_at lw_m4 2 rfl) rfl
theorem q803 : (Jvm.Cond.code ({ cls := "RiverWords$Table", name := "grade", desc := "()I" } : Jvm.MethodName) prog_6_method_6_code (1 : Nat) (Option.some Jvm.ClassFile.FieldType.int)) ∈ lw_all := lw_g (lw_at lw_m4 3 rfl) rfl
theorem q804 : (Jvm.Cond.methodLinkNest "RiverWords$Table" (39 : Nat) ({ cls := "RiverWords", name := "common", desc := "(II)I" } : Jvm.MethodName) "RiverWords") ∈ lw_tbl := lw_at lw_m4 4 rfl
theorem q1649 : (Jvm.Cond.castable "RiverWords$Table" "java/lang/Object") ∈ lw_tbl := lw_at lw_m7 129 rfl
theorem in_X1 : ∀ w ∈ wsX10, w ∈ lw_all := lw_in wsX10 [206, 208, 210, 212] (by decide +kernel) (by decide +kernel)
/-! RiverWords$Reader -/
set_option maxRecDepth 100000
def RX3 : String := "RiverWords$Reader"
def TX3 : u_T := fun k => match k with
  | 0 => ("RiverWords$Reader", "word", "Ljava/lang/StringBuilder;", true)
  | _ => ("RiverWords$Reader", "place", "I", false)
def tyX3 : Nat → FieldType := fun k => match k with
  | 0 => .object "java/lang/StringBuilder"
  | _ => .int
abbrev wsX30 : List Cond := u_ws RX3 TX3 2
theorem nmX3 : ∀ a, a < 2 → ∀ b, b < 2 → a ≠ b → (TX3 a).2.1 ≠ (TX3 b).2.1 := by decide +kernel
theorem tyX3_ok : ∀ k, k < 2 → parseFieldDescriptor (TX3 k).2.2.1 = some (tyX3 k) := by decide +kernel
abbrev cX3_init : ByteArray := prog_4_method_1_code
def yX3_init : MethodName := ⟨RX3, "<init>", "(Ljava/lang/CharSequence;)V"⟩
def dkwX3_init_5 : List UInt8 := [181, 0, 20, 167, 255, 154, 177]
abbrev dktX3_init_5 : List UInt8 := dkwX3_init_5 ++ []
def dkwX3_init_4 : List UInt8 := [153, 0, 7, 4, 167, 0, 4, 3, 61, 42, 89, 180, 0, 20, 28, 153, 0, 7, 4, 167, 0, 4, 3, 96]
abbrev dktX3_init_4 : List UInt8 := dkwX3_init_4 ++ dktX3_init_5
def dkwX3_init_3 : List UInt8 := [43, 182, 0, 41, 153, 0, 27, 42, 43, 42, 180, 0, 20, 185, 0, 30, 2, 0, 16, 48, 100, 182, 0, 45]
abbrev dktX3_init_3 : List UInt8 := dkwX3_init_3 ++ dktX3_init_4
def dkwX3_init_2 : List UInt8 := [184, 0, 34, 153, 0, 20, 42, 43, 42, 180, 0, 20, 185, 0, 30, 2, 0, 182, 0, 38, 167, 0, 36, 42]
abbrev dktX3_init_2 : List UInt8 := dkwX3_init_2 ++ dktX3_init_3
def dkwX3_init_1 : List UInt8 := [180, 0, 20, 43, 185, 0, 24, 1, 0, 162, 0, 91, 43, 42, 180, 0, 20, 185, 0, 30, 2, 0]
abbrev dktX3_init_1 : List UInt8 := dkwX3_init_1 ++ dktX3_init_2
def dkwX3_init_0 : List UInt8 := [42, 183, 0, 3, 42, 187, 0, 9, 89, 16, 20, 183, 0, 11, 181, 0, 14, 4, 61, 28, 153, 0, 104, 42]
abbrev dktX3_init_0 : List UInt8 := dkwX3_init_0 ++ dktX3_init_1
theorem dksX3_init_0 : cX3_init.data.toList.drop 0 = dktX3_init_0 := by decide +kernel
theorem dksX3_init_1 : cX3_init.data.toList.drop 24 = dktX3_init_1 := dk_seg dksX3_init_0 24 rfl rfl
theorem dksX3_init_2 : cX3_init.data.toList.drop 46 = dktX3_init_2 := dk_seg dksX3_init_1 22 rfl rfl
theorem dksX3_init_3 : cX3_init.data.toList.drop 70 = dktX3_init_3 := dk_seg dksX3_init_2 24 rfl rfl
theorem dksX3_init_4 : cX3_init.data.toList.drop 94 = dktX3_init_4 := dk_seg dksX3_init_3 24 rfl rfl
theorem dksX3_init_5 : cX3_init.data.toList.drop 118 = dktX3_init_5 := dk_seg dksX3_init_4 24 rfl rfl
theorem dX3_init_0 : decode cX3_init 0 = .ok (.aload_n 0, 1) := dk_42 (dk_at dksX3_init_0 0 rfl rfl)
theorem dX3_init_1 : decode cX3_init 1 = .ok (.invokespecial 3, 3) := dk_183 0 3 (dk_at dksX3_init_0 1 rfl rfl)
theorem dX3_init_4 : decode cX3_init 4 = .ok (.aload_n 0, 1) := dk_42 (dk_at dksX3_init_0 4 rfl rfl)
theorem dX3_init_5 : decode cX3_init 5 = .ok (.new 9, 3) := dk_187 0 9 (dk_at dksX3_init_0 5 rfl rfl)
theorem dX3_init_8 : decode cX3_init 8 = .ok (.dup, 1) := dk_89 (dk_at dksX3_init_0 8 rfl rfl)
theorem dX3_init_9 : decode cX3_init 9 = .ok (.bipush 20, 2) := dk_16 20 (dk_at dksX3_init_0 9 rfl rfl)
theorem dX3_init_11 : decode cX3_init 11 = .ok (.invokespecial 11, 3) := dk_183 0 11 (dk_at dksX3_init_0 11 rfl rfl)
theorem dX3_init_14 : decode cX3_init 14 = .ok (.putfield 14, 3) := dk_181 0 14 (dk_at dksX3_init_0 14 rfl rfl)
theorem dX3_init_17 : decode cX3_init 17 = .ok (.iconst 1, 1) := dk_4 (dk_at dksX3_init_0 17 rfl rfl)
theorem dX3_init_18 : decode cX3_init 18 = .ok (.istore_n 2, 1) := dk_61 (dk_at dksX3_init_0 18 rfl rfl)
theorem dX3_init_19 : decode cX3_init 19 = .ok (.iload_n 2, 1) := dk_28 (dk_at dksX3_init_0 19 rfl rfl)
theorem dX3_init_20 : decode cX3_init 20 = .ok (.ifCond .eq 104, 3) := dk_153 0 104 (dk_at dksX3_init_0 20 rfl rfl)
theorem dX3_init_23 : decode cX3_init 23 = .ok (.aload_n 0, 1) := dk_42 (dk_at dksX3_init_0 23 rfl rfl)
theorem dX3_init_24 : decode cX3_init 24 = .ok (.getfield 20, 3) := dk_180 0 20 (dk_at dksX3_init_1 0 rfl rfl)
theorem dX3_init_27 : decode cX3_init 27 = .ok (.aload_n 1, 1) := dk_43 (dk_at dksX3_init_1 3 rfl rfl)
theorem dX3_init_28 : decode cX3_init 28 = .ok (.invokeinterface 24 1, 5) := by decide +kernel
theorem dX3_init_33 : decode cX3_init 33 = .ok (.if_icmp .ge 91, 3) := dk_162 0 91 (dk_at dksX3_init_1 9 rfl rfl)
theorem dX3_init_36 : decode cX3_init 36 = .ok (.aload_n 1, 1) := dk_43 (dk_at dksX3_init_1 12 rfl rfl)
theorem dX3_init_37 : decode cX3_init 37 = .ok (.aload_n 0, 1) := dk_42 (dk_at dksX3_init_1 13 rfl rfl)
theorem dX3_init_38 : decode cX3_init 38 = .ok (.getfield 20, 3) := dk_180 0 20 (dk_at dksX3_init_1 14 rfl rfl)
theorem dX3_init_41 : decode cX3_init 41 = .ok (.invokeinterface 30 2, 5) := by decide +kernel
theorem dX3_init_46 : decode cX3_init 46 = .ok (.invokestatic 34, 3) := dk_184 0 34 (dk_at dksX3_init_2 0 rfl rfl)
theorem dX3_init_49 : decode cX3_init 49 = .ok (.ifCond .eq 20, 3) := dk_153 0 20 (dk_at dksX3_init_2 3 rfl rfl)
theorem dX3_init_52 : decode cX3_init 52 = .ok (.aload_n 0, 1) := dk_42 (dk_at dksX3_init_2 6 rfl rfl)
theorem dX3_init_53 : decode cX3_init 53 = .ok (.aload_n 1, 1) := dk_43 (dk_at dksX3_init_2 7 rfl rfl)
theorem dX3_init_54 : decode cX3_init 54 = .ok (.aload_n 0, 1) := dk_42 (dk_at dksX3_init_2 8 rfl rfl)
theorem dX3_init_55 : decode cX3_init 55 = .ok (.getfield 20, 3) := dk_180 0 20 (dk_at dksX3_init_2 9 rfl rfl)
theorem dX3_init_58 : decode cX3_init 58 = .ok (.invokeinterface 30 2, 5) := by decide +kernel
theorem dX3_init_63 : decode cX3_init 63 = .ok (.invokevirtual 38, 3) := dk_182 0 38 (dk_at dksX3_init_2 17 rfl rfl)
theorem dX3_init_66 : decode cX3_init 66 = .ok (.goto 36, 3) := dk_167 0 36 (dk_at dksX3_init_2 20 rfl rfl)
theorem dX3_init_69 : decode cX3_init 69 = .ok (.aload_n 0, 1) := dk_42 (dk_at dksX3_init_2 23 rfl rfl)
theorem dX3_init_70 : decode cX3_init 70 = .ok (.aload_n 1, 1) := dk_43 (dk_at dksX3_init_3 0 rfl rfl)
theorem dX3_init_71 : decode cX3_init 71 = .ok (.invokevirtual 41, 3) := dk_182 0 41 (dk_at dksX3_init_3 1 rfl rfl)
theorem dX3_init_74 : decode cX3_init 74 = .ok (.ifCond .eq 27, 3) := dk_153 0 27 (dk_at dksX3_init_3 4 rfl rfl)
theorem dX3_init_77 : decode cX3_init 77 = .ok (.aload_n 0, 1) := dk_42 (dk_at dksX3_init_3 7 rfl rfl)
theorem dX3_init_78 : decode cX3_init 78 = .ok (.aload_n 1, 1) := dk_43 (dk_at dksX3_init_3 8 rfl rfl)
theorem dX3_init_79 : decode cX3_init 79 = .ok (.aload_n 0, 1) := dk_42 (dk_at dksX3_init_3 9 rfl rfl)
theorem dX3_init_80 : decode cX3_init 80 = .ok (.getfield 20, 3) := dk_180 0 20 (dk_at dksX3_init_3 10 rfl rfl)
theorem dX3_init_83 : decode cX3_init 83 = .ok (.invokeinterface 30 2, 5) := by decide +kernel
theorem dX3_init_88 : decode cX3_init 88 = .ok (.bipush 48, 2) := dk_16 48 (dk_at dksX3_init_3 18 rfl rfl)
theorem dX3_init_90 : decode cX3_init 90 = .ok (.isub, 1) := dk_100 (dk_at dksX3_init_3 20 rfl rfl)
theorem dX3_init_91 : decode cX3_init 91 = .ok (.invokevirtual 45, 3) := dk_182 0 45 (dk_at dksX3_init_3 21 rfl rfl)
theorem dX3_init_94 : decode cX3_init 94 = .ok (.ifCond .eq 7, 3) := dk_153 0 7 (dk_at dksX3_init_4 0 rfl rfl)
theorem dX3_init_97 : decode cX3_init 97 = .ok (.iconst 1, 1) := dk_4 (dk_at dksX3_init_4 3 rfl rfl)
theorem dX3_init_98 : decode cX3_init 98 = .ok (.goto 4, 3) := dk_167 0 4 (dk_at dksX3_init_4 4 rfl rfl)
theorem dX3_init_101 : decode cX3_init 101 = .ok (.iconst 0, 1) := dk_3 (dk_at dksX3_init_4 7 rfl rfl)
theorem dX3_init_102 : decode cX3_init 102 = .ok (.istore_n 2, 1) := dk_61 (dk_at dksX3_init_4 8 rfl rfl)
theorem dX3_init_103 : decode cX3_init 103 = .ok (.aload_n 0, 1) := dk_42 (dk_at dksX3_init_4 9 rfl rfl)
theorem dX3_init_104 : decode cX3_init 104 = .ok (.dup, 1) := dk_89 (dk_at dksX3_init_4 10 rfl rfl)
theorem dX3_init_105 : decode cX3_init 105 = .ok (.getfield 20, 3) := dk_180 0 20 (dk_at dksX3_init_4 11 rfl rfl)
theorem dX3_init_108 : decode cX3_init 108 = .ok (.iload_n 2, 1) := dk_28 (dk_at dksX3_init_4 14 rfl rfl)
theorem dX3_init_109 : decode cX3_init 109 = .ok (.ifCond .eq 7, 3) := dk_153 0 7 (dk_at dksX3_init_4 15 rfl rfl)
theorem dX3_init_112 : decode cX3_init 112 = .ok (.iconst 1, 1) := dk_4 (dk_at dksX3_init_4 18 rfl rfl)
theorem dX3_init_113 : decode cX3_init 113 = .ok (.goto 4, 3) := dk_167 0 4 (dk_at dksX3_init_4 19 rfl rfl)
theorem dX3_init_116 : decode cX3_init 116 = .ok (.iconst 0, 1) := dk_3 (dk_at dksX3_init_4 22 rfl rfl)
theorem dX3_init_117 : decode cX3_init 117 = .ok (.iadd, 1) := dk_96 (dk_at dksX3_init_4 23 rfl rfl)
theorem dX3_init_118 : decode cX3_init 118 = .ok (.putfield 20, 3) := dk_181 0 20 (dk_at dksX3_init_5 0 rfl rfl)
theorem dX3_init_121 : decode cX3_init 121 = .ok (.goto (-102), 3) := dk_167 255 154 (dk_at dksX3_init_5 3 rfl rfl)
theorem dX3_init_124 : decode cX3_init 124 = .ok (.return_, 1) := dk_177 (dk_at dksX3_init_5 6 rfl rfl)
abbrev cX3_isLetter : ByteArray := prog_4_method_2_code
def yX3_isLetter : MethodName := ⟨RX3, "isLetter", "(C)Z"⟩
def dkwX3_isLetter_0 : List UInt8 := [26, 16, 76, 159, 0, 9, 26, 16, 82, 160, 0, 7, 4, 167, 0, 4, 3, 172]
abbrev dktX3_isLetter_0 : List UInt8 := dkwX3_isLetter_0 ++ []
theorem dksX3_isLetter_0 : cX3_isLetter.data.toList.drop 0 = dktX3_isLetter_0 := by decide +kernel
theorem dX3_isLetter_0 : decode cX3_isLetter 0 = .ok (.iload_n 0, 1) := dk_26 (dk_at dksX3_isLetter_0 0 rfl rfl)
theorem dX3_isLetter_1 : decode cX3_isLetter 1 = .ok (.bipush 76, 2) := dk_16 76 (dk_at dksX3_isLetter_0 1 rfl rfl)
theorem dX3_isLetter_3 : decode cX3_isLetter 3 = .ok (.if_icmp .eq 9, 3) := dk_159 0 9 (dk_at dksX3_isLetter_0 3 rfl rfl)
theorem dX3_isLetter_6 : decode cX3_isLetter 6 = .ok (.iload_n 0, 1) := dk_26 (dk_at dksX3_isLetter_0 6 rfl rfl)
theorem dX3_isLetter_7 : decode cX3_isLetter 7 = .ok (.bipush 82, 2) := dk_16 82 (dk_at dksX3_isLetter_0 7 rfl rfl)
theorem dX3_isLetter_9 : decode cX3_isLetter 9 = .ok (.if_icmp .ne 7, 3) := dk_160 0 7 (dk_at dksX3_isLetter_0 9 rfl rfl)
theorem dX3_isLetter_12 : decode cX3_isLetter 12 = .ok (.iconst 1, 1) := dk_4 (dk_at dksX3_isLetter_0 12 rfl rfl)
theorem dX3_isLetter_13 : decode cX3_isLetter 13 = .ok (.goto 4, 3) := dk_167 0 4 (dk_at dksX3_isLetter_0 13 rfl rfl)
theorem dX3_isLetter_16 : decode cX3_isLetter 16 = .ok (.iconst 0, 1) := dk_3 (dk_at dksX3_isLetter_0 16 rfl rfl)
theorem dX3_isLetter_17 : decode cX3_isLetter 17 = .ok (.ireturn, 1) := dk_172 (dk_at dksX3_isLetter_0 17 rfl rfl)
abbrev cX3_takes : ByteArray := prog_4_method_3_code
def yX3_takes : MethodName := ⟨RX3, "takes", "(C)Z"⟩
def dkwX3_takes_1 : List UInt8 := [180, 0, 14, 27, 182, 0, 50, 87, 28, 172]
abbrev dktX3_takes_1 : List UInt8 := dkwX3_takes_1 ++ []
def dkwX3_takes_0 : List UInt8 := [42, 180, 0, 14, 182, 0, 49, 16, 20, 162, 0, 7, 4, 167, 0, 4, 3, 61, 28, 153, 0, 12, 42]
abbrev dktX3_takes_0 : List UInt8 := dkwX3_takes_0 ++ dktX3_takes_1
theorem dksX3_takes_0 : cX3_takes.data.toList.drop 0 = dktX3_takes_0 := by decide +kernel
theorem dksX3_takes_1 : cX3_takes.data.toList.drop 23 = dktX3_takes_1 := dk_seg dksX3_takes_0 23 rfl rfl
theorem dX3_takes_0 : decode cX3_takes 0 = .ok (.aload_n 0, 1) := dk_42 (dk_at dksX3_takes_0 0 rfl rfl)
theorem dX3_takes_1 : decode cX3_takes 1 = .ok (.getfield 14, 3) := dk_180 0 14 (dk_at dksX3_takes_0 1 rfl rfl)
theorem dX3_takes_4 : decode cX3_takes 4 = .ok (.invokevirtual 49, 3) := dk_182 0 49 (dk_at dksX3_takes_0 4 rfl rfl)
theorem dX3_takes_7 : decode cX3_takes 7 = .ok (.bipush 20, 2) := dk_16 20 (dk_at dksX3_takes_0 7 rfl rfl)
theorem dX3_takes_9 : decode cX3_takes 9 = .ok (.if_icmp .ge 7, 3) := dk_162 0 7 (dk_at dksX3_takes_0 9 rfl rfl)
theorem dX3_takes_12 : decode cX3_takes 12 = .ok (.iconst 1, 1) := dk_4 (dk_at dksX3_takes_0 12 rfl rfl)
theorem dX3_takes_13 : decode cX3_takes 13 = .ok (.goto 4, 3) := dk_167 0 4 (dk_at dksX3_takes_0 13 rfl rfl)
theorem dX3_takes_16 : decode cX3_takes 16 = .ok (.iconst 0, 1) := dk_3 (dk_at dksX3_takes_0 16 rfl rfl)
theorem dX3_takes_17 : decode cX3_takes 17 = .ok (.istore_n 2, 1) := dk_61 (dk_at dksX3_takes_0 17 rfl rfl)
theorem dX3_takes_18 : decode cX3_takes 18 = .ok (.iload_n 2, 1) := dk_28 (dk_at dksX3_takes_0 18 rfl rfl)
theorem dX3_takes_19 : decode cX3_takes 19 = .ok (.ifCond .eq 12, 3) := dk_153 0 12 (dk_at dksX3_takes_0 19 rfl rfl)
theorem dX3_takes_22 : decode cX3_takes 22 = .ok (.aload_n 0, 1) := dk_42 (dk_at dksX3_takes_0 22 rfl rfl)
theorem dX3_takes_23 : decode cX3_takes 23 = .ok (.getfield 14, 3) := dk_180 0 14 (dk_at dksX3_takes_1 0 rfl rfl)
theorem dX3_takes_26 : decode cX3_takes 26 = .ok (.iload_n 1, 1) := dk_27 (dk_at dksX3_takes_1 3 rfl rfl)
theorem dX3_takes_27 : decode cX3_takes 27 = .ok (.invokevirtual 50, 3) := dk_182 0 50 (dk_at dksX3_takes_1 4 rfl rfl)
theorem dX3_takes_30 : decode cX3_takes 30 = .ok (.pop, 1) := dk_87 (dk_at dksX3_takes_1 7 rfl rfl)
theorem dX3_takes_31 : decode cX3_takes 31 = .ok (.iload_n 2, 1) := dk_28 (dk_at dksX3_takes_1 8 rfl rfl)
theorem dX3_takes_32 : decode cX3_takes 32 = .ok (.ireturn, 1) := dk_172 (dk_at dksX3_takes_1 9 rfl rfl)
abbrev cX3_isRun : ByteArray := prog_4_method_4_code
def yX3_isRun : MethodName := ⟨RX3, "isRun", "(Ljava/lang/CharSequence;)Z"⟩
def dkwX3_isRun_2 : List UInt8 := [4, 167, 0, 4, 3, 172]
abbrev dktX3_isRun_2 : List UInt8 := dkwX3_isRun_2 ++ []
def dkwX3_isRun_1 : List UInt8 := [180, 0, 20, 158, 0, 25, 43, 42, 180, 0, 20, 4, 100, 185, 0, 30, 2, 0, 184, 0, 34, 153, 0, 7]
abbrev dktX3_isRun_1 : List UInt8 := dkwX3_isRun_1 ++ dktX3_isRun_2
def dkwX3_isRun_0 : List UInt8 := [43, 42, 180, 0, 20, 185, 0, 30, 2, 0, 16, 48, 100, 5, 16, 9, 184, 0, 54, 153, 0, 32, 42]
abbrev dktX3_isRun_0 : List UInt8 := dkwX3_isRun_0 ++ dktX3_isRun_1
theorem dksX3_isRun_0 : cX3_isRun.data.toList.drop 0 = dktX3_isRun_0 := by decide +kernel
theorem dksX3_isRun_1 : cX3_isRun.data.toList.drop 23 = dktX3_isRun_1 := dk_seg dksX3_isRun_0 23 rfl rfl
theorem dksX3_isRun_2 : cX3_isRun.data.toList.drop 47 = dktX3_isRun_2 := dk_seg dksX3_isRun_1 24 rfl rfl
theorem dX3_isRun_0 : decode cX3_isRun 0 = .ok (.aload_n 1, 1) := dk_43 (dk_at dksX3_isRun_0 0 rfl rfl)
theorem dX3_isRun_1 : decode cX3_isRun 1 = .ok (.aload_n 0, 1) := dk_42 (dk_at dksX3_isRun_0 1 rfl rfl)
theorem dX3_isRun_2 : decode cX3_isRun 2 = .ok (.getfield 20, 3) := dk_180 0 20 (dk_at dksX3_isRun_0 2 rfl rfl)
theorem dX3_isRun_5 : decode cX3_isRun 5 = .ok (.invokeinterface 30 2, 5) := by decide +kernel
theorem dX3_isRun_10 : decode cX3_isRun 10 = .ok (.bipush 48, 2) := dk_16 48 (dk_at dksX3_isRun_0 10 rfl rfl)
theorem dX3_isRun_12 : decode cX3_isRun 12 = .ok (.isub, 1) := dk_100 (dk_at dksX3_isRun_0 12 rfl rfl)
theorem dX3_isRun_13 : decode cX3_isRun 13 = .ok (.iconst 2, 1) := dk_5 (dk_at dksX3_isRun_0 13 rfl rfl)
theorem dX3_isRun_14 : decode cX3_isRun 14 = .ok (.bipush 9, 2) := dk_16 9 (dk_at dksX3_isRun_0 14 rfl rfl)
theorem dX3_isRun_16 : decode cX3_isRun 16 = .ok (.invokestatic 54, 3) := dk_184 0 54 (dk_at dksX3_isRun_0 16 rfl rfl)
theorem dX3_isRun_19 : decode cX3_isRun 19 = .ok (.ifCond .eq 32, 3) := dk_153 0 32 (dk_at dksX3_isRun_0 19 rfl rfl)
theorem dX3_isRun_22 : decode cX3_isRun 22 = .ok (.aload_n 0, 1) := dk_42 (dk_at dksX3_isRun_0 22 rfl rfl)
theorem dX3_isRun_23 : decode cX3_isRun 23 = .ok (.getfield 20, 3) := dk_180 0 20 (dk_at dksX3_isRun_1 0 rfl rfl)
theorem dX3_isRun_26 : decode cX3_isRun 26 = .ok (.ifCond .le 25, 3) := dk_158 0 25 (dk_at dksX3_isRun_1 3 rfl rfl)
theorem dX3_isRun_29 : decode cX3_isRun 29 = .ok (.aload_n 1, 1) := dk_43 (dk_at dksX3_isRun_1 6 rfl rfl)
theorem dX3_isRun_30 : decode cX3_isRun 30 = .ok (.aload_n 0, 1) := dk_42 (dk_at dksX3_isRun_1 7 rfl rfl)
theorem dX3_isRun_31 : decode cX3_isRun 31 = .ok (.getfield 20, 3) := dk_180 0 20 (dk_at dksX3_isRun_1 8 rfl rfl)
theorem dX3_isRun_34 : decode cX3_isRun 34 = .ok (.iconst 1, 1) := dk_4 (dk_at dksX3_isRun_1 11 rfl rfl)
theorem dX3_isRun_35 : decode cX3_isRun 35 = .ok (.isub, 1) := dk_100 (dk_at dksX3_isRun_1 12 rfl rfl)
theorem dX3_isRun_36 : decode cX3_isRun 36 = .ok (.invokeinterface 30 2, 5) := by decide +kernel
theorem dX3_isRun_41 : decode cX3_isRun 41 = .ok (.invokestatic 34, 3) := dk_184 0 34 (dk_at dksX3_isRun_1 18 rfl rfl)
theorem dX3_isRun_44 : decode cX3_isRun 44 = .ok (.ifCond .eq 7, 3) := dk_153 0 7 (dk_at dksX3_isRun_1 21 rfl rfl)
theorem dX3_isRun_47 : decode cX3_isRun 47 = .ok (.iconst 1, 1) := dk_4 (dk_at dksX3_isRun_2 0 rfl rfl)
theorem dX3_isRun_48 : decode cX3_isRun 48 = .ok (.goto 4, 3) := dk_167 0 4 (dk_at dksX3_isRun_2 1 rfl rfl)
theorem dX3_isRun_51 : decode cX3_isRun 51 = .ok (.iconst 0, 1) := dk_3 (dk_at dksX3_isRun_2 4 rfl rfl)
theorem dX3_isRun_52 : decode cX3_isRun 52 = .ok (.ireturn, 1) := dk_172 (dk_at dksX3_isRun_2 5 rfl rfl)
abbrev cX3_repeats : ByteArray := prog_4_method_5_code
def yX3_repeats : MethodName := ⟨RX3, "repeats", "(I)Z"⟩
def dkwX3_repeats_2 : List UInt8 := [4, 100, 182, 0, 58, 182, 0, 50, 87, 132, 3, 1, 167, 255, 220, 28, 172]
abbrev dktX3_repeats_2 : List UInt8 := dkwX3_repeats_2 ++ []
def dkwX3_repeats_1 : List UInt8 := [29, 27, 162, 0, 37, 28, 153, 0, 33, 42, 180, 0, 14, 42, 180, 0, 14, 42, 180, 0, 14, 182, 0, 49]
abbrev dktX3_repeats_1 : List UInt8 := dkwX3_repeats_1 ++ dktX3_repeats_2
def dkwX3_repeats_0 : List UInt8 := [42, 180, 0, 14, 182, 0, 49, 27, 96, 4, 100, 16, 20, 163, 0, 7, 4, 167, 0, 4, 3, 61, 4, 62]
abbrev dktX3_repeats_0 : List UInt8 := dkwX3_repeats_0 ++ dktX3_repeats_1
theorem dksX3_repeats_0 : cX3_repeats.data.toList.drop 0 = dktX3_repeats_0 := by decide +kernel
theorem dksX3_repeats_1 : cX3_repeats.data.toList.drop 24 = dktX3_repeats_1 := dk_seg dksX3_repeats_0 24 rfl rfl
theorem dksX3_repeats_2 : cX3_repeats.data.toList.drop 48 = dktX3_repeats_2 := dk_seg dksX3_repeats_1 24 rfl rfl
theorem dX3_repeats_0 : decode cX3_repeats 0 = .ok (.aload_n 0, 1) := dk_42 (dk_at dksX3_repeats_0 0 rfl rfl)
theorem dX3_repeats_1 : decode cX3_repeats 1 = .ok (.getfield 14, 3) := dk_180 0 14 (dk_at dksX3_repeats_0 1 rfl rfl)
theorem dX3_repeats_4 : decode cX3_repeats 4 = .ok (.invokevirtual 49, 3) := dk_182 0 49 (dk_at dksX3_repeats_0 4 rfl rfl)
theorem dX3_repeats_7 : decode cX3_repeats 7 = .ok (.iload_n 1, 1) := dk_27 (dk_at dksX3_repeats_0 7 rfl rfl)
theorem dX3_repeats_8 : decode cX3_repeats 8 = .ok (.iadd, 1) := dk_96 (dk_at dksX3_repeats_0 8 rfl rfl)
theorem dX3_repeats_9 : decode cX3_repeats 9 = .ok (.iconst 1, 1) := dk_4 (dk_at dksX3_repeats_0 9 rfl rfl)
theorem dX3_repeats_10 : decode cX3_repeats 10 = .ok (.isub, 1) := dk_100 (dk_at dksX3_repeats_0 10 rfl rfl)
theorem dX3_repeats_11 : decode cX3_repeats 11 = .ok (.bipush 20, 2) := dk_16 20 (dk_at dksX3_repeats_0 11 rfl rfl)
theorem dX3_repeats_13 : decode cX3_repeats 13 = .ok (.if_icmp .gt 7, 3) := dk_163 0 7 (dk_at dksX3_repeats_0 13 rfl rfl)
theorem dX3_repeats_16 : decode cX3_repeats 16 = .ok (.iconst 1, 1) := dk_4 (dk_at dksX3_repeats_0 16 rfl rfl)
theorem dX3_repeats_17 : decode cX3_repeats 17 = .ok (.goto 4, 3) := dk_167 0 4 (dk_at dksX3_repeats_0 17 rfl rfl)
theorem dX3_repeats_20 : decode cX3_repeats 20 = .ok (.iconst 0, 1) := dk_3 (dk_at dksX3_repeats_0 20 rfl rfl)
theorem dX3_repeats_21 : decode cX3_repeats 21 = .ok (.istore_n 2, 1) := dk_61 (dk_at dksX3_repeats_0 21 rfl rfl)
theorem dX3_repeats_22 : decode cX3_repeats 22 = .ok (.iconst 1, 1) := dk_4 (dk_at dksX3_repeats_0 22 rfl rfl)
theorem dX3_repeats_23 : decode cX3_repeats 23 = .ok (.istore_n 3, 1) := dk_62 (dk_at dksX3_repeats_0 23 rfl rfl)
theorem dX3_repeats_24 : decode cX3_repeats 24 = .ok (.iload_n 3, 1) := dk_29 (dk_at dksX3_repeats_1 0 rfl rfl)
theorem dX3_repeats_25 : decode cX3_repeats 25 = .ok (.iload_n 1, 1) := dk_27 (dk_at dksX3_repeats_1 1 rfl rfl)
theorem dX3_repeats_26 : decode cX3_repeats 26 = .ok (.if_icmp .ge 37, 3) := dk_162 0 37 (dk_at dksX3_repeats_1 2 rfl rfl)
theorem dX3_repeats_29 : decode cX3_repeats 29 = .ok (.iload_n 2, 1) := dk_28 (dk_at dksX3_repeats_1 5 rfl rfl)
theorem dX3_repeats_30 : decode cX3_repeats 30 = .ok (.ifCond .eq 33, 3) := dk_153 0 33 (dk_at dksX3_repeats_1 6 rfl rfl)
theorem dX3_repeats_33 : decode cX3_repeats 33 = .ok (.aload_n 0, 1) := dk_42 (dk_at dksX3_repeats_1 9 rfl rfl)
theorem dX3_repeats_34 : decode cX3_repeats 34 = .ok (.getfield 14, 3) := dk_180 0 14 (dk_at dksX3_repeats_1 10 rfl rfl)
theorem dX3_repeats_37 : decode cX3_repeats 37 = .ok (.aload_n 0, 1) := dk_42 (dk_at dksX3_repeats_1 13 rfl rfl)
theorem dX3_repeats_38 : decode cX3_repeats 38 = .ok (.getfield 14, 3) := dk_180 0 14 (dk_at dksX3_repeats_1 14 rfl rfl)
theorem dX3_repeats_41 : decode cX3_repeats 41 = .ok (.aload_n 0, 1) := dk_42 (dk_at dksX3_repeats_1 17 rfl rfl)
theorem dX3_repeats_42 : decode cX3_repeats 42 = .ok (.getfield 14, 3) := dk_180 0 14 (dk_at dksX3_repeats_1 18 rfl rfl)
theorem dX3_repeats_45 : decode cX3_repeats 45 = .ok (.invokevirtual 49, 3) := dk_182 0 49 (dk_at dksX3_repeats_1 21 rfl rfl)
theorem dX3_repeats_48 : decode cX3_repeats 48 = .ok (.iconst 1, 1) := dk_4 (dk_at dksX3_repeats_2 0 rfl rfl)
theorem dX3_repeats_49 : decode cX3_repeats 49 = .ok (.isub, 1) := dk_100 (dk_at dksX3_repeats_2 1 rfl rfl)
theorem dX3_repeats_50 : decode cX3_repeats 50 = .ok (.invokevirtual 58, 3) := dk_182 0 58 (dk_at dksX3_repeats_2 2 rfl rfl)
theorem dX3_repeats_53 : decode cX3_repeats 53 = .ok (.invokevirtual 50, 3) := dk_182 0 50 (dk_at dksX3_repeats_2 5 rfl rfl)
theorem dX3_repeats_56 : decode cX3_repeats 56 = .ok (.pop, 1) := dk_87 (dk_at dksX3_repeats_2 8 rfl rfl)
theorem dX3_repeats_57 : decode cX3_repeats 57 = .ok (.iinc 3 1, 3) := dk_132 3 1 (dk_at dksX3_repeats_2 9 rfl rfl)
theorem dX3_repeats_60 : decode cX3_repeats 60 = .ok (.goto (-36), 3) := dk_167 255 220 (dk_at dksX3_repeats_2 12 rfl rfl)
theorem dX3_repeats_63 : decode cX3_repeats 63 = .ok (.iload_n 2, 1) := dk_28 (dk_at dksX3_repeats_2 15 rfl rfl)
theorem dX3_repeats_64 : decode cX3_repeats 64 = .ok (.ireturn, 1) := dk_172 (dk_at dksX3_repeats_2 16 rfl rfl)
theorem q97 : (Jvm.Cond.initialized "RiverWords$Reader") ∈ lw_all := lw_g (lw_at lw_m1 17 rfl) rfl
theorem q438 : (Jvm.Cond.instantiable "RiverWords$Reader" (2 : Nat)) ∈ lw_all := lw_g (lw_at lw_m2 118 rfl) rfl
theorem q440 : (Jvm.Cond.instanceMethod ({ cls := "RiverWords$Reader", name := "<init>", desc := "(Ljava/lang/CharSequence;)V" } : Jvm.MethodName)) ∈ lw_all := lw_g (lw_at lw_m2 120 rfl) rfl
theorem q441 : (Jvm.Cond.code ({ cls := "RiverWords$Reader", name := "<init>", desc := "(Ljava/lang/CharSequence;)V" } : Jvm.MethodName) prog_4_method_1_code (3 : Nat) (Option.none : Option Jvm.ClassFile.FieldType)) ∈ lw_all := lw_g (lw_at lw_m2 121 rfl) rfl
theorem q442 : (Jvm.Cond.methodLink "RiverWords$Reader" (3 : Nat) ({ cls := "java/lang/Object", name := "<init>", desc := "()V" } : Jvm.MethodName)) ∈ lw_all := lw_g (lw_at lw_m2 122 rfl) rfl
theorem q443 : (Jvm.Cond.classLink "RiverWords$Reader" (9 : Nat) "java/lang/StringBuilder") ∈ lw_all := lw_g (lw_at lw_m2 123 rfl) rfl
theorem q444 : (Jvm.Cond.methodLink "RiverWords$Reader" (11 : Nat) ({ cls := "java/lang/StringBuilder", name := "<init>", desc := "(I)V" } : Jvm.MethodName)) ∈ lw_all := lw_g (lw_at lw_m2 124 rfl) rfl
theorem q445 : (Jvm.Cond.interfaceEntry "RiverWords$Reader" (24 : Nat)) ∈ lw_tbl := lw_at lw_m2 125 rfl
theorem q446 : (Jvm.Cond.methodLink "RiverWords$Reader" (24 : Nat) ({ cls := "java/lang/CharSequence", name := "length", desc := "()I" } : Jvm.MethodName)) ∈ lw_all := lw_g (lw_at lw_m2 126 rfl) rfl
theorem q463 : (Jvm.Cond.interfaceEntry "RiverWords$Reader" (30 : Nat)) ∈ lw_tbl := lw_at lw_m2 143 rfl
theorem q464 : (Jvm.Cond.methodLink "RiverWords$Reader" (30 : Nat) ({ cls := "java/lang/CharSequence", name := "charAt", desc := "(I)C" } : Jvm.MethodName)) ∈ lw_all := lw_g (lw_at lw_m2 144 rfl) rfl
theorem q490 : (Jvm.Cond.methodLink "RiverWords$Reader" (34 : Nat) ({ cls := "RiverWords$Reader", name := "isLetter", desc := "(C)Z" } : Jvm.MethodName)) ∈ lw_all := lw_g (lw_at lw_m2 170 rfl) rfl
theorem q491 : (Jvm.Cond.static ({ cls := "RiverWords$Reader", name := "isLetter", desc := "(C)Z" } : Jvm.MethodName)) ∈ lw_all := lw_g (lw_at lw_m2 171 rfl) rfl
theorem q492 : (Jvm.Cond.code ({ cls := "RiverWords$Reader", name := "isLetter", desc := "(C)Z" } : Jvm.MethodName) prog_4_method_2_code (1 : Nat) (Option.some Jvm.ClassFile.FieldType.boolean)) ∈ lw_all := lw_g (lw_at lw_m2 172 rfl) rfl
theorem q493 : (Jvm.Cond.methodLink "RiverWords$Reader" (38 : Nat) ({ cls := "RiverWords$Reader", name := "takes", desc := "(C)Z" } : Jvm.MethodName)) ∈ lw_all := lw_g (lw_at lw_m2 173 rfl) rfl
theorem q494 : (Jvm.Cond.privateMethod ({ cls := "RiverWords$Reader", name := "takes", desc := "(C)Z" } : Jvm.MethodName)) ∈ lw_tbl := lw_at lw_m2 174 rfl
theorem q495 : (Jvm.Cond.instanceMethod ({ cls := "RiverWords$Reader", name := "takes", desc := "(C)Z" } : Jvm.MethodName)) ∈ lw_all := lw_g (lw_at lw_m2 175 rfl) rfl
theorem q496 : (Jvm.Cond.code ({ cls := "RiverWords$Reader", name := "takes", desc := "(C)Z" } : Jvm.MethodName) prog_4_method_3_code (3 : Nat) (Option.some Jvm.ClassFile.FieldType.boolean)) ∈ lw_all := lw_g (lw_at lw_m2 176 rfl) rfl
theorem q497 : (Jvm.Cond.methodLink "RiverWords$Reader" (49 : Nat) ({ cls := "java/lang/StringBuilder", name := "length", desc := "()I" } : Jvm.MethodName)) ∈ lw_all := lw_g (lw_at lw_m2 177 rfl) rfl
theorem q498 : (Jvm.Cond.methodLink "RiverWords$Reader" (50 : Nat) ({ cls := "java/lang/StringBuilder", name := "append", desc := "(C)Ljava/lang/StringBuilder;" } : Jvm.MethodName)) ∈ lw_all := lw_g (lw_at lw_m2 178 rfl) rfl
theorem q499 : (Jvm.Cond.methodLink "RiverWords$Reader" (41 : Nat) ({ cls := "RiverWords$Reader", name := "isRun", desc := "(Ljava/lang/CharSequence;)Z" } : Jvm.MethodName)) ∈ lw_all := lw_g (lw_at lw_m2 179 rfl) rfl
theorem q500 : (Jvm.Cond.privateMethod ({ cls := "RiverWords$Reader", name := "isRun", desc := "(Ljava/lang/CharSequence;)Z" } : Jvm.MethodName)) ∈ lw_tbl := lw_at lw_m2 180 rfl
theorem q501 : (Jvm.Cond.instanceMethod ({ cls := "RiverWords$Reader", name := "isRun", desc := "(Ljava/lang/CharSequence;)Z" } : Jvm.MethodName)) ∈ lw_all := lw_g (lw_at lw_m2 181 rfl) rfl
theorem q502 : (Jvm.Cond.code ({ cls := "RiverWords$Reader", name := "isRun", desc := "(Ljava/lang/CharSequence;)Z" } : Jvm.MethodName) prog_4_method_4_code (2 : Nat) (Option.some Jvm.ClassFile.FieldType.boolean)) ∈ lw_all := lw_g (lw_at lw_m2 182 rfl) rfl
theorem q503 : (Jvm.Cond.methodLinkNest "RiverWords$Reader" (54 : Nat) ({ cls := "RiverWords", name := "in", desc := "(III)Z" } : Jvm.MethodName) "RiverWords") ∈ lw_tbl := lw_at lw_m2 183 rfl
theorem q504 : (Jvm.Cond.methodLink "RiverWords$Reader" (45 : Nat) ({ cls := "RiverWords$Reader", name := "repeats", desc := "(I)Z" } : Jvm.MethodName)) ∈ lw_all := lw_g (lw_at lw_m2 184 rfl) rfl
theorem q505 : (Jvm.Cond.privateMethod ({ cls := "RiverWords$Reader", name := "repeats", desc := "(I)Z" } : Jvm.MethodName)) ∈ lw_tbl := lw_at lw_m2 185 rfl
theorem q506 : (Jvm.Cond.instanceMethod ({ cls := "RiverWords$Reader", name := "repeats", desc := "(I)Z" } : Jvm.MethodName)) ∈ lw_all := lw_g (lw_at lw_m2 186 rfl) rfl
theorem q507 : (Jvm.Cond.code ({ cls := "RiverWords$Reader", name := "repeats", desc := "(I)Z" } : Jvm.MethodName) prog_4_method_5_code (4 : Nat) (Option.some Jvm.ClassFile.FieldType.boolean)) ∈ lw_all := lw_g (lw_at lw_m2 187 rfl) rfl
theorem q508 : (Jvm.Cond.methodLink "RiverWords$Reader" (58 : Nat) ({ cls := "java/lang/StringBuilder", name := "charAt", desc := "(I)C" } : Jvm.MethodName)) ∈ lw_all := lw_g (lw_at lw_m2 188 rfl) rfl
theorem q509 : (Jvm.Cond.fieldLink "RiverWords$Reader" (14 : Nat) "RiverWords$Reader" "word" "Ljava/lang/StringBuilder;") ∈ lw_all := lw_g (lw_at lw_m2 189 rfl) rfl
theorem q511 : (Jvm.Cond.fieldLink "RiverWords$Reader" (20 : Nat) "RiverWords$Reader" "place" "I") ∈ lw_all := lw_g (lw_at lw_m2 191 rfl) rfl
theorem q513 : (Jvm.Cond.laysFinal "RiverWords$Reader" "RiverWords$Reader" "word" "Ljava/lang/StringBuilder;") ∈ lw_all := lw_g (lw_at lw_m2 193 rfl) rfl
theorem q514 : (Jvm.Cond.soleField "RiverWords$Reader" "word") ∈ lw_all := lw_g (lw_at lw_m2 194 rfl) rfl
theorem q515 : (Jvm.Cond.lays "RiverWords$Reader" "RiverWords$Reader" "place" "I") ∈ lw_all := lw_g (lw_at lw_m2 195 rfl) rfl
theorem q516 : (Jvm.Cond.soleField "RiverWords$Reader" "place") ∈ lw_all := lw_g (lw_at lw_m2 196 rfl) rfl
theorem q517 : (Jvm.Cond.superclass "RiverWords$Reader" "java/lang/Object") ∈ lw_all := lw_g (lw_at lw_m2 197 rfl) rfl
theorem q644 : (Jvm.Cond.selects "RiverWords$Reader" ({ cls := "java/lang/Object", name := "getClass", desc := "()Ljava/lang/Class;" } : Jvm.MethodName) ({ cls := "java/lang/Object", name := "getClass", desc := "()Ljava/lang/Class;" } : Jvm.MethodName)) ∈ lw_all := lw_g (lw_at lw_m3 84 rfl) rfl
theorem q1653 : (Jvm.Cond.castable "RiverWords$Reader" "java/lang/Object") ∈ lw_tbl := lw_at lw_m7 133 rfl
theorem in_X3 : ∀ w ∈ wsX30, w ∈ lw_all := lw_in wsX30 [513, 515] (by decide +kernel) (by decide +kernel)
/-! RiverWords$Road -/
set_option maxRecDepth 100000
def RX4 : String := "RiverWords$Road"
def TX4 : u_T := fun k => match k with
  | 0 => ("RiverWords$Road", "word", "Ljava/lang/String;", false)
  | 1 => ("RiverWords$Road", "table", "LRiverWords$Table;", false)
  | _ => ("RiverWords$Road", "this$0", "LRiverWords;", true)
def tyX4 : Nat → FieldType := fun k => match k with
  | 0 => .object "java/lang/String"
  | 1 => .object "RiverWords$Table"
  | _ => .object "RiverWords"
abbrev wsX40 : List Cond := u_ws RX4 TX4 3
theorem nmX4 : ∀ a, a < 3 → ∀ b, b < 3 → a ≠ b → (TX4 a).2.1 ≠ (TX4 b).2.1 := by decide +kernel
theorem tyX4_ok : ∀ k, k < 3 → parseFieldDescriptor (TX4 k).2.2.1 = some (tyX4 k) := by decide +kernel
abbrev cX4_init : ByteArray := prog_5_method_1_code
def yX4_init : MethodName := ⟨RX4, "<init>", "(LRiverWords;Ljava/lang/String;)V"⟩
def dkwX4_init_0 : List UInt8 := [42, 43, 181, 0, 1, 42, 183, 0, 7, 42, 44, 182, 0, 13, 177]
abbrev dktX4_init_0 : List UInt8 := dkwX4_init_0 ++ []
theorem dksX4_init_0 : cX4_init.data.toList.drop 0 = dktX4_init_0 := by decide +kernel
theorem dX4_init_0 : decode cX4_init 0 = .ok (.aload_n 0, 1) := dk_42 (dk_at dksX4_init_0 0 rfl rfl)
theorem dX4_init_1 : decode cX4_init 1 = .ok (.aload_n 1, 1) := dk_43 (dk_at dksX4_init_0 1 rfl rfl)
theorem dX4_init_2 : decode cX4_init 2 = .ok (.putfield 1, 3) := dk_181 0 1 (dk_at dksX4_init_0 2 rfl rfl)
theorem dX4_init_5 : decode cX4_init 5 = .ok (.aload_n 0, 1) := dk_42 (dk_at dksX4_init_0 5 rfl rfl)
theorem dX4_init_6 : decode cX4_init 6 = .ok (.invokespecial 7, 3) := dk_183 0 7 (dk_at dksX4_init_0 6 rfl rfl)
theorem dX4_init_9 : decode cX4_init 9 = .ok (.aload_n 0, 1) := dk_42 (dk_at dksX4_init_0 9 rfl rfl)
theorem dX4_init_10 : decode cX4_init 10 = .ok (.aload_n 2, 1) := dk_44 (dk_at dksX4_init_0 10 rfl rfl)
theorem dX4_init_11 : decode cX4_init 11 = .ok (.invokevirtual 13, 3) := dk_182 0 13 (dk_at dksX4_init_0 11 rfl rfl)
theorem dX4_init_14 : decode cX4_init 14 = .ok (.return_, 1) := dk_177 (dk_at dksX4_init_0 14 rfl rfl)
abbrev cX4_lay : ByteArray := prog_5_method_2_code
def yX4_lay : MethodName := ⟨RX4, "lay", "(Ljava/lang/String;)V"⟩
def dkwX4_lay_0 : List UInt8 := [42, 43, 181, 0, 17, 42, 42, 180, 0, 1, 43, 182, 0, 21, 181, 0, 27, 177]
abbrev dktX4_lay_0 : List UInt8 := dkwX4_lay_0 ++ []
theorem dksX4_lay_0 : cX4_lay.data.toList.drop 0 = dktX4_lay_0 := by decide +kernel
theorem dX4_lay_0 : decode cX4_lay 0 = .ok (.aload_n 0, 1) := dk_42 (dk_at dksX4_lay_0 0 rfl rfl)
theorem dX4_lay_1 : decode cX4_lay 1 = .ok (.aload_n 1, 1) := dk_43 (dk_at dksX4_lay_0 1 rfl rfl)
theorem dX4_lay_2 : decode cX4_lay 2 = .ok (.putfield 17, 3) := dk_181 0 17 (dk_at dksX4_lay_0 2 rfl rfl)
theorem dX4_lay_5 : decode cX4_lay 5 = .ok (.aload_n 0, 1) := dk_42 (dk_at dksX4_lay_0 5 rfl rfl)
theorem dX4_lay_6 : decode cX4_lay 6 = .ok (.aload_n 0, 1) := dk_42 (dk_at dksX4_lay_0 6 rfl rfl)
theorem dX4_lay_7 : decode cX4_lay 7 = .ok (.getfield 1, 3) := dk_180 0 1 (dk_at dksX4_lay_0 7 rfl rfl)
theorem dX4_lay_10 : decode cX4_lay 10 = .ok (.aload_n 1, 1) := dk_43 (dk_at dksX4_lay_0 10 rfl rfl)
theorem dX4_lay_11 : decode cX4_lay 11 = .ok (.invokevirtual 21, 3) := dk_182 0 21 (dk_at dksX4_lay_0 11 rfl rfl)
theorem dX4_lay_14 : decode cX4_lay 14 = .ok (.putfield 27, 3) := dk_181 0 27 (dk_at dksX4_lay_0 14 rfl rfl)
theorem dX4_lay_17 : decode cX4_lay 17 = .ok (.return_, 1) := dk_177 (dk_at dksX4_lay_0 17 rfl rfl)
abbrev cX4_word : ByteArray := prog_5_method_3_code
def yX4_word : MethodName := ⟨RX4, "word", "()Ljava/lang/CharSequence;"⟩
theorem dX4_word_0 : decode cX4_word 0 = .ok (.aload_n 0, 1) := by decide +kernel
theorem dX4_word_1 : decode cX4_word 1 = .ok (.getfield 17, 3) := by decide +kernel
theorem dX4_word_4 : decode cX4_word 4 = .ok (.areturn, 1) := by decide +kernel
abbrev cX4_period : ByteArray := prog_5_method_4_code
def yX4_period : MethodName := ⟨RX4, "period", "()I"⟩
def dkwX4_period_1 : List UInt8 := [167, 255, 234, 27, 172]
abbrev dktX4_period_1 : List UInt8 := dkwX4_period_1 ++ []
def dkwX4_period_0 : List UInt8 := [4, 60, 42, 180, 0, 17, 27, 3, 184, 0, 31, 42, 180, 0, 17, 182, 0, 37, 162, 0, 9, 132, 1, 1]
abbrev dktX4_period_0 : List UInt8 := dkwX4_period_0 ++ dktX4_period_1
theorem dksX4_period_0 : cX4_period.data.toList.drop 0 = dktX4_period_0 := by decide +kernel
theorem dksX4_period_1 : cX4_period.data.toList.drop 24 = dktX4_period_1 := dk_seg dksX4_period_0 24 rfl rfl
theorem dX4_period_0 : decode cX4_period 0 = .ok (.iconst 1, 1) := dk_4 (dk_at dksX4_period_0 0 rfl rfl)
theorem dX4_period_1 : decode cX4_period 1 = .ok (.istore_n 1, 1) := dk_60 (dk_at dksX4_period_0 1 rfl rfl)
theorem dX4_period_2 : decode cX4_period 2 = .ok (.aload_n 0, 1) := dk_42 (dk_at dksX4_period_0 2 rfl rfl)
theorem dX4_period_3 : decode cX4_period 3 = .ok (.getfield 17, 3) := dk_180 0 17 (dk_at dksX4_period_0 3 rfl rfl)
theorem dX4_period_6 : decode cX4_period 6 = .ok (.iload_n 1, 1) := dk_27 (dk_at dksX4_period_0 6 rfl rfl)
theorem dX4_period_7 : decode cX4_period 7 = .ok (.iconst 0, 1) := dk_3 (dk_at dksX4_period_0 7 rfl rfl)
theorem dX4_period_8 : decode cX4_period 8 = .ok (.invokestatic 31, 3) := dk_184 0 31 (dk_at dksX4_period_0 8 rfl rfl)
theorem dX4_period_11 : decode cX4_period 11 = .ok (.aload_n 0, 1) := dk_42 (dk_at dksX4_period_0 11 rfl rfl)
theorem dX4_period_12 : decode cX4_period 12 = .ok (.getfield 17, 3) := dk_180 0 17 (dk_at dksX4_period_0 12 rfl rfl)
theorem dX4_period_15 : decode cX4_period 15 = .ok (.invokevirtual 37, 3) := dk_182 0 37 (dk_at dksX4_period_0 15 rfl rfl)
theorem dX4_period_18 : decode cX4_period 18 = .ok (.if_icmp .ge 9, 3) := dk_162 0 9 (dk_at dksX4_period_0 18 rfl rfl)
theorem dX4_period_21 : decode cX4_period 21 = .ok (.iinc 1 1, 3) := dk_132 1 1 (dk_at dksX4_period_0 21 rfl rfl)
theorem dX4_period_24 : decode cX4_period 24 = .ok (.goto (-22), 3) := dk_167 255 234 (dk_at dksX4_period_1 0 rfl rfl)
theorem dX4_period_27 : decode cX4_period 27 = .ok (.iload_n 1, 1) := dk_27 (dk_at dksX4_period_1 3 rfl rfl)
theorem dX4_period_28 : decode cX4_period 28 = .ok (.ireturn, 1) := dk_172 (dk_at dksX4_period_1 4 rfl rfl)
theorem q98 : (Jvm.Cond.initialized "RiverWords$Road") ∈ lw_all := lw_g (lw_at lw_m1 18 rfl) rfl
theorem q585 : (Jvm.Cond.instantiable "RiverWords$Road" (3 : Nat)) ∈ lw_all := lw_g (lw_at lw_m3 25 rfl) rfl
theorem q587 : (Jvm.Cond.instanceMethod ({ cls := "RiverWords$Road", name := "<init>", desc := "(LRiverWords;Ljava/lang/String;)V" } : Jvm.MethodName)) ∈ lw_all := lw_g (lw_at lw_m3 27 rfl) rfl
theorem q588 : (Jvm.Cond.code ({ cls := "RiverWords$Road", name := "<init>", desc := "(LRiverWords;Ljava/lang/String;)V" } : Jvm.MethodName) prog_5_method_1_code (3 : Nat) (Option.none : Option Jvm.ClassFile.FieldType)) ∈ lw_all := lw_g (lw_at lw_m3 28 rfl) rfl
theorem q589 : (Jvm.Cond.methodLink "RiverWords$Road" (7 : Nat) ({ cls := "java/lang/Object", name := "<init>", desc := "()V" } : Jvm.MethodName)) ∈ lw_all := lw_g (lw_at lw_m3 29 rfl) rfl
theorem q590 : (Jvm.Cond.methodLink "RiverWords$Road" (13 : Nat) ({ cls := "RiverWords$Road", name := "lay", desc := "(Ljava/lang/String;)V" } : Jvm.MethodName)) ∈ lw_all := lw_g (lw_at lw_m3 30 rfl) rfl
theorem q591 : (Jvm.Cond.instanceMethod ({ cls := "RiverWords$Road", name := "lay", desc := "(Ljava/lang/String;)V" } : Jvm.MethodName)) ∈ lw_all := lw_g (lw_at lw_m3 31 rfl) rfl
theorem q592 : (Jvm.Cond.selects "RiverWords$Road" ({ cls := "RiverWords$Road", name := "lay", desc := "(Ljava/lang/String;)V" } : Jvm.MethodName) ({ cls := "RiverWords$Road", name := "lay", desc := "(Ljava/lang/String;)V" } : Jvm.MethodName)) ∈ lw_all := lw_g (lw_at lw_m3 32 rfl) rfl
theorem q593 : (Jvm.Cond.code ({ cls := "RiverWords$Road", name := "lay", desc := "(Ljava/lang/String;)V" } : Jvm.MethodName) prog_5_method_2_code (2 : Nat) (Option.none : Option Jvm.ClassFile.FieldType)) ∈ lw_all := lw_g (lw_at lw_m3 33 rfl) rfl
theorem q594 : (Jvm.Cond.methodLinkNest "RiverWords$Road" (21 : Nat) ({ cls := "RiverWords", name := "tableOf", desc := "(Ljava/lang/CharSequence;)LRiverWords$Table;" } : Jvm.MethodName) "RiverWords") ∈ lw_tbl := lw_at lw_m3 34 rfl
theorem q606 : (Jvm.Cond.fieldLink "RiverWords$Road" (17 : Nat) "RiverWords$Road" "word" "Ljava/lang/String;") ∈ lw_all := lw_g (lw_at lw_m3 46 rfl) rfl
theorem q608 : (Jvm.Cond.fieldLink "RiverWords$Road" (27 : Nat) "RiverWords$Road" "table" "LRiverWords$Table;") ∈ lw_all := lw_g (lw_at lw_m3 48 rfl) rfl
theorem q610 : (Jvm.Cond.fieldLink "RiverWords$Road" (1 : Nat) "RiverWords$Road" "this$0" "LRiverWords;") ∈ lw_all := lw_g (lw_at lw_m3 50 rfl) rfl
theorem q611 : (Jvm.Cond.lays "RiverWords$Road" "RiverWords$Road" "word" "Ljava/lang/String;") ∈ lw_all := lw_g (lw_at lw_m3 51 rfl) rfl
theorem q612 : (Jvm.Cond.soleField "RiverWords$Road" "word") ∈ lw_all := lw_g (lw_at lw_m3 52 rfl) rfl
theorem q613 : (Jvm.Cond.lays "RiverWords$Road" "RiverWords$Road" "table" "LRiverWords$Table;") ∈ lw_all := lw_g (lw_at lw_m3 53 rfl) rfl
theorem q614 : (Jvm.Cond.soleField "RiverWords$Road" "table") ∈ lw_all := lw_g (lw_at lw_m3 54 rfl) rfl
theorem q615 : (Jvm.Cond.laysFinal "RiverWords$Road" "RiverWords$Road" "this$0" "LRiverWords;") ∈ lw_all := lw_g (lw_at lw_m3 55 rfl) rfl
theorem q616 : (Jvm.Cond.soleField "RiverWords$Road" "this$0") ∈ lw_all := lw_g (lw_at lw_m3 56 rfl) rfl
theorem q617 : (Jvm.Cond.superclass "RiverWords$Road" "java/lang/Object") ∈ lw_all := lw_g (lw_at lw_m3 57 rfl) rfl
theorem q645 : (Jvm.Cond.selects "RiverWords$Road" ({ cls := "java/lang/Object", name := "getClass", desc := "()Ljava/lang/Class;" } : Jvm.MethodName) ({ cls := "java/lang/Object", name := "getClass", desc := "()Ljava/lang/Class;" } : Jvm.MethodName)) ∈ lw_all := lw_g (lw_at lw_m3 85 rfl) rfl
theorem q687 : (Jvm.Cond.unhidden "RiverWords$Road" "length" "()I") ∈ lw_tbl := lw_at lw_m3 127 rfl
theorem q701 : (Jvm.Cond.castable "RiverWords$Road" "RiverWords$Worded") ∈ lw_tbl := lw_at lw_m3 141 rfl
theorem q702 : (Jvm.Cond.selects "RiverWords$Road" ({ cls := "RiverWords$Worded", name := "word", desc := "()Ljava/lang/CharSequence;" } : Jvm.MethodName) ({ cls := "RiverWords$Road", name := "word", desc := "()Ljava/lang/CharSequence;" } : Jvm.MethodName)) ∈ lw_all := lw_g (lw_at lw_m3 142 rfl) rfl
theorem q703 : (Jvm.Cond.unhidden "RiverWords$Road" "word" "()Ljava/lang/CharSequence;") ∈ lw_tbl := lw_at lw_m3 143 rfl
theorem q704 : (Jvm.Cond.instanceMethod ({ cls := "RiverWords$Road", name := "word", desc := "()Ljava/lang/CharSequence;" } : Jvm.MethodName)) ∈ lw_all := lw_g (lw_at lw_m3 144 rfl) rfl
theorem q705 : (Jvm.Cond.publicMethod ({ cls := "RiverWords$Road", name := "word", desc := "()Ljava/lang/CharSequence;" } : Jvm.MethodName)) ∈ lw_tbl := lw_at lw_m3 145 rfl
theorem q706 : (Jvm.Cond.code ({ cls := "RiverWords$Road", name := "word", desc := "()Ljava/lang/CharSequence;" } : Jvm.MethodName) prog_5_method_3_code (1 : Nat) (Option.some (Jvm.ClassFile.FieldType.object "java/lang/CharSequence"))) ∈ lw_all := lw_g (lw_at lw_m3 146 rfl) rfl
theorem q710 : (Jvm.Cond.unhidden "RiverWords$Road" "many" "(C)I") ∈ lw_tbl := lw_at lw_m3 150 rfl
theorem q728 : (Jvm.Cond.unhidden "RiverWords$Road" "sign" "(I)C") ∈ lw_tbl := lw_at lw_m3 168 rfl
theorem q730 : (Jvm.Cond.instanceMethod ({ cls := "RiverWords$Road", name := "period", desc := "()I" } : Jvm.MethodName)) ∈ lw_all := lw_g (lw_at lw_m3 170 rfl) rfl
theorem q731 : (Jvm.Cond.selects "RiverWords$Road" ({ cls := "RiverWords$Road", name := "period", desc := "()I" } : Jvm.MethodName) ({ cls := "RiverWords$Road", name := "period", desc := "()I" } : Jvm.MethodName)) ∈ lw_all := lw_g (lw_at lw_m3 171 rfl) rfl
theorem q732 : (Jvm.Cond.code ({ cls := "RiverWords$Road", name := "period", desc := "()I" } : Jvm.MethodName) prog_5_method_4_code (2 : Nat) (Option.some Jvm.ClassFile.FieldType.int)) ∈ lw_all := lw_g (lw_at lw_m3 172 rfl) rfl
theorem q733 : (Jvm.Cond.methodLink "RiverWords$Road" (31 : Nat) ({ cls := "RiverWords$Worded", name := "unlike", desc := "(Ljava/lang/CharSequence;II)I" } : Jvm.MethodName)) ∈ lw_all := lw_g (lw_at lw_m3 173 rfl) rfl
theorem q736 : (Jvm.Cond.methodLink "RiverWords$Road" (37 : Nat) ({ cls := "java/lang/String", name := "length", desc := "()I" } : Jvm.MethodName)) ∈ lw_all := lw_g (lw_at lw_m3 176 rfl) rfl
theorem q746 : (Jvm.Cond.unhidden "RiverWords$Road" "isClosed" "()Z") ∈ lw_tbl := lw_at lw_m3 186 rfl
theorem q1655 : (Jvm.Cond.castable "RiverWords$Road" "java/lang/Object") ∈ lw_tbl := lw_at lw_m7 135 rfl
theorem in_X4 : ∀ w ∈ wsX40, w ∈ lw_all := lw_in wsX40 [611, 613, 615] (by decide +kernel) (by decide +kernel)
/-! RiverWords$Worded -/
set_option maxRecDepth 100000
def RX5 : String := "RiverWords$Worded"
abbrev cX5_length : ByteArray := prog_7_method_2_code
def yX5_length : MethodName := ⟨RX5, "length", "()I"⟩
def dkwX5_length_0 : List UInt8 := [42, 185, 0, 1, 1, 0, 185, 0, 7, 1, 0, 172]
abbrev dktX5_length_0 : List UInt8 := dkwX5_length_0 ++ []
theorem dksX5_length_0 : cX5_length.data.toList.drop 0 = dktX5_length_0 := by decide +kernel
theorem dX5_length_0 : decode cX5_length 0 = .ok (.aload_n 0, 1) := dk_42 (dk_at dksX5_length_0 0 rfl rfl)
theorem dX5_length_1 : decode cX5_length 1 = .ok (.invokeinterface 1 1, 5) := by decide +kernel
theorem dX5_length_6 : decode cX5_length 6 = .ok (.invokeinterface 7 1, 5) := by decide +kernel
theorem dX5_length_11 : decode cX5_length 11 = .ok (.ireturn, 1) := dk_172 (dk_at dksX5_length_0 11 rfl rfl)
abbrev cX5_many : ByteArray := prog_7_method_4_code
def yX5_many : MethodName := ⟨RX5, "many", "(C)I"⟩
def dkwX5_many_1 : List UInt8 := [160, 0, 7, 4, 167, 0, 4, 3, 96, 61, 132, 3, 1, 167, 255, 224, 28, 172]
abbrev dktX5_many_1 : List UInt8 := dkwX5_many_1 ++ []
def dkwX5_many_0 : List UInt8 := [3, 61, 3, 62, 29, 42, 185, 0, 17, 1, 0, 162, 0, 28, 28, 42, 29, 185, 0, 18, 2, 0, 27]
abbrev dktX5_many_0 : List UInt8 := dkwX5_many_0 ++ dktX5_many_1
theorem dksX5_many_0 : cX5_many.data.toList.drop 0 = dktX5_many_0 := by decide +kernel
theorem dksX5_many_1 : cX5_many.data.toList.drop 23 = dktX5_many_1 := dk_seg dksX5_many_0 23 rfl rfl
theorem dX5_many_0 : decode cX5_many 0 = .ok (.iconst 0, 1) := dk_3 (dk_at dksX5_many_0 0 rfl rfl)
theorem dX5_many_1 : decode cX5_many 1 = .ok (.istore_n 2, 1) := dk_61 (dk_at dksX5_many_0 1 rfl rfl)
theorem dX5_many_2 : decode cX5_many 2 = .ok (.iconst 0, 1) := dk_3 (dk_at dksX5_many_0 2 rfl rfl)
theorem dX5_many_3 : decode cX5_many 3 = .ok (.istore_n 3, 1) := dk_62 (dk_at dksX5_many_0 3 rfl rfl)
theorem dX5_many_4 : decode cX5_many 4 = .ok (.iload_n 3, 1) := dk_29 (dk_at dksX5_many_0 4 rfl rfl)
theorem dX5_many_5 : decode cX5_many 5 = .ok (.aload_n 0, 1) := dk_42 (dk_at dksX5_many_0 5 rfl rfl)
theorem dX5_many_6 : decode cX5_many 6 = .ok (.invokeinterface 17 1, 5) := by decide +kernel
theorem dX5_many_11 : decode cX5_many 11 = .ok (.if_icmp .ge 28, 3) := dk_162 0 28 (dk_at dksX5_many_0 11 rfl rfl)
theorem dX5_many_14 : decode cX5_many 14 = .ok (.iload_n 2, 1) := dk_28 (dk_at dksX5_many_0 14 rfl rfl)
theorem dX5_many_15 : decode cX5_many 15 = .ok (.aload_n 0, 1) := dk_42 (dk_at dksX5_many_0 15 rfl rfl)
theorem dX5_many_16 : decode cX5_many 16 = .ok (.iload_n 3, 1) := dk_29 (dk_at dksX5_many_0 16 rfl rfl)
theorem dX5_many_17 : decode cX5_many 17 = .ok (.invokeinterface 18 2, 5) := by decide +kernel
theorem dX5_many_22 : decode cX5_many 22 = .ok (.iload_n 1, 1) := dk_27 (dk_at dksX5_many_0 22 rfl rfl)
theorem dX5_many_23 : decode cX5_many 23 = .ok (.if_icmp .ne 7, 3) := dk_160 0 7 (dk_at dksX5_many_1 0 rfl rfl)
theorem dX5_many_26 : decode cX5_many 26 = .ok (.iconst 1, 1) := dk_4 (dk_at dksX5_many_1 3 rfl rfl)
theorem dX5_many_27 : decode cX5_many 27 = .ok (.goto 4, 3) := dk_167 0 4 (dk_at dksX5_many_1 4 rfl rfl)
theorem dX5_many_30 : decode cX5_many 30 = .ok (.iconst 0, 1) := dk_3 (dk_at dksX5_many_1 7 rfl rfl)
theorem dX5_many_31 : decode cX5_many 31 = .ok (.iadd, 1) := dk_96 (dk_at dksX5_many_1 8 rfl rfl)
theorem dX5_many_32 : decode cX5_many 32 = .ok (.istore_n 2, 1) := dk_61 (dk_at dksX5_many_1 9 rfl rfl)
theorem dX5_many_33 : decode cX5_many 33 = .ok (.iinc 3 1, 3) := dk_132 3 1 (dk_at dksX5_many_1 10 rfl rfl)
theorem dX5_many_36 : decode cX5_many 36 = .ok (.goto (-32), 3) := dk_167 255 224 (dk_at dksX5_many_1 13 rfl rfl)
theorem dX5_many_39 : decode cX5_many 39 = .ok (.iload_n 2, 1) := dk_28 (dk_at dksX5_many_1 16 rfl rfl)
theorem dX5_many_40 : decode cX5_many 40 = .ok (.ireturn, 1) := dk_172 (dk_at dksX5_many_1 17 rfl rfl)
abbrev cX5_sign : ByteArray := prog_7_method_3_code
def yX5_sign : MethodName := ⟨RX5, "sign", "(I)C"⟩
def dkwX5_sign_0 : List UInt8 := [42, 185, 0, 1, 1, 0, 27, 185, 0, 13, 2, 0, 172]
abbrev dktX5_sign_0 : List UInt8 := dkwX5_sign_0 ++ []
theorem dksX5_sign_0 : cX5_sign.data.toList.drop 0 = dktX5_sign_0 := by decide +kernel
theorem dX5_sign_0 : decode cX5_sign 0 = .ok (.aload_n 0, 1) := dk_42 (dk_at dksX5_sign_0 0 rfl rfl)
theorem dX5_sign_1 : decode cX5_sign 1 = .ok (.invokeinterface 1 1, 5) := by decide +kernel
theorem dX5_sign_6 : decode cX5_sign 6 = .ok (.iload_n 1, 1) := dk_27 (dk_at dksX5_sign_0 6 rfl rfl)
theorem dX5_sign_7 : decode cX5_sign 7 = .ok (.invokeinterface 13 2, 5) := by decide +kernel
theorem dX5_sign_12 : decode cX5_sign 12 = .ok (.ireturn, 1) := dk_172 (dk_at dksX5_sign_0 12 rfl rfl)
abbrev cX5_unlike : ByteArray := prog_7_method_9_code
def yX5_unlike : MethodName := ⟨RX5, "unlike", "(Ljava/lang/CharSequence;II)I"⟩
def dkwX5_unlike_2 : List UInt8 := [132, 3, 1, 167, 255, 208, 29, 172]
abbrev dktX5_unlike_2 : List UInt8 := dkwX5_unlike_2 ++ []
def dkwX5_unlike_1 : List UInt8 := [185, 0, 13, 2, 0, 42, 28, 29, 96, 42, 185, 0, 7, 1, 0, 112, 185, 0, 13, 2, 0, 160, 0, 9]
abbrev dktX5_unlike_1 : List UInt8 := dkwX5_unlike_1 ++ dktX5_unlike_2
def dkwX5_unlike_0 : List UInt8 := [3, 62, 29, 42, 185, 0, 7, 1, 0, 162, 0, 44, 42, 27, 29, 96, 42, 185, 0, 7, 1, 0, 112]
abbrev dktX5_unlike_0 : List UInt8 := dkwX5_unlike_0 ++ dktX5_unlike_1
theorem dksX5_unlike_0 : cX5_unlike.data.toList.drop 0 = dktX5_unlike_0 := by decide +kernel
theorem dksX5_unlike_1 : cX5_unlike.data.toList.drop 23 = dktX5_unlike_1 := dk_seg dksX5_unlike_0 23 rfl rfl
theorem dksX5_unlike_2 : cX5_unlike.data.toList.drop 47 = dktX5_unlike_2 := dk_seg dksX5_unlike_1 24 rfl rfl
theorem dX5_unlike_0 : decode cX5_unlike 0 = .ok (.iconst 0, 1) := dk_3 (dk_at dksX5_unlike_0 0 rfl rfl)
theorem dX5_unlike_1 : decode cX5_unlike 1 = .ok (.istore_n 3, 1) := dk_62 (dk_at dksX5_unlike_0 1 rfl rfl)
theorem dX5_unlike_2 : decode cX5_unlike 2 = .ok (.iload_n 3, 1) := dk_29 (dk_at dksX5_unlike_0 2 rfl rfl)
theorem dX5_unlike_3 : decode cX5_unlike 3 = .ok (.aload_n 0, 1) := dk_42 (dk_at dksX5_unlike_0 3 rfl rfl)
theorem dX5_unlike_4 : decode cX5_unlike 4 = .ok (.invokeinterface 7 1, 5) := by decide +kernel
theorem dX5_unlike_9 : decode cX5_unlike 9 = .ok (.if_icmp .ge 44, 3) := dk_162 0 44 (dk_at dksX5_unlike_0 9 rfl rfl)
theorem dX5_unlike_12 : decode cX5_unlike 12 = .ok (.aload_n 0, 1) := dk_42 (dk_at dksX5_unlike_0 12 rfl rfl)
theorem dX5_unlike_13 : decode cX5_unlike 13 = .ok (.iload_n 1, 1) := dk_27 (dk_at dksX5_unlike_0 13 rfl rfl)
theorem dX5_unlike_14 : decode cX5_unlike 14 = .ok (.iload_n 3, 1) := dk_29 (dk_at dksX5_unlike_0 14 rfl rfl)
theorem dX5_unlike_15 : decode cX5_unlike 15 = .ok (.iadd, 1) := dk_96 (dk_at dksX5_unlike_0 15 rfl rfl)
theorem dX5_unlike_16 : decode cX5_unlike 16 = .ok (.aload_n 0, 1) := dk_42 (dk_at dksX5_unlike_0 16 rfl rfl)
theorem dX5_unlike_17 : decode cX5_unlike 17 = .ok (.invokeinterface 7 1, 5) := by decide +kernel
theorem dX5_unlike_22 : decode cX5_unlike 22 = .ok (.irem, 1) := dk_112 (dk_at dksX5_unlike_0 22 rfl rfl)
theorem dX5_unlike_23 : decode cX5_unlike 23 = .ok (.invokeinterface 13 2, 5) := by decide +kernel
theorem dX5_unlike_28 : decode cX5_unlike 28 = .ok (.aload_n 0, 1) := dk_42 (dk_at dksX5_unlike_1 5 rfl rfl)
theorem dX5_unlike_29 : decode cX5_unlike 29 = .ok (.iload_n 2, 1) := dk_28 (dk_at dksX5_unlike_1 6 rfl rfl)
theorem dX5_unlike_30 : decode cX5_unlike 30 = .ok (.iload_n 3, 1) := dk_29 (dk_at dksX5_unlike_1 7 rfl rfl)
theorem dX5_unlike_31 : decode cX5_unlike 31 = .ok (.iadd, 1) := dk_96 (dk_at dksX5_unlike_1 8 rfl rfl)
theorem dX5_unlike_32 : decode cX5_unlike 32 = .ok (.aload_n 0, 1) := dk_42 (dk_at dksX5_unlike_1 9 rfl rfl)
theorem dX5_unlike_33 : decode cX5_unlike 33 = .ok (.invokeinterface 7 1, 5) := by decide +kernel
theorem dX5_unlike_38 : decode cX5_unlike 38 = .ok (.irem, 1) := dk_112 (dk_at dksX5_unlike_1 15 rfl rfl)
theorem dX5_unlike_39 : decode cX5_unlike 39 = .ok (.invokeinterface 13 2, 5) := by decide +kernel
theorem dX5_unlike_44 : decode cX5_unlike 44 = .ok (.if_icmp .ne 9, 3) := dk_160 0 9 (dk_at dksX5_unlike_1 21 rfl rfl)
theorem dX5_unlike_47 : decode cX5_unlike 47 = .ok (.iinc 3 1, 3) := dk_132 3 1 (dk_at dksX5_unlike_2 0 rfl rfl)
theorem dX5_unlike_50 : decode cX5_unlike 50 = .ok (.goto (-48), 3) := dk_167 255 208 (dk_at dksX5_unlike_2 3 rfl rfl)
theorem dX5_unlike_53 : decode cX5_unlike 53 = .ok (.iload_n 3, 1) := dk_29 (dk_at dksX5_unlike_2 6 rfl rfl)
theorem dX5_unlike_54 : decode cX5_unlike 54 = .ok (.ireturn, 1) := dk_172 (dk_at dksX5_unlike_2 7 rfl rfl)
abbrev cX5_least : ByteArray := prog_7_method_10_code
def yX5_least : MethodName := ⟨RX5, "least", "(Ljava/lang/CharSequence;)I"⟩
def dkwX5_least_2 : List UInt8 := [16, 76, 160, 0, 7, 28, 167, 0, 4, 27, 60, 132, 2, 1, 167, 255, 199, 27, 172]
abbrev dktX5_least_2 : List UInt8 := dkwX5_least_2 ++ []
def dkwX5_least_1 : List UInt8 := [185, 0, 7, 1, 0, 162, 0, 28, 42, 28, 29, 96, 42, 185, 0, 7, 1, 0, 112, 185, 0, 13, 2, 0]
abbrev dktX5_least_1 : List UInt8 := dkwX5_least_1 ++ dktX5_least_2
def dkwX5_least_0 : List UInt8 := [3, 60, 4, 61, 28, 42, 185, 0, 7, 1, 0, 162, 0, 53, 42, 28, 27, 184, 0, 39, 62, 29, 42]
abbrev dktX5_least_0 : List UInt8 := dkwX5_least_0 ++ dktX5_least_1
theorem dksX5_least_0 : cX5_least.data.toList.drop 0 = dktX5_least_0 := by decide +kernel
theorem dksX5_least_1 : cX5_least.data.toList.drop 23 = dktX5_least_1 := dk_seg dksX5_least_0 23 rfl rfl
theorem dksX5_least_2 : cX5_least.data.toList.drop 47 = dktX5_least_2 := dk_seg dksX5_least_1 24 rfl rfl
theorem dX5_least_0 : decode cX5_least 0 = .ok (.iconst 0, 1) := dk_3 (dk_at dksX5_least_0 0 rfl rfl)
theorem dX5_least_1 : decode cX5_least 1 = .ok (.istore_n 1, 1) := dk_60 (dk_at dksX5_least_0 1 rfl rfl)
theorem dX5_least_2 : decode cX5_least 2 = .ok (.iconst 1, 1) := dk_4 (dk_at dksX5_least_0 2 rfl rfl)
theorem dX5_least_3 : decode cX5_least 3 = .ok (.istore_n 2, 1) := dk_61 (dk_at dksX5_least_0 3 rfl rfl)
theorem dX5_least_4 : decode cX5_least 4 = .ok (.iload_n 2, 1) := dk_28 (dk_at dksX5_least_0 4 rfl rfl)
theorem dX5_least_5 : decode cX5_least 5 = .ok (.aload_n 0, 1) := dk_42 (dk_at dksX5_least_0 5 rfl rfl)
theorem dX5_least_6 : decode cX5_least 6 = .ok (.invokeinterface 7 1, 5) := by decide +kernel
theorem dX5_least_11 : decode cX5_least 11 = .ok (.if_icmp .ge 53, 3) := dk_162 0 53 (dk_at dksX5_least_0 11 rfl rfl)
theorem dX5_least_14 : decode cX5_least 14 = .ok (.aload_n 0, 1) := dk_42 (dk_at dksX5_least_0 14 rfl rfl)
theorem dX5_least_15 : decode cX5_least 15 = .ok (.iload_n 2, 1) := dk_28 (dk_at dksX5_least_0 15 rfl rfl)
theorem dX5_least_16 : decode cX5_least 16 = .ok (.iload_n 1, 1) := dk_27 (dk_at dksX5_least_0 16 rfl rfl)
theorem dX5_least_17 : decode cX5_least 17 = .ok (.invokestatic 39, 3) := dk_184 0 39 (dk_at dksX5_least_0 17 rfl rfl)
theorem dX5_least_20 : decode cX5_least 20 = .ok (.istore_n 3, 1) := dk_62 (dk_at dksX5_least_0 20 rfl rfl)
theorem dX5_least_21 : decode cX5_least 21 = .ok (.iload_n 3, 1) := dk_29 (dk_at dksX5_least_0 21 rfl rfl)
theorem dX5_least_22 : decode cX5_least 22 = .ok (.aload_n 0, 1) := dk_42 (dk_at dksX5_least_0 22 rfl rfl)
theorem dX5_least_23 : decode cX5_least 23 = .ok (.invokeinterface 7 1, 5) := by decide +kernel
theorem dX5_least_28 : decode cX5_least 28 = .ok (.if_icmp .ge 28, 3) := dk_162 0 28 (dk_at dksX5_least_1 5 rfl rfl)
theorem dX5_least_31 : decode cX5_least 31 = .ok (.aload_n 0, 1) := dk_42 (dk_at dksX5_least_1 8 rfl rfl)
theorem dX5_least_32 : decode cX5_least 32 = .ok (.iload_n 2, 1) := dk_28 (dk_at dksX5_least_1 9 rfl rfl)
theorem dX5_least_33 : decode cX5_least 33 = .ok (.iload_n 3, 1) := dk_29 (dk_at dksX5_least_1 10 rfl rfl)
theorem dX5_least_34 : decode cX5_least 34 = .ok (.iadd, 1) := dk_96 (dk_at dksX5_least_1 11 rfl rfl)
theorem dX5_least_35 : decode cX5_least 35 = .ok (.aload_n 0, 1) := dk_42 (dk_at dksX5_least_1 12 rfl rfl)
theorem dX5_least_36 : decode cX5_least 36 = .ok (.invokeinterface 7 1, 5) := by decide +kernel
theorem dX5_least_41 : decode cX5_least 41 = .ok (.irem, 1) := dk_112 (dk_at dksX5_least_1 18 rfl rfl)
theorem dX5_least_42 : decode cX5_least 42 = .ok (.invokeinterface 13 2, 5) := by decide +kernel
theorem dX5_least_47 : decode cX5_least 47 = .ok (.bipush 76, 2) := dk_16 76 (dk_at dksX5_least_2 0 rfl rfl)
theorem dX5_least_49 : decode cX5_least 49 = .ok (.if_icmp .ne 7, 3) := dk_160 0 7 (dk_at dksX5_least_2 2 rfl rfl)
theorem dX5_least_52 : decode cX5_least 52 = .ok (.iload_n 2, 1) := dk_28 (dk_at dksX5_least_2 5 rfl rfl)
theorem dX5_least_53 : decode cX5_least 53 = .ok (.goto 4, 3) := dk_167 0 4 (dk_at dksX5_least_2 6 rfl rfl)
theorem dX5_least_56 : decode cX5_least 56 = .ok (.iload_n 1, 1) := dk_27 (dk_at dksX5_least_2 9 rfl rfl)
theorem dX5_least_57 : decode cX5_least 57 = .ok (.istore_n 1, 1) := dk_60 (dk_at dksX5_least_2 10 rfl rfl)
theorem dX5_least_58 : decode cX5_least 58 = .ok (.iinc 2 1, 3) := dk_132 2 1 (dk_at dksX5_least_2 11 rfl rfl)
theorem dX5_least_61 : decode cX5_least 61 = .ok (.goto (-57), 3) := dk_167 255 199 (dk_at dksX5_least_2 14 rfl rfl)
theorem dX5_least_64 : decode cX5_least 64 = .ok (.iload_n 1, 1) := dk_27 (dk_at dksX5_least_2 17 rfl rfl)
theorem dX5_least_65 : decode cX5_least 65 = .ok (.ireturn, 1) := dk_172 (dk_at dksX5_least_2 18 rfl rfl)
abbrev cX5_isClosed : ByteArray := prog_7_method_5_code
def yX5_isClosed : MethodName := ⟨RX5, "isClosed", "()Z"⟩
def dkwX5_isClosed_1 : List UInt8 := [167, 0, 4, 3, 172]
abbrev dktX5_isClosed_1 : List UInt8 := dkwX5_isClosed_1 ++ []
def dkwX5_isClosed_0 : List UInt8 := [42, 16, 76, 185, 0, 21, 2, 0, 158, 0, 18, 42, 16, 82, 185, 0, 21, 2, 0, 158, 0, 7, 4]
abbrev dktX5_isClosed_0 : List UInt8 := dkwX5_isClosed_0 ++ dktX5_isClosed_1
theorem dksX5_isClosed_0 : cX5_isClosed.data.toList.drop 0 = dktX5_isClosed_0 := by decide +kernel
theorem dksX5_isClosed_1 : cX5_isClosed.data.toList.drop 23 = dktX5_isClosed_1 := dk_seg dksX5_isClosed_0 23 rfl rfl
theorem dX5_isClosed_0 : decode cX5_isClosed 0 = .ok (.aload_n 0, 1) := dk_42 (dk_at dksX5_isClosed_0 0 rfl rfl)
theorem dX5_isClosed_1 : decode cX5_isClosed 1 = .ok (.bipush 76, 2) := dk_16 76 (dk_at dksX5_isClosed_0 1 rfl rfl)
theorem dX5_isClosed_3 : decode cX5_isClosed 3 = .ok (.invokeinterface 21 2, 5) := by decide +kernel
theorem dX5_isClosed_8 : decode cX5_isClosed 8 = .ok (.ifCond .le 18, 3) := dk_158 0 18 (dk_at dksX5_isClosed_0 8 rfl rfl)
theorem dX5_isClosed_11 : decode cX5_isClosed 11 = .ok (.aload_n 0, 1) := dk_42 (dk_at dksX5_isClosed_0 11 rfl rfl)
theorem dX5_isClosed_12 : decode cX5_isClosed 12 = .ok (.bipush 82, 2) := dk_16 82 (dk_at dksX5_isClosed_0 12 rfl rfl)
theorem dX5_isClosed_14 : decode cX5_isClosed 14 = .ok (.invokeinterface 21 2, 5) := by decide +kernel
theorem dX5_isClosed_19 : decode cX5_isClosed 19 = .ok (.ifCond .le 7, 3) := dk_158 0 7 (dk_at dksX5_isClosed_0 19 rfl rfl)
theorem dX5_isClosed_22 : decode cX5_isClosed 22 = .ok (.iconst 1, 1) := dk_4 (dk_at dksX5_isClosed_0 22 rfl rfl)
theorem dX5_isClosed_23 : decode cX5_isClosed 23 = .ok (.goto 4, 3) := dk_167 0 4 (dk_at dksX5_isClosed_1 0 rfl rfl)
theorem dX5_isClosed_26 : decode cX5_isClosed 26 = .ok (.iconst 0, 1) := dk_3 (dk_at dksX5_isClosed_1 3 rfl rfl)
theorem dX5_isClosed_27 : decode cX5_isClosed 27 = .ok (.ireturn, 1) := dk_172 (dk_at dksX5_isClosed_1 4 rfl rfl)
abbrev cX5_back : ByteArray := prog_7_method_7_code
def yX5_back : MethodName := ⟨RX5, "back", "(Ljava/lang/CharSequence;)Ljava/lang/String;"⟩
def dkwX5_back_2 : List UInt8 := [182, 0, 35, 176]
abbrev dktX5_back_2 : List UInt8 := dkwX5_back_2 ++ []
def dkwX5_back_1 : List UInt8 := [155, 0, 21, 43, 42, 28, 185, 0, 13, 2, 0, 182, 0, 31, 87, 132, 2, 255, 167, 255, 237, 43]
abbrev dktX5_back_1 : List UInt8 := dkwX5_back_1 ++ dktX5_back_2
def dkwX5_back_0 : List UInt8 := [187, 0, 25, 89, 42, 185, 0, 7, 1, 0, 183, 0, 27, 76, 42, 185, 0, 7, 1, 0, 4, 100, 61, 28]
abbrev dktX5_back_0 : List UInt8 := dkwX5_back_0 ++ dktX5_back_1
theorem dksX5_back_0 : cX5_back.data.toList.drop 0 = dktX5_back_0 := by decide +kernel
theorem dksX5_back_1 : cX5_back.data.toList.drop 24 = dktX5_back_1 := dk_seg dksX5_back_0 24 rfl rfl
theorem dksX5_back_2 : cX5_back.data.toList.drop 46 = dktX5_back_2 := dk_seg dksX5_back_1 22 rfl rfl
theorem dX5_back_0 : decode cX5_back 0 = .ok (.new 25, 3) := dk_187 0 25 (dk_at dksX5_back_0 0 rfl rfl)
theorem dX5_back_3 : decode cX5_back 3 = .ok (.dup, 1) := dk_89 (dk_at dksX5_back_0 3 rfl rfl)
theorem dX5_back_4 : decode cX5_back 4 = .ok (.aload_n 0, 1) := dk_42 (dk_at dksX5_back_0 4 rfl rfl)
theorem dX5_back_5 : decode cX5_back 5 = .ok (.invokeinterface 7 1, 5) := by decide +kernel
theorem dX5_back_10 : decode cX5_back 10 = .ok (.invokespecial 27, 3) := dk_183 0 27 (dk_at dksX5_back_0 10 rfl rfl)
theorem dX5_back_13 : decode cX5_back 13 = .ok (.astore_n 1, 1) := dk_76 (dk_at dksX5_back_0 13 rfl rfl)
theorem dX5_back_14 : decode cX5_back 14 = .ok (.aload_n 0, 1) := dk_42 (dk_at dksX5_back_0 14 rfl rfl)
theorem dX5_back_15 : decode cX5_back 15 = .ok (.invokeinterface 7 1, 5) := by decide +kernel
theorem dX5_back_20 : decode cX5_back 20 = .ok (.iconst 1, 1) := dk_4 (dk_at dksX5_back_0 20 rfl rfl)
theorem dX5_back_21 : decode cX5_back 21 = .ok (.isub, 1) := dk_100 (dk_at dksX5_back_0 21 rfl rfl)
theorem dX5_back_22 : decode cX5_back 22 = .ok (.istore_n 2, 1) := dk_61 (dk_at dksX5_back_0 22 rfl rfl)
theorem dX5_back_23 : decode cX5_back 23 = .ok (.iload_n 2, 1) := dk_28 (dk_at dksX5_back_0 23 rfl rfl)
theorem dX5_back_24 : decode cX5_back 24 = .ok (.ifCond .lt 21, 3) := dk_155 0 21 (dk_at dksX5_back_1 0 rfl rfl)
theorem dX5_back_27 : decode cX5_back 27 = .ok (.aload_n 1, 1) := dk_43 (dk_at dksX5_back_1 3 rfl rfl)
theorem dX5_back_28 : decode cX5_back 28 = .ok (.aload_n 0, 1) := dk_42 (dk_at dksX5_back_1 4 rfl rfl)
theorem dX5_back_29 : decode cX5_back 29 = .ok (.iload_n 2, 1) := dk_28 (dk_at dksX5_back_1 5 rfl rfl)
theorem dX5_back_30 : decode cX5_back 30 = .ok (.invokeinterface 13 2, 5) := by decide +kernel
theorem dX5_back_35 : decode cX5_back 35 = .ok (.invokevirtual 31, 3) := dk_182 0 31 (dk_at dksX5_back_1 11 rfl rfl)
theorem dX5_back_38 : decode cX5_back 38 = .ok (.pop, 1) := dk_87 (dk_at dksX5_back_1 14 rfl rfl)
theorem dX5_back_39 : decode cX5_back 39 = .ok (.iinc 2 (-1), 3) := dk_132 2 255 (dk_at dksX5_back_1 15 rfl rfl)
theorem dX5_back_42 : decode cX5_back 42 = .ok (.goto (-19), 3) := dk_167 255 237 (dk_at dksX5_back_1 18 rfl rfl)
theorem dX5_back_45 : decode cX5_back 45 = .ok (.aload_n 1, 1) := dk_43 (dk_at dksX5_back_1 21 rfl rfl)
theorem dX5_back_46 : decode cX5_back 46 = .ok (.invokevirtual 35, 3) := dk_182 0 35 (dk_at dksX5_back_2 0 rfl rfl)
theorem dX5_back_49 : decode cX5_back 49 = .ok (.areturn, 1) := dk_176 (dk_at dksX5_back_2 3 rfl rfl)
abbrev cX5_isAlike : ByteArray := prog_7_method_12_code
def yX5_isAlike : MethodName := ⟨RX5, "isAlike", "(Ljava/lang/CharSequence;Ljava/lang/CharSequence;)Z"⟩
def dkwX5_isAlike_0 : List UInt8 := [42, 184, 0, 51, 43, 184, 0, 51, 182, 0, 55, 172]
abbrev dktX5_isAlike_0 : List UInt8 := dkwX5_isAlike_0 ++ []
theorem dksX5_isAlike_0 : cX5_isAlike.data.toList.drop 0 = dktX5_isAlike_0 := by decide +kernel
theorem dX5_isAlike_0 : decode cX5_isAlike 0 = .ok (.aload_n 0, 1) := dk_42 (dk_at dksX5_isAlike_0 0 rfl rfl)
theorem dX5_isAlike_1 : decode cX5_isAlike 1 = .ok (.invokestatic 51, 3) := dk_184 0 51 (dk_at dksX5_isAlike_0 1 rfl rfl)
theorem dX5_isAlike_4 : decode cX5_isAlike 4 = .ok (.aload_n 1, 1) := dk_43 (dk_at dksX5_isAlike_0 4 rfl rfl)
theorem dX5_isAlike_5 : decode cX5_isAlike 5 = .ok (.invokestatic 51, 3) := dk_184 0 51 (dk_at dksX5_isAlike_0 5 rfl rfl)
theorem dX5_isAlike_8 : decode cX5_isAlike 8 = .ok (.invokevirtual 55, 3) := dk_182 0 55 (dk_at dksX5_isAlike_0 8 rfl rfl)
theorem dX5_isAlike_11 : decode cX5_isAlike 11 = .ok (.ireturn, 1) := dk_172 (dk_at dksX5_isAlike_0 11 rfl rfl)
abbrev cX5_leastTurn : ByteArray := prog_7_method_11_code
def yX5_leastTurn : MethodName := ⟨RX5, "leastTurn", "(Ljava/lang/CharSequence;)Ljava/lang/String;"⟩
def dkwX5_leastTurn_0 : List UInt8 := [42, 42, 184, 0, 43, 184, 0, 47, 176]
abbrev dktX5_leastTurn_0 : List UInt8 := dkwX5_leastTurn_0 ++ []
theorem dksX5_leastTurn_0 : cX5_leastTurn.data.toList.drop 0 = dktX5_leastTurn_0 := by decide +kernel
theorem dX5_leastTurn_0 : decode cX5_leastTurn 0 = .ok (.aload_n 0, 1) := dk_42 (dk_at dksX5_leastTurn_0 0 rfl rfl)
theorem dX5_leastTurn_1 : decode cX5_leastTurn 1 = .ok (.aload_n 0, 1) := dk_42 (dk_at dksX5_leastTurn_0 1 rfl rfl)
theorem dX5_leastTurn_2 : decode cX5_leastTurn 2 = .ok (.invokestatic 43, 3) := dk_184 0 43 (dk_at dksX5_leastTurn_0 2 rfl rfl)
theorem dX5_leastTurn_5 : decode cX5_leastTurn 5 = .ok (.invokestatic 47, 3) := dk_184 0 47 (dk_at dksX5_leastTurn_0 5 rfl rfl)
theorem dX5_leastTurn_8 : decode cX5_leastTurn 8 = .ok (.areturn, 1) := dk_176 (dk_at dksX5_leastTurn_0 8 rfl rfl)
abbrev cX5_turned : ByteArray := prog_7_method_6_code
def yX5_turned : MethodName := ⟨RX5, "turned", "(Ljava/lang/CharSequence;I)Ljava/lang/String;"⟩
def dkwX5_turned_2 : List UInt8 := [132, 3, 1, 167, 255, 222, 44, 182, 0, 35, 176]
abbrev dktX5_turned_2 : List UInt8 := dkwX5_turned_2 ++ []
def dkwX5_turned_1 : List UInt8 := [162, 0, 30, 44, 42, 29, 27, 96, 42, 185, 0, 7, 1, 0, 112, 185, 0, 13, 2, 0, 182, 0, 31, 87]
abbrev dktX5_turned_1 : List UInt8 := dkwX5_turned_1 ++ dktX5_turned_2
def dkwX5_turned_0 : List UInt8 := [187, 0, 25, 89, 42, 185, 0, 7, 1, 0, 183, 0, 27, 77, 3, 62, 29, 42, 185, 0, 7, 1, 0]
abbrev dktX5_turned_0 : List UInt8 := dkwX5_turned_0 ++ dktX5_turned_1
theorem dksX5_turned_0 : cX5_turned.data.toList.drop 0 = dktX5_turned_0 := by decide +kernel
theorem dksX5_turned_1 : cX5_turned.data.toList.drop 23 = dktX5_turned_1 := dk_seg dksX5_turned_0 23 rfl rfl
theorem dksX5_turned_2 : cX5_turned.data.toList.drop 47 = dktX5_turned_2 := dk_seg dksX5_turned_1 24 rfl rfl
theorem dX5_turned_0 : decode cX5_turned 0 = .ok (.new 25, 3) := dk_187 0 25 (dk_at dksX5_turned_0 0 rfl rfl)
theorem dX5_turned_3 : decode cX5_turned 3 = .ok (.dup, 1) := dk_89 (dk_at dksX5_turned_0 3 rfl rfl)
theorem dX5_turned_4 : decode cX5_turned 4 = .ok (.aload_n 0, 1) := dk_42 (dk_at dksX5_turned_0 4 rfl rfl)
theorem dX5_turned_5 : decode cX5_turned 5 = .ok (.invokeinterface 7 1, 5) := by decide +kernel
theorem dX5_turned_10 : decode cX5_turned 10 = .ok (.invokespecial 27, 3) := dk_183 0 27 (dk_at dksX5_turned_0 10 rfl rfl)
theorem dX5_turned_13 : decode cX5_turned 13 = .ok (.astore_n 2, 1) := dk_77 (dk_at dksX5_turned_0 13 rfl rfl)
theorem dX5_turned_14 : decode cX5_turned 14 = .ok (.iconst 0, 1) := dk_3 (dk_at dksX5_turned_0 14 rfl rfl)
theorem dX5_turned_15 : decode cX5_turned 15 = .ok (.istore_n 3, 1) := dk_62 (dk_at dksX5_turned_0 15 rfl rfl)
theorem dX5_turned_16 : decode cX5_turned 16 = .ok (.iload_n 3, 1) := dk_29 (dk_at dksX5_turned_0 16 rfl rfl)
theorem dX5_turned_17 : decode cX5_turned 17 = .ok (.aload_n 0, 1) := dk_42 (dk_at dksX5_turned_0 17 rfl rfl)
theorem dX5_turned_18 : decode cX5_turned 18 = .ok (.invokeinterface 7 1, 5) := by decide +kernel
theorem dX5_turned_23 : decode cX5_turned 23 = .ok (.if_icmp .ge 30, 3) := dk_162 0 30 (dk_at dksX5_turned_1 0 rfl rfl)
theorem dX5_turned_26 : decode cX5_turned 26 = .ok (.aload_n 2, 1) := dk_44 (dk_at dksX5_turned_1 3 rfl rfl)
theorem dX5_turned_27 : decode cX5_turned 27 = .ok (.aload_n 0, 1) := dk_42 (dk_at dksX5_turned_1 4 rfl rfl)
theorem dX5_turned_28 : decode cX5_turned 28 = .ok (.iload_n 3, 1) := dk_29 (dk_at dksX5_turned_1 5 rfl rfl)
theorem dX5_turned_29 : decode cX5_turned 29 = .ok (.iload_n 1, 1) := dk_27 (dk_at dksX5_turned_1 6 rfl rfl)
theorem dX5_turned_30 : decode cX5_turned 30 = .ok (.iadd, 1) := dk_96 (dk_at dksX5_turned_1 7 rfl rfl)
theorem dX5_turned_31 : decode cX5_turned 31 = .ok (.aload_n 0, 1) := dk_42 (dk_at dksX5_turned_1 8 rfl rfl)
theorem dX5_turned_32 : decode cX5_turned 32 = .ok (.invokeinterface 7 1, 5) := by decide +kernel
theorem dX5_turned_37 : decode cX5_turned 37 = .ok (.irem, 1) := dk_112 (dk_at dksX5_turned_1 14 rfl rfl)
theorem dX5_turned_38 : decode cX5_turned 38 = .ok (.invokeinterface 13 2, 5) := by decide +kernel
theorem dX5_turned_43 : decode cX5_turned 43 = .ok (.invokevirtual 31, 3) := dk_182 0 31 (dk_at dksX5_turned_1 20 rfl rfl)
theorem dX5_turned_46 : decode cX5_turned 46 = .ok (.pop, 1) := dk_87 (dk_at dksX5_turned_1 23 rfl rfl)
theorem dX5_turned_47 : decode cX5_turned 47 = .ok (.iinc 3 1, 3) := dk_132 3 1 (dk_at dksX5_turned_2 0 rfl rfl)
theorem dX5_turned_50 : decode cX5_turned 50 = .ok (.goto (-34), 3) := dk_167 255 222 (dk_at dksX5_turned_2 3 rfl rfl)
theorem dX5_turned_53 : decode cX5_turned 53 = .ok (.aload_n 2, 1) := dk_44 (dk_at dksX5_turned_2 6 rfl rfl)
theorem dX5_turned_54 : decode cX5_turned 54 = .ok (.invokevirtual 35, 3) := dk_182 0 35 (dk_at dksX5_turned_2 7 rfl rfl)
theorem dX5_turned_57 : decode cX5_turned 57 = .ok (.areturn, 1) := dk_176 (dk_at dksX5_turned_2 10 rfl rfl)
abbrev cX5_mirror : ByteArray := prog_7_method_8_code
def yX5_mirror : MethodName := ⟨RX5, "mirror", "(Ljava/lang/CharSequence;)Ljava/lang/String;"⟩
def dkwX5_mirror_2 : List UInt8 := [182, 0, 31, 87, 132, 2, 1, 167, 255, 219, 43, 182, 0, 35, 176]
abbrev dktX5_mirror_2 : List UInt8 := dkwX5_mirror_2 ++ []
def dkwX5_mirror_1 : List UInt8 := [162, 0, 33, 43, 42, 28, 185, 0, 13, 2, 0, 16, 76, 160, 0, 8, 16, 82, 167, 0, 5, 16, 76]
abbrev dktX5_mirror_1 : List UInt8 := dkwX5_mirror_1 ++ dktX5_mirror_2
def dkwX5_mirror_0 : List UInt8 := [187, 0, 25, 89, 42, 185, 0, 7, 1, 0, 183, 0, 27, 76, 3, 61, 28, 42, 185, 0, 7, 1, 0]
abbrev dktX5_mirror_0 : List UInt8 := dkwX5_mirror_0 ++ dktX5_mirror_1
theorem dksX5_mirror_0 : cX5_mirror.data.toList.drop 0 = dktX5_mirror_0 := by decide +kernel
theorem dksX5_mirror_1 : cX5_mirror.data.toList.drop 23 = dktX5_mirror_1 := dk_seg dksX5_mirror_0 23 rfl rfl
theorem dksX5_mirror_2 : cX5_mirror.data.toList.drop 46 = dktX5_mirror_2 := dk_seg dksX5_mirror_1 23 rfl rfl
theorem dX5_mirror_0 : decode cX5_mirror 0 = .ok (.new 25, 3) := dk_187 0 25 (dk_at dksX5_mirror_0 0 rfl rfl)
theorem dX5_mirror_3 : decode cX5_mirror 3 = .ok (.dup, 1) := dk_89 (dk_at dksX5_mirror_0 3 rfl rfl)
theorem dX5_mirror_4 : decode cX5_mirror 4 = .ok (.aload_n 0, 1) := dk_42 (dk_at dksX5_mirror_0 4 rfl rfl)
theorem dX5_mirror_5 : decode cX5_mirror 5 = .ok (.invokeinterface 7 1, 5) := by decide +kernel
theorem dX5_mirror_10 : decode cX5_mirror 10 = .ok (.invokespecial 27, 3) := dk_183 0 27 (dk_at dksX5_mirror_0 10 rfl rfl)
theorem dX5_mirror_13 : decode cX5_mirror 13 = .ok (.astore_n 1, 1) := dk_76 (dk_at dksX5_mirror_0 13 rfl rfl)
theorem dX5_mirror_14 : decode cX5_mirror 14 = .ok (.iconst 0, 1) := dk_3 (dk_at dksX5_mirror_0 14 rfl rfl)
theorem dX5_mirror_15 : decode cX5_mirror 15 = .ok (.istore_n 2, 1) := dk_61 (dk_at dksX5_mirror_0 15 rfl rfl)
theorem dX5_mirror_16 : decode cX5_mirror 16 = .ok (.iload_n 2, 1) := dk_28 (dk_at dksX5_mirror_0 16 rfl rfl)
theorem dX5_mirror_17 : decode cX5_mirror 17 = .ok (.aload_n 0, 1) := dk_42 (dk_at dksX5_mirror_0 17 rfl rfl)
theorem dX5_mirror_18 : decode cX5_mirror 18 = .ok (.invokeinterface 7 1, 5) := by decide +kernel
theorem dX5_mirror_23 : decode cX5_mirror 23 = .ok (.if_icmp .ge 33, 3) := dk_162 0 33 (dk_at dksX5_mirror_1 0 rfl rfl)
theorem dX5_mirror_26 : decode cX5_mirror 26 = .ok (.aload_n 1, 1) := dk_43 (dk_at dksX5_mirror_1 3 rfl rfl)
theorem dX5_mirror_27 : decode cX5_mirror 27 = .ok (.aload_n 0, 1) := dk_42 (dk_at dksX5_mirror_1 4 rfl rfl)
theorem dX5_mirror_28 : decode cX5_mirror 28 = .ok (.iload_n 2, 1) := dk_28 (dk_at dksX5_mirror_1 5 rfl rfl)
theorem dX5_mirror_29 : decode cX5_mirror 29 = .ok (.invokeinterface 13 2, 5) := by decide +kernel
theorem dX5_mirror_34 : decode cX5_mirror 34 = .ok (.bipush 76, 2) := dk_16 76 (dk_at dksX5_mirror_1 11 rfl rfl)
theorem dX5_mirror_36 : decode cX5_mirror 36 = .ok (.if_icmp .ne 8, 3) := dk_160 0 8 (dk_at dksX5_mirror_1 13 rfl rfl)
theorem dX5_mirror_39 : decode cX5_mirror 39 = .ok (.bipush 82, 2) := dk_16 82 (dk_at dksX5_mirror_1 16 rfl rfl)
theorem dX5_mirror_41 : decode cX5_mirror 41 = .ok (.goto 5, 3) := dk_167 0 5 (dk_at dksX5_mirror_1 18 rfl rfl)
theorem dX5_mirror_44 : decode cX5_mirror 44 = .ok (.bipush 76, 2) := dk_16 76 (dk_at dksX5_mirror_1 21 rfl rfl)
theorem dX5_mirror_46 : decode cX5_mirror 46 = .ok (.invokevirtual 31, 3) := dk_182 0 31 (dk_at dksX5_mirror_2 0 rfl rfl)
theorem dX5_mirror_49 : decode cX5_mirror 49 = .ok (.pop, 1) := dk_87 (dk_at dksX5_mirror_2 3 rfl rfl)
theorem dX5_mirror_50 : decode cX5_mirror 50 = .ok (.iinc 2 1, 3) := dk_132 2 1 (dk_at dksX5_mirror_2 4 rfl rfl)
theorem dX5_mirror_53 : decode cX5_mirror 53 = .ok (.goto (-37), 3) := dk_167 255 219 (dk_at dksX5_mirror_2 7 rfl rfl)
theorem dX5_mirror_56 : decode cX5_mirror 56 = .ok (.aload_n 1, 1) := dk_43 (dk_at dksX5_mirror_2 10 rfl rfl)
theorem dX5_mirror_57 : decode cX5_mirror 57 = .ok (.invokevirtual 35, 3) := dk_182 0 35 (dk_at dksX5_mirror_2 11 rfl rfl)
theorem dX5_mirror_60 : decode cX5_mirror 60 = .ok (.areturn, 1) := dk_176 (dk_at dksX5_mirror_2 14 rfl rfl)
theorem q100 : (Jvm.Cond.initialized "RiverWords$Worded") ∈ lw_all := lw_g (lw_at lw_m1 20 rfl) rfl
theorem q686 : (Jvm.Cond.declares ({ cls := "RiverWords$Worded", name := "length", desc := "()I" } : Jvm.MethodName)) ∈ lw_tbl := lw_at lw_m3 126 rfl
theorem q688 : (Jvm.Cond.instanceMethod ({ cls := "RiverWords$Worded", name := "length", desc := "()I" } : Jvm.MethodName)) ∈ lw_all := lw_g (lw_at lw_m3 128 rfl) rfl
theorem q689 : (Jvm.Cond.publicMethod ({ cls := "RiverWords$Worded", name := "length", desc := "()I" } : Jvm.MethodName)) ∈ lw_tbl := lw_at lw_m3 129 rfl
theorem q690 : (Jvm.Cond.code ({ cls := "RiverWords$Worded", name := "length", desc := "()I" } : Jvm.MethodName) prog_7_method_2_code (1 : Nat) (Option.some Jvm.ClassFile.FieldType.int)) ∈ lw_all := lw_g (lw_at lw_m3 130 rfl) rfl
theorem q691 : (Jvm.Cond.interfaceEntry "RiverWords$Worded" (1 : Nat)) ∈ lw_tbl := lw_at lw_m3 131 rfl
theorem q692 : (Jvm.Cond.methodLink "RiverWords$Worded" (1 : Nat) ({ cls := "RiverWords$Worded", name := "word", desc := "()Ljava/lang/CharSequence;" } : Jvm.MethodName)) ∈ lw_all := lw_g (lw_at lw_m3 132 rfl) rfl
theorem q693 : (Jvm.Cond.interfaceMethod "RiverWords$Worded" "RiverWords$Worded" "word" "()Ljava/lang/CharSequence;") ∈ lw_tbl := lw_at lw_m3 133 rfl
theorem q694 : (Jvm.Cond.declares ({ cls := "RiverWords$Worded", name := "word", desc := "()Ljava/lang/CharSequence;" } : Jvm.MethodName)) ∈ lw_tbl := lw_at lw_m3 134 rfl
theorem q707 : (Jvm.Cond.interfaceEntry "RiverWords$Worded" (7 : Nat)) ∈ lw_tbl := lw_at lw_m3 147 rfl
theorem q708 : (Jvm.Cond.methodLink "RiverWords$Worded" (7 : Nat) ({ cls := "java/lang/CharSequence", name := "length", desc := "()I" } : Jvm.MethodName)) ∈ lw_all := lw_g (lw_at lw_m3 148 rfl) rfl
theorem q709 : (Jvm.Cond.declares ({ cls := "RiverWords$Worded", name := "many", desc := "(C)I" } : Jvm.MethodName)) ∈ lw_tbl := lw_at lw_m3 149 rfl
theorem q711 : (Jvm.Cond.instanceMethod ({ cls := "RiverWords$Worded", name := "many", desc := "(C)I" } : Jvm.MethodName)) ∈ lw_all := lw_g (lw_at lw_m3 151 rfl) rfl
theorem q712 : (Jvm.Cond.publicMethod ({ cls := "RiverWords$Worded", name := "many", desc := "(C)I" } : Jvm.MethodName)) ∈ lw_tbl := lw_at lw_m3 152 rfl
theorem q713 : (Jvm.Cond.code ({ cls := "RiverWords$Worded", name := "many", desc := "(C)I" } : Jvm.MethodName) prog_7_method_4_code (4 : Nat) (Option.some Jvm.ClassFile.FieldType.int)) ∈ lw_all := lw_g (lw_at lw_m3 153 rfl) rfl
theorem q714 : (Jvm.Cond.interfaceEntry "RiverWords$Worded" (17 : Nat)) ∈ lw_tbl := lw_at lw_m3 154 rfl
theorem q715 : (Jvm.Cond.methodLink "RiverWords$Worded" (17 : Nat) ({ cls := "RiverWords$Worded", name := "length", desc := "()I" } : Jvm.MethodName)) ∈ lw_all := lw_g (lw_at lw_m3 155 rfl) rfl
theorem q716 : (Jvm.Cond.interfaceMethod "RiverWords$Worded" "RiverWords$Worded" "length" "()I") ∈ lw_tbl := lw_at lw_m3 156 rfl
theorem q718 : (Jvm.Cond.interfaceEntry "RiverWords$Worded" (18 : Nat)) ∈ lw_tbl := lw_at lw_m3 158 rfl
theorem q719 : (Jvm.Cond.methodLink "RiverWords$Worded" (18 : Nat) ({ cls := "RiverWords$Worded", name := "sign", desc := "(I)C" } : Jvm.MethodName)) ∈ lw_all := lw_g (lw_at lw_m3 159 rfl) rfl
theorem q720 : (Jvm.Cond.interfaceMethod "RiverWords$Worded" "RiverWords$Worded" "sign" "(I)C") ∈ lw_tbl := lw_at lw_m3 160 rfl
theorem q721 : (Jvm.Cond.declares ({ cls := "RiverWords$Worded", name := "sign", desc := "(I)C" } : Jvm.MethodName)) ∈ lw_tbl := lw_at lw_m3 161 rfl
theorem q723 : (Jvm.Cond.instanceMethod ({ cls := "RiverWords$Worded", name := "sign", desc := "(I)C" } : Jvm.MethodName)) ∈ lw_all := lw_g (lw_at lw_m3 163 rfl) rfl
theorem q724 : (Jvm.Cond.publicMethod ({ cls := "RiverWords$Worded", name := "sign", desc := "(I)C" } : Jvm.MethodName)) ∈ lw_tbl := lw_at lw_m3 164 rfl
theorem q725 : (Jvm.Cond.code ({ cls := "RiverWords$Worded", name := "sign", desc := "(I)C" } : Jvm.MethodName) prog_7_method_3_code (2 : Nat) (Option.some Jvm.ClassFile.FieldType.char)) ∈ lw_all := lw_g (lw_at lw_m3 165 rfl) rfl
theorem q726 : (Jvm.Cond.interfaceEntry "RiverWords$Worded" (13 : Nat)) ∈ lw_tbl := lw_at lw_m3 166 rfl
theorem q727 : (Jvm.Cond.methodLink "RiverWords$Worded" (13 : Nat) ({ cls := "java/lang/CharSequence", name := "charAt", desc := "(I)C" } : Jvm.MethodName)) ∈ lw_all := lw_g (lw_at lw_m3 167 rfl) rfl
theorem q734 : (Jvm.Cond.static ({ cls := "RiverWords$Worded", name := "unlike", desc := "(Ljava/lang/CharSequence;II)I" } : Jvm.MethodName)) ∈ lw_all := lw_g (lw_at lw_m3 174 rfl) rfl
theorem q735 : (Jvm.Cond.code ({ cls := "RiverWords$Worded", name := "unlike", desc := "(Ljava/lang/CharSequence;II)I" } : Jvm.MethodName) prog_7_method_9_code (4 : Nat) (Option.some Jvm.ClassFile.FieldType.int)) ∈ lw_all := lw_g (lw_at lw_m3 175 rfl) rfl
theorem q738 : (Jvm.Cond.static ({ cls := "RiverWords$Worded", name := "least", desc := "(Ljava/lang/CharSequence;)I" } : Jvm.MethodName)) ∈ lw_all := lw_g (lw_at lw_m3 178 rfl) rfl
theorem q739 : (Jvm.Cond.code ({ cls := "RiverWords$Worded", name := "least", desc := "(Ljava/lang/CharSequence;)I" } : Jvm.MethodName) prog_7_method_10_code (4 : Nat) (Option.some Jvm.ClassFile.FieldType.int)) ∈ lw_all := lw_g (lw_at lw_m3 179 rfl) rfl
theorem q740 : (Jvm.Cond.methodLink "RiverWords$Worded" (39 : Nat) ({ cls := "RiverWords$Worded", name := "unlike", desc := "(Ljava/lang/CharSequence;II)I" } : Jvm.MethodName)) ∈ lw_all := lw_g (lw_at lw_m3 180 rfl) rfl
theorem q745 : (Jvm.Cond.declares ({ cls := "RiverWords$Worded", name := "isClosed", desc := "()Z" } : Jvm.MethodName)) ∈ lw_tbl := lw_at lw_m3 185 rfl
theorem q747 : (Jvm.Cond.instanceMethod ({ cls := "RiverWords$Worded", name := "isClosed", desc := "()Z" } : Jvm.MethodName)) ∈ lw_all := lw_g (lw_at lw_m3 187 rfl) rfl
theorem q748 : (Jvm.Cond.publicMethod ({ cls := "RiverWords$Worded", name := "isClosed", desc := "()Z" } : Jvm.MethodName)) ∈ lw_tbl := lw_at lw_m3 188 rfl
theorem q749 : (Jvm.Cond.code ({ cls := "RiverWords$Worded", name := "isClosed", desc := "()Z" } : Jvm.MethodName) prog_7_method_5_code (1 : Nat) (Option.some Jvm.ClassFile.FieldType.boolean)) ∈ lw_all := lw_g (lw_at lw_m3 189 rfl) rfl
theorem q750 : (Jvm.Cond.interfaceEntry "RiverWords$Worded" (21 : Nat)) ∈ lw_tbl := lw_at lw_m3 190 rfl
theorem q751 : (Jvm.Cond.methodLink "RiverWords$Worded" (21 : Nat) ({ cls := "RiverWords$Worded", name := "many", desc := "(C)I" } : Jvm.MethodName)) ∈ lw_all := lw_g (lw_at lw_m3 191 rfl) rfl
theorem q752 : (Jvm.Cond.interfaceMethod "RiverWords$Worded" "RiverWords$Worded" "many" "(C)I") ∈ lw_tbl := lw_at lw_m3 192 rfl
theorem q758 : (Jvm.Cond.static ({ cls := "RiverWords$Worded", name := "back", desc := "(Ljava/lang/CharSequence;)Ljava/lang/String;" } : Jvm.MethodName)) ∈ lw_all := lw_g (lw_at lw_m3 198 rfl) rfl
theorem q759 : (Jvm.Cond.code ({ cls := "RiverWords$Worded", name := "back", desc := "(Ljava/lang/CharSequence;)Ljava/lang/String;" } : Jvm.MethodName) prog_7_method_7_code (3 : Nat) (Option.some (Jvm.ClassFile.FieldType.object "java/lang/String"))) ∈ lw_all := lw_g (lw_at lw_m3 199 rfl) rfl
theorem q760 : (Jvm.Cond.classLink "RiverWords$Worded" (25 : Nat) "java/lang/StringBuilder") ∈ lw_all := lw_g (lw_at lw_m3 200 rfl) rfl
theorem q761 : (Jvm.Cond.methodLink "RiverWords$Worded" (27 : Nat) ({ cls := "java/lang/StringBuilder", name := "<init>", desc := "(I)V" } : Jvm.MethodName)) ∈ lw_all := lw_g (lw_at lw_m3 201 rfl) rfl
theorem q762 : (Jvm.Cond.methodLink "RiverWords$Worded" (31 : Nat) ({ cls := "java/lang/StringBuilder", name := "append", desc := "(C)Ljava/lang/StringBuilder;" } : Jvm.MethodName)) ∈ lw_all := lw_g (lw_at lw_m3 202 rfl) rfl
theorem q763 : (Jvm.Cond.methodLink "RiverWords$Worded" (35 : Nat) ({ cls := "java/lang/StringBuilder", name := "toString", desc := "()Ljava/lang/String;" } : Jvm.MethodName)) ∈ lw_all := lw_g (lw_at lw_m3 203 rfl) rfl
theorem q765 : (Jvm.Cond.static ({ cls := "RiverWords$Worded", name := "isAlike", desc := "(Ljava/lang/CharSequence;Ljava/lang/CharSequence;)Z" } : Jvm.MethodName)) ∈ lw_all := lw_g (lw_at lw_m3 205 rfl) rfl
theorem q766 : (Jvm.Cond.code ({ cls := "RiverWords$Worded", name := "isAlike", desc := "(Ljava/lang/CharSequence;Ljava/lang/CharSequence;)Z" } : Jvm.MethodName) prog_7_method_12_code (2 : Nat) (Option.some Jvm.ClassFile.FieldType.boolean)) ∈ lw_all := lw_g (lw_at lw_m3 206 rfl) rfl
theorem q767 : (Jvm.Cond.methodLink "RiverWords$Worded" (51 : Nat) ({ cls := "RiverWords$Worded", name := "leastTurn", desc := "(Ljava/lang/CharSequence;)Ljava/lang/String;" } : Jvm.MethodName)) ∈ lw_all := lw_g (lw_at lw_m3 207 rfl) rfl
theorem q768 : (Jvm.Cond.static ({ cls := "RiverWords$Worded", name := "leastTurn", desc := "(Ljava/lang/CharSequence;)Ljava/lang/String;" } : Jvm.MethodName)) ∈ lw_all := lw_g (lw_at lw_m3 208 rfl) rfl
theorem q769 : (Jvm.Cond.code ({ cls := "RiverWords$Worded", name := "leastTurn", desc := "(Ljava/lang/CharSequence;)Ljava/lang/String;" } : Jvm.MethodName) prog_7_method_11_code (1 : Nat) (Option.some (Jvm.ClassFile.FieldType.object "java/lang/String"))) ∈ lw_all := lw_g (lw_at lw_m3 209 rfl) rfl
theorem q770 : (Jvm.Cond.methodLink "RiverWords$Worded" (43 : Nat) ({ cls := "RiverWords$Worded", name := "least", desc := "(Ljava/lang/CharSequence;)I" } : Jvm.MethodName)) ∈ lw_all := lw_g (lw_at lw_m3 210 rfl) rfl
theorem q771 : (Jvm.Cond.methodLink "RiverWords$Worded" (47 : Nat) ({ cls := "RiverWords$Worded", name := "turned", desc := "(Ljava/lang/CharSequence;I)Ljava/lang/String;" } : Jvm.MethodName)) ∈ lw_all := lw_g (lw_at lw_m3 211 rfl) rfl
theorem q772 : (Jvm.Cond.static ({ cls := "RiverWords$Worded", name := "turned", desc := "(Ljava/lang/CharSequence;I)Ljava/lang/String;" } : Jvm.MethodName)) ∈ lw_all := lw_g (lw_at lw_m3 212 rfl) rfl
theorem q773 : (Jvm.Cond.code ({ cls := "RiverWords$Worded", name := "turned", desc := "(Ljava/lang/CharSequence;I)Ljava/lang/String;" } : Jvm.MethodName) prog_7_method_6_code (4 : Nat) (Option.some (Jvm.ClassFile.FieldType.object "java/lang/String"))) ∈ lw_all := lw_g (lw_at lw_m3 213 rfl) rfl
theorem q774 : (Jvm.Cond.methodLink "RiverWords$Worded" (55 : Nat) ({ cls := "java/lang/String", name := "equals", desc := "(Ljava/lang/Object;)Z" } : Jvm.MethodName)) ∈ lw_all := lw_g (lw_at lw_m3 214 rfl) rfl
theorem q776 : (Jvm.Cond.static ({ cls := "RiverWords$Worded", name := "mirror", desc := "(Ljava/lang/CharSequence;)Ljava/lang/String;" } : Jvm.MethodName)) ∈ lw_all := lw_g (lw_at lw_m3 216 rfl) rfl
theorem q777 : (Jvm.Cond.code ({ cls := "RiverWords$Worded", name := "mirror", desc := "(Ljava/lang/CharSequence;)Ljava/lang/String;" } : Jvm.MethodName) prog_7_method_8_code (3 : Nat) (Option.some (Jvm.ClassFile.FieldType.object "java/lang/String"))) ∈ lw_all := lw_g (lw_at lw_m3 217 rfl) rfl
/-! RiverWords$Form -/
set_option maxRecDepth 100000
def RX6 : String := "RiverWords$Form"
def TX6 : u_T := fun k => match k with
  | 0 => ("RiverWords$Form", "a", "I", true)
  | 1 => ("RiverWords$Form", "b", "I", true)
  | 2 => ("RiverWords$Form", "c", "I", true)
  | 3 => ("RiverWords$Form", "cycle", "I", false)
  | 4 => ("RiverWords$Form", "next", "I", false)
  | 5 => ("RiverWords$Form", "back", "I", false)
  | _ => ("RiverWords$Form", "mirror", "I", false)
def tyX6 : Nat → FieldType := fun k => match k with
  | 0 => .int
  | 1 => .int
  | 2 => .int
  | 3 => .int
  | 4 => .int
  | 5 => .int
  | _ => .int
abbrev wsX60 : List Cond := u_ws RX6 TX6 7
theorem nmX6 : ∀ a, a < 7 → ∀ b, b < 7 → a ≠ b → (TX6 a).2.1 ≠ (TX6 b).2.1 := by decide +kernel
theorem tyX6_ok : ∀ k, k < 7 → parseFieldDescriptor (TX6 k).2.2.1 = some (tyX6 k) := by decide +kernel
abbrev cX6_init : ByteArray := prog_3_method_1_code
def yX6_init : MethodName := ⟨RX6, "<init>", "(III)V"⟩
def dkwX6_init_1 : List UInt8 := [181, 0, 22, 177]
abbrev dktX6_init_1 : List UInt8 := dkwX6_init_1 ++ []
def dkwX6_init_0 : List UInt8 := [42, 183, 0, 3, 42, 18, 9, 181, 0, 10, 42, 27, 181, 0, 16, 42, 28, 181, 0, 19, 42, 29]
abbrev dktX6_init_0 : List UInt8 := dkwX6_init_0 ++ dktX6_init_1
theorem dksX6_init_0 : cX6_init.data.toList.drop 0 = dktX6_init_0 := by decide +kernel
theorem dksX6_init_1 : cX6_init.data.toList.drop 22 = dktX6_init_1 := dk_seg dksX6_init_0 22 rfl rfl
theorem dX6_init_0 : decode cX6_init 0 = .ok (.aload_n 0, 1) := dk_42 (dk_at dksX6_init_0 0 rfl rfl)
theorem dX6_init_1 : decode cX6_init 1 = .ok (.invokespecial 3, 3) := dk_183 0 3 (dk_at dksX6_init_0 1 rfl rfl)
theorem dX6_init_4 : decode cX6_init 4 = .ok (.aload_n 0, 1) := dk_42 (dk_at dksX6_init_0 4 rfl rfl)
theorem dX6_init_5 : decode cX6_init 5 = .ok (.ldc 9, 2) := dk_18 9 (dk_at dksX6_init_0 5 rfl rfl)
theorem dX6_init_7 : decode cX6_init 7 = .ok (.putfield 10, 3) := dk_181 0 10 (dk_at dksX6_init_0 7 rfl rfl)
theorem dX6_init_10 : decode cX6_init 10 = .ok (.aload_n 0, 1) := dk_42 (dk_at dksX6_init_0 10 rfl rfl)
theorem dX6_init_11 : decode cX6_init 11 = .ok (.iload_n 1, 1) := dk_27 (dk_at dksX6_init_0 11 rfl rfl)
theorem dX6_init_12 : decode cX6_init 12 = .ok (.putfield 16, 3) := dk_181 0 16 (dk_at dksX6_init_0 12 rfl rfl)
theorem dX6_init_15 : decode cX6_init 15 = .ok (.aload_n 0, 1) := dk_42 (dk_at dksX6_init_0 15 rfl rfl)
theorem dX6_init_16 : decode cX6_init 16 = .ok (.iload_n 2, 1) := dk_28 (dk_at dksX6_init_0 16 rfl rfl)
theorem dX6_init_17 : decode cX6_init 17 = .ok (.putfield 19, 3) := dk_181 0 19 (dk_at dksX6_init_0 17 rfl rfl)
theorem dX6_init_20 : decode cX6_init 20 = .ok (.aload_n 0, 1) := dk_42 (dk_at dksX6_init_0 20 rfl rfl)
theorem dX6_init_21 : decode cX6_init 21 = .ok (.iload_n 3, 1) := dk_29 (dk_at dksX6_init_0 21 rfl rfl)
theorem dX6_init_22 : decode cX6_init 22 = .ok (.putfield 22, 3) := dk_181 0 22 (dk_at dksX6_init_1 0 rfl rfl)
theorem dX6_init_25 : decode cX6_init 25 = .ok (.return_, 1) := dk_177 (dk_at dksX6_init_1 3 rfl rfl)
abbrev cX6_disc : ByteArray := prog_3_method_2_code
def yX6_disc : MethodName := ⟨RX6, "disc", "()I"⟩
def dkwX6_disc_0 : List UInt8 := [42, 180, 0, 19, 42, 180, 0, 19, 104, 7, 42, 180, 0, 16, 104, 42, 180, 0, 22, 104, 100, 172]
abbrev dktX6_disc_0 : List UInt8 := dkwX6_disc_0 ++ []
theorem dksX6_disc_0 : cX6_disc.data.toList.drop 0 = dktX6_disc_0 := by decide +kernel
theorem dX6_disc_0 : decode cX6_disc 0 = .ok (.aload_n 0, 1) := dk_42 (dk_at dksX6_disc_0 0 rfl rfl)
theorem dX6_disc_1 : decode cX6_disc 1 = .ok (.getfield 19, 3) := dk_180 0 19 (dk_at dksX6_disc_0 1 rfl rfl)
theorem dX6_disc_4 : decode cX6_disc 4 = .ok (.aload_n 0, 1) := dk_42 (dk_at dksX6_disc_0 4 rfl rfl)
theorem dX6_disc_5 : decode cX6_disc 5 = .ok (.getfield 19, 3) := dk_180 0 19 (dk_at dksX6_disc_0 5 rfl rfl)
theorem dX6_disc_8 : decode cX6_disc 8 = .ok (.imul, 1) := dk_104 (dk_at dksX6_disc_0 8 rfl rfl)
theorem dX6_disc_9 : decode cX6_disc 9 = .ok (.iconst 4, 1) := dk_7 (dk_at dksX6_disc_0 9 rfl rfl)
theorem dX6_disc_10 : decode cX6_disc 10 = .ok (.aload_n 0, 1) := dk_42 (dk_at dksX6_disc_0 10 rfl rfl)
theorem dX6_disc_11 : decode cX6_disc 11 = .ok (.getfield 16, 3) := dk_180 0 16 (dk_at dksX6_disc_0 11 rfl rfl)
theorem dX6_disc_14 : decode cX6_disc 14 = .ok (.imul, 1) := dk_104 (dk_at dksX6_disc_0 14 rfl rfl)
theorem dX6_disc_15 : decode cX6_disc 15 = .ok (.aload_n 0, 1) := dk_42 (dk_at dksX6_disc_0 15 rfl rfl)
theorem dX6_disc_16 : decode cX6_disc 16 = .ok (.getfield 22, 3) := dk_180 0 22 (dk_at dksX6_disc_0 16 rfl rfl)
theorem dX6_disc_19 : decode cX6_disc 19 = .ok (.imul, 1) := dk_104 (dk_at dksX6_disc_0 19 rfl rfl)
theorem dX6_disc_20 : decode cX6_disc 20 = .ok (.isub, 1) := dk_100 (dk_at dksX6_disc_0 20 rfl rfl)
theorem dX6_disc_21 : decode cX6_disc 21 = .ok (.ireturn, 1) := dk_172 (dk_at dksX6_disc_0 21 rfl rfl)
abbrev cX6_letter : ByteArray := prog_3_method_4_code
def yX6_letter : MethodName := ⟨RX6, "letter", "()C"⟩
def dkwX6_letter_1 : List UInt8 := [172]
abbrev dktX6_letter_1 : List UInt8 := dkwX6_letter_1 ++ []
def dkwX6_letter_0 : List UInt8 := [42, 180, 0, 16, 42, 180, 0, 19, 96, 42, 180, 0, 22, 96, 158, 0, 8, 16, 76, 167, 0, 5, 16, 82]
abbrev dktX6_letter_0 : List UInt8 := dkwX6_letter_0 ++ dktX6_letter_1
theorem dksX6_letter_0 : cX6_letter.data.toList.drop 0 = dktX6_letter_0 := by decide +kernel
theorem dksX6_letter_1 : cX6_letter.data.toList.drop 24 = dktX6_letter_1 := dk_seg dksX6_letter_0 24 rfl rfl
theorem dX6_letter_0 : decode cX6_letter 0 = .ok (.aload_n 0, 1) := dk_42 (dk_at dksX6_letter_0 0 rfl rfl)
theorem dX6_letter_1 : decode cX6_letter 1 = .ok (.getfield 16, 3) := dk_180 0 16 (dk_at dksX6_letter_0 1 rfl rfl)
theorem dX6_letter_4 : decode cX6_letter 4 = .ok (.aload_n 0, 1) := dk_42 (dk_at dksX6_letter_0 4 rfl rfl)
theorem dX6_letter_5 : decode cX6_letter 5 = .ok (.getfield 19, 3) := dk_180 0 19 (dk_at dksX6_letter_0 5 rfl rfl)
theorem dX6_letter_8 : decode cX6_letter 8 = .ok (.iadd, 1) := dk_96 (dk_at dksX6_letter_0 8 rfl rfl)
theorem dX6_letter_9 : decode cX6_letter 9 = .ok (.aload_n 0, 1) := dk_42 (dk_at dksX6_letter_0 9 rfl rfl)
theorem dX6_letter_10 : decode cX6_letter 10 = .ok (.getfield 22, 3) := dk_180 0 22 (dk_at dksX6_letter_0 10 rfl rfl)
theorem dX6_letter_13 : decode cX6_letter 13 = .ok (.iadd, 1) := dk_96 (dk_at dksX6_letter_0 13 rfl rfl)
theorem dX6_letter_14 : decode cX6_letter 14 = .ok (.ifCond .le 8, 3) := dk_158 0 8 (dk_at dksX6_letter_0 14 rfl rfl)
theorem dX6_letter_17 : decode cX6_letter 17 = .ok (.bipush 76, 2) := dk_16 76 (dk_at dksX6_letter_0 17 rfl rfl)
theorem dX6_letter_19 : decode cX6_letter 19 = .ok (.goto 5, 3) := dk_167 0 5 (dk_at dksX6_letter_0 19 rfl rfl)
theorem dX6_letter_22 : decode cX6_letter 22 = .ok (.bipush 82, 2) := dk_16 82 (dk_at dksX6_letter_0 22 rfl rfl)
theorem dX6_letter_24 : decode cX6_letter 24 = .ok (.ireturn, 1) := dk_172 (dk_at dksX6_letter_1 0 rfl rfl)
abbrev cX6_isAs : ByteArray := prog_3_method_5_code
def yX6_isAs : MethodName := ⟨RX6, "isAs", "(III)Z"⟩
def dkwX6_isAs_1 : List UInt8 := [4, 167, 0, 4, 3, 172]
abbrev dktX6_isAs_1 : List UInt8 := dkwX6_isAs_1 ++ []
def dkwX6_isAs_0 : List UInt8 := [42, 180, 0, 16, 27, 160, 0, 23, 42, 180, 0, 19, 28, 160, 0, 15, 42, 180, 0, 22, 29, 160, 0, 7]
abbrev dktX6_isAs_0 : List UInt8 := dkwX6_isAs_0 ++ dktX6_isAs_1
theorem dksX6_isAs_0 : cX6_isAs.data.toList.drop 0 = dktX6_isAs_0 := by decide +kernel
theorem dksX6_isAs_1 : cX6_isAs.data.toList.drop 24 = dktX6_isAs_1 := dk_seg dksX6_isAs_0 24 rfl rfl
theorem dX6_isAs_0 : decode cX6_isAs 0 = .ok (.aload_n 0, 1) := dk_42 (dk_at dksX6_isAs_0 0 rfl rfl)
theorem dX6_isAs_1 : decode cX6_isAs 1 = .ok (.getfield 16, 3) := dk_180 0 16 (dk_at dksX6_isAs_0 1 rfl rfl)
theorem dX6_isAs_4 : decode cX6_isAs 4 = .ok (.iload_n 1, 1) := dk_27 (dk_at dksX6_isAs_0 4 rfl rfl)
theorem dX6_isAs_5 : decode cX6_isAs 5 = .ok (.if_icmp .ne 23, 3) := dk_160 0 23 (dk_at dksX6_isAs_0 5 rfl rfl)
theorem dX6_isAs_8 : decode cX6_isAs 8 = .ok (.aload_n 0, 1) := dk_42 (dk_at dksX6_isAs_0 8 rfl rfl)
theorem dX6_isAs_9 : decode cX6_isAs 9 = .ok (.getfield 19, 3) := dk_180 0 19 (dk_at dksX6_isAs_0 9 rfl rfl)
theorem dX6_isAs_12 : decode cX6_isAs 12 = .ok (.iload_n 2, 1) := dk_28 (dk_at dksX6_isAs_0 12 rfl rfl)
theorem dX6_isAs_13 : decode cX6_isAs 13 = .ok (.if_icmp .ne 15, 3) := dk_160 0 15 (dk_at dksX6_isAs_0 13 rfl rfl)
theorem dX6_isAs_16 : decode cX6_isAs 16 = .ok (.aload_n 0, 1) := dk_42 (dk_at dksX6_isAs_0 16 rfl rfl)
theorem dX6_isAs_17 : decode cX6_isAs 17 = .ok (.getfield 22, 3) := dk_180 0 22 (dk_at dksX6_isAs_0 17 rfl rfl)
theorem dX6_isAs_20 : decode cX6_isAs 20 = .ok (.iload_n 3, 1) := dk_29 (dk_at dksX6_isAs_0 20 rfl rfl)
theorem dX6_isAs_21 : decode cX6_isAs 21 = .ok (.if_icmp .ne 7, 3) := dk_160 0 7 (dk_at dksX6_isAs_0 21 rfl rfl)
theorem dX6_isAs_24 : decode cX6_isAs 24 = .ok (.iconst 1, 1) := dk_4 (dk_at dksX6_isAs_1 0 rfl rfl)
theorem dX6_isAs_25 : decode cX6_isAs 25 = .ok (.goto 4, 3) := dk_167 0 4 (dk_at dksX6_isAs_1 1 rfl rfl)
theorem dX6_isAs_28 : decode cX6_isAs 28 = .ok (.iconst 0, 1) := dk_3 (dk_at dksX6_isAs_1 4 rfl rfl)
theorem dX6_isAs_29 : decode cX6_isAs 29 = .ok (.ireturn, 1) := dk_172 (dk_at dksX6_isAs_1 5 rfl rfl)
abbrev cX6_isWhole : ByteArray := prog_3_method_3_code
def yX6_isWhole : MethodName := ⟨RX6, "isWhole", "()Z"⟩
def dkwX6_isWhole_1 : List UInt8 := [167, 0, 4, 3, 172]
abbrev dktX6_isWhole_1 : List UInt8 := dkwX6_isWhole_1 ++ []
def dkwX6_isWhole_0 : List UInt8 := [42, 180, 0, 16, 42, 180, 0, 19, 184, 0, 25, 42, 180, 0, 22, 184, 0, 25, 4, 160, 0, 7, 4]
abbrev dktX6_isWhole_0 : List UInt8 := dkwX6_isWhole_0 ++ dktX6_isWhole_1
theorem dksX6_isWhole_0 : cX6_isWhole.data.toList.drop 0 = dktX6_isWhole_0 := by decide +kernel
theorem dksX6_isWhole_1 : cX6_isWhole.data.toList.drop 23 = dktX6_isWhole_1 := dk_seg dksX6_isWhole_0 23 rfl rfl
theorem dX6_isWhole_0 : decode cX6_isWhole 0 = .ok (.aload_n 0, 1) := dk_42 (dk_at dksX6_isWhole_0 0 rfl rfl)
theorem dX6_isWhole_1 : decode cX6_isWhole 1 = .ok (.getfield 16, 3) := dk_180 0 16 (dk_at dksX6_isWhole_0 1 rfl rfl)
theorem dX6_isWhole_4 : decode cX6_isWhole 4 = .ok (.aload_n 0, 1) := dk_42 (dk_at dksX6_isWhole_0 4 rfl rfl)
theorem dX6_isWhole_5 : decode cX6_isWhole 5 = .ok (.getfield 19, 3) := dk_180 0 19 (dk_at dksX6_isWhole_0 5 rfl rfl)
theorem dX6_isWhole_8 : decode cX6_isWhole 8 = .ok (.invokestatic 25, 3) := dk_184 0 25 (dk_at dksX6_isWhole_0 8 rfl rfl)
theorem dX6_isWhole_11 : decode cX6_isWhole 11 = .ok (.aload_n 0, 1) := dk_42 (dk_at dksX6_isWhole_0 11 rfl rfl)
theorem dX6_isWhole_12 : decode cX6_isWhole 12 = .ok (.getfield 22, 3) := dk_180 0 22 (dk_at dksX6_isWhole_0 12 rfl rfl)
theorem dX6_isWhole_15 : decode cX6_isWhole 15 = .ok (.invokestatic 25, 3) := dk_184 0 25 (dk_at dksX6_isWhole_0 15 rfl rfl)
theorem dX6_isWhole_18 : decode cX6_isWhole 18 = .ok (.iconst 1, 1) := dk_4 (dk_at dksX6_isWhole_0 18 rfl rfl)
theorem dX6_isWhole_19 : decode cX6_isWhole 19 = .ok (.if_icmp .ne 7, 3) := dk_160 0 7 (dk_at dksX6_isWhole_0 19 rfl rfl)
theorem dX6_isWhole_22 : decode cX6_isWhole 22 = .ok (.iconst 1, 1) := dk_4 (dk_at dksX6_isWhole_0 22 rfl rfl)
theorem dX6_isWhole_23 : decode cX6_isWhole 23 = .ok (.goto 4, 3) := dk_167 0 4 (dk_at dksX6_isWhole_1 0 rfl rfl)
theorem dX6_isWhole_26 : decode cX6_isWhole 26 = .ok (.iconst 0, 1) := dk_3 (dk_at dksX6_isWhole_1 3 rfl rfl)
theorem dX6_isWhole_27 : decode cX6_isWhole 27 = .ok (.ireturn, 1) := dk_172 (dk_at dksX6_isWhole_1 4 rfl rfl)
abbrev cX6_isAsideOnly : ByteArray := prog_3_method_6_code
def yX6_isAsideOnly : MethodName := ⟨RX6, "isAsideOnly", "()Z"⟩
def dkwX6_isAsideOnly_1 : List UInt8 := [160, 0, 7, 4, 167, 0, 4, 3, 172]
abbrev dktX6_isAsideOnly_1 : List UInt8 := dkwX6_isAsideOnly_1 ++ []
def dkwX6_isAsideOnly_0 : List UInt8 := [42, 180, 0, 16, 158, 0, 7, 4, 167, 0, 4, 3, 42, 180, 0, 22, 158, 0, 7, 4, 167, 0, 4, 3]
abbrev dktX6_isAsideOnly_0 : List UInt8 := dkwX6_isAsideOnly_0 ++ dktX6_isAsideOnly_1
theorem dksX6_isAsideOnly_0 : cX6_isAsideOnly.data.toList.drop 0 = dktX6_isAsideOnly_0 := by decide +kernel
theorem dksX6_isAsideOnly_1 : cX6_isAsideOnly.data.toList.drop 24 = dktX6_isAsideOnly_1 := dk_seg dksX6_isAsideOnly_0 24 rfl rfl
theorem dX6_isAsideOnly_0 : decode cX6_isAsideOnly 0 = .ok (.aload_n 0, 1) := dk_42 (dk_at dksX6_isAsideOnly_0 0 rfl rfl)
theorem dX6_isAsideOnly_1 : decode cX6_isAsideOnly 1 = .ok (.getfield 16, 3) := dk_180 0 16 (dk_at dksX6_isAsideOnly_0 1 rfl rfl)
theorem dX6_isAsideOnly_4 : decode cX6_isAsideOnly 4 = .ok (.ifCond .le 7, 3) := dk_158 0 7 (dk_at dksX6_isAsideOnly_0 4 rfl rfl)
theorem dX6_isAsideOnly_7 : decode cX6_isAsideOnly 7 = .ok (.iconst 1, 1) := dk_4 (dk_at dksX6_isAsideOnly_0 7 rfl rfl)
theorem dX6_isAsideOnly_8 : decode cX6_isAsideOnly 8 = .ok (.goto 4, 3) := dk_167 0 4 (dk_at dksX6_isAsideOnly_0 8 rfl rfl)
theorem dX6_isAsideOnly_11 : decode cX6_isAsideOnly 11 = .ok (.iconst 0, 1) := dk_3 (dk_at dksX6_isAsideOnly_0 11 rfl rfl)
theorem dX6_isAsideOnly_12 : decode cX6_isAsideOnly 12 = .ok (.aload_n 0, 1) := dk_42 (dk_at dksX6_isAsideOnly_0 12 rfl rfl)
theorem dX6_isAsideOnly_13 : decode cX6_isAsideOnly 13 = .ok (.getfield 22, 3) := dk_180 0 22 (dk_at dksX6_isAsideOnly_0 13 rfl rfl)
theorem dX6_isAsideOnly_16 : decode cX6_isAsideOnly 16 = .ok (.ifCond .le 7, 3) := dk_158 0 7 (dk_at dksX6_isAsideOnly_0 16 rfl rfl)
theorem dX6_isAsideOnly_19 : decode cX6_isAsideOnly 19 = .ok (.iconst 1, 1) := dk_4 (dk_at dksX6_isAsideOnly_0 19 rfl rfl)
theorem dX6_isAsideOnly_20 : decode cX6_isAsideOnly 20 = .ok (.goto 4, 3) := dk_167 0 4 (dk_at dksX6_isAsideOnly_0 20 rfl rfl)
theorem dX6_isAsideOnly_23 : decode cX6_isAsideOnly 23 = .ok (.iconst 0, 1) := dk_3 (dk_at dksX6_isAsideOnly_0 23 rfl rfl)
theorem dX6_isAsideOnly_24 : decode cX6_isAsideOnly 24 = .ok (.if_icmp .ne 7, 3) := dk_160 0 7 (dk_at dksX6_isAsideOnly_1 0 rfl rfl)
theorem dX6_isAsideOnly_27 : decode cX6_isAsideOnly 27 = .ok (.iconst 1, 1) := dk_4 (dk_at dksX6_isAsideOnly_1 3 rfl rfl)
theorem dX6_isAsideOnly_28 : decode cX6_isAsideOnly 28 = .ok (.goto 4, 3) := dk_167 0 4 (dk_at dksX6_isAsideOnly_1 4 rfl rfl)
theorem dX6_isAsideOnly_31 : decode cX6_isAsideOnly 31 = .ok (.iconst 0, 1) := dk_3 (dk_at dksX6_isAsideOnly_1 7 rfl rfl)
theorem dX6_isAsideOnly_32 : decode cX6_isAsideOnly 32 = .ok (.ireturn, 1) := dk_172 (dk_at dksX6_isAsideOnly_1 8 rfl rfl)
abbrev cX6_nearer : ByteArray := prog_3_method_7_code
def yX6_nearer : MethodName := ⟨RX6, "nearer", "()LRiverWords$Form;"⟩
def dkwX6_nearer_5 : List UInt8 := [183, 0, 35, 176]
abbrev dktX6_nearer_5 : List UInt8 := dkwX6_nearer_5 ++ []
def dkwX6_nearer_4 : List UInt8 := [187, 0, 11, 89, 42, 180, 0, 16, 42, 180, 0, 19, 5, 27, 104, 42, 180, 0, 16, 104, 96, 28]
abbrev dktX6_nearer_4 : List UInt8 := dkwX6_nearer_4 ++ dktX6_nearer_5
def dkwX6_nearer_3 : List UInt8 := [42, 180, 0, 19, 5, 27, 104, 42, 180, 0, 22, 104, 96, 42, 180, 0, 22, 183, 0, 35, 167, 0, 28]
abbrev dktX6_nearer_3 : List UInt8 := dkwX6_nearer_3 ++ dktX6_nearer_4
def dkwX6_nearer_2 : List UInt8 := [96, 61, 42, 180, 0, 16, 184, 0, 29, 42, 180, 0, 22, 184, 0, 29, 161, 0, 31, 187, 0, 11, 89, 28]
abbrev dktX6_nearer_2 : List UInt8 := dkwX6_nearer_2 ++ dktX6_nearer_3
def dkwX6_nearer_1 : List UInt8 := [159, 0, 7, 4, 167, 0, 4, 2, 60, 42, 180, 0, 16, 42, 180, 0, 22, 96, 27, 42, 180, 0, 19, 104]
abbrev dktX6_nearer_1 : List UInt8 := dkwX6_nearer_1 ++ dktX6_nearer_2
def dkwX6_nearer_0 : List UInt8 := [42, 180, 0, 16, 158, 0, 7, 4, 167, 0, 4, 3, 42, 180, 0, 19, 158, 0, 7, 4, 167, 0, 4, 3]
abbrev dktX6_nearer_0 : List UInt8 := dkwX6_nearer_0 ++ dktX6_nearer_1
theorem dksX6_nearer_0 : cX6_nearer.data.toList.drop 0 = dktX6_nearer_0 := by decide +kernel
theorem dksX6_nearer_1 : cX6_nearer.data.toList.drop 24 = dktX6_nearer_1 := dk_seg dksX6_nearer_0 24 rfl rfl
theorem dksX6_nearer_2 : cX6_nearer.data.toList.drop 48 = dktX6_nearer_2 := dk_seg dksX6_nearer_1 24 rfl rfl
theorem dksX6_nearer_3 : cX6_nearer.data.toList.drop 72 = dktX6_nearer_3 := dk_seg dksX6_nearer_2 24 rfl rfl
theorem dksX6_nearer_4 : cX6_nearer.data.toList.drop 95 = dktX6_nearer_4 := dk_seg dksX6_nearer_3 23 rfl rfl
theorem dksX6_nearer_5 : cX6_nearer.data.toList.drop 117 = dktX6_nearer_5 := dk_seg dksX6_nearer_4 22 rfl rfl
theorem dX6_nearer_0 : decode cX6_nearer 0 = .ok (.aload_n 0, 1) := dk_42 (dk_at dksX6_nearer_0 0 rfl rfl)
theorem dX6_nearer_1 : decode cX6_nearer 1 = .ok (.getfield 16, 3) := dk_180 0 16 (dk_at dksX6_nearer_0 1 rfl rfl)
theorem dX6_nearer_4 : decode cX6_nearer 4 = .ok (.ifCond .le 7, 3) := dk_158 0 7 (dk_at dksX6_nearer_0 4 rfl rfl)
theorem dX6_nearer_7 : decode cX6_nearer 7 = .ok (.iconst 1, 1) := dk_4 (dk_at dksX6_nearer_0 7 rfl rfl)
theorem dX6_nearer_8 : decode cX6_nearer 8 = .ok (.goto 4, 3) := dk_167 0 4 (dk_at dksX6_nearer_0 8 rfl rfl)
theorem dX6_nearer_11 : decode cX6_nearer 11 = .ok (.iconst 0, 1) := dk_3 (dk_at dksX6_nearer_0 11 rfl rfl)
theorem dX6_nearer_12 : decode cX6_nearer 12 = .ok (.aload_n 0, 1) := dk_42 (dk_at dksX6_nearer_0 12 rfl rfl)
theorem dX6_nearer_13 : decode cX6_nearer 13 = .ok (.getfield 19, 3) := dk_180 0 19 (dk_at dksX6_nearer_0 13 rfl rfl)
theorem dX6_nearer_16 : decode cX6_nearer 16 = .ok (.ifCond .le 7, 3) := dk_158 0 7 (dk_at dksX6_nearer_0 16 rfl rfl)
theorem dX6_nearer_19 : decode cX6_nearer 19 = .ok (.iconst 1, 1) := dk_4 (dk_at dksX6_nearer_0 19 rfl rfl)
theorem dX6_nearer_20 : decode cX6_nearer 20 = .ok (.goto 4, 3) := dk_167 0 4 (dk_at dksX6_nearer_0 20 rfl rfl)
theorem dX6_nearer_23 : decode cX6_nearer 23 = .ok (.iconst 0, 1) := dk_3 (dk_at dksX6_nearer_0 23 rfl rfl)
theorem dX6_nearer_24 : decode cX6_nearer 24 = .ok (.if_icmp .eq 7, 3) := dk_159 0 7 (dk_at dksX6_nearer_1 0 rfl rfl)
theorem dX6_nearer_27 : decode cX6_nearer 27 = .ok (.iconst 1, 1) := dk_4 (dk_at dksX6_nearer_1 3 rfl rfl)
theorem dX6_nearer_28 : decode cX6_nearer 28 = .ok (.goto 4, 3) := dk_167 0 4 (dk_at dksX6_nearer_1 4 rfl rfl)
theorem dX6_nearer_31 : decode cX6_nearer 31 = .ok (.iconst (-1), 1) := dk_2 (dk_at dksX6_nearer_1 7 rfl rfl)
theorem dX6_nearer_32 : decode cX6_nearer 32 = .ok (.istore_n 1, 1) := dk_60 (dk_at dksX6_nearer_1 8 rfl rfl)
theorem dX6_nearer_33 : decode cX6_nearer 33 = .ok (.aload_n 0, 1) := dk_42 (dk_at dksX6_nearer_1 9 rfl rfl)
theorem dX6_nearer_34 : decode cX6_nearer 34 = .ok (.getfield 16, 3) := dk_180 0 16 (dk_at dksX6_nearer_1 10 rfl rfl)
theorem dX6_nearer_37 : decode cX6_nearer 37 = .ok (.aload_n 0, 1) := dk_42 (dk_at dksX6_nearer_1 13 rfl rfl)
theorem dX6_nearer_38 : decode cX6_nearer 38 = .ok (.getfield 22, 3) := dk_180 0 22 (dk_at dksX6_nearer_1 14 rfl rfl)
theorem dX6_nearer_41 : decode cX6_nearer 41 = .ok (.iadd, 1) := dk_96 (dk_at dksX6_nearer_1 17 rfl rfl)
theorem dX6_nearer_42 : decode cX6_nearer 42 = .ok (.iload_n 1, 1) := dk_27 (dk_at dksX6_nearer_1 18 rfl rfl)
theorem dX6_nearer_43 : decode cX6_nearer 43 = .ok (.aload_n 0, 1) := dk_42 (dk_at dksX6_nearer_1 19 rfl rfl)
theorem dX6_nearer_44 : decode cX6_nearer 44 = .ok (.getfield 19, 3) := dk_180 0 19 (dk_at dksX6_nearer_1 20 rfl rfl)
theorem dX6_nearer_47 : decode cX6_nearer 47 = .ok (.imul, 1) := dk_104 (dk_at dksX6_nearer_1 23 rfl rfl)
theorem dX6_nearer_48 : decode cX6_nearer 48 = .ok (.iadd, 1) := dk_96 (dk_at dksX6_nearer_2 0 rfl rfl)
theorem dX6_nearer_49 : decode cX6_nearer 49 = .ok (.istore_n 2, 1) := dk_61 (dk_at dksX6_nearer_2 1 rfl rfl)
theorem dX6_nearer_50 : decode cX6_nearer 50 = .ok (.aload_n 0, 1) := dk_42 (dk_at dksX6_nearer_2 2 rfl rfl)
theorem dX6_nearer_51 : decode cX6_nearer 51 = .ok (.getfield 16, 3) := dk_180 0 16 (dk_at dksX6_nearer_2 3 rfl rfl)
theorem dX6_nearer_54 : decode cX6_nearer 54 = .ok (.invokestatic 29, 3) := dk_184 0 29 (dk_at dksX6_nearer_2 6 rfl rfl)
theorem dX6_nearer_57 : decode cX6_nearer 57 = .ok (.aload_n 0, 1) := dk_42 (dk_at dksX6_nearer_2 9 rfl rfl)
theorem dX6_nearer_58 : decode cX6_nearer 58 = .ok (.getfield 22, 3) := dk_180 0 22 (dk_at dksX6_nearer_2 10 rfl rfl)
theorem dX6_nearer_61 : decode cX6_nearer 61 = .ok (.invokestatic 29, 3) := dk_184 0 29 (dk_at dksX6_nearer_2 13 rfl rfl)
theorem dX6_nearer_64 : decode cX6_nearer 64 = .ok (.if_icmp .lt 31, 3) := dk_161 0 31 (dk_at dksX6_nearer_2 16 rfl rfl)
theorem dX6_nearer_67 : decode cX6_nearer 67 = .ok (.new 11, 3) := dk_187 0 11 (dk_at dksX6_nearer_2 19 rfl rfl)
theorem dX6_nearer_70 : decode cX6_nearer 70 = .ok (.dup, 1) := dk_89 (dk_at dksX6_nearer_2 22 rfl rfl)
theorem dX6_nearer_71 : decode cX6_nearer 71 = .ok (.iload_n 2, 1) := dk_28 (dk_at dksX6_nearer_2 23 rfl rfl)
theorem dX6_nearer_72 : decode cX6_nearer 72 = .ok (.aload_n 0, 1) := dk_42 (dk_at dksX6_nearer_3 0 rfl rfl)
theorem dX6_nearer_73 : decode cX6_nearer 73 = .ok (.getfield 19, 3) := dk_180 0 19 (dk_at dksX6_nearer_3 1 rfl rfl)
theorem dX6_nearer_76 : decode cX6_nearer 76 = .ok (.iconst 2, 1) := dk_5 (dk_at dksX6_nearer_3 4 rfl rfl)
theorem dX6_nearer_77 : decode cX6_nearer 77 = .ok (.iload_n 1, 1) := dk_27 (dk_at dksX6_nearer_3 5 rfl rfl)
theorem dX6_nearer_78 : decode cX6_nearer 78 = .ok (.imul, 1) := dk_104 (dk_at dksX6_nearer_3 6 rfl rfl)
theorem dX6_nearer_79 : decode cX6_nearer 79 = .ok (.aload_n 0, 1) := dk_42 (dk_at dksX6_nearer_3 7 rfl rfl)
theorem dX6_nearer_80 : decode cX6_nearer 80 = .ok (.getfield 22, 3) := dk_180 0 22 (dk_at dksX6_nearer_3 8 rfl rfl)
theorem dX6_nearer_83 : decode cX6_nearer 83 = .ok (.imul, 1) := dk_104 (dk_at dksX6_nearer_3 11 rfl rfl)
theorem dX6_nearer_84 : decode cX6_nearer 84 = .ok (.iadd, 1) := dk_96 (dk_at dksX6_nearer_3 12 rfl rfl)
theorem dX6_nearer_85 : decode cX6_nearer 85 = .ok (.aload_n 0, 1) := dk_42 (dk_at dksX6_nearer_3 13 rfl rfl)
theorem dX6_nearer_86 : decode cX6_nearer 86 = .ok (.getfield 22, 3) := dk_180 0 22 (dk_at dksX6_nearer_3 14 rfl rfl)
theorem dX6_nearer_89 : decode cX6_nearer 89 = .ok (.invokespecial 35, 3) := dk_183 0 35 (dk_at dksX6_nearer_3 17 rfl rfl)
theorem dX6_nearer_92 : decode cX6_nearer 92 = .ok (.goto 28, 3) := dk_167 0 28 (dk_at dksX6_nearer_3 20 rfl rfl)
theorem dX6_nearer_95 : decode cX6_nearer 95 = .ok (.new 11, 3) := dk_187 0 11 (dk_at dksX6_nearer_4 0 rfl rfl)
theorem dX6_nearer_98 : decode cX6_nearer 98 = .ok (.dup, 1) := dk_89 (dk_at dksX6_nearer_4 3 rfl rfl)
theorem dX6_nearer_99 : decode cX6_nearer 99 = .ok (.aload_n 0, 1) := dk_42 (dk_at dksX6_nearer_4 4 rfl rfl)
theorem dX6_nearer_100 : decode cX6_nearer 100 = .ok (.getfield 16, 3) := dk_180 0 16 (dk_at dksX6_nearer_4 5 rfl rfl)
theorem dX6_nearer_103 : decode cX6_nearer 103 = .ok (.aload_n 0, 1) := dk_42 (dk_at dksX6_nearer_4 8 rfl rfl)
theorem dX6_nearer_104 : decode cX6_nearer 104 = .ok (.getfield 19, 3) := dk_180 0 19 (dk_at dksX6_nearer_4 9 rfl rfl)
theorem dX6_nearer_107 : decode cX6_nearer 107 = .ok (.iconst 2, 1) := dk_5 (dk_at dksX6_nearer_4 12 rfl rfl)
theorem dX6_nearer_108 : decode cX6_nearer 108 = .ok (.iload_n 1, 1) := dk_27 (dk_at dksX6_nearer_4 13 rfl rfl)
theorem dX6_nearer_109 : decode cX6_nearer 109 = .ok (.imul, 1) := dk_104 (dk_at dksX6_nearer_4 14 rfl rfl)
theorem dX6_nearer_110 : decode cX6_nearer 110 = .ok (.aload_n 0, 1) := dk_42 (dk_at dksX6_nearer_4 15 rfl rfl)
theorem dX6_nearer_111 : decode cX6_nearer 111 = .ok (.getfield 16, 3) := dk_180 0 16 (dk_at dksX6_nearer_4 16 rfl rfl)
theorem dX6_nearer_114 : decode cX6_nearer 114 = .ok (.imul, 1) := dk_104 (dk_at dksX6_nearer_4 19 rfl rfl)
theorem dX6_nearer_115 : decode cX6_nearer 115 = .ok (.iadd, 1) := dk_96 (dk_at dksX6_nearer_4 20 rfl rfl)
theorem dX6_nearer_116 : decode cX6_nearer 116 = .ok (.iload_n 2, 1) := dk_28 (dk_at dksX6_nearer_4 21 rfl rfl)
theorem dX6_nearer_117 : decode cX6_nearer 117 = .ok (.invokespecial 35, 3) := dk_183 0 35 (dk_at dksX6_nearer_5 0 rfl rfl)
theorem dX6_nearer_120 : decode cX6_nearer 120 = .ok (.areturn, 1) := dk_176 (dk_at dksX6_nearer_5 3 rfl rfl)
abbrev cX6_upright : ByteArray := prog_3_method_8_code
def yX6_upright : MethodName := ⟨RX6, "upright", "()LRiverWords$Form;"⟩
def dkwX6_upright_1 : List UInt8 := [183, 0, 35, 167, 0, 4, 42, 176]
abbrev dktX6_upright_1 : List UInt8 := dkwX6_upright_1 ++ []
def dkwX6_upright_0 : List UInt8 := [42, 180, 0, 16, 156, 0, 26, 187, 0, 11, 89, 42, 180, 0, 22, 42, 180, 0, 19, 116, 42, 180, 0, 16]
abbrev dktX6_upright_0 : List UInt8 := dkwX6_upright_0 ++ dktX6_upright_1
theorem dksX6_upright_0 : cX6_upright.data.toList.drop 0 = dktX6_upright_0 := by decide +kernel
theorem dksX6_upright_1 : cX6_upright.data.toList.drop 24 = dktX6_upright_1 := dk_seg dksX6_upright_0 24 rfl rfl
theorem dX6_upright_0 : decode cX6_upright 0 = .ok (.aload_n 0, 1) := dk_42 (dk_at dksX6_upright_0 0 rfl rfl)
theorem dX6_upright_1 : decode cX6_upright 1 = .ok (.getfield 16, 3) := dk_180 0 16 (dk_at dksX6_upright_0 1 rfl rfl)
theorem dX6_upright_4 : decode cX6_upright 4 = .ok (.ifCond .ge 26, 3) := dk_156 0 26 (dk_at dksX6_upright_0 4 rfl rfl)
theorem dX6_upright_7 : decode cX6_upright 7 = .ok (.new 11, 3) := dk_187 0 11 (dk_at dksX6_upright_0 7 rfl rfl)
theorem dX6_upright_10 : decode cX6_upright 10 = .ok (.dup, 1) := dk_89 (dk_at dksX6_upright_0 10 rfl rfl)
theorem dX6_upright_11 : decode cX6_upright 11 = .ok (.aload_n 0, 1) := dk_42 (dk_at dksX6_upright_0 11 rfl rfl)
theorem dX6_upright_12 : decode cX6_upright 12 = .ok (.getfield 22, 3) := dk_180 0 22 (dk_at dksX6_upright_0 12 rfl rfl)
theorem dX6_upright_15 : decode cX6_upright 15 = .ok (.aload_n 0, 1) := dk_42 (dk_at dksX6_upright_0 15 rfl rfl)
theorem dX6_upright_16 : decode cX6_upright 16 = .ok (.getfield 19, 3) := dk_180 0 19 (dk_at dksX6_upright_0 16 rfl rfl)
theorem dX6_upright_19 : decode cX6_upright 19 = .ok (.ineg, 1) := dk_116 (dk_at dksX6_upright_0 19 rfl rfl)
theorem dX6_upright_20 : decode cX6_upright 20 = .ok (.aload_n 0, 1) := dk_42 (dk_at dksX6_upright_0 20 rfl rfl)
theorem dX6_upright_21 : decode cX6_upright 21 = .ok (.getfield 16, 3) := dk_180 0 16 (dk_at dksX6_upright_0 21 rfl rfl)
theorem dX6_upright_24 : decode cX6_upright 24 = .ok (.invokespecial 35, 3) := dk_183 0 35 (dk_at dksX6_upright_1 0 rfl rfl)
theorem dX6_upright_27 : decode cX6_upright 27 = .ok (.goto 4, 3) := dk_167 0 4 (dk_at dksX6_upright_1 3 rfl rfl)
theorem dX6_upright_30 : decode cX6_upright 30 = .ok (.aload_n 0, 1) := dk_42 (dk_at dksX6_upright_1 6 rfl rfl)
theorem dX6_upright_31 : decode cX6_upright 31 = .ok (.areturn, 1) := dk_176 (dk_at dksX6_upright_1 7 rfl rfl)
theorem q101 : (Jvm.Cond.initialized "RiverWords$Form") ∈ lw_all := lw_g (lw_at lw_m1 21 rfl) rfl
theorem q643 : (Jvm.Cond.selects "RiverWords$Form" ({ cls := "java/lang/Object", name := "getClass", desc := "()Ljava/lang/Class;" } : Jvm.MethodName) ({ cls := "java/lang/Object", name := "getClass", desc := "()Ljava/lang/Class;" } : Jvm.MethodName)) ∈ lw_all := lw_g (lw_at lw_m3 83 rfl) rfl
theorem q811 : (Jvm.Cond.instantiable "RiverWords$Form" (7 : Nat)) ∈ lw_all := lw_g (lw_at lw_m4 11 rfl) rfl
theorem q813 : (Jvm.Cond.instanceMethod ({ cls := "RiverWords$Form", name := "<init>", desc := "(III)V" } : Jvm.MethodName)) ∈ lw_all := lw_g (lw_at lw_m4 13 rfl) rfl
theorem q814 : (Jvm.Cond.code ({ cls := "RiverWords$Form", name := "<init>", desc := "(III)V" } : Jvm.MethodName) prog_3_method_1_code (4 : Nat) (Option.none : Option Jvm.ClassFile.FieldType)) ∈ lw_all := lw_g (lw_at lw_m4 14 rfl) rfl
theorem q815 : (Jvm.Cond.methodLink "RiverWords$Form" (3 : Nat) ({ cls := "java/lang/Object", name := "<init>", desc := "()V" } : Jvm.MethodName)) ∈ lw_all := lw_g (lw_at lw_m4 15 rfl) rfl
theorem q816 : (Jvm.Cond.constant "RiverWords$Form" (9 : Nat) (-2000000001 : Int32)) ∈ lw_all := lw_g (lw_at lw_m4 16 rfl) rfl
theorem q817 : (Jvm.Cond.fieldLink "RiverWords$Form" (16 : Nat) "RiverWords$Form" "a" "I") ∈ lw_all := lw_g (lw_at lw_m4 17 rfl) rfl
theorem q819 : (Jvm.Cond.fieldLink "RiverWords$Form" (19 : Nat) "RiverWords$Form" "b" "I") ∈ lw_all := lw_g (lw_at lw_m4 19 rfl) rfl
theorem q821 : (Jvm.Cond.fieldLink "RiverWords$Form" (22 : Nat) "RiverWords$Form" "c" "I") ∈ lw_all := lw_g (lw_at lw_m4 21 rfl) rfl
theorem q823 : (Jvm.Cond.fieldLink "RiverWords$Form" (10 : Nat) "RiverWords$Form" "cycle" "I") ∈ lw_all := lw_g (lw_at lw_m4 23 rfl) rfl
theorem q830 : (Jvm.Cond.laysFinal "RiverWords$Form" "RiverWords$Form" "a" "I") ∈ lw_all := lw_g (lw_at lw_m4 30 rfl) rfl
theorem q831 : (Jvm.Cond.soleField "RiverWords$Form" "a") ∈ lw_all := lw_g (lw_at lw_m4 31 rfl) rfl
theorem q832 : (Jvm.Cond.laysFinal "RiverWords$Form" "RiverWords$Form" "b" "I") ∈ lw_all := lw_g (lw_at lw_m4 32 rfl) rfl
theorem q833 : (Jvm.Cond.soleField "RiverWords$Form" "b") ∈ lw_all := lw_g (lw_at lw_m4 33 rfl) rfl
theorem q834 : (Jvm.Cond.laysFinal "RiverWords$Form" "RiverWords$Form" "c" "I") ∈ lw_all := lw_g (lw_at lw_m4 34 rfl) rfl
theorem q835 : (Jvm.Cond.soleField "RiverWords$Form" "c") ∈ lw_all := lw_g (lw_at lw_m4 35 rfl) rfl
theorem q836 : (Jvm.Cond.lays "RiverWords$Form" "RiverWords$Form" "cycle" "I") ∈ lw_all := lw_g (lw_at lw_m4 36 rfl) rfl
theorem q837 : (Jvm.Cond.soleField "RiverWords$Form" "cycle") ∈ lw_all := lw_g (lw_at lw_m4 37 rfl) rfl
theorem q838 : (Jvm.Cond.lays "RiverWords$Form" "RiverWords$Form" "next" "I") ∈ lw_all := lw_g (lw_at lw_m4 38 rfl) rfl
theorem q839 : (Jvm.Cond.soleField "RiverWords$Form" "next") ∈ lw_all := lw_g (lw_at lw_m4 39 rfl) rfl
theorem q840 : (Jvm.Cond.lays "RiverWords$Form" "RiverWords$Form" "back" "I") ∈ lw_all := lw_g (lw_at lw_m4 40 rfl) rfl
theorem q841 : (Jvm.Cond.soleField "RiverWords$Form" "back") ∈ lw_all := lw_g (lw_at lw_m4 41 rfl) rfl
theorem q842 : (Jvm.Cond.lays "RiverWords$Form" "RiverWords$Form" "mirror" "I") ∈ lw_all := lw_g (lw_at lw_m4 42 rfl) rfl
theorem q843 : (Jvm.Cond.soleField "RiverWords$Form" "mirror") ∈ lw_all := lw_g (lw_at lw_m4 43 rfl) rfl
theorem q844 : (Jvm.Cond.superclass "RiverWords$Form" "java/lang/Object") ∈ lw_all := lw_g (lw_at lw_m4 44 rfl) rfl
theorem q846 : (Jvm.Cond.instanceMethod ({ cls := "RiverWords$Form", name := "disc", desc := "()I" } : Jvm.MethodName)) ∈ lw_all := lw_g (lw_at lw_m4 46 rfl) rfl
theorem q847 : (Jvm.Cond.selects "RiverWords$Form" ({ cls := "RiverWords$Form", name := "disc", desc := "()I" } : Jvm.MethodName) ({ cls := "RiverWords$Form", name := "disc", desc := "()I" } : Jvm.MethodName)) ∈ lw_all := lw_g (lw_at lw_m4 47 rfl) rfl
theorem q848 : (Jvm.Cond.code ({ cls := "RiverWords$Form", name := "disc", desc := "()I" } : Jvm.MethodName) prog_3_method_2_code (1 : Nat) (Option.some Jvm.ClassFile.FieldType.int)) ∈ lw_all := lw_g (lw_at lw_m4 48 rfl) rfl
theorem q1004 : (Jvm.Cond.instanceMethod ({ cls := "RiverWords$Form", name := "letter", desc := "()C" } : Jvm.MethodName)) ∈ lw_all := lw_g (lw_at lw_m4 204 rfl) rfl
theorem q1005 : (Jvm.Cond.selects "RiverWords$Form" ({ cls := "RiverWords$Form", name := "letter", desc := "()C" } : Jvm.MethodName) ({ cls := "RiverWords$Form", name := "letter", desc := "()C" } : Jvm.MethodName)) ∈ lw_all := lw_g (lw_at lw_m4 205 rfl) rfl
theorem q1006 : (Jvm.Cond.code ({ cls := "RiverWords$Form", name := "letter", desc := "()C" } : Jvm.MethodName) prog_3_method_4_code (1 : Nat) (Option.some Jvm.ClassFile.FieldType.char)) ∈ lw_all := lw_g (lw_at lw_m4 206 rfl) rfl
theorem q1012 : (Jvm.Cond.instanceMethod ({ cls := "RiverWords$Form", name := "isAs", desc := "(III)Z" } : Jvm.MethodName)) ∈ lw_all := lw_g (lw_at lw_m4 212 rfl) rfl
theorem q1013 : (Jvm.Cond.selects "RiverWords$Form" ({ cls := "RiverWords$Form", name := "isAs", desc := "(III)Z" } : Jvm.MethodName) ({ cls := "RiverWords$Form", name := "isAs", desc := "(III)Z" } : Jvm.MethodName)) ∈ lw_all := lw_g (lw_at lw_m4 213 rfl) rfl
theorem q1014 : (Jvm.Cond.code ({ cls := "RiverWords$Form", name := "isAs", desc := "(III)Z" } : Jvm.MethodName) prog_3_method_5_code (4 : Nat) (Option.some Jvm.ClassFile.FieldType.boolean)) ∈ lw_all := lw_g (lw_at lw_m4 214 rfl) rfl
theorem q1079 : (Jvm.Cond.instanceMethod ({ cls := "RiverWords$Form", name := "isWhole", desc := "()Z" } : Jvm.MethodName)) ∈ lw_all := lw_g (lw_at lw_m5 39 rfl) rfl
theorem q1080 : (Jvm.Cond.selects "RiverWords$Form" ({ cls := "RiverWords$Form", name := "isWhole", desc := "()Z" } : Jvm.MethodName) ({ cls := "RiverWords$Form", name := "isWhole", desc := "()Z" } : Jvm.MethodName)) ∈ lw_all := lw_g (lw_at lw_m5 40 rfl) rfl
theorem q1081 : (Jvm.Cond.code ({ cls := "RiverWords$Form", name := "isWhole", desc := "()Z" } : Jvm.MethodName) prog_3_method_3_code (1 : Nat) (Option.some Jvm.ClassFile.FieldType.boolean)) ∈ lw_all := lw_g (lw_at lw_m5 41 rfl) rfl
theorem q1082 : (Jvm.Cond.methodLinkNest "RiverWords$Form" (25 : Nat) ({ cls := "RiverWords", name := "common", desc := "(II)I" } : Jvm.MethodName) "RiverWords") ∈ lw_tbl := lw_at lw_m5 42 rfl
theorem q1088 : (Jvm.Cond.instanceMethod ({ cls := "RiverWords$Form", name := "isAsideOnly", desc := "()Z" } : Jvm.MethodName)) ∈ lw_all := lw_g (lw_at lw_m5 48 rfl) rfl
theorem q1089 : (Jvm.Cond.selects "RiverWords$Form" ({ cls := "RiverWords$Form", name := "isAsideOnly", desc := "()Z" } : Jvm.MethodName) ({ cls := "RiverWords$Form", name := "isAsideOnly", desc := "()Z" } : Jvm.MethodName)) ∈ lw_all := lw_g (lw_at lw_m5 49 rfl) rfl
theorem q1090 : (Jvm.Cond.code ({ cls := "RiverWords$Form", name := "isAsideOnly", desc := "()Z" } : Jvm.MethodName) prog_3_method_6_code (1 : Nat) (Option.some Jvm.ClassFile.FieldType.boolean)) ∈ lw_all := lw_g (lw_at lw_m5 50 rfl) rfl
theorem q1092 : (Jvm.Cond.instanceMethod ({ cls := "RiverWords$Form", name := "nearer", desc := "()LRiverWords$Form;" } : Jvm.MethodName)) ∈ lw_all := lw_g (lw_at lw_m5 52 rfl) rfl
theorem q1093 : (Jvm.Cond.selects "RiverWords$Form" ({ cls := "RiverWords$Form", name := "nearer", desc := "()LRiverWords$Form;" } : Jvm.MethodName) ({ cls := "RiverWords$Form", name := "nearer", desc := "()LRiverWords$Form;" } : Jvm.MethodName)) ∈ lw_all := lw_g (lw_at lw_m5 53 rfl) rfl
theorem q1094 : (Jvm.Cond.code ({ cls := "RiverWords$Form", name := "nearer", desc := "()LRiverWords$Form;" } : Jvm.MethodName) prog_3_method_7_code (3 : Nat) (Option.some (Jvm.ClassFile.FieldType.object "RiverWords$Form"))) ∈ lw_all := lw_g (lw_at lw_m5 54 rfl) rfl
theorem q1095 : (Jvm.Cond.methodLink "RiverWords$Form" (29 : Nat) ({ cls := "java/lang/Math", name := "abs", desc := "(I)I" } : Jvm.MethodName)) ∈ lw_all := lw_g (lw_at lw_m5 55 rfl) rfl
theorem q1096 : (Jvm.Cond.classLink "RiverWords$Form" (11 : Nat) "RiverWords$Form") ∈ lw_all := lw_g (lw_at lw_m5 56 rfl) rfl
theorem q1097 : (Jvm.Cond.methodLink "RiverWords$Form" (35 : Nat) ({ cls := "RiverWords$Form", name := "<init>", desc := "(III)V" } : Jvm.MethodName)) ∈ lw_all := lw_g (lw_at lw_m5 57 rfl) rfl
theorem q1099 : (Jvm.Cond.instanceMethod ({ cls := "RiverWords$Form", name := "upright", desc := "()LRiverWords$Form;" } : Jvm.MethodName)) ∈ lw_all := lw_g (lw_at lw_m5 59 rfl) rfl
theorem q1100 : (Jvm.Cond.selects "RiverWords$Form" ({ cls := "RiverWords$Form", name := "upright", desc := "()LRiverWords$Form;" } : Jvm.MethodName) ({ cls := "RiverWords$Form", name := "upright", desc := "()LRiverWords$Form;" } : Jvm.MethodName)) ∈ lw_all := lw_g (lw_at lw_m5 60 rfl) rfl
theorem q1101 : (Jvm.Cond.code ({ cls := "RiverWords$Form", name := "upright", desc := "()LRiverWords$Form;" } : Jvm.MethodName) prog_3_method_8_code (1 : Nat) (Option.some (Jvm.ClassFile.FieldType.object "RiverWords$Form"))) ∈ lw_all := lw_g (lw_at lw_m5 61 rfl) rfl
theorem q1656 : (Jvm.Cond.castable "RiverWords$Form" "java/lang/Object") ∈ lw_tbl := lw_at lw_m7 136 rfl
theorem in_X6 : ∀ w ∈ wsX60, w ∈ lw_all := lw_in wsX60 [830, 832, 834, 836, 838, 840, 842] (by decide +kernel) (by decide +kernel)
/-! RiverWords$Cycle -/
set_option maxRecDepth 100000
def RX7 : String := "RiverWords$Cycle"
def TX7 : u_T := fun k => match k with
  | 0 => ("RiverWords$Cycle", "least", "I", true)
  | 1 => ("RiverWords$Cycle", "word", "Ljava/lang/StringBuilder;", true)
  | _ => ("RiverWords$Cycle", "this$0", "LRiverWords;", true)
def tyX7 : Nat → FieldType := fun k => match k with
  | 0 => .int
  | 1 => .object "java/lang/StringBuilder"
  | _ => .object "RiverWords"
abbrev wsX70 : List Cond := u_ws RX7 TX7 3
theorem nmX7 : ∀ a, a < 3 → ∀ b, b < 3 → a ≠ b → (TX7 a).2.1 ≠ (TX7 b).2.1 := by decide +kernel
theorem tyX7_ok : ∀ k, k < 3 → parseFieldDescriptor (TX7 k).2.2.1 = some (tyX7 k) := by decide +kernel
abbrev cX7_word : ByteArray := prog_2_method_2_code
def yX7_word : MethodName := ⟨RX7, "word", "()Ljava/lang/CharSequence;"⟩
theorem dX7_word_0 : decode cX7_word 0 = .ok (.aload_n 0, 1) := by decide +kernel
theorem dX7_word_1 : decode cX7_word 1 = .ok (.getfield 16, 3) := by decide +kernel
theorem dX7_word_4 : decode cX7_word 4 = .ok (.areturn, 1) := by decide +kernel
abbrev cX7_init : ByteArray := prog_2_method_1_code
def yX7_init : MethodName := ⟨RX7, "<init>", "(LRiverWords;II)V"⟩
def dkwX7_init_3 : List UInt8 := [21, 4, 28, 160, 255, 213, 177]
abbrev dktX7_init_3 : List UInt8 := dkwX7_init_3 ++ []
def dkwX7_init_2 : List UInt8 := [181, 0, 38, 42, 180, 0, 16, 25, 5, 182, 0, 41, 182, 0, 45, 87, 25, 5, 180, 0, 49, 54, 4]
abbrev dktX7_init_2 : List UInt8 := dkwX7_init_2 ++ dktX7_init_3
def dkwX7_init_1 : List UInt8 := [181, 0, 20, 28, 54, 4, 43, 180, 0, 24, 21, 4, 182, 0, 30, 192, 0, 36, 58, 5, 25, 5, 29]
abbrev dktX7_init_1 : List UInt8 := dkwX7_init_1 ++ dktX7_init_2
def dkwX7_init_0 : List UInt8 := [42, 43, 181, 0, 1, 42, 183, 0, 7, 42, 187, 0, 13, 89, 183, 0, 15, 181, 0, 16, 42, 28]
abbrev dktX7_init_0 : List UInt8 := dkwX7_init_0 ++ dktX7_init_1
theorem dksX7_init_0 : cX7_init.data.toList.drop 0 = dktX7_init_0 := by decide +kernel
theorem dksX7_init_1 : cX7_init.data.toList.drop 22 = dktX7_init_1 := dk_seg dksX7_init_0 22 rfl rfl
theorem dksX7_init_2 : cX7_init.data.toList.drop 45 = dktX7_init_2 := dk_seg dksX7_init_1 23 rfl rfl
theorem dksX7_init_3 : cX7_init.data.toList.drop 68 = dktX7_init_3 := dk_seg dksX7_init_2 23 rfl rfl
theorem dX7_init_0 : decode cX7_init 0 = .ok (.aload_n 0, 1) := dk_42 (dk_at dksX7_init_0 0 rfl rfl)
theorem dX7_init_1 : decode cX7_init 1 = .ok (.aload_n 1, 1) := dk_43 (dk_at dksX7_init_0 1 rfl rfl)
theorem dX7_init_2 : decode cX7_init 2 = .ok (.putfield 1, 3) := dk_181 0 1 (dk_at dksX7_init_0 2 rfl rfl)
theorem dX7_init_5 : decode cX7_init 5 = .ok (.aload_n 0, 1) := dk_42 (dk_at dksX7_init_0 5 rfl rfl)
theorem dX7_init_6 : decode cX7_init 6 = .ok (.invokespecial 7, 3) := dk_183 0 7 (dk_at dksX7_init_0 6 rfl rfl)
theorem dX7_init_9 : decode cX7_init 9 = .ok (.aload_n 0, 1) := dk_42 (dk_at dksX7_init_0 9 rfl rfl)
theorem dX7_init_10 : decode cX7_init 10 = .ok (.new 13, 3) := dk_187 0 13 (dk_at dksX7_init_0 10 rfl rfl)
theorem dX7_init_13 : decode cX7_init 13 = .ok (.dup, 1) := dk_89 (dk_at dksX7_init_0 13 rfl rfl)
theorem dX7_init_14 : decode cX7_init 14 = .ok (.invokespecial 15, 3) := dk_183 0 15 (dk_at dksX7_init_0 14 rfl rfl)
theorem dX7_init_17 : decode cX7_init 17 = .ok (.putfield 16, 3) := dk_181 0 16 (dk_at dksX7_init_0 17 rfl rfl)
theorem dX7_init_20 : decode cX7_init 20 = .ok (.aload_n 0, 1) := dk_42 (dk_at dksX7_init_0 20 rfl rfl)
theorem dX7_init_21 : decode cX7_init 21 = .ok (.iload_n 2, 1) := dk_28 (dk_at dksX7_init_0 21 rfl rfl)
theorem dX7_init_22 : decode cX7_init 22 = .ok (.putfield 20, 3) := dk_181 0 20 (dk_at dksX7_init_1 0 rfl rfl)
theorem dX7_init_25 : decode cX7_init 25 = .ok (.iload_n 2, 1) := dk_28 (dk_at dksX7_init_1 3 rfl rfl)
theorem dX7_init_26 : decode cX7_init 26 = .ok (.istore 4, 2) := dk_54 4 (dk_at dksX7_init_1 4 rfl rfl)
theorem dX7_init_28 : decode cX7_init 28 = .ok (.aload_n 1, 1) := dk_43 (dk_at dksX7_init_1 6 rfl rfl)
theorem dX7_init_29 : decode cX7_init 29 = .ok (.getfield 24, 3) := dk_180 0 24 (dk_at dksX7_init_1 7 rfl rfl)
theorem dX7_init_32 : decode cX7_init 32 = .ok (.iload 4, 2) := dk_21 4 (dk_at dksX7_init_1 10 rfl rfl)
theorem dX7_init_34 : decode cX7_init 34 = .ok (.invokevirtual 30, 3) := dk_182 0 30 (dk_at dksX7_init_1 12 rfl rfl)
theorem dX7_init_37 : decode cX7_init 37 = .ok (.checkcast 36, 3) := dk_192 0 36 (dk_at dksX7_init_1 15 rfl rfl)
theorem dX7_init_40 : decode cX7_init 40 = .ok (.astore 5, 2) := dk_58 5 (dk_at dksX7_init_1 18 rfl rfl)
theorem dX7_init_42 : decode cX7_init 42 = .ok (.aload 5, 2) := dk_25 5 (dk_at dksX7_init_1 20 rfl rfl)
theorem dX7_init_44 : decode cX7_init 44 = .ok (.iload_n 3, 1) := dk_29 (dk_at dksX7_init_1 22 rfl rfl)
theorem dX7_init_45 : decode cX7_init 45 = .ok (.putfield 38, 3) := dk_181 0 38 (dk_at dksX7_init_2 0 rfl rfl)
theorem dX7_init_48 : decode cX7_init 48 = .ok (.aload_n 0, 1) := dk_42 (dk_at dksX7_init_2 3 rfl rfl)
theorem dX7_init_49 : decode cX7_init 49 = .ok (.getfield 16, 3) := dk_180 0 16 (dk_at dksX7_init_2 4 rfl rfl)
theorem dX7_init_52 : decode cX7_init 52 = .ok (.aload 5, 2) := dk_25 5 (dk_at dksX7_init_2 7 rfl rfl)
theorem dX7_init_54 : decode cX7_init 54 = .ok (.invokevirtual 41, 3) := dk_182 0 41 (dk_at dksX7_init_2 9 rfl rfl)
theorem dX7_init_57 : decode cX7_init 57 = .ok (.invokevirtual 45, 3) := dk_182 0 45 (dk_at dksX7_init_2 12 rfl rfl)
theorem dX7_init_60 : decode cX7_init 60 = .ok (.pop, 1) := dk_87 (dk_at dksX7_init_2 15 rfl rfl)
theorem dX7_init_61 : decode cX7_init 61 = .ok (.aload 5, 2) := dk_25 5 (dk_at dksX7_init_2 16 rfl rfl)
theorem dX7_init_63 : decode cX7_init 63 = .ok (.getfield 49, 3) := dk_180 0 49 (dk_at dksX7_init_2 18 rfl rfl)
theorem dX7_init_66 : decode cX7_init 66 = .ok (.istore 4, 2) := dk_54 4 (dk_at dksX7_init_2 21 rfl rfl)
theorem dX7_init_68 : decode cX7_init 68 = .ok (.iload 4, 2) := dk_21 4 (dk_at dksX7_init_3 0 rfl rfl)
theorem dX7_init_70 : decode cX7_init 70 = .ok (.iload_n 2, 1) := dk_28 (dk_at dksX7_init_3 2 rfl rfl)
theorem dX7_init_71 : decode cX7_init 71 = .ok (.if_icmp .ne (-43), 3) := dk_160 255 213 (dk_at dksX7_init_3 3 rfl rfl)
theorem dX7_init_74 : decode cX7_init 74 = .ok (.return_, 1) := dk_177 (dk_at dksX7_init_3 6 rfl rfl)
theorem q102 : (Jvm.Cond.initialized "RiverWords$Cycle") ∈ lw_all := lw_g (lw_at lw_m1 22 rfl) rfl
theorem q282 : (Jvm.Cond.fieldLinkNest "RiverWords$Cycle" (24 : Nat) "RiverWords" "forms" "Ljava/util/ArrayList;" "RiverWords") ∈ lw_tbl := lw_at lw_m1 202 rfl
theorem q642 : (Jvm.Cond.selects "RiverWords$Cycle" ({ cls := "java/lang/Object", name := "getClass", desc := "()Ljava/lang/Class;" } : Jvm.MethodName) ({ cls := "java/lang/Object", name := "getClass", desc := "()Ljava/lang/Class;" } : Jvm.MethodName)) ∈ lw_all := lw_g (lw_at lw_m3 82 rfl) rfl
theorem q695 : (Jvm.Cond.castable "RiverWords$Cycle" "RiverWords$Worded") ∈ lw_tbl := lw_at lw_m3 135 rfl
theorem q696 : (Jvm.Cond.selects "RiverWords$Cycle" ({ cls := "RiverWords$Worded", name := "word", desc := "()Ljava/lang/CharSequence;" } : Jvm.MethodName) ({ cls := "RiverWords$Cycle", name := "word", desc := "()Ljava/lang/CharSequence;" } : Jvm.MethodName)) ∈ lw_all := lw_g (lw_at lw_m3 136 rfl) rfl
theorem q697 : (Jvm.Cond.unhidden "RiverWords$Cycle" "word" "()Ljava/lang/CharSequence;") ∈ lw_tbl := lw_at lw_m3 137 rfl
theorem q698 : (Jvm.Cond.instanceMethod ({ cls := "RiverWords$Cycle", name := "word", desc := "()Ljava/lang/CharSequence;" } : Jvm.MethodName)) ∈ lw_all := lw_g (lw_at lw_m3 138 rfl) rfl
theorem q699 : (Jvm.Cond.publicMethod ({ cls := "RiverWords$Cycle", name := "word", desc := "()Ljava/lang/CharSequence;" } : Jvm.MethodName)) ∈ lw_tbl := lw_at lw_m3 139 rfl
theorem q700 : (Jvm.Cond.code ({ cls := "RiverWords$Cycle", name := "word", desc := "()Ljava/lang/CharSequence;" } : Jvm.MethodName) prog_2_method_2_code (1 : Nat) (Option.some (Jvm.ClassFile.FieldType.object "java/lang/CharSequence"))) ∈ lw_all := lw_g (lw_at lw_m3 140 rfl) rfl
theorem q717 : (Jvm.Cond.unhidden "RiverWords$Cycle" "length" "()I") ∈ lw_tbl := lw_at lw_m3 157 rfl
theorem q722 : (Jvm.Cond.unhidden "RiverWords$Cycle" "sign" "(I)C") ∈ lw_tbl := lw_at lw_m3 162 rfl
theorem q753 : (Jvm.Cond.unhidden "RiverWords$Cycle" "many" "(C)I") ∈ lw_tbl := lw_at lw_m3 193 rfl
theorem q824 : (Jvm.Cond.fieldLinkNest "RiverWords$Cycle" (38 : Nat) "RiverWords$Form" "cycle" "I" "RiverWords") ∈ lw_tbl := lw_at lw_m4 24 rfl
theorem q826 : (Jvm.Cond.fieldLinkNest "RiverWords$Cycle" (49 : Nat) "RiverWords$Form" "next" "I" "RiverWords") ∈ lw_tbl := lw_at lw_m4 26 rfl
theorem q1016 : (Jvm.Cond.instantiable "RiverWords$Cycle" (3 : Nat)) ∈ lw_all := lw_g (lw_at lw_m4 216 rfl) rfl
theorem q1018 : (Jvm.Cond.instanceMethod ({ cls := "RiverWords$Cycle", name := "<init>", desc := "(LRiverWords;II)V" } : Jvm.MethodName)) ∈ lw_all := lw_g (lw_at lw_m4 218 rfl) rfl
theorem q1019 : (Jvm.Cond.code ({ cls := "RiverWords$Cycle", name := "<init>", desc := "(LRiverWords;II)V" } : Jvm.MethodName) prog_2_method_1_code (6 : Nat) (Option.none : Option Jvm.ClassFile.FieldType)) ∈ lw_all := lw_g (lw_at lw_m4 219 rfl) rfl
theorem q1020 : (Jvm.Cond.methodLink "RiverWords$Cycle" (7 : Nat) ({ cls := "java/lang/Object", name := "<init>", desc := "()V" } : Jvm.MethodName)) ∈ lw_all := lw_g (lw_at lw_m4 220 rfl) rfl
theorem q1021 : (Jvm.Cond.classLink "RiverWords$Cycle" (13 : Nat) "java/lang/StringBuilder") ∈ lw_all := lw_g (lw_at lw_m4 221 rfl) rfl
theorem q1022 : (Jvm.Cond.methodLink "RiverWords$Cycle" (15 : Nat) ({ cls := "java/lang/StringBuilder", name := "<init>", desc := "()V" } : Jvm.MethodName)) ∈ lw_all := lw_g (lw_at lw_m4 222 rfl) rfl
theorem q1023 : (Jvm.Cond.methodLink "RiverWords$Cycle" (30 : Nat) ({ cls := "java/util/ArrayList", name := "get", desc := "(I)Ljava/lang/Object;" } : Jvm.MethodName)) ∈ lw_all := lw_g (lw_at lw_m4 223 rfl) rfl
theorem q1024 : (Jvm.Cond.classLink "RiverWords$Cycle" (36 : Nat) "RiverWords$Form") ∈ lw_all := lw_g (lw_at lw_m4 224 rfl) rfl
theorem q1025 : (Jvm.Cond.methodLink "RiverWords$Cycle" (41 : Nat) ({ cls := "RiverWords$Form", name := "letter", desc := "()C" } : Jvm.MethodName)) ∈ lw_all := lw_g (lw_at lw_m4 225 rfl) rfl
theorem q1026 : (Jvm.Cond.methodLink "RiverWords$Cycle" (45 : Nat) ({ cls := "java/lang/StringBuilder", name := "append", desc := "(C)Ljava/lang/StringBuilder;" } : Jvm.MethodName)) ∈ lw_all := lw_g (lw_at lw_m4 226 rfl) rfl
theorem q1027 : (Jvm.Cond.fieldLink "RiverWords$Cycle" (20 : Nat) "RiverWords$Cycle" "least" "I") ∈ lw_all := lw_g (lw_at lw_m4 227 rfl) rfl
theorem q1029 : (Jvm.Cond.fieldLink "RiverWords$Cycle" (16 : Nat) "RiverWords$Cycle" "word" "Ljava/lang/StringBuilder;") ∈ lw_all := lw_g (lw_at lw_m4 229 rfl) rfl
theorem q1031 : (Jvm.Cond.fieldLink "RiverWords$Cycle" (1 : Nat) "RiverWords$Cycle" "this$0" "LRiverWords;") ∈ lw_all := lw_g (lw_at lw_m4 231 rfl) rfl
theorem q1032 : (Jvm.Cond.laysFinal "RiverWords$Cycle" "RiverWords$Cycle" "least" "I") ∈ lw_all := lw_g (lw_at lw_m4 232 rfl) rfl
theorem q1033 : (Jvm.Cond.soleField "RiverWords$Cycle" "least") ∈ lw_all := lw_g (lw_at lw_m4 233 rfl) rfl
theorem q1034 : (Jvm.Cond.laysFinal "RiverWords$Cycle" "RiverWords$Cycle" "word" "Ljava/lang/StringBuilder;") ∈ lw_all := lw_g (lw_at lw_m4 234 rfl) rfl
theorem q1035 : (Jvm.Cond.soleField "RiverWords$Cycle" "word") ∈ lw_all := lw_g (lw_at lw_m4 235 rfl) rfl
theorem q1036 : (Jvm.Cond.laysFinal "RiverWords$Cycle" "RiverWords$Cycle" "this$0" "LRiverWords;") ∈ lw_all := lw_g (lw_at lw_m4 236 rfl) rfl
theorem q1037 : (Jvm.Cond.soleField "RiverWords$Cycle" "this$0") ∈ lw_all := lw_g (lw_at lw_m4 237 rfl) rfl
theorem q1038 : (Jvm.Cond.superclass "RiverWords$Cycle" "java/lang/Object") ∈ lw_all := lw_g (lw_at lw_m4 238 rfl) rfl
theorem q1657 : (Jvm.Cond.castable "RiverWords$Cycle" "java/lang/Object") ∈ lw_tbl := lw_at lw_m7 137 rfl
theorem in_X7 : ∀ w ∈ wsX70, w ∈ lw_all := lw_in wsX70 [1032, 1034, 1036] (by decide +kernel) (by decide +kernel)
