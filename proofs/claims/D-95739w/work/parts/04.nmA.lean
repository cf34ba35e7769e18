/-! DECODE ROWS BY BYTES: one lemma an opcode; a method's code is cut into short pieces once, and a row reads its own piece alone. -/
set_option maxRecDepth 100000
/-- the code has just these bytes from pc on -/
def DkAt (code : ByteArray) (pc : Nat) (bs : List UInt8) : Prop := ∀ (j : Nat) (b : UInt8), bs[j]? = some b → code.data.toList[pc + j]? = some b
/-- the piece W has the bytes bs from its place j on -/
def dkIn (W : List UInt8) (j : Nat) (bs : List UInt8) : Bool := decide ((W.drop j).take bs.length = bs)
theorem dk_seg {l W T : List UInt8} {o o2 : Nat} (h : l.drop o = W ++ T) (n : Nat) (hn : W.length = n) (ho : o + n = o2) : l.drop o2 = T := by
  subst ho
  rw [← List.drop_drop, h, List.drop_left' hn]
theorem dk_at {code : ByteArray} {W T bs : List UInt8} {o pc : Nat} (h : code.data.toList.drop o = W ++ T) (j : Nat) (hp : o + j = pc) (hw : dkIn W j bs = true) : DkAt code pc bs := by
  subst hp
  intro i b e
  have h1 := of_decide_eq_true hw
  have h2 : i < bs.length := (List.getElem?_eq_some_iff.mp e).1
  have h3 : W[j + i]? = some b := by
    rw [← h1, List.getElem?_take, if_pos h2, List.getElem?_drop] at e
    exact e
  have h4 : j + i < W.length := (List.getElem?_eq_some_iff.mp h3).1
  have h5 : (code.data.toList.drop o)[j + i]? = some b := by
    rw [h, List.getElem?_append_left h4]
    exact h3
  rw [List.getElem?_drop, ← Nat.add_assoc] at h5
  exact h5
theorem dk_u1 {A : ByteArray} {p : Nat} {b : UInt8} (h : A.data.toList[p]? = some b) : (Reader.u1 : Reader DecodeError Nat) A p = .ok (b.toNat, p + 1) := by
  obtain ⟨h1, h2⟩ := List.getElem?_eq_some_iff.mp h
  have h3 : p < A.size := by simpa using h1
  have h4 : A[p]'h3 = b := h2
  have e : (Reader.u1 : Reader DecodeError Nat) A p = (if h : p < A.size then .ok (A[p].toNat, p + 1) else .error (HasTruncated.truncated p)) := by
    show (do if h : p < A.size then do set (p + 1); Pure.pure A[p].toNat else MonadExcept.throw (HasTruncated.truncated p) : Reader DecodeError Nat) A p = _
    by_cases hi : p < A.size
    · rw [dif_pos hi, dif_pos hi]; rfl
    · rw [dif_neg hi, dif_neg hi]; rfl
  rw [e, dif_pos h3, h4]
theorem dk_bind {α β : Type} {r : Reader DecodeError α} {f : α → Reader DecodeError β} {A : ByteArray} {p s : Nat} {a : α} (h : r A p = .ok (a, s)) : (r >>= f) A p = f a A s := by
  show (do let (a, s) ← r A p; f a A s : Except DecodeError (β × Nat)) = _
  rw [h]
  rfl
theorem dk_map {α β : Type} {r : Reader DecodeError α} {g : α → β} {A : ByteArray} {p s : Nat} {a : α} (h : r A p = .ok (a, s)) : (g <$> r) A p = .ok (g a, s) := by
  show (do let (a, s) ← r A p; .ok (g a, s) : Except DecodeError (β × Nat)) = _
  rw [h]
  rfl
theorem dk_u2 {A : ByteArray} {p : Nat} {a b : UInt8} (h : A.data.toList[p]? = some a) (h2 : A.data.toList[p + 1]? = some b) : (Reader.u2 : Reader DecodeError Nat) A p = .ok (a.toNat * 256 + b.toNat, p + 2) := by
  show (Reader.u1 >>= fun hi => Reader.u1 >>= fun lo => Pure.pure (hi * 256 + lo) : Reader DecodeError Nat) A p = _
  rw [dk_bind (dk_u1 h), dk_bind (dk_u1 h2)]
  rfl
theorem dk_of {code : ByteArray} {pc n : Nat} {i : Instr} (h : Decoder.instr pc code pc = .ok (i, pc + n)) : decode code pc = .ok (i, n) := by
  have e : decode code pc = (match Decoder.instr pc code pc with | .error x => .error x | .ok (j, s) => .ok (j, s - pc)) := by
    show (do let (j, s) ← Decoder.instr pc code pc; Pure.pure (j, s - pc) : Except DecodeError (Instr × Nat)) = _
    cases Decoder.instr pc code pc <;> rfl
  rw [e, h]
  show Except.ok (i, pc + n - pc) = _
  rw [Nat.add_sub_cancel_left]
theorem dk_1 {code : ByteArray} {pc : Nat} (h : DkAt code pc [1]) : decode code pc = .ok (.aconst_null, 1) := dk_of ((dk_bind (dk_u1 (h 0 _ rfl))).trans rfl)
theorem dk_2 {code : ByteArray} {pc : Nat} (h : DkAt code pc [2]) : decode code pc = .ok (.iconst (-1), 1) := dk_of ((dk_bind (dk_u1 (h 0 _ rfl))).trans rfl)
theorem dk_3 {code : ByteArray} {pc : Nat} (h : DkAt code pc [3]) : decode code pc = .ok (.iconst 0, 1) := dk_of ((dk_bind (dk_u1 (h 0 _ rfl))).trans rfl)
theorem dk_4 {code : ByteArray} {pc : Nat} (h : DkAt code pc [4]) : decode code pc = .ok (.iconst 1, 1) := dk_of ((dk_bind (dk_u1 (h 0 _ rfl))).trans rfl)
theorem dk_5 {code : ByteArray} {pc : Nat} (h : DkAt code pc [5]) : decode code pc = .ok (.iconst 2, 1) := dk_of ((dk_bind (dk_u1 (h 0 _ rfl))).trans rfl)
theorem dk_6 {code : ByteArray} {pc : Nat} (h : DkAt code pc [6]) : decode code pc = .ok (.iconst 3, 1) := dk_of ((dk_bind (dk_u1 (h 0 _ rfl))).trans rfl)
theorem dk_7 {code : ByteArray} {pc : Nat} (h : DkAt code pc [7]) : decode code pc = .ok (.iconst 4, 1) := dk_of ((dk_bind (dk_u1 (h 0 _ rfl))).trans rfl)
theorem dk_8 {code : ByteArray} {pc : Nat} (h : DkAt code pc [8]) : decode code pc = .ok (.iconst 5, 1) := dk_of ((dk_bind (dk_u1 (h 0 _ rfl))).trans rfl)
theorem dk_9 {code : ByteArray} {pc : Nat} (h : DkAt code pc [9]) : decode code pc = .ok (.lconst 0, 1) := dk_of ((dk_bind (dk_u1 (h 0 _ rfl))).trans rfl)
theorem dk_16 {code : ByteArray} {pc : Nat} (a : UInt8) (h : DkAt code pc [16, a]) : decode code pc = .ok (.bipush (Reader.signed 8 a.toNat), 2) := dk_of ((dk_bind (dk_u1 (h 0 _ rfl))).trans ((dk_bind (dk_map (dk_u1 (h 1 _ rfl)))).trans rfl))
theorem dk_17 {code : ByteArray} {pc : Nat} (a b : UInt8) (h : DkAt code pc [17, a, b]) : decode code pc = .ok (.sipush (Reader.signed 16 (a.toNat * 256 + b.toNat)), 3) := dk_of ((dk_bind (dk_u1 (h 0 _ rfl))).trans ((dk_bind (dk_map (dk_u2 (h 1 _ rfl) (h 2 _ rfl)))).trans rfl))
theorem dk_18 {code : ByteArray} {pc : Nat} (a : UInt8) (h : DkAt code pc [18, a]) : decode code pc = .ok (.ldc a.toNat, 2) := dk_of ((dk_bind (dk_u1 (h 0 _ rfl))).trans ((dk_bind (dk_u1 (h 1 _ rfl))).trans rfl))
theorem dk_19 {code : ByteArray} {pc : Nat} (a b : UInt8) (h : DkAt code pc [19, a, b]) : decode code pc = .ok (.ldc_w (a.toNat * 256 + b.toNat), 3) := dk_of ((dk_bind (dk_u1 (h 0 _ rfl))).trans ((dk_bind (dk_u2 (h 1 _ rfl) (h 2 _ rfl))).trans rfl))
theorem dk_20 {code : ByteArray} {pc : Nat} (a b : UInt8) (h : DkAt code pc [20, a, b]) : decode code pc = .ok (.ldc2_w (a.toNat * 256 + b.toNat), 3) := dk_of ((dk_bind (dk_u1 (h 0 _ rfl))).trans ((dk_bind (dk_u2 (h 1 _ rfl) (h 2 _ rfl))).trans rfl))
theorem dk_21 {code : ByteArray} {pc : Nat} (a : UInt8) (h : DkAt code pc [21, a]) : decode code pc = .ok (.iload a.toNat, 2) := dk_of ((dk_bind (dk_u1 (h 0 _ rfl))).trans ((dk_bind (dk_u1 (h 1 _ rfl))).trans rfl))
theorem dk_22 {code : ByteArray} {pc : Nat} (a : UInt8) (h : DkAt code pc [22, a]) : decode code pc = .ok (.lload a.toNat, 2) := dk_of ((dk_bind (dk_u1 (h 0 _ rfl))).trans ((dk_bind (dk_u1 (h 1 _ rfl))).trans rfl))
theorem dk_25 {code : ByteArray} {pc : Nat} (a : UInt8) (h : DkAt code pc [25, a]) : decode code pc = .ok (.aload a.toNat, 2) := dk_of ((dk_bind (dk_u1 (h 0 _ rfl))).trans ((dk_bind (dk_u1 (h 1 _ rfl))).trans rfl))
theorem dk_26 {code : ByteArray} {pc : Nat} (h : DkAt code pc [26]) : decode code pc = .ok (.iload_n 0, 1) := dk_of ((dk_bind (dk_u1 (h 0 _ rfl))).trans rfl)
theorem dk_27 {code : ByteArray} {pc : Nat} (h : DkAt code pc [27]) : decode code pc = .ok (.iload_n 1, 1) := dk_of ((dk_bind (dk_u1 (h 0 _ rfl))).trans rfl)
theorem dk_28 {code : ByteArray} {pc : Nat} (h : DkAt code pc [28]) : decode code pc = .ok (.iload_n 2, 1) := dk_of ((dk_bind (dk_u1 (h 0 _ rfl))).trans rfl)
theorem dk_29 {code : ByteArray} {pc : Nat} (h : DkAt code pc [29]) : decode code pc = .ok (.iload_n 3, 1) := dk_of ((dk_bind (dk_u1 (h 0 _ rfl))).trans rfl)
theorem dk_32 {code : ByteArray} {pc : Nat} (h : DkAt code pc [32]) : decode code pc = .ok (.lload_n 2, 1) := dk_of ((dk_bind (dk_u1 (h 0 _ rfl))).trans rfl)
theorem dk_42 {code : ByteArray} {pc : Nat} (h : DkAt code pc [42]) : decode code pc = .ok (.aload_n 0, 1) := dk_of ((dk_bind (dk_u1 (h 0 _ rfl))).trans rfl)
theorem dk_43 {code : ByteArray} {pc : Nat} (h : DkAt code pc [43]) : decode code pc = .ok (.aload_n 1, 1) := dk_of ((dk_bind (dk_u1 (h 0 _ rfl))).trans rfl)
theorem dk_44 {code : ByteArray} {pc : Nat} (h : DkAt code pc [44]) : decode code pc = .ok (.aload_n 2, 1) := dk_of ((dk_bind (dk_u1 (h 0 _ rfl))).trans rfl)
theorem dk_45 {code : ByteArray} {pc : Nat} (h : DkAt code pc [45]) : decode code pc = .ok (.aload_n 3, 1) := dk_of ((dk_bind (dk_u1 (h 0 _ rfl))).trans rfl)
theorem dk_46 {code : ByteArray} {pc : Nat} (h : DkAt code pc [46]) : decode code pc = .ok (.iaload, 1) := dk_of ((dk_bind (dk_u1 (h 0 _ rfl))).trans rfl)
theorem dk_47 {code : ByteArray} {pc : Nat} (h : DkAt code pc [47]) : decode code pc = .ok (.laload, 1) := dk_of ((dk_bind (dk_u1 (h 0 _ rfl))).trans rfl)
theorem dk_50 {code : ByteArray} {pc : Nat} (h : DkAt code pc [50]) : decode code pc = .ok (.aaload, 1) := dk_of ((dk_bind (dk_u1 (h 0 _ rfl))).trans rfl)
theorem dk_51 {code : ByteArray} {pc : Nat} (h : DkAt code pc [51]) : decode code pc = .ok (.baload, 1) := dk_of ((dk_bind (dk_u1 (h 0 _ rfl))).trans rfl)
theorem dk_52 {code : ByteArray} {pc : Nat} (h : DkAt code pc [52]) : decode code pc = .ok (.caload, 1) := dk_of ((dk_bind (dk_u1 (h 0 _ rfl))).trans rfl)
theorem dk_53 {code : ByteArray} {pc : Nat} (h : DkAt code pc [53]) : decode code pc = .ok (.saload, 1) := dk_of ((dk_bind (dk_u1 (h 0 _ rfl))).trans rfl)
theorem dk_54 {code : ByteArray} {pc : Nat} (a : UInt8) (h : DkAt code pc [54, a]) : decode code pc = .ok (.istore a.toNat, 2) := dk_of ((dk_bind (dk_u1 (h 0 _ rfl))).trans ((dk_bind (dk_u1 (h 1 _ rfl))).trans rfl))
theorem dk_55 {code : ByteArray} {pc : Nat} (a : UInt8) (h : DkAt code pc [55, a]) : decode code pc = .ok (.lstore a.toNat, 2) := dk_of ((dk_bind (dk_u1 (h 0 _ rfl))).trans ((dk_bind (dk_u1 (h 1 _ rfl))).trans rfl))
theorem dk_58 {code : ByteArray} {pc : Nat} (a : UInt8) (h : DkAt code pc [58, a]) : decode code pc = .ok (.astore a.toNat, 2) := dk_of ((dk_bind (dk_u1 (h 0 _ rfl))).trans ((dk_bind (dk_u1 (h 1 _ rfl))).trans rfl))
theorem dk_59 {code : ByteArray} {pc : Nat} (h : DkAt code pc [59]) : decode code pc = .ok (.istore_n 0, 1) := dk_of ((dk_bind (dk_u1 (h 0 _ rfl))).trans rfl)
theorem dk_60 {code : ByteArray} {pc : Nat} (h : DkAt code pc [60]) : decode code pc = .ok (.istore_n 1, 1) := dk_of ((dk_bind (dk_u1 (h 0 _ rfl))).trans rfl)
theorem dk_61 {code : ByteArray} {pc : Nat} (h : DkAt code pc [61]) : decode code pc = .ok (.istore_n 2, 1) := dk_of ((dk_bind (dk_u1 (h 0 _ rfl))).trans rfl)
theorem dk_62 {code : ByteArray} {pc : Nat} (h : DkAt code pc [62]) : decode code pc = .ok (.istore_n 3, 1) := dk_of ((dk_bind (dk_u1 (h 0 _ rfl))).trans rfl)
theorem dk_76 {code : ByteArray} {pc : Nat} (h : DkAt code pc [76]) : decode code pc = .ok (.astore_n 1, 1) := dk_of ((dk_bind (dk_u1 (h 0 _ rfl))).trans rfl)
theorem dk_77 {code : ByteArray} {pc : Nat} (h : DkAt code pc [77]) : decode code pc = .ok (.astore_n 2, 1) := dk_of ((dk_bind (dk_u1 (h 0 _ rfl))).trans rfl)
theorem dk_78 {code : ByteArray} {pc : Nat} (h : DkAt code pc [78]) : decode code pc = .ok (.astore_n 3, 1) := dk_of ((dk_bind (dk_u1 (h 0 _ rfl))).trans rfl)
theorem dk_79 {code : ByteArray} {pc : Nat} (h : DkAt code pc [79]) : decode code pc = .ok (.iastore, 1) := dk_of ((dk_bind (dk_u1 (h 0 _ rfl))).trans rfl)
theorem dk_80 {code : ByteArray} {pc : Nat} (h : DkAt code pc [80]) : decode code pc = .ok (.lastore, 1) := dk_of ((dk_bind (dk_u1 (h 0 _ rfl))).trans rfl)
theorem dk_83 {code : ByteArray} {pc : Nat} (h : DkAt code pc [83]) : decode code pc = .ok (.aastore, 1) := dk_of ((dk_bind (dk_u1 (h 0 _ rfl))).trans rfl)
theorem dk_84 {code : ByteArray} {pc : Nat} (h : DkAt code pc [84]) : decode code pc = .ok (.bastore, 1) := dk_of ((dk_bind (dk_u1 (h 0 _ rfl))).trans rfl)
theorem dk_87 {code : ByteArray} {pc : Nat} (h : DkAt code pc [87]) : decode code pc = .ok (.pop, 1) := dk_of ((dk_bind (dk_u1 (h 0 _ rfl))).trans rfl)
theorem dk_89 {code : ByteArray} {pc : Nat} (h : DkAt code pc [89]) : decode code pc = .ok (.dup, 1) := dk_of ((dk_bind (dk_u1 (h 0 _ rfl))).trans rfl)
theorem dk_90 {code : ByteArray} {pc : Nat} (h : DkAt code pc [90]) : decode code pc = .ok (.dup_x1, 1) := dk_of ((dk_bind (dk_u1 (h 0 _ rfl))).trans rfl)
theorem dk_92 {code : ByteArray} {pc : Nat} (h : DkAt code pc [92]) : decode code pc = .ok (.dup2, 1) := dk_of ((dk_bind (dk_u1 (h 0 _ rfl))).trans rfl)
theorem dk_96 {code : ByteArray} {pc : Nat} (h : DkAt code pc [96]) : decode code pc = .ok (.iadd, 1) := dk_of ((dk_bind (dk_u1 (h 0 _ rfl))).trans rfl)
theorem dk_97 {code : ByteArray} {pc : Nat} (h : DkAt code pc [97]) : decode code pc = .ok (.ladd, 1) := dk_of ((dk_bind (dk_u1 (h 0 _ rfl))).trans rfl)
theorem dk_100 {code : ByteArray} {pc : Nat} (h : DkAt code pc [100]) : decode code pc = .ok (.isub, 1) := dk_of ((dk_bind (dk_u1 (h 0 _ rfl))).trans rfl)
theorem dk_101 {code : ByteArray} {pc : Nat} (h : DkAt code pc [101]) : decode code pc = .ok (.lsub, 1) := dk_of ((dk_bind (dk_u1 (h 0 _ rfl))).trans rfl)
theorem dk_104 {code : ByteArray} {pc : Nat} (h : DkAt code pc [104]) : decode code pc = .ok (.imul, 1) := dk_of ((dk_bind (dk_u1 (h 0 _ rfl))).trans rfl)
theorem dk_105 {code : ByteArray} {pc : Nat} (h : DkAt code pc [105]) : decode code pc = .ok (.lmul, 1) := dk_of ((dk_bind (dk_u1 (h 0 _ rfl))).trans rfl)
theorem dk_108 {code : ByteArray} {pc : Nat} (h : DkAt code pc [108]) : decode code pc = .ok (.idiv, 1) := dk_of ((dk_bind (dk_u1 (h 0 _ rfl))).trans rfl)
theorem dk_109 {code : ByteArray} {pc : Nat} (h : DkAt code pc [109]) : decode code pc = .ok (.ldiv, 1) := dk_of ((dk_bind (dk_u1 (h 0 _ rfl))).trans rfl)
theorem dk_112 {code : ByteArray} {pc : Nat} (h : DkAt code pc [112]) : decode code pc = .ok (.irem, 1) := dk_of ((dk_bind (dk_u1 (h 0 _ rfl))).trans rfl)
theorem dk_113 {code : ByteArray} {pc : Nat} (h : DkAt code pc [113]) : decode code pc = .ok (.lrem, 1) := dk_of ((dk_bind (dk_u1 (h 0 _ rfl))).trans rfl)
theorem dk_116 {code : ByteArray} {pc : Nat} (h : DkAt code pc [116]) : decode code pc = .ok (.ineg, 1) := dk_of ((dk_bind (dk_u1 (h 0 _ rfl))).trans rfl)
theorem dk_120 {code : ByteArray} {pc : Nat} (h : DkAt code pc [120]) : decode code pc = .ok (.ishl, 1) := dk_of ((dk_bind (dk_u1 (h 0 _ rfl))).trans rfl)
theorem dk_121 {code : ByteArray} {pc : Nat} (h : DkAt code pc [121]) : decode code pc = .ok (.lshl, 1) := dk_of ((dk_bind (dk_u1 (h 0 _ rfl))).trans rfl)
theorem dk_122 {code : ByteArray} {pc : Nat} (h : DkAt code pc [122]) : decode code pc = .ok (.ishr, 1) := dk_of ((dk_bind (dk_u1 (h 0 _ rfl))).trans rfl)
theorem dk_123 {code : ByteArray} {pc : Nat} (h : DkAt code pc [123]) : decode code pc = .ok (.lshr, 1) := dk_of ((dk_bind (dk_u1 (h 0 _ rfl))).trans rfl)
theorem dk_124 {code : ByteArray} {pc : Nat} (h : DkAt code pc [124]) : decode code pc = .ok (.iushr, 1) := dk_of ((dk_bind (dk_u1 (h 0 _ rfl))).trans rfl)
theorem dk_126 {code : ByteArray} {pc : Nat} (h : DkAt code pc [126]) : decode code pc = .ok (.iand, 1) := dk_of ((dk_bind (dk_u1 (h 0 _ rfl))).trans rfl)
theorem dk_127 {code : ByteArray} {pc : Nat} (h : DkAt code pc [127]) : decode code pc = .ok (.land, 1) := dk_of ((dk_bind (dk_u1 (h 0 _ rfl))).trans rfl)
theorem dk_128 {code : ByteArray} {pc : Nat} (h : DkAt code pc [128]) : decode code pc = .ok (.ior, 1) := dk_of ((dk_bind (dk_u1 (h 0 _ rfl))).trans rfl)
theorem dk_129 {code : ByteArray} {pc : Nat} (h : DkAt code pc [129]) : decode code pc = .ok (.lor, 1) := dk_of ((dk_bind (dk_u1 (h 0 _ rfl))).trans rfl)
theorem dk_132 {code : ByteArray} {pc : Nat} (a b : UInt8) (h : DkAt code pc [132, a, b]) : decode code pc = .ok (.iinc a.toNat (Reader.signed 8 b.toNat), 3) := dk_of ((dk_bind (dk_u1 (h 0 _ rfl))).trans ((dk_bind (dk_u1 (h 1 _ rfl))).trans ((dk_bind (dk_map (dk_u1 (h 2 _ rfl)))).trans rfl)))
theorem dk_133 {code : ByteArray} {pc : Nat} (h : DkAt code pc [133]) : decode code pc = .ok (.i2l, 1) := dk_of ((dk_bind (dk_u1 (h 0 _ rfl))).trans rfl)
theorem dk_136 {code : ByteArray} {pc : Nat} (h : DkAt code pc [136]) : decode code pc = .ok (.l2i, 1) := dk_of ((dk_bind (dk_u1 (h 0 _ rfl))).trans rfl)
theorem dk_145 {code : ByteArray} {pc : Nat} (h : DkAt code pc [145]) : decode code pc = .ok (.i2b, 1) := dk_of ((dk_bind (dk_u1 (h 0 _ rfl))).trans rfl)
theorem dk_146 {code : ByteArray} {pc : Nat} (h : DkAt code pc [146]) : decode code pc = .ok (.i2c, 1) := dk_of ((dk_bind (dk_u1 (h 0 _ rfl))).trans rfl)
theorem dk_148 {code : ByteArray} {pc : Nat} (h : DkAt code pc [148]) : decode code pc = .ok (.lcmp, 1) := dk_of ((dk_bind (dk_u1 (h 0 _ rfl))).trans rfl)
theorem dk_153 {code : ByteArray} {pc : Nat} (a b : UInt8) (h : DkAt code pc [153, a, b]) : decode code pc = .ok (.ifCond .eq (Reader.signed 16 (a.toNat * 256 + b.toNat)), 3) := dk_of ((dk_bind (dk_u1 (h 0 _ rfl))).trans ((dk_bind (dk_map (dk_u2 (h 1 _ rfl) (h 2 _ rfl)))).trans rfl))
theorem dk_154 {code : ByteArray} {pc : Nat} (a b : UInt8) (h : DkAt code pc [154, a, b]) : decode code pc = .ok (.ifCond .ne (Reader.signed 16 (a.toNat * 256 + b.toNat)), 3) := dk_of ((dk_bind (dk_u1 (h 0 _ rfl))).trans ((dk_bind (dk_map (dk_u2 (h 1 _ rfl) (h 2 _ rfl)))).trans rfl))
theorem dk_155 {code : ByteArray} {pc : Nat} (a b : UInt8) (h : DkAt code pc [155, a, b]) : decode code pc = .ok (.ifCond .lt (Reader.signed 16 (a.toNat * 256 + b.toNat)), 3) := dk_of ((dk_bind (dk_u1 (h 0 _ rfl))).trans ((dk_bind (dk_map (dk_u2 (h 1 _ rfl) (h 2 _ rfl)))).trans rfl))
theorem dk_156 {code : ByteArray} {pc : Nat} (a b : UInt8) (h : DkAt code pc [156, a, b]) : decode code pc = .ok (.ifCond .ge (Reader.signed 16 (a.toNat * 256 + b.toNat)), 3) := dk_of ((dk_bind (dk_u1 (h 0 _ rfl))).trans ((dk_bind (dk_map (dk_u2 (h 1 _ rfl) (h 2 _ rfl)))).trans rfl))
theorem dk_158 {code : ByteArray} {pc : Nat} (a b : UInt8) (h : DkAt code pc [158, a, b]) : decode code pc = .ok (.ifCond .le (Reader.signed 16 (a.toNat * 256 + b.toNat)), 3) := dk_of ((dk_bind (dk_u1 (h 0 _ rfl))).trans ((dk_bind (dk_map (dk_u2 (h 1 _ rfl) (h 2 _ rfl)))).trans rfl))
theorem dk_159 {code : ByteArray} {pc : Nat} (a b : UInt8) (h : DkAt code pc [159, a, b]) : decode code pc = .ok (.if_icmp .eq (Reader.signed 16 (a.toNat * 256 + b.toNat)), 3) := dk_of ((dk_bind (dk_u1 (h 0 _ rfl))).trans ((dk_bind (dk_map (dk_u2 (h 1 _ rfl) (h 2 _ rfl)))).trans rfl))
theorem dk_160 {code : ByteArray} {pc : Nat} (a b : UInt8) (h : DkAt code pc [160, a, b]) : decode code pc = .ok (.if_icmp .ne (Reader.signed 16 (a.toNat * 256 + b.toNat)), 3) := dk_of ((dk_bind (dk_u1 (h 0 _ rfl))).trans ((dk_bind (dk_map (dk_u2 (h 1 _ rfl) (h 2 _ rfl)))).trans rfl))
theorem dk_161 {code : ByteArray} {pc : Nat} (a b : UInt8) (h : DkAt code pc [161, a, b]) : decode code pc = .ok (.if_icmp .lt (Reader.signed 16 (a.toNat * 256 + b.toNat)), 3) := dk_of ((dk_bind (dk_u1 (h 0 _ rfl))).trans ((dk_bind (dk_map (dk_u2 (h 1 _ rfl) (h 2 _ rfl)))).trans rfl))
theorem dk_162 {code : ByteArray} {pc : Nat} (a b : UInt8) (h : DkAt code pc [162, a, b]) : decode code pc = .ok (.if_icmp .ge (Reader.signed 16 (a.toNat * 256 + b.toNat)), 3) := dk_of ((dk_bind (dk_u1 (h 0 _ rfl))).trans ((dk_bind (dk_map (dk_u2 (h 1 _ rfl) (h 2 _ rfl)))).trans rfl))
theorem dk_163 {code : ByteArray} {pc : Nat} (a b : UInt8) (h : DkAt code pc [163, a, b]) : decode code pc = .ok (.if_icmp .gt (Reader.signed 16 (a.toNat * 256 + b.toNat)), 3) := dk_of ((dk_bind (dk_u1 (h 0 _ rfl))).trans ((dk_bind (dk_map (dk_u2 (h 1 _ rfl) (h 2 _ rfl)))).trans rfl))
theorem dk_164 {code : ByteArray} {pc : Nat} (a b : UInt8) (h : DkAt code pc [164, a, b]) : decode code pc = .ok (.if_icmp .le (Reader.signed 16 (a.toNat * 256 + b.toNat)), 3) := dk_of ((dk_bind (dk_u1 (h 0 _ rfl))).trans ((dk_bind (dk_map (dk_u2 (h 1 _ rfl) (h 2 _ rfl)))).trans rfl))
theorem dk_166 {code : ByteArray} {pc : Nat} (a b : UInt8) (h : DkAt code pc [166, a, b]) : decode code pc = .ok (.if_acmp .ne (Reader.signed 16 (a.toNat * 256 + b.toNat)), 3) := dk_of ((dk_bind (dk_u1 (h 0 _ rfl))).trans ((dk_bind (dk_map (dk_u2 (h 1 _ rfl) (h 2 _ rfl)))).trans rfl))
theorem dk_167 {code : ByteArray} {pc : Nat} (a b : UInt8) (h : DkAt code pc [167, a, b]) : decode code pc = .ok (.goto (Reader.signed 16 (a.toNat * 256 + b.toNat)), 3) := dk_of ((dk_bind (dk_u1 (h 0 _ rfl))).trans ((dk_bind (dk_map (dk_u2 (h 1 _ rfl) (h 2 _ rfl)))).trans rfl))
theorem dk_172 {code : ByteArray} {pc : Nat} (h : DkAt code pc [172]) : decode code pc = .ok (.ireturn, 1) := dk_of ((dk_bind (dk_u1 (h 0 _ rfl))).trans rfl)
theorem dk_173 {code : ByteArray} {pc : Nat} (h : DkAt code pc [173]) : decode code pc = .ok (.lreturn, 1) := dk_of ((dk_bind (dk_u1 (h 0 _ rfl))).trans rfl)
theorem dk_176 {code : ByteArray} {pc : Nat} (h : DkAt code pc [176]) : decode code pc = .ok (.areturn, 1) := dk_of ((dk_bind (dk_u1 (h 0 _ rfl))).trans rfl)
theorem dk_177 {code : ByteArray} {pc : Nat} (h : DkAt code pc [177]) : decode code pc = .ok (.return_, 1) := dk_of ((dk_bind (dk_u1 (h 0 _ rfl))).trans rfl)
theorem dk_178 {code : ByteArray} {pc : Nat} (a b : UInt8) (h : DkAt code pc [178, a, b]) : decode code pc = .ok (.getstatic (a.toNat * 256 + b.toNat), 3) := dk_of ((dk_bind (dk_u1 (h 0 _ rfl))).trans ((dk_bind (dk_u2 (h 1 _ rfl) (h 2 _ rfl))).trans rfl))
theorem dk_180 {code : ByteArray} {pc : Nat} (a b : UInt8) (h : DkAt code pc [180, a, b]) : decode code pc = .ok (.getfield (a.toNat * 256 + b.toNat), 3) := dk_of ((dk_bind (dk_u1 (h 0 _ rfl))).trans ((dk_bind (dk_u2 (h 1 _ rfl) (h 2 _ rfl))).trans rfl))
theorem dk_181 {code : ByteArray} {pc : Nat} (a b : UInt8) (h : DkAt code pc [181, a, b]) : decode code pc = .ok (.putfield (a.toNat * 256 + b.toNat), 3) := dk_of ((dk_bind (dk_u1 (h 0 _ rfl))).trans ((dk_bind (dk_u2 (h 1 _ rfl) (h 2 _ rfl))).trans rfl))
theorem dk_182 {code : ByteArray} {pc : Nat} (a b : UInt8) (h : DkAt code pc [182, a, b]) : decode code pc = .ok (.invokevirtual (a.toNat * 256 + b.toNat), 3) := dk_of ((dk_bind (dk_u1 (h 0 _ rfl))).trans ((dk_bind (dk_u2 (h 1 _ rfl) (h 2 _ rfl))).trans rfl))
theorem dk_183 {code : ByteArray} {pc : Nat} (a b : UInt8) (h : DkAt code pc [183, a, b]) : decode code pc = .ok (.invokespecial (a.toNat * 256 + b.toNat), 3) := dk_of ((dk_bind (dk_u1 (h 0 _ rfl))).trans ((dk_bind (dk_u2 (h 1 _ rfl) (h 2 _ rfl))).trans rfl))
theorem dk_184 {code : ByteArray} {pc : Nat} (a b : UInt8) (h : DkAt code pc [184, a, b]) : decode code pc = .ok (.invokestatic (a.toNat * 256 + b.toNat), 3) := dk_of ((dk_bind (dk_u1 (h 0 _ rfl))).trans ((dk_bind (dk_u2 (h 1 _ rfl) (h 2 _ rfl))).trans rfl))
theorem dk_187 {code : ByteArray} {pc : Nat} (a b : UInt8) (h : DkAt code pc [187, a, b]) : decode code pc = .ok (.new (a.toNat * 256 + b.toNat), 3) := dk_of ((dk_bind (dk_u1 (h 0 _ rfl))).trans ((dk_bind (dk_u2 (h 1 _ rfl) (h 2 _ rfl))).trans rfl))
theorem dk_188_4 {code : ByteArray} {pc : Nat} (h : DkAt code pc [188, 4]) : decode code pc = .ok (.newarray .boolean, 2) := dk_of ((dk_bind (dk_u1 (h 0 _ rfl))).trans ((dk_bind (dk_u1 (h 1 _ rfl))).trans rfl))
theorem dk_188_8 {code : ByteArray} {pc : Nat} (h : DkAt code pc [188, 8]) : decode code pc = .ok (.newarray .byte, 2) := dk_of ((dk_bind (dk_u1 (h 0 _ rfl))).trans ((dk_bind (dk_u1 (h 1 _ rfl))).trans rfl))
theorem dk_188_10 {code : ByteArray} {pc : Nat} (h : DkAt code pc [188, 10]) : decode code pc = .ok (.newarray .int, 2) := dk_of ((dk_bind (dk_u1 (h 0 _ rfl))).trans ((dk_bind (dk_u1 (h 1 _ rfl))).trans rfl))
theorem dk_188_11 {code : ByteArray} {pc : Nat} (h : DkAt code pc [188, 11]) : decode code pc = .ok (.newarray .long, 2) := dk_of ((dk_bind (dk_u1 (h 0 _ rfl))).trans ((dk_bind (dk_u1 (h 1 _ rfl))).trans rfl))
theorem dk_189 {code : ByteArray} {pc : Nat} (a b : UInt8) (h : DkAt code pc [189, a, b]) : decode code pc = .ok (.anewarray (a.toNat * 256 + b.toNat), 3) := dk_of ((dk_bind (dk_u1 (h 0 _ rfl))).trans ((dk_bind (dk_u2 (h 1 _ rfl) (h 2 _ rfl))).trans rfl))
theorem dk_190 {code : ByteArray} {pc : Nat} (h : DkAt code pc [190]) : decode code pc = .ok (.arraylength, 1) := dk_of ((dk_bind (dk_u1 (h 0 _ rfl))).trans rfl)
theorem dk_191 {code : ByteArray} {pc : Nat} (h : DkAt code pc [191]) : decode code pc = .ok (.athrow, 1) := dk_of ((dk_bind (dk_u1 (h 0 _ rfl))).trans rfl)
theorem dk_192 {code : ByteArray} {pc : Nat} (a b : UInt8) (h : DkAt code pc [192, a, b]) : decode code pc = .ok (.checkcast (a.toNat * 256 + b.toNat), 3) := dk_of ((dk_bind (dk_u1 (h 0 _ rfl))).trans ((dk_bind (dk_u2 (h 1 _ rfl) (h 2 _ rfl))).trans rfl))
theorem dk_193 {code : ByteArray} {pc : Nat} (a b : UInt8) (h : DkAt code pc [193, a, b]) : decode code pc = .ok (.instanceof (a.toNat * 256 + b.toNat), 3) := dk_of ((dk_bind (dk_u1 (h 0 _ rfl))).trans ((dk_bind (dk_u2 (h 1 _ rfl) (h 2 _ rfl))).trans rfl))
theorem dk_199 {code : ByteArray} {pc : Nat} (a b : UInt8) (h : DkAt code pc [199, a, b]) : decode code pc = .ok (.ifnonnull (Reader.signed 16 (a.toNat * 256 + b.toNat)), 3) := dk_of ((dk_bind (dk_u1 (h 0 _ rfl))).trans ((dk_bind (dk_map (dk_u2 (h 1 _ rfl) (h 2 _ rfl)))).trans rfl))

theorem q103 : (Jvm.Cond.arrayOver (Jvm.ClassFile.FieldType.object "FewKeys$Key")) ∈ lw_tbl := lw_at lw_m1 43 rfl
set_option maxRecDepth 100000
theorem q148 : (Jvm.Cond.arrayClass Jvm.ClassFile.FieldType.int) ∈ lw_all := lw_g (lw_at lw_m1 88 rfl) rfl
theorem q151 : (Jvm.Cond.arrayOver (Jvm.ClassFile.FieldType.array Jvm.ClassFile.FieldType.int)) ∈ lw_tbl := lw_at lw_m1 91 rfl
theorem q152 : (Jvm.Cond.arrayOver (Jvm.ClassFile.FieldType.object "FewKeys$Desk")) ∈ lw_tbl := lw_at lw_m1 92 rfl
theorem q214 : (Jvm.Cond.arrayClass Jvm.ClassFile.FieldType.byte) ∈ lw_all := lw_g (lw_at lw_m1 154 rfl) rfl
theorem q215 : (Jvm.Cond.arrayClass Jvm.ClassFile.FieldType.boolean) ∈ lw_all := lw_g (lw_at lw_m1 155 rfl) rfl
theorem q1223 : (Jvm.Cond.arrayClass Jvm.ClassFile.FieldType.long) ∈ lw_all := lw_g (lw_at lw_m5 203 rfl) rfl
theorem q1517 : (Jvm.Cond.arrayClass Jvm.ClassFile.FieldType.char) ∈ lw_all := lw_g (lw_at lw_m7 17 rfl) rfl
theorem q1518 : (Jvm.Cond.arrayClass Jvm.ClassFile.FieldType.short) ∈ lw_all := lw_g (lw_at lw_m7 18 rfl) rfl

theorem q60 : (Jvm.Cond.initialized "FewKeysLaw") ∈ lw_all := lw_g (lw_at lw_m1 0 rfl) rfl
set_option maxRecDepth 100000
theorem q88 : (Jvm.Cond.classLink "FewKeysLaw" (7 : Nat) "FewKeys") ∈ lw_all := lw_g (lw_at lw_m1 28 rfl) rfl
theorem q90 : (Jvm.Cond.methodLink "FewKeysLaw" (9 : Nat) ({ cls := "FewKeys", name := "<init>", desc := "()V" } : Jvm.MethodName)) ∈ lw_all := lw_g (lw_at lw_m1 30 rfl) rfl
theorem q216 : (Jvm.Cond.methodLink "FewKeysLaw" (15 : Nat) ({ cls := "FewKeys", name := "feed", desc := "(IJ)I" } : Jvm.MethodName)) ∈ lw_all := lw_g (lw_at lw_m1 156 rfl) rfl
theorem q225 : (Jvm.Cond.methodLink "FewKeysLaw" (20 : Nat) ({ cls := "FewKeys", name := "reckoner", desc := "()I" } : Jvm.MethodName)) ∈ lw_all := lw_g (lw_at lw_m1 165 rfl) rfl
theorem q763 : (Jvm.Cond.methodLink "FewKeysLaw" (25 : Nat) ({ cls := "FewKeys", name := "fault", desc := "()I" } : Jvm.MethodName)) ∈ lw_all := lw_g (lw_at lw_m3 223 rfl) rfl
theorem q767 : (Jvm.Cond.methodLink "FewKeysLaw" (29 : Nat) ({ cls := "FewKeys", name := "told", desc := "(I)I" } : Jvm.MethodName)) ∈ lw_all := lw_g (lw_at lw_m3 227 rfl) rfl
theorem q787 : (Jvm.Cond.methodLink "FewKeysLaw" (34 : Nat) ({ cls := "FewKeys", name := "key", desc := "(II)I" } : Jvm.MethodName)) ∈ lw_all := lw_g (lw_at lw_m4 7 rfl) rfl
theorem q845 : (Jvm.Cond.methodLink "FewKeysLaw" (39 : Nat) ({ cls := "FewKeys", name := "strike", desc := "(I)I" } : Jvm.MethodName)) ∈ lw_all := lw_g (lw_at lw_m4 65 rfl) rfl
theorem q912 : (Jvm.Cond.methodLink "FewKeysLaw" (43 : Nat) ({ cls := "FewKeys", name := "begin", desc := "()I" } : Jvm.MethodName)) ∈ lw_all := lw_g (lw_at lw_m4 132 rfl) rfl
theorem q916 : (Jvm.Cond.methodLink "FewKeysLaw" (47 : Nat) ({ cls := "FewKeys", name := "fewest", desc := "(I)I" } : Jvm.MethodName)) ∈ lw_all := lw_g (lw_at lw_m4 136 rfl) rfl
theorem q945 : (Jvm.Cond.methodLink "FewKeysLaw" (51 : Nat) ({ cls := "FewKeys", name := "way", desc := "(II)I" } : Jvm.MethodName)) ∈ lw_all := lw_g (lw_at lw_m4 165 rfl) rfl
theorem q949 : (Jvm.Cond.methodLink "FewKeysLaw" (55 : Nat) ({ cls := "FewKeys", name := "least", desc := "(I)I" } : Jvm.MethodName)) ∈ lw_all := lw_g (lw_at lw_m4 169 rfl) rfl
theorem q962 : (Jvm.Cond.methodLink "FewKeysLaw" (59 : Nat) ({ cls := "FewKeys", name := "never", desc := "(I)I" } : Jvm.MethodName)) ∈ lw_all := lw_g (lw_at lw_m4 182 rfl) rfl
theorem q966 : (Jvm.Cond.methodLink "FewKeysLaw" (63 : Nat) ({ cls := "FewKeys", name := "farthest", desc := "(I)I" } : Jvm.MethodName)) ∈ lw_all := lw_g (lw_at lw_m4 186 rfl) rfl
theorem q971 : (Jvm.Cond.methodLink "FewKeysLaw" (67 : Nat) ({ cls := "FewKeys", name := "target", desc := "(I)I" } : Jvm.MethodName)) ∈ lw_all := lw_g (lw_at lw_m4 191 rfl) rfl
theorem q975 : (Jvm.Cond.methodLink "FewKeysLaw" (71 : Nat) ({ cls := "FewKeys", name := "targetAt", desc := "(I)I" } : Jvm.MethodName)) ∈ lw_all := lw_g (lw_at lw_m4 195 rfl) rfl
theorem q979 : (Jvm.Cond.methodLink "FewKeysLaw" (75 : Nat) ({ cls := "FewKeys", name := "forget", desc := "()I" } : Jvm.MethodName)) ∈ lw_all := lw_g (lw_at lw_m4 199 rfl) rfl
theorem q983 : (Jvm.Cond.methodLink "FewKeysLaw" (79 : Nat) ({ cls := "FewKeys", name := "more", desc := "(I)I" } : Jvm.MethodName)) ∈ lw_all := lw_g (lw_at lw_m4 203 rfl) rfl
theorem q1001 : (Jvm.Cond.methodLink "FewKeysLaw" (83 : Nat) ({ cls := "FewKeys", name := "list", desc := "()I" } : Jvm.MethodName)) ∈ lw_all := lw_g (lw_at lw_m4 221 rfl) rfl
theorem q1009 : (Jvm.Cond.methodLink "FewKeysLaw" (87 : Nat) ({ cls := "FewKeys", name := "quick", desc := "(II)I" } : Jvm.MethodName)) ∈ lw_all := lw_g (lw_at lw_m4 229 rfl) rfl
theorem q1016 : (Jvm.Cond.methodLink "FewKeysLaw" (91 : Nat) ({ cls := "FewKeys", name := "struck", desc := "(III)I" } : Jvm.MethodName)) ∈ lw_all := lw_g (lw_at lw_m4 236 rfl) rfl
theorem q1025 : (Jvm.Cond.methodLink "FewKeysLaw" (96 : Nat) ({ cls := "FewKeys", name := "lost", desc := "(I)I" } : Jvm.MethodName)) ∈ lw_all := lw_g (lw_at lw_m5 5 rfl) rfl
theorem q1042 : (Jvm.Cond.methodLink "FewKeysLaw" (100 : Nat) ({ cls := "FewKeys", name := "game", desc := "(III)I" } : Jvm.MethodName)) ∈ lw_all := lw_g (lw_at lw_m5 22 rfl) rfl
theorem q1051 : (Jvm.Cond.methodLink "FewKeysLaw" (104 : Nat) ({ cls := "FewKeys", name := "write", desc := "(II)I" } : Jvm.MethodName)) ∈ lw_all := lw_g (lw_at lw_m5 31 rfl) rfl
theorem q1055 : (Jvm.Cond.methodLink "FewKeysLaw" (108 : Nat) ({ cls := "FewKeys", name := "tear", desc := "()I" } : Jvm.MethodName)) ∈ lw_all := lw_g (lw_at lw_m5 35 rfl) rfl
theorem q1059 : (Jvm.Cond.methodLink "FewKeysLaw" (112 : Nat) ({ cls := "FewKeys", name := "judge", desc := "()I" } : Jvm.MethodName)) ∈ lw_all := lw_g (lw_at lw_m5 39 rfl) rfl
theorem q1063 : (Jvm.Cond.methodLink "FewKeysLaw" (116 : Nat) ({ cls := "FewKeys", name := "drift", desc := "(I)I" } : Jvm.MethodName)) ∈ lw_all := lw_g (lw_at lw_m5 43 rfl) rfl
theorem q1075 : (Jvm.Cond.methodLink "FewKeysLaw" (120 : Nat) ({ cls := "FewKeys", name := "seed", desc := "(I)I" } : Jvm.MethodName)) ∈ lw_all := lw_g (lw_at lw_m5 55 rfl) rfl
theorem q1079 : (Jvm.Cond.methodLink "FewKeysLaw" (124 : Nat) ({ cls := "FewKeys", name := "keep", desc := "(I)I" } : Jvm.MethodName)) ∈ lw_all := lw_g (lw_at lw_m5 59 rfl) rfl
theorem q1088 : (Jvm.Cond.methodLink "FewKeysLaw" (128 : Nat) ({ cls := "FewKeys", name := "goBack", desc := "(I)I" } : Jvm.MethodName)) ∈ lw_all := lw_g (lw_at lw_m5 68 rfl) rfl
theorem q1092 : (Jvm.Cond.classLink "FewKeysLaw" (10 : Nat) "FewKeysModel") ∈ lw_all := lw_g (lw_at lw_m5 72 rfl) rfl
theorem q1094 : (Jvm.Cond.methodLink "FewKeysLaw" (12 : Nat) ({ cls := "FewKeysModel", name := "<init>", desc := "()V" } : Jvm.MethodName)) ∈ lw_all := lw_g (lw_at lw_m5 74 rfl) rfl
theorem q1224 : (Jvm.Cond.methodLink "FewKeysLaw" (19 : Nat) ({ cls := "FewKeysModel", name := "feed", desc := "(IJ)I" } : Jvm.MethodName)) ∈ lw_all := lw_g (lw_at lw_m5 204 rfl) rfl
theorem q1234 : (Jvm.Cond.methodLink "FewKeysLaw" (24 : Nat) ({ cls := "FewKeysModel", name := "reckoner", desc := "()I" } : Jvm.MethodName)) ∈ lw_all := lw_g (lw_at lw_m5 214 rfl) rfl
theorem q1295 : (Jvm.Cond.methodLink "FewKeysLaw" (28 : Nat) ({ cls := "FewKeysModel", name := "fault", desc := "()I" } : Jvm.MethodName)) ∈ lw_all := lw_g (lw_at lw_m6 35 rfl) rfl
theorem q1299 : (Jvm.Cond.methodLink "FewKeysLaw" (33 : Nat) ({ cls := "FewKeysModel", name := "told", desc := "(I)I" } : Jvm.MethodName)) ∈ lw_all := lw_g (lw_at lw_m6 39 rfl) rfl
theorem q1303 : (Jvm.Cond.methodLink "FewKeysLaw" (38 : Nat) ({ cls := "FewKeysModel", name := "key", desc := "(II)I" } : Jvm.MethodName)) ∈ lw_all := lw_g (lw_at lw_m6 43 rfl) rfl
theorem q1308 : (Jvm.Cond.methodLink "FewKeysLaw" (42 : Nat) ({ cls := "FewKeysModel", name := "strike", desc := "(I)I" } : Jvm.MethodName)) ∈ lw_all := lw_g (lw_at lw_m6 48 rfl) rfl
theorem q1328 : (Jvm.Cond.methodLink "FewKeysLaw" (46 : Nat) ({ cls := "FewKeysModel", name := "begin", desc := "()I" } : Jvm.MethodName)) ∈ lw_all := lw_g (lw_at lw_m6 68 rfl) rfl
theorem q1332 : (Jvm.Cond.methodLink "FewKeysLaw" (50 : Nat) ({ cls := "FewKeysModel", name := "fewest", desc := "(I)I" } : Jvm.MethodName)) ∈ lw_all := lw_g (lw_at lw_m6 72 rfl) rfl
theorem q1364 : (Jvm.Cond.methodLink "FewKeysLaw" (54 : Nat) ({ cls := "FewKeysModel", name := "way", desc := "(II)I" } : Jvm.MethodName)) ∈ lw_all := lw_g (lw_at lw_m6 104 rfl) rfl
theorem q1368 : (Jvm.Cond.methodLink "FewKeysLaw" (58 : Nat) ({ cls := "FewKeysModel", name := "least", desc := "(I)I" } : Jvm.MethodName)) ∈ lw_all := lw_g (lw_at lw_m6 108 rfl) rfl
theorem q1384 : (Jvm.Cond.methodLink "FewKeysLaw" (62 : Nat) ({ cls := "FewKeysModel", name := "never", desc := "(I)I" } : Jvm.MethodName)) ∈ lw_all := lw_g (lw_at lw_m6 124 rfl) rfl
theorem q1388 : (Jvm.Cond.methodLink "FewKeysLaw" (66 : Nat) ({ cls := "FewKeysModel", name := "farthest", desc := "(I)I" } : Jvm.MethodName)) ∈ lw_all := lw_g (lw_at lw_m6 128 rfl) rfl
theorem q1393 : (Jvm.Cond.methodLink "FewKeysLaw" (70 : Nat) ({ cls := "FewKeysModel", name := "target", desc := "(I)I" } : Jvm.MethodName)) ∈ lw_all := lw_g (lw_at lw_m6 133 rfl) rfl
theorem q1397 : (Jvm.Cond.methodLink "FewKeysLaw" (74 : Nat) ({ cls := "FewKeysModel", name := "targetAt", desc := "(I)I" } : Jvm.MethodName)) ∈ lw_all := lw_g (lw_at lw_m6 137 rfl) rfl
theorem q1401 : (Jvm.Cond.methodLink "FewKeysLaw" (78 : Nat) ({ cls := "FewKeysModel", name := "forget", desc := "()I" } : Jvm.MethodName)) ∈ lw_all := lw_g (lw_at lw_m6 141 rfl) rfl
theorem q1405 : (Jvm.Cond.methodLink "FewKeysLaw" (82 : Nat) ({ cls := "FewKeysModel", name := "more", desc := "(I)I" } : Jvm.MethodName)) ∈ lw_all := lw_g (lw_at lw_m6 145 rfl) rfl
theorem q1413 : (Jvm.Cond.methodLink "FewKeysLaw" (86 : Nat) ({ cls := "FewKeysModel", name := "list", desc := "()I" } : Jvm.MethodName)) ∈ lw_all := lw_g (lw_at lw_m6 153 rfl) rfl
theorem q1429 : (Jvm.Cond.methodLink "FewKeysLaw" (90 : Nat) ({ cls := "FewKeysModel", name := "quick", desc := "(II)I" } : Jvm.MethodName)) ∈ lw_all := lw_g (lw_at lw_m6 169 rfl) rfl
theorem q1433 : (Jvm.Cond.methodLink "FewKeysLaw" (95 : Nat) ({ cls := "FewKeysModel", name := "struck", desc := "(III)I" } : Jvm.MethodName)) ∈ lw_all := lw_g (lw_at lw_m6 173 rfl) rfl
theorem q1441 : (Jvm.Cond.methodLink "FewKeysLaw" (99 : Nat) ({ cls := "FewKeysModel", name := "lost", desc := "(I)I" } : Jvm.MethodName)) ∈ lw_all := lw_g (lw_at lw_m6 181 rfl) rfl
theorem q1460 : (Jvm.Cond.methodLink "FewKeysLaw" (103 : Nat) ({ cls := "FewKeysModel", name := "game", desc := "(III)I" } : Jvm.MethodName)) ∈ lw_all := lw_g (lw_at lw_m6 200 rfl) rfl
theorem q1472 : (Jvm.Cond.methodLink "FewKeysLaw" (107 : Nat) ({ cls := "FewKeysModel", name := "write", desc := "(II)I" } : Jvm.MethodName)) ∈ lw_all := lw_g (lw_at lw_m6 212 rfl) rfl
theorem q1476 : (Jvm.Cond.methodLink "FewKeysLaw" (111 : Nat) ({ cls := "FewKeysModel", name := "tear", desc := "()I" } : Jvm.MethodName)) ∈ lw_all := lw_g (lw_at lw_m6 216 rfl) rfl
theorem q1480 : (Jvm.Cond.methodLink "FewKeysLaw" (115 : Nat) ({ cls := "FewKeysModel", name := "judge", desc := "()I" } : Jvm.MethodName)) ∈ lw_all := lw_g (lw_at lw_m6 220 rfl) rfl
theorem q1484 : (Jvm.Cond.methodLink "FewKeysLaw" (119 : Nat) ({ cls := "FewKeysModel", name := "drift", desc := "(I)I" } : Jvm.MethodName)) ∈ lw_all := lw_g (lw_at lw_m6 224 rfl) rfl
theorem q1492 : (Jvm.Cond.methodLink "FewKeysLaw" (123 : Nat) ({ cls := "FewKeysModel", name := "seed", desc := "(I)I" } : Jvm.MethodName)) ∈ lw_all := lw_g (lw_at lw_m6 232 rfl) rfl
theorem q1496 : (Jvm.Cond.methodLink "FewKeysLaw" (127 : Nat) ({ cls := "FewKeysModel", name := "keep", desc := "(I)I" } : Jvm.MethodName)) ∈ lw_all := lw_g (lw_at lw_m6 236 rfl) rfl
theorem q1500 : (Jvm.Cond.methodLink "FewKeysLaw" (131 : Nat) ({ cls := "FewKeysModel", name := "goBack", desc := "(I)I" } : Jvm.MethodName)) ∈ lw_all := lw_g (lw_at lw_m7 0 rfl) rfl
theorem q1504 : (Jvm.Cond.constantLong "FewKeysLaw" (13 : Nat) (4294967295 : Int64)) ∈ lw_all := lw_g (lw_at lw_m7 4 rfl) rfl

theorem q332 : (Jvm.Cond.sameMethod "[B" "java/lang/Object" "clone" "()Ljava/lang/Object;") ∈ lw_all := lw_g (lw_at lw_m2 32 rfl) rfl
set_option maxRecDepth 100000
theorem q335 : (Jvm.Cond.selects "[B" ({ cls := "[B", name := "clone", desc := "()Ljava/lang/Object;" } : Jvm.MethodName) ({ cls := "java/lang/Object", name := "clone", desc := "()Ljava/lang/Object;" } : Jvm.MethodName)) ∈ lw_all := lw_g (lw_at lw_m2 35 rfl) rfl
theorem q336 : (Jvm.Cond.castable "[B" "java/lang/Cloneable") ∈ lw_tbl := lw_at lw_m2 36 rfl

theorem q73 : (Jvm.Cond.initialized "java/lang/System") ∈ lw_all := lw_g (lw_at lw_m1 13 rfl) rfl
set_option maxRecDepth 100000
theorem q342 : (Jvm.Cond.static ({ cls := "java/lang/System", name := "arraycopy", desc := "(Ljava/lang/Object;ILjava/lang/Object;II)V" } : Jvm.MethodName)) ∈ lw_all := lw_g (lw_at lw_m2 42 rfl) rfl
theorem q343 : (Jvm.Cond.native ({ cls := "java/lang/System", name := "arraycopy", desc := "(Ljava/lang/Object;ILjava/lang/Object;II)V" } : Jvm.MethodName)) ∈ lw_all := lw_g (lw_at lw_m2 43 rfl) rfl

theorem q615 : (Jvm.Cond.interfaceMethod "jdk/internal/access/JavaLangAccess" "jdk/internal/access/JavaLangAccess" "getUTF16Char" "([BI)C") ∈ lw_tbl := lw_at lw_m3 75 rfl
set_option maxRecDepth 100000
theorem q616 : (Jvm.Cond.declares ({ cls := "jdk/internal/access/JavaLangAccess", name := "getUTF16Char", desc := "([BI)C" } : Jvm.MethodName)) ∈ lw_tbl := lw_at lw_m3 76 rfl

/-! FewKeys$Reckoner -/
set_option maxRecDepth 100000
def RX1 : String := "FewKeys$Reckoner"
def TX1 : u_T := fun k => match k with
  | 0 => ("FewKeys$Reckoner", "dial", "LFewKeys$Dial;", false)
  | 1 => ("FewKeys$Reckoner", "keys", "[LFewKeys$Key;", true)
  | _ => ("FewKeys$Reckoner", "many", "I", false)
def tyX1 : Nat → FieldType := fun k => match k with
  | 0 => .object "FewKeys$Dial"
  | 1 => .array (.object "FewKeys$Key")
  | _ => .int
abbrev wsX10 : List Cond := u_ws RX1 TX1 3
theorem nmX1 : ∀ a, a < 3 → ∀ b, b < 3 → a ≠ b → (TX1 a).2.1 ≠ (TX1 b).2.1 := by decide +kernel
theorem tyX1_ok : ∀ k, k < 3 → parseFieldDescriptor (TX1 k).2.2.1 = some (tyX1 k) := by decide +kernel
abbrev cX1_init : ByteArray := prog_11_method_1_code
def yX1_init : MethodName := ⟨RX1, "<init>", "()V"⟩
def dkwX1_init_0 : List UInt8 := [42, 183, 0, 3, 42, 16, 9, 189, 0, 9, 181, 0, 11, 177]
abbrev dktX1_init_0 : List UInt8 := dkwX1_init_0 ++ []
theorem dksX1_init_0 : cX1_init.data.toList.drop 0 = dktX1_init_0 := by decide +kernel
theorem dX1_init_0 : decode cX1_init 0 = .ok (.aload_n 0, 1) := dk_42 (dk_at dksX1_init_0 0 rfl rfl)
theorem dX1_init_1 : decode cX1_init 1 = .ok (.invokespecial 3, 3) := dk_183 0 3 (dk_at dksX1_init_0 1 rfl rfl)
theorem dX1_init_4 : decode cX1_init 4 = .ok (.aload_n 0, 1) := dk_42 (dk_at dksX1_init_0 4 rfl rfl)
theorem dX1_init_5 : decode cX1_init 5 = .ok (.bipush 9, 2) := dk_16 9 (dk_at dksX1_init_0 5 rfl rfl)
theorem dX1_init_7 : decode cX1_init 7 = .ok (.anewarray 9, 3) := dk_189 0 9 (dk_at dksX1_init_0 7 rfl rfl)
theorem dX1_init_10 : decode cX1_init 10 = .ok (.putfield 11, 3) := dk_181 0 11 (dk_at dksX1_init_0 10 rfl rfl)
theorem dX1_init_13 : decode cX1_init 13 = .ok (.return_, 1) := dk_177 (dk_at dksX1_init_0 13 rfl rfl)
theorem q62 : (Jvm.Cond.initialized "FewKeys$Reckoner") ∈ lw_all := lw_g (lw_at lw_m1 2 rfl) rfl
theorem q97 : (Jvm.Cond.instantiable "FewKeys$Reckoner" (3 : Nat)) ∈ lw_all := lw_g (lw_at lw_m1 37 rfl) rfl
theorem q99 : (Jvm.Cond.instanceMethod ({ cls := "FewKeys$Reckoner", name := "<init>", desc := "()V" } : Jvm.MethodName)) ∈ lw_all := lw_g (lw_at lw_m1 39 rfl) rfl
theorem q100 : (Jvm.Cond.code ({ cls := "FewKeys$Reckoner", name := "<init>", desc := "()V" } : Jvm.MethodName) prog_11_method_1_code (1 : Nat) (Option.none : Option Jvm.ClassFile.FieldType)) ∈ lw_all := lw_g (lw_at lw_m1 40 rfl) rfl
theorem q101 : (Jvm.Cond.methodLink "FewKeys$Reckoner" (3 : Nat) ({ cls := "java/lang/Object", name := "<init>", desc := "()V" } : Jvm.MethodName)) ∈ lw_all := lw_g (lw_at lw_m1 41 rfl) rfl
theorem q102 : (Jvm.Cond.classLink "FewKeys$Reckoner" (9 : Nat) "FewKeys$Key") ∈ lw_all := lw_g (lw_at lw_m1 42 rfl) rfl
theorem q106 : (Jvm.Cond.fieldLink "FewKeys$Reckoner" (11 : Nat) "FewKeys$Reckoner" "keys" "[LFewKeys$Key;") ∈ lw_all := lw_g (lw_at lw_m1 46 rfl) rfl
theorem q111 : (Jvm.Cond.lays "FewKeys$Reckoner" "FewKeys$Reckoner" "dial" "LFewKeys$Dial;") ∈ lw_all := lw_g (lw_at lw_m1 51 rfl) rfl
theorem q112 : (Jvm.Cond.soleField "FewKeys$Reckoner" "dial") ∈ lw_all := lw_g (lw_at lw_m1 52 rfl) rfl
theorem q113 : (Jvm.Cond.laysFinal "FewKeys$Reckoner" "FewKeys$Reckoner" "keys" "[LFewKeys$Key;") ∈ lw_all := lw_g (lw_at lw_m1 53 rfl) rfl
theorem q114 : (Jvm.Cond.soleField "FewKeys$Reckoner" "keys") ∈ lw_all := lw_g (lw_at lw_m1 54 rfl) rfl
theorem q115 : (Jvm.Cond.lays "FewKeys$Reckoner" "FewKeys$Reckoner" "many" "I") ∈ lw_all := lw_g (lw_at lw_m1 55 rfl) rfl
theorem q116 : (Jvm.Cond.soleField "FewKeys$Reckoner" "many") ∈ lw_all := lw_g (lw_at lw_m1 56 rfl) rfl
theorem q117 : (Jvm.Cond.superclass "FewKeys$Reckoner" "java/lang/Object") ∈ lw_all := lw_g (lw_at lw_m1 57 rfl) rfl
theorem in_X1 : ∀ w ∈ wsX10, w ∈ lw_all := lw_in wsX10 [111, 113, 115] (by decide +kernel) (by decide +kernel)

/-! FewKeys$Desk -/
set_option maxRecDepth 100000
def RX2 : String := "FewKeys$Desk"
def TX2 : u_T := fun k => match k with
  | 0 => ("FewKeys$Desk", "state", "I", false)
  | 1 => ("FewKeys$Desk", "spent", "I", false)
  | 2 => ("FewKeys$Desk", "target", "[I", true)
  | 3 => ("FewKeys$Desk", "targets", "I", false)
  | 4 => ("FewKeys$Desk", "seed", "I", false)
  | _ => ("FewKeys$Desk", "isKept", "Z", false)
def tyX2 : Nat → FieldType := fun k => match k with
  | 0 => .int
  | 1 => .int
  | 2 => .array .int
  | 3 => .int
  | 4 => .int
  | _ => .boolean
abbrev wsX20 : List Cond := u_ws RX2 TX2 6
theorem nmX2 : ∀ a, a < 6 → ∀ b, b < 6 → a ≠ b → (TX2 a).2.1 ≠ (TX2 b).2.1 := by decide +kernel
theorem tyX2_ok : ∀ k, k < 6 → parseFieldDescriptor (TX2 k).2.2.1 = some (tyX2 k) := by decide +kernel
abbrev cX2_init : ByteArray := prog_3_method_1_code
def yX2_init : MethodName := ⟨RX2, "<init>", "()V"⟩
def dkwX2_init_0 : List UInt8 := [42, 183, 0, 3, 42, 16, 6, 188, 10, 181, 0, 9, 177]
abbrev dktX2_init_0 : List UInt8 := dkwX2_init_0 ++ []
theorem dksX2_init_0 : cX2_init.data.toList.drop 0 = dktX2_init_0 := by decide +kernel
theorem dX2_init_0 : decode cX2_init 0 = .ok (.aload_n 0, 1) := dk_42 (dk_at dksX2_init_0 0 rfl rfl)
theorem dX2_init_1 : decode cX2_init 1 = .ok (.invokespecial 3, 3) := dk_183 0 3 (dk_at dksX2_init_0 1 rfl rfl)
theorem dX2_init_4 : decode cX2_init 4 = .ok (.aload_n 0, 1) := dk_42 (dk_at dksX2_init_0 4 rfl rfl)
theorem dX2_init_5 : decode cX2_init 5 = .ok (.bipush 6, 2) := dk_16 6 (dk_at dksX2_init_0 5 rfl rfl)
theorem dX2_init_7 : decode cX2_init 7 = .ok (.newarray .int, 2) := dk_188_10 (dk_at dksX2_init_0 7 rfl rfl)
theorem dX2_init_9 : decode cX2_init 9 = .ok (.putfield 9, 3) := dk_181 0 9 (dk_at dksX2_init_0 9 rfl rfl)
theorem dX2_init_12 : decode cX2_init 12 = .ok (.return_, 1) := dk_177 (dk_at dksX2_init_0 12 rfl rfl)
abbrev cX2_begin : ByteArray := prog_3_method_2_code
def yX2_begin : MethodName := ⟨RX2, "begin", "()V"⟩
def dkwX2_begin_0 : List UInt8 := [42, 3, 181, 0, 15, 42, 3, 181, 0, 19, 42, 3, 181, 0, 22, 177]
abbrev dktX2_begin_0 : List UInt8 := dkwX2_begin_0 ++ []
theorem dksX2_begin_0 : cX2_begin.data.toList.drop 0 = dktX2_begin_0 := by decide +kernel
theorem dX2_begin_0 : decode cX2_begin 0 = .ok (.aload_n 0, 1) := dk_42 (dk_at dksX2_begin_0 0 rfl rfl)
theorem dX2_begin_1 : decode cX2_begin 1 = .ok (.iconst 0, 1) := dk_3 (dk_at dksX2_begin_0 1 rfl rfl)
theorem dX2_begin_2 : decode cX2_begin 2 = .ok (.putfield 15, 3) := dk_181 0 15 (dk_at dksX2_begin_0 2 rfl rfl)
theorem dX2_begin_5 : decode cX2_begin 5 = .ok (.aload_n 0, 1) := dk_42 (dk_at dksX2_begin_0 5 rfl rfl)
theorem dX2_begin_6 : decode cX2_begin 6 = .ok (.iconst 0, 1) := dk_3 (dk_at dksX2_begin_0 6 rfl rfl)
theorem dX2_begin_7 : decode cX2_begin 7 = .ok (.putfield 19, 3) := dk_181 0 19 (dk_at dksX2_begin_0 7 rfl rfl)
theorem dX2_begin_10 : decode cX2_begin 10 = .ok (.aload_n 0, 1) := dk_42 (dk_at dksX2_begin_0 10 rfl rfl)
theorem dX2_begin_11 : decode cX2_begin 11 = .ok (.iconst 0, 1) := dk_3 (dk_at dksX2_begin_0 11 rfl rfl)
theorem dX2_begin_12 : decode cX2_begin 12 = .ok (.putfield 22, 3) := dk_181 0 22 (dk_at dksX2_begin_0 12 rfl rfl)
theorem dX2_begin_15 : decode cX2_begin 15 = .ok (.return_, 1) := dk_177 (dk_at dksX2_begin_0 15 rfl rfl)
abbrev cX2_draw : ByteArray := prog_3_method_4_code
def yX2_draw : MethodName := ⟨RX2, "draw", "(I)I"⟩
def dkwX2_draw_1 : List UInt8 := [180, 0, 31, 18, 40, 108, 27, 112, 172]
abbrev dktX2_draw_1 : List UInt8 := dkwX2_draw_1 ++ []
def dkwX2_draw_0 : List UInt8 := [42, 42, 180, 0, 31, 133, 20, 0, 34, 105, 20, 0, 36, 97, 20, 0, 38, 113, 136, 181, 0, 31, 42]
abbrev dktX2_draw_0 : List UInt8 := dkwX2_draw_0 ++ dktX2_draw_1
theorem dksX2_draw_0 : cX2_draw.data.toList.drop 0 = dktX2_draw_0 := by decide +kernel
theorem dksX2_draw_1 : cX2_draw.data.toList.drop 23 = dktX2_draw_1 := dk_seg dksX2_draw_0 23 rfl rfl
theorem dX2_draw_0 : decode cX2_draw 0 = .ok (.aload_n 0, 1) := dk_42 (dk_at dksX2_draw_0 0 rfl rfl)
theorem dX2_draw_1 : decode cX2_draw 1 = .ok (.aload_n 0, 1) := dk_42 (dk_at dksX2_draw_0 1 rfl rfl)
theorem dX2_draw_2 : decode cX2_draw 2 = .ok (.getfield 31, 3) := dk_180 0 31 (dk_at dksX2_draw_0 2 rfl rfl)
theorem dX2_draw_5 : decode cX2_draw 5 = .ok (.i2l, 1) := dk_133 (dk_at dksX2_draw_0 5 rfl rfl)
theorem dX2_draw_6 : decode cX2_draw 6 = .ok (.ldc2_w 34, 3) := dk_20 0 34 (dk_at dksX2_draw_0 6 rfl rfl)
theorem dX2_draw_9 : decode cX2_draw 9 = .ok (.lmul, 1) := dk_105 (dk_at dksX2_draw_0 9 rfl rfl)
theorem dX2_draw_10 : decode cX2_draw 10 = .ok (.ldc2_w 36, 3) := dk_20 0 36 (dk_at dksX2_draw_0 10 rfl rfl)
theorem dX2_draw_13 : decode cX2_draw 13 = .ok (.ladd, 1) := dk_97 (dk_at dksX2_draw_0 13 rfl rfl)
theorem dX2_draw_14 : decode cX2_draw 14 = .ok (.ldc2_w 38, 3) := dk_20 0 38 (dk_at dksX2_draw_0 14 rfl rfl)
theorem dX2_draw_17 : decode cX2_draw 17 = .ok (.lrem, 1) := dk_113 (dk_at dksX2_draw_0 17 rfl rfl)
theorem dX2_draw_18 : decode cX2_draw 18 = .ok (.l2i, 1) := dk_136 (dk_at dksX2_draw_0 18 rfl rfl)
theorem dX2_draw_19 : decode cX2_draw 19 = .ok (.putfield 31, 3) := dk_181 0 31 (dk_at dksX2_draw_0 19 rfl rfl)
theorem dX2_draw_22 : decode cX2_draw 22 = .ok (.aload_n 0, 1) := dk_42 (dk_at dksX2_draw_0 22 rfl rfl)
theorem dX2_draw_23 : decode cX2_draw 23 = .ok (.getfield 31, 3) := dk_180 0 31 (dk_at dksX2_draw_1 0 rfl rfl)
theorem dX2_draw_26 : decode cX2_draw 26 = .ok (.ldc 40, 2) := dk_18 40 (dk_at dksX2_draw_1 3 rfl rfl)
theorem dX2_draw_28 : decode cX2_draw 28 = .ok (.idiv, 1) := dk_108 (dk_at dksX2_draw_1 5 rfl rfl)
theorem dX2_draw_29 : decode cX2_draw 29 = .ok (.iload_n 1, 1) := dk_27 (dk_at dksX2_draw_1 6 rfl rfl)
theorem dX2_draw_30 : decode cX2_draw 30 = .ok (.irem, 1) := dk_112 (dk_at dksX2_draw_1 7 rfl rfl)
theorem dX2_draw_31 : decode cX2_draw 31 = .ok (.ireturn, 1) := dk_172 (dk_at dksX2_draw_1 8 rfl rfl)
abbrev cX2_set : ByteArray := prog_3_method_3_code
def yX2_set : MethodName := ⟨RX2, "set", "(LFewKeys$Desk;)V"⟩
def dkwX2_set_2 : List UInt8 := [181, 0, 31, 177]
abbrev dktX2_set_2 : List UInt8 := dkwX2_set_2 ++ []
def dkwX2_set_1 : List UInt8 := [180, 0, 9, 3, 16, 6, 184, 0, 25, 42, 43, 180, 0, 22, 181, 0, 22, 42, 43, 180, 0, 31]
abbrev dktX2_set_1 : List UInt8 := dkwX2_set_1 ++ dktX2_set_2
def dkwX2_set_0 : List UInt8 := [42, 43, 180, 0, 15, 181, 0, 15, 42, 43, 180, 0, 19, 181, 0, 19, 43, 180, 0, 9, 3, 42]
abbrev dktX2_set_0 : List UInt8 := dkwX2_set_0 ++ dktX2_set_1
theorem dksX2_set_0 : cX2_set.data.toList.drop 0 = dktX2_set_0 := by decide +kernel
theorem dksX2_set_1 : cX2_set.data.toList.drop 22 = dktX2_set_1 := dk_seg dksX2_set_0 22 rfl rfl
theorem dksX2_set_2 : cX2_set.data.toList.drop 44 = dktX2_set_2 := dk_seg dksX2_set_1 22 rfl rfl
theorem dX2_set_0 : decode cX2_set 0 = .ok (.aload_n 0, 1) := dk_42 (dk_at dksX2_set_0 0 rfl rfl)
theorem dX2_set_1 : decode cX2_set 1 = .ok (.aload_n 1, 1) := dk_43 (dk_at dksX2_set_0 1 rfl rfl)
theorem dX2_set_2 : decode cX2_set 2 = .ok (.getfield 15, 3) := dk_180 0 15 (dk_at dksX2_set_0 2 rfl rfl)
theorem dX2_set_5 : decode cX2_set 5 = .ok (.putfield 15, 3) := dk_181 0 15 (dk_at dksX2_set_0 5 rfl rfl)
theorem dX2_set_8 : decode cX2_set 8 = .ok (.aload_n 0, 1) := dk_42 (dk_at dksX2_set_0 8 rfl rfl)
theorem dX2_set_9 : decode cX2_set 9 = .ok (.aload_n 1, 1) := dk_43 (dk_at dksX2_set_0 9 rfl rfl)
theorem dX2_set_10 : decode cX2_set 10 = .ok (.getfield 19, 3) := dk_180 0 19 (dk_at dksX2_set_0 10 rfl rfl)
theorem dX2_set_13 : decode cX2_set 13 = .ok (.putfield 19, 3) := dk_181 0 19 (dk_at dksX2_set_0 13 rfl rfl)
theorem dX2_set_16 : decode cX2_set 16 = .ok (.aload_n 1, 1) := dk_43 (dk_at dksX2_set_0 16 rfl rfl)
theorem dX2_set_17 : decode cX2_set 17 = .ok (.getfield 9, 3) := dk_180 0 9 (dk_at dksX2_set_0 17 rfl rfl)
theorem dX2_set_20 : decode cX2_set 20 = .ok (.iconst 0, 1) := dk_3 (dk_at dksX2_set_0 20 rfl rfl)
theorem dX2_set_21 : decode cX2_set 21 = .ok (.aload_n 0, 1) := dk_42 (dk_at dksX2_set_0 21 rfl rfl)
theorem dX2_set_22 : decode cX2_set 22 = .ok (.getfield 9, 3) := dk_180 0 9 (dk_at dksX2_set_1 0 rfl rfl)
theorem dX2_set_25 : decode cX2_set 25 = .ok (.iconst 0, 1) := dk_3 (dk_at dksX2_set_1 3 rfl rfl)
theorem dX2_set_26 : decode cX2_set 26 = .ok (.bipush 6, 2) := dk_16 6 (dk_at dksX2_set_1 4 rfl rfl)
theorem dX2_set_28 : decode cX2_set 28 = .ok (.invokestatic 25, 3) := dk_184 0 25 (dk_at dksX2_set_1 6 rfl rfl)
theorem dX2_set_31 : decode cX2_set 31 = .ok (.aload_n 0, 1) := dk_42 (dk_at dksX2_set_1 9 rfl rfl)
theorem dX2_set_32 : decode cX2_set 32 = .ok (.aload_n 1, 1) := dk_43 (dk_at dksX2_set_1 10 rfl rfl)
theorem dX2_set_33 : decode cX2_set 33 = .ok (.getfield 22, 3) := dk_180 0 22 (dk_at dksX2_set_1 11 rfl rfl)
theorem dX2_set_36 : decode cX2_set 36 = .ok (.putfield 22, 3) := dk_181 0 22 (dk_at dksX2_set_1 14 rfl rfl)
theorem dX2_set_39 : decode cX2_set 39 = .ok (.aload_n 0, 1) := dk_42 (dk_at dksX2_set_1 17 rfl rfl)
theorem dX2_set_40 : decode cX2_set 40 = .ok (.aload_n 1, 1) := dk_43 (dk_at dksX2_set_1 18 rfl rfl)
theorem dX2_set_41 : decode cX2_set 41 = .ok (.getfield 31, 3) := dk_180 0 31 (dk_at dksX2_set_1 19 rfl rfl)
theorem dX2_set_44 : decode cX2_set 44 = .ok (.putfield 31, 3) := dk_181 0 31 (dk_at dksX2_set_2 0 rfl rfl)
theorem dX2_set_47 : decode cX2_set 47 = .ok (.return_, 1) := dk_177 (dk_at dksX2_set_2 3 rfl rfl)
theorem q63 : (Jvm.Cond.initialized "FewKeys$Desk") ∈ lw_all := lw_g (lw_at lw_m1 3 rfl) rfl
theorem q119 : (Jvm.Cond.instantiable "FewKeys$Desk" (6 : Nat)) ∈ lw_all := lw_g (lw_at lw_m1 59 rfl) rfl
theorem q121 : (Jvm.Cond.instanceMethod ({ cls := "FewKeys$Desk", name := "<init>", desc := "()V" } : Jvm.MethodName)) ∈ lw_all := lw_g (lw_at lw_m1 61 rfl) rfl
theorem q122 : (Jvm.Cond.code ({ cls := "FewKeys$Desk", name := "<init>", desc := "()V" } : Jvm.MethodName) prog_3_method_1_code (1 : Nat) (Option.none : Option Jvm.ClassFile.FieldType)) ∈ lw_all := lw_g (lw_at lw_m1 62 rfl) rfl
theorem q123 : (Jvm.Cond.methodLink "FewKeys$Desk" (3 : Nat) ({ cls := "java/lang/Object", name := "<init>", desc := "()V" } : Jvm.MethodName)) ∈ lw_all := lw_g (lw_at lw_m1 63 rfl) rfl
theorem q124 : (Jvm.Cond.fieldLink "FewKeys$Desk" (15 : Nat) "FewKeys$Desk" "state" "I") ∈ lw_all := lw_g (lw_at lw_m1 64 rfl) rfl
theorem q126 : (Jvm.Cond.fieldLink "FewKeys$Desk" (19 : Nat) "FewKeys$Desk" "spent" "I") ∈ lw_all := lw_g (lw_at lw_m1 66 rfl) rfl
theorem q128 : (Jvm.Cond.fieldLink "FewKeys$Desk" (9 : Nat) "FewKeys$Desk" "target" "[I") ∈ lw_all := lw_g (lw_at lw_m1 68 rfl) rfl
theorem q130 : (Jvm.Cond.fieldLink "FewKeys$Desk" (22 : Nat) "FewKeys$Desk" "targets" "I") ∈ lw_all := lw_g (lw_at lw_m1 70 rfl) rfl
theorem q132 : (Jvm.Cond.fieldLink "FewKeys$Desk" (31 : Nat) "FewKeys$Desk" "seed" "I") ∈ lw_all := lw_g (lw_at lw_m1 72 rfl) rfl
theorem q135 : (Jvm.Cond.lays "FewKeys$Desk" "FewKeys$Desk" "state" "I") ∈ lw_all := lw_g (lw_at lw_m1 75 rfl) rfl
theorem q136 : (Jvm.Cond.soleField "FewKeys$Desk" "state") ∈ lw_all := lw_g (lw_at lw_m1 76 rfl) rfl
theorem q137 : (Jvm.Cond.lays "FewKeys$Desk" "FewKeys$Desk" "spent" "I") ∈ lw_all := lw_g (lw_at lw_m1 77 rfl) rfl
theorem q138 : (Jvm.Cond.soleField "FewKeys$Desk" "spent") ∈ lw_all := lw_g (lw_at lw_m1 78 rfl) rfl
theorem q139 : (Jvm.Cond.laysFinal "FewKeys$Desk" "FewKeys$Desk" "target" "[I") ∈ lw_all := lw_g (lw_at lw_m1 79 rfl) rfl
theorem q140 : (Jvm.Cond.soleField "FewKeys$Desk" "target") ∈ lw_all := lw_g (lw_at lw_m1 80 rfl) rfl
theorem q141 : (Jvm.Cond.lays "FewKeys$Desk" "FewKeys$Desk" "targets" "I") ∈ lw_all := lw_g (lw_at lw_m1 81 rfl) rfl
theorem q142 : (Jvm.Cond.soleField "FewKeys$Desk" "targets") ∈ lw_all := lw_g (lw_at lw_m1 82 rfl) rfl
theorem q143 : (Jvm.Cond.lays "FewKeys$Desk" "FewKeys$Desk" "seed" "I") ∈ lw_all := lw_g (lw_at lw_m1 83 rfl) rfl
theorem q144 : (Jvm.Cond.soleField "FewKeys$Desk" "seed") ∈ lw_all := lw_g (lw_at lw_m1 84 rfl) rfl
theorem q145 : (Jvm.Cond.lays "FewKeys$Desk" "FewKeys$Desk" "isKept" "Z") ∈ lw_all := lw_g (lw_at lw_m1 85 rfl) rfl
theorem q146 : (Jvm.Cond.soleField "FewKeys$Desk" "isKept") ∈ lw_all := lw_g (lw_at lw_m1 86 rfl) rfl
theorem q147 : (Jvm.Cond.superclass "FewKeys$Desk" "java/lang/Object") ∈ lw_all := lw_g (lw_at lw_m1 87 rfl) rfl
theorem q752 : (Jvm.Cond.instanceMethod ({ cls := "FewKeys$Desk", name := "begin", desc := "()V" } : Jvm.MethodName)) ∈ lw_all := lw_g (lw_at lw_m3 212 rfl) rfl
theorem q753 : (Jvm.Cond.selects "FewKeys$Desk" ({ cls := "FewKeys$Desk", name := "begin", desc := "()V" } : Jvm.MethodName) ({ cls := "FewKeys$Desk", name := "begin", desc := "()V" } : Jvm.MethodName)) ∈ lw_all := lw_g (lw_at lw_m3 213 rfl) rfl
theorem q754 : (Jvm.Cond.code ({ cls := "FewKeys$Desk", name := "begin", desc := "()V" } : Jvm.MethodName) prog_3_method_2_code (1 : Nat) (Option.none : Option Jvm.ClassFile.FieldType)) ∈ lw_all := lw_g (lw_at lw_m3 214 rfl) rfl
theorem q1068 : (Jvm.Cond.instanceMethod ({ cls := "FewKeys$Desk", name := "draw", desc := "(I)I" } : Jvm.MethodName)) ∈ lw_all := lw_g (lw_at lw_m5 48 rfl) rfl
theorem q1069 : (Jvm.Cond.selects "FewKeys$Desk" ({ cls := "FewKeys$Desk", name := "draw", desc := "(I)I" } : Jvm.MethodName) ({ cls := "FewKeys$Desk", name := "draw", desc := "(I)I" } : Jvm.MethodName)) ∈ lw_all := lw_g (lw_at lw_m5 49 rfl) rfl
theorem q1070 : (Jvm.Cond.code ({ cls := "FewKeys$Desk", name := "draw", desc := "(I)I" } : Jvm.MethodName) prog_3_method_4_code (2 : Nat) (Option.some Jvm.ClassFile.FieldType.int)) ∈ lw_all := lw_g (lw_at lw_m5 50 rfl) rfl
theorem q1071 : (Jvm.Cond.constantLong "FewKeys$Desk" (34 : Nat) (1103515245 : Int64)) ∈ lw_all := lw_g (lw_at lw_m5 51 rfl) rfl
theorem q1072 : (Jvm.Cond.constantLong "FewKeys$Desk" (36 : Nat) (12345 : Int64)) ∈ lw_all := lw_g (lw_at lw_m5 52 rfl) rfl
theorem q1073 : (Jvm.Cond.constantLong "FewKeys$Desk" (38 : Nat) (2147483648 : Int64)) ∈ lw_all := lw_g (lw_at lw_m5 53 rfl) rfl
theorem q1074 : (Jvm.Cond.constant "FewKeys$Desk" (40 : Nat) (65536 : Int32)) ∈ lw_all := lw_g (lw_at lw_m5 54 rfl) rfl
theorem q1084 : (Jvm.Cond.instanceMethod ({ cls := "FewKeys$Desk", name := "set", desc := "(LFewKeys$Desk;)V" } : Jvm.MethodName)) ∈ lw_all := lw_g (lw_at lw_m5 64 rfl) rfl
theorem q1085 : (Jvm.Cond.selects "FewKeys$Desk" ({ cls := "FewKeys$Desk", name := "set", desc := "(LFewKeys$Desk;)V" } : Jvm.MethodName) ({ cls := "FewKeys$Desk", name := "set", desc := "(LFewKeys$Desk;)V" } : Jvm.MethodName)) ∈ lw_all := lw_g (lw_at lw_m5 65 rfl) rfl
theorem q1086 : (Jvm.Cond.code ({ cls := "FewKeys$Desk", name := "set", desc := "(LFewKeys$Desk;)V" } : Jvm.MethodName) prog_3_method_3_code (2 : Nat) (Option.none : Option Jvm.ClassFile.FieldType)) ∈ lw_all := lw_g (lw_at lw_m5 66 rfl) rfl
theorem q1087 : (Jvm.Cond.methodLink "FewKeys$Desk" (25 : Nat) ({ cls := "java/lang/System", name := "arraycopy", desc := "(Ljava/lang/Object;ILjava/lang/Object;II)V" } : Jvm.MethodName)) ∈ lw_all := lw_g (lw_at lw_m5 67 rfl) rfl
theorem in_X2 : ∀ w ∈ wsX20, w ∈ lw_all := lw_in wsX20 [135, 137, 139, 141, 143, 145] (by decide +kernel) (by decide +kernel)

/-! FewKeys$Fault -/
set_option maxRecDepth 100000
def RX5 : String := "FewKeys$Fault"
def TX5 : u_T := fun k => match k with
  | 0 => ("java/lang/Throwable", "cause", "Ljava/lang/Throwable;", false)
  | 1 => ("java/lang/Throwable", "stackTrace", "[Ljava/lang/StackTraceElement;", false)
  | 2 => ("java/lang/Throwable", "suppressedExceptions", "Ljava/util/List;", false)
  | 3 => ("java/lang/Throwable", "detailMessage", "Ljava/lang/String;", false)
  | 4 => ("java/lang/Throwable", "backtrace", "Ljava/lang/Object;", false)
  | 5 => ("java/lang/Throwable", "depth", "I", false)
  | 6 => ("FewKeys$Fault", "number", "I", true)
  | _ => ("FewKeys$Fault", "place", "I", true)
def tyX5 : Nat → FieldType := fun k => match k with
  | 0 => .object "java/lang/Throwable"
  | 1 => .array (.object "java/lang/StackTraceElement")
  | 2 => .object "java/util/List"
  | 3 => .object "java/lang/String"
  | 4 => .object "java/lang/Object"
  | 5 => .int
  | 6 => .int
  | _ => .int
abbrev wsX50 : List Cond := u_ws RX5 TX5 8
theorem nmX5 : ∀ a, a < 8 → ∀ b, b < 8 → a ≠ b → (TX5 a).2.1 ≠ (TX5 b).2.1 := by decide +kernel
theorem tyX5_ok : ∀ k, k < 8 → parseFieldDescriptor (TX5 k).2.2.1 = some (tyX5 k) := by decide +kernel
abbrev cX5_init : ByteArray := prog_5_method_1_code
def yX5_init : MethodName := ⟨RX5, "<init>", "(II)V"⟩
def dkwX5_init_0 : List UInt8 := [42, 1, 1, 3, 3, 183, 0, 1, 42, 27, 181, 0, 7, 42, 28, 181, 0, 13, 177]
abbrev dktX5_init_0 : List UInt8 := dkwX5_init_0 ++ []
theorem dksX5_init_0 : cX5_init.data.toList.drop 0 = dktX5_init_0 := by decide +kernel
theorem dX5_init_0 : decode cX5_init 0 = .ok (.aload_n 0, 1) := dk_42 (dk_at dksX5_init_0 0 rfl rfl)
theorem dX5_init_1 : decode cX5_init 1 = .ok (.aconst_null, 1) := dk_1 (dk_at dksX5_init_0 1 rfl rfl)
theorem dX5_init_2 : decode cX5_init 2 = .ok (.aconst_null, 1) := dk_1 (dk_at dksX5_init_0 2 rfl rfl)
theorem dX5_init_3 : decode cX5_init 3 = .ok (.iconst 0, 1) := dk_3 (dk_at dksX5_init_0 3 rfl rfl)
theorem dX5_init_4 : decode cX5_init 4 = .ok (.iconst 0, 1) := dk_3 (dk_at dksX5_init_0 4 rfl rfl)
theorem dX5_init_5 : decode cX5_init 5 = .ok (.invokespecial 1, 3) := dk_183 0 1 (dk_at dksX5_init_0 5 rfl rfl)
theorem dX5_init_8 : decode cX5_init 8 = .ok (.aload_n 0, 1) := dk_42 (dk_at dksX5_init_0 8 rfl rfl)
theorem dX5_init_9 : decode cX5_init 9 = .ok (.iload_n 1, 1) := dk_27 (dk_at dksX5_init_0 9 rfl rfl)
theorem dX5_init_10 : decode cX5_init 10 = .ok (.putfield 7, 3) := dk_181 0 7 (dk_at dksX5_init_0 10 rfl rfl)
theorem dX5_init_13 : decode cX5_init 13 = .ok (.aload_n 0, 1) := dk_42 (dk_at dksX5_init_0 13 rfl rfl)
theorem dX5_init_14 : decode cX5_init 14 = .ok (.iload_n 2, 1) := dk_28 (dk_at dksX5_init_0 14 rfl rfl)
theorem dX5_init_15 : decode cX5_init 15 = .ok (.putfield 13, 3) := dk_181 0 13 (dk_at dksX5_init_0 15 rfl rfl)
theorem dX5_init_18 : decode cX5_init 18 = .ok (.return_, 1) := dk_177 (dk_at dksX5_init_0 18 rfl rfl)
theorem q78 : (Jvm.Cond.initialized "FewKeys$Fault") ∈ lw_all := lw_g (lw_at lw_m1 18 rfl) rfl
theorem q473 : (Jvm.Cond.instantiable "FewKeys$Fault" (8 : Nat)) ∈ lw_all := lw_g (lw_at lw_m2 173 rfl) rfl
theorem q474 : (Jvm.Cond.castable "FewKeys$Fault" "FewKeys$Fault") ∈ lw_tbl := lw_at lw_m2 174 rfl
theorem q479 : (Jvm.Cond.selects "FewKeys$Fault" ({ cls := "java/lang/Throwable", name := "fillInStackTrace", desc := "(I)Ljava/lang/Throwable;" } : Jvm.MethodName) ({ cls := "java/lang/Throwable", name := "fillInStackTrace", desc := "(I)Ljava/lang/Throwable;" } : Jvm.MethodName)) ∈ lw_all := lw_g (lw_at lw_m2 179 rfl) rfl
theorem q480 : (Jvm.Cond.selects "FewKeys$Fault" ({ cls := "java/lang/Throwable", name := "fillInStackTrace", desc := "()Ljava/lang/Throwable;" } : Jvm.MethodName) ({ cls := "java/lang/Throwable", name := "fillInStackTrace", desc := "()Ljava/lang/Throwable;" } : Jvm.MethodName)) ∈ lw_all := lw_g (lw_at lw_m2 180 rfl) rfl
theorem q481 : (Jvm.Cond.lays "FewKeys$Fault" "java/lang/Throwable" "cause" "Ljava/lang/Throwable;") ∈ lw_all := lw_g (lw_at lw_m2 181 rfl) rfl
theorem q483 : (Jvm.Cond.lays "FewKeys$Fault" "java/lang/Throwable" "stackTrace" "[Ljava/lang/StackTraceElement;") ∈ lw_all := lw_g (lw_at lw_m2 183 rfl) rfl
theorem q485 : (Jvm.Cond.lays "FewKeys$Fault" "java/lang/Throwable" "suppressedExceptions" "Ljava/util/List;") ∈ lw_all := lw_g (lw_at lw_m2 185 rfl) rfl
theorem q487 : (Jvm.Cond.lays "FewKeys$Fault" "java/lang/Throwable" "detailMessage" "Ljava/lang/String;") ∈ lw_all := lw_g (lw_at lw_m2 187 rfl) rfl
theorem q489 : (Jvm.Cond.lays "FewKeys$Fault" "java/lang/Throwable" "backtrace" "Ljava/lang/Object;") ∈ lw_all := lw_g (lw_at lw_m2 189 rfl) rfl
theorem q510 : (Jvm.Cond.instanceMethod ({ cls := "FewKeys$Fault", name := "<init>", desc := "(II)V" } : Jvm.MethodName)) ∈ lw_all := lw_g (lw_at lw_m2 210 rfl) rfl
theorem q511 : (Jvm.Cond.code ({ cls := "FewKeys$Fault", name := "<init>", desc := "(II)V" } : Jvm.MethodName) prog_5_method_1_code (3 : Nat) (Option.none : Option Jvm.ClassFile.FieldType)) ∈ lw_all := lw_g (lw_at lw_m2 211 rfl) rfl
theorem q512 : (Jvm.Cond.methodLink "FewKeys$Fault" (1 : Nat) ({ cls := "java/lang/Exception", name := "<init>", desc := "(Ljava/lang/String;Ljava/lang/Throwable;ZZ)V" } : Jvm.MethodName)) ∈ lw_all := lw_g (lw_at lw_m2 212 rfl) rfl
theorem q518 : (Jvm.Cond.fieldLink "FewKeys$Fault" (7 : Nat) "FewKeys$Fault" "number" "I") ∈ lw_all := lw_g (lw_at lw_m2 218 rfl) rfl
theorem q520 : (Jvm.Cond.fieldLink "FewKeys$Fault" (13 : Nat) "FewKeys$Fault" "place" "I") ∈ lw_all := lw_g (lw_at lw_m2 220 rfl) rfl
theorem q527 : (Jvm.Cond.laysFinal "FewKeys$Fault" "FewKeys$Fault" "number" "I") ∈ lw_all := lw_g (lw_at lw_m2 227 rfl) rfl
theorem q528 : (Jvm.Cond.soleField "FewKeys$Fault" "number") ∈ lw_all := lw_g (lw_at lw_m2 228 rfl) rfl
theorem q529 : (Jvm.Cond.laysFinal "FewKeys$Fault" "FewKeys$Fault" "place" "I") ∈ lw_all := lw_g (lw_at lw_m2 229 rfl) rfl
theorem q530 : (Jvm.Cond.soleField "FewKeys$Fault" "place") ∈ lw_all := lw_g (lw_at lw_m2 230 rfl) rfl
theorem q535 : (Jvm.Cond.lays "FewKeys$Fault" "java/lang/Throwable" "depth" "I") ∈ lw_all := lw_g (lw_at lw_m2 235 rfl) rfl
theorem q538 : (Jvm.Cond.superclass "FewKeys$Fault" "java/lang/Exception") ∈ lw_all := lw_g (lw_at lw_m2 238 rfl) rfl
theorem in_X5 : ∀ w ∈ wsX50, w ∈ lw_all := lw_in wsX50 [481, 483, 485, 487, 489, 535, 527, 529] (by decide +kernel) (by decide +kernel)

/-! FewKeys$Dial -/
set_option maxRecDepth 100000
def RX6 : String := "FewKeys$Dial"
def TX6 : u_T := fun k => match k with
  | 0 => ("FewKeys$Dial", "kind", "I", true)
  | 1 => ("FewKeys$Dial", "base", "I", true)
  | 2 => ("FewKeys$Dial", "figures", "I", true)
  | _ => ("FewKeys$Dial", "many", "I", true)
def tyX6 : Nat → FieldType := fun k => match k with
  | 0 => .int
  | 1 => .int
  | 2 => .int
  | _ => .int
abbrev wsX60 : List Cond := u_ws RX6 TX6 4
theorem nmX6 : ∀ a, a < 4 → ∀ b, b < 4 → a ≠ b → (TX6 a).2.1 ≠ (TX6 b).2.1 := by decide +kernel
theorem tyX6_ok : ∀ k, k < 4 → parseFieldDescriptor (TX6 k).2.2.1 = some (tyX6 k) := by decide +kernel
abbrev cX6_init : ByteArray := prog_4_method_1_code
def yX6_init : MethodName := ⟨RX6, "<init>", "(IIII)V"⟩
def dkwX6_init_1 : List UInt8 := [181, 0, 21, 177]
abbrev dktX6_init_1 : List UInt8 := dkwX6_init_1 ++ []
def dkwX6_init_0 : List UInt8 := [42, 183, 0, 3, 42, 27, 181, 0, 9, 42, 28, 181, 0, 15, 42, 29, 181, 0, 18, 42, 21, 4]
abbrev dktX6_init_0 : List UInt8 := dkwX6_init_0 ++ dktX6_init_1
theorem dksX6_init_0 : cX6_init.data.toList.drop 0 = dktX6_init_0 := by decide +kernel
theorem dksX6_init_1 : cX6_init.data.toList.drop 22 = dktX6_init_1 := dk_seg dksX6_init_0 22 rfl rfl
theorem dX6_init_0 : decode cX6_init 0 = .ok (.aload_n 0, 1) := dk_42 (dk_at dksX6_init_0 0 rfl rfl)
theorem dX6_init_1 : decode cX6_init 1 = .ok (.invokespecial 3, 3) := dk_183 0 3 (dk_at dksX6_init_0 1 rfl rfl)
theorem dX6_init_4 : decode cX6_init 4 = .ok (.aload_n 0, 1) := dk_42 (dk_at dksX6_init_0 4 rfl rfl)
theorem dX6_init_5 : decode cX6_init 5 = .ok (.iload_n 1, 1) := dk_27 (dk_at dksX6_init_0 5 rfl rfl)
theorem dX6_init_6 : decode cX6_init 6 = .ok (.putfield 9, 3) := dk_181 0 9 (dk_at dksX6_init_0 6 rfl rfl)
theorem dX6_init_9 : decode cX6_init 9 = .ok (.aload_n 0, 1) := dk_42 (dk_at dksX6_init_0 9 rfl rfl)
theorem dX6_init_10 : decode cX6_init 10 = .ok (.iload_n 2, 1) := dk_28 (dk_at dksX6_init_0 10 rfl rfl)
theorem dX6_init_11 : decode cX6_init 11 = .ok (.putfield 15, 3) := dk_181 0 15 (dk_at dksX6_init_0 11 rfl rfl)
theorem dX6_init_14 : decode cX6_init 14 = .ok (.aload_n 0, 1) := dk_42 (dk_at dksX6_init_0 14 rfl rfl)
theorem dX6_init_15 : decode cX6_init 15 = .ok (.iload_n 3, 1) := dk_29 (dk_at dksX6_init_0 15 rfl rfl)
theorem dX6_init_16 : decode cX6_init 16 = .ok (.putfield 18, 3) := dk_181 0 18 (dk_at dksX6_init_0 16 rfl rfl)
theorem dX6_init_19 : decode cX6_init 19 = .ok (.aload_n 0, 1) := dk_42 (dk_at dksX6_init_0 19 rfl rfl)
theorem dX6_init_20 : decode cX6_init 20 = .ok (.iload 4, 2) := dk_21 4 (dk_at dksX6_init_0 20 rfl rfl)
theorem dX6_init_22 : decode cX6_init 22 = .ok (.putfield 21, 3) := dk_181 0 21 (dk_at dksX6_init_1 0 rfl rfl)
theorem dX6_init_25 : decode cX6_init 25 = .ok (.return_, 1) := dk_177 (dk_at dksX6_init_1 3 rfl rfl)
abbrev cX6_shown : ByteArray := prog_4_method_5_code
def yX6_shown : MethodName := ⟨RX6, "shown", "(I)I"⟩
def dkwX6_shown_0 : List UInt8 := [27, 5, 108, 42, 180, 0, 21, 112, 172]
abbrev dktX6_shown_0 : List UInt8 := dkwX6_shown_0 ++ []
theorem dksX6_shown_0 : cX6_shown.data.toList.drop 0 = dktX6_shown_0 := by decide +kernel
theorem dX6_shown_0 : decode cX6_shown 0 = .ok (.iload_n 1, 1) := dk_27 (dk_at dksX6_shown_0 0 rfl rfl)
theorem dX6_shown_1 : decode cX6_shown 1 = .ok (.iconst 2, 1) := dk_5 (dk_at dksX6_shown_0 1 rfl rfl)
theorem dX6_shown_2 : decode cX6_shown 2 = .ok (.idiv, 1) := dk_108 (dk_at dksX6_shown_0 2 rfl rfl)
theorem dX6_shown_3 : decode cX6_shown 3 = .ok (.aload_n 0, 1) := dk_42 (dk_at dksX6_shown_0 3 rfl rfl)
theorem dX6_shown_4 : decode cX6_shown 4 = .ok (.getfield 21, 3) := dk_180 0 21 (dk_at dksX6_shown_0 4 rfl rfl)
theorem dX6_shown_7 : decode cX6_shown 7 = .ok (.irem, 1) := dk_112 (dk_at dksX6_shown_0 7 rfl rfl)
theorem dX6_shown_8 : decode cX6_shown 8 = .ok (.ireturn, 1) := dk_172 (dk_at dksX6_shown_0 8 rfl rfl)
abbrev cX6_waits : ByteArray := prog_4_method_7_code
def yX6_waits : MethodName := ⟨RX6, "waits", "(I)I"⟩
def dkwX6_waits_0 : List UInt8 := [27, 5, 108, 42, 180, 0, 21, 108, 42, 180, 0, 21, 108, 172]
abbrev dktX6_waits_0 : List UInt8 := dkwX6_waits_0 ++ []
theorem dksX6_waits_0 : cX6_waits.data.toList.drop 0 = dktX6_waits_0 := by decide +kernel
theorem dX6_waits_0 : decode cX6_waits 0 = .ok (.iload_n 1, 1) := dk_27 (dk_at dksX6_waits_0 0 rfl rfl)
theorem dX6_waits_1 : decode cX6_waits 1 = .ok (.iconst 2, 1) := dk_5 (dk_at dksX6_waits_0 1 rfl rfl)
theorem dX6_waits_2 : decode cX6_waits 2 = .ok (.idiv, 1) := dk_108 (dk_at dksX6_waits_0 2 rfl rfl)
theorem dX6_waits_3 : decode cX6_waits 3 = .ok (.aload_n 0, 1) := dk_42 (dk_at dksX6_waits_0 3 rfl rfl)
theorem dX6_waits_4 : decode cX6_waits 4 = .ok (.getfield 21, 3) := dk_180 0 21 (dk_at dksX6_waits_0 4 rfl rfl)
theorem dX6_waits_7 : decode cX6_waits 7 = .ok (.idiv, 1) := dk_108 (dk_at dksX6_waits_0 7 rfl rfl)
theorem dX6_waits_8 : decode cX6_waits 8 = .ok (.aload_n 0, 1) := dk_42 (dk_at dksX6_waits_0 8 rfl rfl)
theorem dX6_waits_9 : decode cX6_waits 9 = .ok (.getfield 21, 3) := dk_180 0 21 (dk_at dksX6_waits_0 9 rfl rfl)
theorem dX6_waits_12 : decode cX6_waits 12 = .ok (.idiv, 1) := dk_108 (dk_at dksX6_waits_0 12 rfl rfl)
theorem dX6_waits_13 : decode cX6_waits 13 = .ok (.ireturn, 1) := dk_172 (dk_at dksX6_waits_0 13 rfl rfl)
abbrev cX6_held : ByteArray := prog_4_method_6_code
def yX6_held : MethodName := ⟨RX6, "held", "(I)I"⟩
def dkwX6_held_0 : List UInt8 := [27, 5, 108, 42, 180, 0, 21, 108, 42, 180, 0, 21, 112, 172]
abbrev dktX6_held_0 : List UInt8 := dkwX6_held_0 ++ []
theorem dksX6_held_0 : cX6_held.data.toList.drop 0 = dktX6_held_0 := by decide +kernel
theorem dX6_held_0 : decode cX6_held 0 = .ok (.iload_n 1, 1) := dk_27 (dk_at dksX6_held_0 0 rfl rfl)
theorem dX6_held_1 : decode cX6_held 1 = .ok (.iconst 2, 1) := dk_5 (dk_at dksX6_held_0 1 rfl rfl)
theorem dX6_held_2 : decode cX6_held 2 = .ok (.idiv, 1) := dk_108 (dk_at dksX6_held_0 2 rfl rfl)
theorem dX6_held_3 : decode cX6_held 3 = .ok (.aload_n 0, 1) := dk_42 (dk_at dksX6_held_0 3 rfl rfl)
theorem dX6_held_4 : decode cX6_held 4 = .ok (.getfield 21, 3) := dk_180 0 21 (dk_at dksX6_held_0 4 rfl rfl)
theorem dX6_held_7 : decode cX6_held 7 = .ok (.idiv, 1) := dk_108 (dk_at dksX6_held_0 7 rfl rfl)
theorem dX6_held_8 : decode cX6_held 8 = .ok (.aload_n 0, 1) := dk_42 (dk_at dksX6_held_0 8 rfl rfl)
theorem dX6_held_9 : decode cX6_held 9 = .ok (.getfield 21, 3) := dk_180 0 21 (dk_at dksX6_held_0 9 rfl rfl)
theorem dX6_held_12 : decode cX6_held 12 = .ok (.irem, 1) := dk_112 (dk_at dksX6_held_0 12 rfl rfl)
theorem dX6_held_13 : decode cX6_held 13 = .ok (.ireturn, 1) := dk_172 (dk_at dksX6_held_0 13 rfl rfl)
abbrev cX6_type : ByteArray := prog_4_method_9_code
def yX6_type : MethodName := ⟨RX6, "type", "(II)I"⟩
def dkwX6_type_3 : List UInt8 := [182, 0, 47, 172]
abbrev dktX6_type_3 : List UInt8 := dkwX6_type_3 ++ []
def dkwX6_type_2 : List UInt8 := [167, 0, 10, 21, 4, 42, 180, 0, 21, 112, 62, 42, 42, 27, 182, 0, 41, 42, 27, 182, 0, 44, 29, 4]
abbrev dktX6_type_2 : List UInt8 := dkwX6_type_2 ++ dktX6_type_3
def dkwX6_type_1 : List UInt8 := [42, 180, 0, 9, 4, 160, 0, 20, 21, 4, 42, 180, 0, 21, 161, 0, 11, 42, 27, 182, 0, 37]
abbrev dktX6_type_1 : List UInt8 := dkwX6_type_1 ++ dktX6_type_2
def dkwX6_type_0 : List UInt8 := [28, 62, 42, 27, 182, 0, 33, 153, 0, 50, 42, 27, 182, 0, 37, 42, 180, 0, 15, 104, 28, 96, 54, 4]
abbrev dktX6_type_0 : List UInt8 := dkwX6_type_0 ++ dktX6_type_1
theorem dksX6_type_0 : cX6_type.data.toList.drop 0 = dktX6_type_0 := by decide +kernel
theorem dksX6_type_1 : cX6_type.data.toList.drop 24 = dktX6_type_1 := dk_seg dksX6_type_0 24 rfl rfl
theorem dksX6_type_2 : cX6_type.data.toList.drop 46 = dktX6_type_2 := dk_seg dksX6_type_1 22 rfl rfl
theorem dksX6_type_3 : cX6_type.data.toList.drop 70 = dktX6_type_3 := dk_seg dksX6_type_2 24 rfl rfl
theorem dX6_type_0 : decode cX6_type 0 = .ok (.iload_n 2, 1) := dk_28 (dk_at dksX6_type_0 0 rfl rfl)
theorem dX6_type_1 : decode cX6_type 1 = .ok (.istore_n 3, 1) := dk_62 (dk_at dksX6_type_0 1 rfl rfl)
theorem dX6_type_2 : decode cX6_type 2 = .ok (.aload_n 0, 1) := dk_42 (dk_at dksX6_type_0 2 rfl rfl)
theorem dX6_type_3 : decode cX6_type 3 = .ok (.iload_n 1, 1) := dk_27 (dk_at dksX6_type_0 3 rfl rfl)
theorem dX6_type_4 : decode cX6_type 4 = .ok (.invokevirtual 33, 3) := dk_182 0 33 (dk_at dksX6_type_0 4 rfl rfl)
theorem dX6_type_7 : decode cX6_type 7 = .ok (.ifCond .eq 50, 3) := dk_153 0 50 (dk_at dksX6_type_0 7 rfl rfl)
theorem dX6_type_10 : decode cX6_type 10 = .ok (.aload_n 0, 1) := dk_42 (dk_at dksX6_type_0 10 rfl rfl)
theorem dX6_type_11 : decode cX6_type 11 = .ok (.iload_n 1, 1) := dk_27 (dk_at dksX6_type_0 11 rfl rfl)
theorem dX6_type_12 : decode cX6_type 12 = .ok (.invokevirtual 37, 3) := dk_182 0 37 (dk_at dksX6_type_0 12 rfl rfl)
theorem dX6_type_15 : decode cX6_type 15 = .ok (.aload_n 0, 1) := dk_42 (dk_at dksX6_type_0 15 rfl rfl)
theorem dX6_type_16 : decode cX6_type 16 = .ok (.getfield 15, 3) := dk_180 0 15 (dk_at dksX6_type_0 16 rfl rfl)
theorem dX6_type_19 : decode cX6_type 19 = .ok (.imul, 1) := dk_104 (dk_at dksX6_type_0 19 rfl rfl)
theorem dX6_type_20 : decode cX6_type 20 = .ok (.iload_n 2, 1) := dk_28 (dk_at dksX6_type_0 20 rfl rfl)
theorem dX6_type_21 : decode cX6_type 21 = .ok (.iadd, 1) := dk_96 (dk_at dksX6_type_0 21 rfl rfl)
theorem dX6_type_22 : decode cX6_type 22 = .ok (.istore 4, 2) := dk_54 4 (dk_at dksX6_type_0 22 rfl rfl)
theorem dX6_type_24 : decode cX6_type 24 = .ok (.aload_n 0, 1) := dk_42 (dk_at dksX6_type_1 0 rfl rfl)
theorem dX6_type_25 : decode cX6_type 25 = .ok (.getfield 9, 3) := dk_180 0 9 (dk_at dksX6_type_1 1 rfl rfl)
theorem dX6_type_28 : decode cX6_type 28 = .ok (.iconst 1, 1) := dk_4 (dk_at dksX6_type_1 4 rfl rfl)
theorem dX6_type_29 : decode cX6_type 29 = .ok (.if_icmp .ne 20, 3) := dk_160 0 20 (dk_at dksX6_type_1 5 rfl rfl)
theorem dX6_type_32 : decode cX6_type 32 = .ok (.iload 4, 2) := dk_21 4 (dk_at dksX6_type_1 8 rfl rfl)
theorem dX6_type_34 : decode cX6_type 34 = .ok (.aload_n 0, 1) := dk_42 (dk_at dksX6_type_1 10 rfl rfl)
theorem dX6_type_35 : decode cX6_type 35 = .ok (.getfield 21, 3) := dk_180 0 21 (dk_at dksX6_type_1 11 rfl rfl)
theorem dX6_type_38 : decode cX6_type 38 = .ok (.if_icmp .lt 11, 3) := dk_161 0 11 (dk_at dksX6_type_1 14 rfl rfl)
theorem dX6_type_41 : decode cX6_type 41 = .ok (.aload_n 0, 1) := dk_42 (dk_at dksX6_type_1 17 rfl rfl)
theorem dX6_type_42 : decode cX6_type 42 = .ok (.iload_n 1, 1) := dk_27 (dk_at dksX6_type_1 18 rfl rfl)
theorem dX6_type_43 : decode cX6_type 43 = .ok (.invokevirtual 37, 3) := dk_182 0 37 (dk_at dksX6_type_1 19 rfl rfl)
theorem dX6_type_46 : decode cX6_type 46 = .ok (.goto 10, 3) := dk_167 0 10 (dk_at dksX6_type_2 0 rfl rfl)
theorem dX6_type_49 : decode cX6_type 49 = .ok (.iload 4, 2) := dk_21 4 (dk_at dksX6_type_2 3 rfl rfl)
theorem dX6_type_51 : decode cX6_type 51 = .ok (.aload_n 0, 1) := dk_42 (dk_at dksX6_type_2 5 rfl rfl)
theorem dX6_type_52 : decode cX6_type 52 = .ok (.getfield 21, 3) := dk_180 0 21 (dk_at dksX6_type_2 6 rfl rfl)
theorem dX6_type_55 : decode cX6_type 55 = .ok (.irem, 1) := dk_112 (dk_at dksX6_type_2 9 rfl rfl)
theorem dX6_type_56 : decode cX6_type 56 = .ok (.istore_n 3, 1) := dk_62 (dk_at dksX6_type_2 10 rfl rfl)
theorem dX6_type_57 : decode cX6_type 57 = .ok (.aload_n 0, 1) := dk_42 (dk_at dksX6_type_2 11 rfl rfl)
theorem dX6_type_58 : decode cX6_type 58 = .ok (.aload_n 0, 1) := dk_42 (dk_at dksX6_type_2 12 rfl rfl)
theorem dX6_type_59 : decode cX6_type 59 = .ok (.iload_n 1, 1) := dk_27 (dk_at dksX6_type_2 13 rfl rfl)
theorem dX6_type_60 : decode cX6_type 60 = .ok (.invokevirtual 41, 3) := dk_182 0 41 (dk_at dksX6_type_2 14 rfl rfl)
theorem dX6_type_63 : decode cX6_type 63 = .ok (.aload_n 0, 1) := dk_42 (dk_at dksX6_type_2 17 rfl rfl)
theorem dX6_type_64 : decode cX6_type 64 = .ok (.iload_n 1, 1) := dk_27 (dk_at dksX6_type_2 18 rfl rfl)
theorem dX6_type_65 : decode cX6_type 65 = .ok (.invokevirtual 44, 3) := dk_182 0 44 (dk_at dksX6_type_2 19 rfl rfl)
theorem dX6_type_68 : decode cX6_type 68 = .ok (.iload_n 3, 1) := dk_29 (dk_at dksX6_type_2 22 rfl rfl)
theorem dX6_type_69 : decode cX6_type 69 = .ok (.iconst 1, 1) := dk_4 (dk_at dksX6_type_2 23 rfl rfl)
theorem dX6_type_70 : decode cX6_type 70 = .ok (.invokevirtual 47, 3) := dk_182 0 47 (dk_at dksX6_type_3 0 rfl rfl)
theorem dX6_type_73 : decode cX6_type 73 = .ok (.ireturn, 1) := dk_172 (dk_at dksX6_type_3 3 rfl rfl)
abbrev cX6_isTyped : ByteArray := prog_4_method_4_code
def yX6_isTyped : MethodName := ⟨RX6, "isTyped", "(I)Z"⟩
def dkwX6_isTyped_0 : List UInt8 := [27, 5, 112, 4, 160, 0, 7, 4, 167, 0, 4, 3, 172]
abbrev dktX6_isTyped_0 : List UInt8 := dkwX6_isTyped_0 ++ []
theorem dksX6_isTyped_0 : cX6_isTyped.data.toList.drop 0 = dktX6_isTyped_0 := by decide +kernel
theorem dX6_isTyped_0 : decode cX6_isTyped 0 = .ok (.iload_n 1, 1) := dk_27 (dk_at dksX6_isTyped_0 0 rfl rfl)
theorem dX6_isTyped_1 : decode cX6_isTyped 1 = .ok (.iconst 2, 1) := dk_5 (dk_at dksX6_isTyped_0 1 rfl rfl)
theorem dX6_isTyped_2 : decode cX6_isTyped 2 = .ok (.irem, 1) := dk_112 (dk_at dksX6_isTyped_0 2 rfl rfl)
theorem dX6_isTyped_3 : decode cX6_isTyped 3 = .ok (.iconst 1, 1) := dk_4 (dk_at dksX6_isTyped_0 3 rfl rfl)
theorem dX6_isTyped_4 : decode cX6_isTyped 4 = .ok (.if_icmp .ne 7, 3) := dk_160 0 7 (dk_at dksX6_isTyped_0 4 rfl rfl)
theorem dX6_isTyped_7 : decode cX6_isTyped 7 = .ok (.iconst 1, 1) := dk_4 (dk_at dksX6_isTyped_0 7 rfl rfl)
theorem dX6_isTyped_8 : decode cX6_isTyped 8 = .ok (.goto 4, 3) := dk_167 0 4 (dk_at dksX6_isTyped_0 8 rfl rfl)
theorem dX6_isTyped_11 : decode cX6_isTyped 11 = .ok (.iconst 0, 1) := dk_3 (dk_at dksX6_isTyped_0 11 rfl rfl)
theorem dX6_isTyped_12 : decode cX6_isTyped 12 = .ok (.ireturn, 1) := dk_172 (dk_at dksX6_isTyped_0 12 rfl rfl)
abbrev cX6_state : ByteArray := prog_4_method_3_code
def yX6_state : MethodName := ⟨RX6, "state", "(IIIZ)I"⟩
def dkwX6_state_1 : List UInt8 := [167, 0, 4, 3, 96, 172]
abbrev dktX6_state_1 : List UInt8 := dkwX6_state_1 ++ []
def dkwX6_state_0 : List UInt8 := [27, 42, 180, 0, 21, 104, 28, 96, 42, 180, 0, 21, 104, 29, 96, 5, 104, 21, 4, 153, 0, 7, 4]
abbrev dktX6_state_0 : List UInt8 := dkwX6_state_0 ++ dktX6_state_1
theorem dksX6_state_0 : cX6_state.data.toList.drop 0 = dktX6_state_0 := by decide +kernel
theorem dksX6_state_1 : cX6_state.data.toList.drop 23 = dktX6_state_1 := dk_seg dksX6_state_0 23 rfl rfl
theorem dX6_state_0 : decode cX6_state 0 = .ok (.iload_n 1, 1) := dk_27 (dk_at dksX6_state_0 0 rfl rfl)
theorem dX6_state_1 : decode cX6_state 1 = .ok (.aload_n 0, 1) := dk_42 (dk_at dksX6_state_0 1 rfl rfl)
theorem dX6_state_2 : decode cX6_state 2 = .ok (.getfield 21, 3) := dk_180 0 21 (dk_at dksX6_state_0 2 rfl rfl)
theorem dX6_state_5 : decode cX6_state 5 = .ok (.imul, 1) := dk_104 (dk_at dksX6_state_0 5 rfl rfl)
theorem dX6_state_6 : decode cX6_state 6 = .ok (.iload_n 2, 1) := dk_28 (dk_at dksX6_state_0 6 rfl rfl)
theorem dX6_state_7 : decode cX6_state 7 = .ok (.iadd, 1) := dk_96 (dk_at dksX6_state_0 7 rfl rfl)
theorem dX6_state_8 : decode cX6_state 8 = .ok (.aload_n 0, 1) := dk_42 (dk_at dksX6_state_0 8 rfl rfl)
theorem dX6_state_9 : decode cX6_state 9 = .ok (.getfield 21, 3) := dk_180 0 21 (dk_at dksX6_state_0 9 rfl rfl)
theorem dX6_state_12 : decode cX6_state 12 = .ok (.imul, 1) := dk_104 (dk_at dksX6_state_0 12 rfl rfl)
theorem dX6_state_13 : decode cX6_state 13 = .ok (.iload_n 3, 1) := dk_29 (dk_at dksX6_state_0 13 rfl rfl)
theorem dX6_state_14 : decode cX6_state 14 = .ok (.iadd, 1) := dk_96 (dk_at dksX6_state_0 14 rfl rfl)
theorem dX6_state_15 : decode cX6_state 15 = .ok (.iconst 2, 1) := dk_5 (dk_at dksX6_state_0 15 rfl rfl)
theorem dX6_state_16 : decode cX6_state 16 = .ok (.imul, 1) := dk_104 (dk_at dksX6_state_0 16 rfl rfl)
theorem dX6_state_17 : decode cX6_state 17 = .ok (.iload 4, 2) := dk_21 4 (dk_at dksX6_state_0 17 rfl rfl)
theorem dX6_state_19 : decode cX6_state 19 = .ok (.ifCond .eq 7, 3) := dk_153 0 7 (dk_at dksX6_state_0 19 rfl rfl)
theorem dX6_state_22 : decode cX6_state 22 = .ok (.iconst 1, 1) := dk_4 (dk_at dksX6_state_0 22 rfl rfl)
theorem dX6_state_23 : decode cX6_state 23 = .ok (.goto 4, 3) := dk_167 0 4 (dk_at dksX6_state_1 0 rfl rfl)
theorem dX6_state_26 : decode cX6_state 26 = .ok (.iconst 0, 1) := dk_3 (dk_at dksX6_state_1 3 rfl rfl)
theorem dX6_state_27 : decode cX6_state 27 = .ok (.iadd, 1) := dk_96 (dk_at dksX6_state_1 4 rfl rfl)
theorem dX6_state_28 : decode cX6_state 28 = .ok (.ireturn, 1) := dk_172 (dk_at dksX6_state_1 5 rfl rfl)
abbrev cX6_reckon : ByteArray := prog_4_method_2_code
def yX6_reckon : MethodName := ⟨RX6, "reckon", "(III)I"⟩
def dkwX6_reckon_3 : List UInt8 := [96, 167, 0, 5, 21, 5, 172]
abbrev dktX6_reckon_3 : List UInt8 := dkwX6_reckon_3 ++ []
def dkwX6_reckon_2 : List UInt8 := [184, 0, 30, 172, 21, 4, 42, 180, 0, 21, 112, 54, 5, 21, 5, 156, 0, 13, 21, 5, 42, 180, 0, 21]
abbrev dktX6_reckon_2 : List UInt8 := dkwX6_reckon_2 ++ dktX6_reckon_3
def dkwX6_reckon_1 : List UInt8 := [104, 54, 4, 42, 180, 0, 9, 4, 160, 0, 19, 3, 42, 180, 0, 21, 4, 100, 21, 4, 184, 0, 24]
abbrev dktX6_reckon_1 : List UInt8 := dkwX6_reckon_1 ++ dktX6_reckon_2
def dkwX6_reckon_0 : List UInt8 := [27, 4, 160, 0, 9, 28, 29, 96, 167, 0, 17, 27, 5, 160, 0, 9, 28, 29, 100, 167, 0, 6, 28, 29]
abbrev dktX6_reckon_0 : List UInt8 := dkwX6_reckon_0 ++ dktX6_reckon_1
theorem dksX6_reckon_0 : cX6_reckon.data.toList.drop 0 = dktX6_reckon_0 := by decide +kernel
theorem dksX6_reckon_1 : cX6_reckon.data.toList.drop 24 = dktX6_reckon_1 := dk_seg dksX6_reckon_0 24 rfl rfl
theorem dksX6_reckon_2 : cX6_reckon.data.toList.drop 47 = dktX6_reckon_2 := dk_seg dksX6_reckon_1 23 rfl rfl
theorem dksX6_reckon_3 : cX6_reckon.data.toList.drop 71 = dktX6_reckon_3 := dk_seg dksX6_reckon_2 24 rfl rfl
theorem dX6_reckon_0 : decode cX6_reckon 0 = .ok (.iload_n 1, 1) := dk_27 (dk_at dksX6_reckon_0 0 rfl rfl)
theorem dX6_reckon_1 : decode cX6_reckon 1 = .ok (.iconst 1, 1) := dk_4 (dk_at dksX6_reckon_0 1 rfl rfl)
theorem dX6_reckon_2 : decode cX6_reckon 2 = .ok (.if_icmp .ne 9, 3) := dk_160 0 9 (dk_at dksX6_reckon_0 2 rfl rfl)
theorem dX6_reckon_5 : decode cX6_reckon 5 = .ok (.iload_n 2, 1) := dk_28 (dk_at dksX6_reckon_0 5 rfl rfl)
theorem dX6_reckon_6 : decode cX6_reckon 6 = .ok (.iload_n 3, 1) := dk_29 (dk_at dksX6_reckon_0 6 rfl rfl)
theorem dX6_reckon_7 : decode cX6_reckon 7 = .ok (.iadd, 1) := dk_96 (dk_at dksX6_reckon_0 7 rfl rfl)
theorem dX6_reckon_8 : decode cX6_reckon 8 = .ok (.goto 17, 3) := dk_167 0 17 (dk_at dksX6_reckon_0 8 rfl rfl)
theorem dX6_reckon_11 : decode cX6_reckon 11 = .ok (.iload_n 1, 1) := dk_27 (dk_at dksX6_reckon_0 11 rfl rfl)
theorem dX6_reckon_12 : decode cX6_reckon 12 = .ok (.iconst 2, 1) := dk_5 (dk_at dksX6_reckon_0 12 rfl rfl)
theorem dX6_reckon_13 : decode cX6_reckon 13 = .ok (.if_icmp .ne 9, 3) := dk_160 0 9 (dk_at dksX6_reckon_0 13 rfl rfl)
theorem dX6_reckon_16 : decode cX6_reckon 16 = .ok (.iload_n 2, 1) := dk_28 (dk_at dksX6_reckon_0 16 rfl rfl)
theorem dX6_reckon_17 : decode cX6_reckon 17 = .ok (.iload_n 3, 1) := dk_29 (dk_at dksX6_reckon_0 17 rfl rfl)
theorem dX6_reckon_18 : decode cX6_reckon 18 = .ok (.isub, 1) := dk_100 (dk_at dksX6_reckon_0 18 rfl rfl)
theorem dX6_reckon_19 : decode cX6_reckon 19 = .ok (.goto 6, 3) := dk_167 0 6 (dk_at dksX6_reckon_0 19 rfl rfl)
theorem dX6_reckon_22 : decode cX6_reckon 22 = .ok (.iload_n 2, 1) := dk_28 (dk_at dksX6_reckon_0 22 rfl rfl)
theorem dX6_reckon_23 : decode cX6_reckon 23 = .ok (.iload_n 3, 1) := dk_29 (dk_at dksX6_reckon_0 23 rfl rfl)
theorem dX6_reckon_24 : decode cX6_reckon 24 = .ok (.imul, 1) := dk_104 (dk_at dksX6_reckon_1 0 rfl rfl)
theorem dX6_reckon_25 : decode cX6_reckon 25 = .ok (.istore 4, 2) := dk_54 4 (dk_at dksX6_reckon_1 1 rfl rfl)
theorem dX6_reckon_27 : decode cX6_reckon 27 = .ok (.aload_n 0, 1) := dk_42 (dk_at dksX6_reckon_1 3 rfl rfl)
theorem dX6_reckon_28 : decode cX6_reckon 28 = .ok (.getfield 9, 3) := dk_180 0 9 (dk_at dksX6_reckon_1 4 rfl rfl)
theorem dX6_reckon_31 : decode cX6_reckon 31 = .ok (.iconst 1, 1) := dk_4 (dk_at dksX6_reckon_1 7 rfl rfl)
theorem dX6_reckon_32 : decode cX6_reckon 32 = .ok (.if_icmp .ne 19, 3) := dk_160 0 19 (dk_at dksX6_reckon_1 8 rfl rfl)
theorem dX6_reckon_35 : decode cX6_reckon 35 = .ok (.iconst 0, 1) := dk_3 (dk_at dksX6_reckon_1 11 rfl rfl)
theorem dX6_reckon_36 : decode cX6_reckon 36 = .ok (.aload_n 0, 1) := dk_42 (dk_at dksX6_reckon_1 12 rfl rfl)
theorem dX6_reckon_37 : decode cX6_reckon 37 = .ok (.getfield 21, 3) := dk_180 0 21 (dk_at dksX6_reckon_1 13 rfl rfl)
theorem dX6_reckon_40 : decode cX6_reckon 40 = .ok (.iconst 1, 1) := dk_4 (dk_at dksX6_reckon_1 16 rfl rfl)
theorem dX6_reckon_41 : decode cX6_reckon 41 = .ok (.isub, 1) := dk_100 (dk_at dksX6_reckon_1 17 rfl rfl)
theorem dX6_reckon_42 : decode cX6_reckon 42 = .ok (.iload 4, 2) := dk_21 4 (dk_at dksX6_reckon_1 18 rfl rfl)
theorem dX6_reckon_44 : decode cX6_reckon 44 = .ok (.invokestatic 24, 3) := dk_184 0 24 (dk_at dksX6_reckon_1 20 rfl rfl)
theorem dX6_reckon_47 : decode cX6_reckon 47 = .ok (.invokestatic 30, 3) := dk_184 0 30 (dk_at dksX6_reckon_2 0 rfl rfl)
theorem dX6_reckon_50 : decode cX6_reckon 50 = .ok (.ireturn, 1) := dk_172 (dk_at dksX6_reckon_2 3 rfl rfl)
theorem dX6_reckon_51 : decode cX6_reckon 51 = .ok (.iload 4, 2) := dk_21 4 (dk_at dksX6_reckon_2 4 rfl rfl)
theorem dX6_reckon_53 : decode cX6_reckon 53 = .ok (.aload_n 0, 1) := dk_42 (dk_at dksX6_reckon_2 6 rfl rfl)
theorem dX6_reckon_54 : decode cX6_reckon 54 = .ok (.getfield 21, 3) := dk_180 0 21 (dk_at dksX6_reckon_2 7 rfl rfl)
theorem dX6_reckon_57 : decode cX6_reckon 57 = .ok (.irem, 1) := dk_112 (dk_at dksX6_reckon_2 10 rfl rfl)
theorem dX6_reckon_58 : decode cX6_reckon 58 = .ok (.istore 5, 2) := dk_54 5 (dk_at dksX6_reckon_2 11 rfl rfl)
theorem dX6_reckon_60 : decode cX6_reckon 60 = .ok (.iload 5, 2) := dk_21 5 (dk_at dksX6_reckon_2 13 rfl rfl)
theorem dX6_reckon_62 : decode cX6_reckon 62 = .ok (.ifCond .ge 13, 3) := dk_156 0 13 (dk_at dksX6_reckon_2 15 rfl rfl)
theorem dX6_reckon_65 : decode cX6_reckon 65 = .ok (.iload 5, 2) := dk_21 5 (dk_at dksX6_reckon_2 18 rfl rfl)
theorem dX6_reckon_67 : decode cX6_reckon 67 = .ok (.aload_n 0, 1) := dk_42 (dk_at dksX6_reckon_2 20 rfl rfl)
theorem dX6_reckon_68 : decode cX6_reckon 68 = .ok (.getfield 21, 3) := dk_180 0 21 (dk_at dksX6_reckon_2 21 rfl rfl)
theorem dX6_reckon_71 : decode cX6_reckon 71 = .ok (.iadd, 1) := dk_96 (dk_at dksX6_reckon_3 0 rfl rfl)
theorem dX6_reckon_72 : decode cX6_reckon 72 = .ok (.goto 5, 3) := dk_167 0 5 (dk_at dksX6_reckon_3 1 rfl rfl)
theorem dX6_reckon_75 : decode cX6_reckon 75 = .ok (.iload 5, 2) := dk_21 5 (dk_at dksX6_reckon_3 4 rfl rfl)
theorem dX6_reckon_77 : decode cX6_reckon 77 = .ok (.ireturn, 1) := dk_172 (dk_at dksX6_reckon_3 6 rfl rfl)
abbrev cX6_states : ByteArray := prog_4_method_8_code
def yX6_states : MethodName := ⟨RX6, "states", "()I"⟩
def dkwX6_states_0 : List UInt8 := [16, 8, 42, 180, 0, 21, 104, 42, 180, 0, 21, 104, 172]
abbrev dktX6_states_0 : List UInt8 := dkwX6_states_0 ++ []
theorem dksX6_states_0 : cX6_states.data.toList.drop 0 = dktX6_states_0 := by decide +kernel
theorem dX6_states_0 : decode cX6_states 0 = .ok (.bipush 8, 2) := dk_16 8 (dk_at dksX6_states_0 0 rfl rfl)
theorem dX6_states_2 : decode cX6_states 2 = .ok (.aload_n 0, 1) := dk_42 (dk_at dksX6_states_0 2 rfl rfl)
theorem dX6_states_3 : decode cX6_states 3 = .ok (.getfield 21, 3) := dk_180 0 21 (dk_at dksX6_states_0 3 rfl rfl)
theorem dX6_states_6 : decode cX6_states 6 = .ok (.imul, 1) := dk_104 (dk_at dksX6_states_0 6 rfl rfl)
theorem dX6_states_7 : decode cX6_states 7 = .ok (.aload_n 0, 1) := dk_42 (dk_at dksX6_states_0 7 rfl rfl)
theorem dX6_states_8 : decode cX6_states 8 = .ok (.getfield 21, 3) := dk_180 0 21 (dk_at dksX6_states_0 8 rfl rfl)
theorem dX6_states_11 : decode cX6_states 11 = .ok (.imul, 1) := dk_104 (dk_at dksX6_states_0 11 rfl rfl)
theorem dX6_states_12 : decode cX6_states 12 = .ok (.ireturn, 1) := dk_172 (dk_at dksX6_states_0 12 rfl rfl)
theorem q79 : (Jvm.Cond.initialized "FewKeys$Dial") ∈ lw_all := lw_g (lw_at lw_m1 19 rfl) rfl
theorem q547 : (Jvm.Cond.instantiable "FewKeys$Dial" (4 : Nat)) ∈ lw_all := lw_g (lw_at lw_m3 7 rfl) rfl
theorem q549 : (Jvm.Cond.instanceMethod ({ cls := "FewKeys$Dial", name := "<init>", desc := "(IIII)V" } : Jvm.MethodName)) ∈ lw_all := lw_g (lw_at lw_m3 9 rfl) rfl
theorem q550 : (Jvm.Cond.code ({ cls := "FewKeys$Dial", name := "<init>", desc := "(IIII)V" } : Jvm.MethodName) prog_4_method_1_code (5 : Nat) (Option.none : Option Jvm.ClassFile.FieldType)) ∈ lw_all := lw_g (lw_at lw_m3 10 rfl) rfl
theorem q551 : (Jvm.Cond.methodLink "FewKeys$Dial" (3 : Nat) ({ cls := "java/lang/Object", name := "<init>", desc := "()V" } : Jvm.MethodName)) ∈ lw_all := lw_g (lw_at lw_m3 11 rfl) rfl
theorem q552 : (Jvm.Cond.fieldLink "FewKeys$Dial" (9 : Nat) "FewKeys$Dial" "kind" "I") ∈ lw_all := lw_g (lw_at lw_m3 12 rfl) rfl
theorem q554 : (Jvm.Cond.fieldLink "FewKeys$Dial" (15 : Nat) "FewKeys$Dial" "base" "I") ∈ lw_all := lw_g (lw_at lw_m3 14 rfl) rfl
theorem q557 : (Jvm.Cond.fieldLink "FewKeys$Dial" (18 : Nat) "FewKeys$Dial" "figures" "I") ∈ lw_all := lw_g (lw_at lw_m3 17 rfl) rfl
theorem q559 : (Jvm.Cond.fieldLink "FewKeys$Dial" (21 : Nat) "FewKeys$Dial" "many" "I") ∈ lw_all := lw_g (lw_at lw_m3 19 rfl) rfl
theorem q562 : (Jvm.Cond.laysFinal "FewKeys$Dial" "FewKeys$Dial" "kind" "I") ∈ lw_all := lw_g (lw_at lw_m3 22 rfl) rfl
theorem q563 : (Jvm.Cond.soleField "FewKeys$Dial" "kind") ∈ lw_all := lw_g (lw_at lw_m3 23 rfl) rfl
theorem q564 : (Jvm.Cond.laysFinal "FewKeys$Dial" "FewKeys$Dial" "base" "I") ∈ lw_all := lw_g (lw_at lw_m3 24 rfl) rfl
theorem q565 : (Jvm.Cond.soleField "FewKeys$Dial" "base") ∈ lw_all := lw_g (lw_at lw_m3 25 rfl) rfl
theorem q566 : (Jvm.Cond.laysFinal "FewKeys$Dial" "FewKeys$Dial" "figures" "I") ∈ lw_all := lw_g (lw_at lw_m3 26 rfl) rfl
theorem q567 : (Jvm.Cond.soleField "FewKeys$Dial" "figures") ∈ lw_all := lw_g (lw_at lw_m3 27 rfl) rfl
theorem q568 : (Jvm.Cond.laysFinal "FewKeys$Dial" "FewKeys$Dial" "many" "I") ∈ lw_all := lw_g (lw_at lw_m3 28 rfl) rfl
theorem q569 : (Jvm.Cond.soleField "FewKeys$Dial" "many") ∈ lw_all := lw_g (lw_at lw_m3 29 rfl) rfl
theorem q570 : (Jvm.Cond.superclass "FewKeys$Dial" "java/lang/Object") ∈ lw_all := lw_g (lw_at lw_m3 30 rfl) rfl
theorem q776 : (Jvm.Cond.instanceMethod ({ cls := "FewKeys$Dial", name := "shown", desc := "(I)I" } : Jvm.MethodName)) ∈ lw_all := lw_g (lw_at lw_m3 236 rfl) rfl
theorem q777 : (Jvm.Cond.selects "FewKeys$Dial" ({ cls := "FewKeys$Dial", name := "shown", desc := "(I)I" } : Jvm.MethodName) ({ cls := "FewKeys$Dial", name := "shown", desc := "(I)I" } : Jvm.MethodName)) ∈ lw_all := lw_g (lw_at lw_m3 237 rfl) rfl
theorem q778 : (Jvm.Cond.code ({ cls := "FewKeys$Dial", name := "shown", desc := "(I)I" } : Jvm.MethodName) prog_4_method_5_code (2 : Nat) (Option.some Jvm.ClassFile.FieldType.int)) ∈ lw_all := lw_g (lw_at lw_m3 238 rfl) rfl
theorem q780 : (Jvm.Cond.instanceMethod ({ cls := "FewKeys$Dial", name := "waits", desc := "(I)I" } : Jvm.MethodName)) ∈ lw_all := lw_g (lw_at lw_m4 0 rfl) rfl
theorem q781 : (Jvm.Cond.selects "FewKeys$Dial" ({ cls := "FewKeys$Dial", name := "waits", desc := "(I)I" } : Jvm.MethodName) ({ cls := "FewKeys$Dial", name := "waits", desc := "(I)I" } : Jvm.MethodName)) ∈ lw_all := lw_g (lw_at lw_m4 1 rfl) rfl
theorem q782 : (Jvm.Cond.code ({ cls := "FewKeys$Dial", name := "waits", desc := "(I)I" } : Jvm.MethodName) prog_4_method_7_code (2 : Nat) (Option.some Jvm.ClassFile.FieldType.int)) ∈ lw_all := lw_g (lw_at lw_m4 2 rfl) rfl
theorem q784 : (Jvm.Cond.instanceMethod ({ cls := "FewKeys$Dial", name := "held", desc := "(I)I" } : Jvm.MethodName)) ∈ lw_all := lw_g (lw_at lw_m4 4 rfl) rfl
theorem q785 : (Jvm.Cond.selects "FewKeys$Dial" ({ cls := "FewKeys$Dial", name := "held", desc := "(I)I" } : Jvm.MethodName) ({ cls := "FewKeys$Dial", name := "held", desc := "(I)I" } : Jvm.MethodName)) ∈ lw_all := lw_g (lw_at lw_m4 5 rfl) rfl
theorem q786 : (Jvm.Cond.code ({ cls := "FewKeys$Dial", name := "held", desc := "(I)I" } : Jvm.MethodName) prog_4_method_6_code (2 : Nat) (Option.some Jvm.ClassFile.FieldType.int)) ∈ lw_all := lw_g (lw_at lw_m4 6 rfl) rfl
theorem q863 : (Jvm.Cond.instanceMethod ({ cls := "FewKeys$Dial", name := "type", desc := "(II)I" } : Jvm.MethodName)) ∈ lw_all := lw_g (lw_at lw_m4 83 rfl) rfl
theorem q864 : (Jvm.Cond.selects "FewKeys$Dial" ({ cls := "FewKeys$Dial", name := "type", desc := "(II)I" } : Jvm.MethodName) ({ cls := "FewKeys$Dial", name := "type", desc := "(II)I" } : Jvm.MethodName)) ∈ lw_all := lw_g (lw_at lw_m4 84 rfl) rfl
theorem q865 : (Jvm.Cond.code ({ cls := "FewKeys$Dial", name := "type", desc := "(II)I" } : Jvm.MethodName) prog_4_method_9_code (5 : Nat) (Option.some Jvm.ClassFile.FieldType.int)) ∈ lw_all := lw_g (lw_at lw_m4 85 rfl) rfl
theorem q866 : (Jvm.Cond.methodLink "FewKeys$Dial" (33 : Nat) ({ cls := "FewKeys$Dial", name := "isTyped", desc := "(I)Z" } : Jvm.MethodName)) ∈ lw_all := lw_g (lw_at lw_m4 86 rfl) rfl
theorem q867 : (Jvm.Cond.instanceMethod ({ cls := "FewKeys$Dial", name := "isTyped", desc := "(I)Z" } : Jvm.MethodName)) ∈ lw_all := lw_g (lw_at lw_m4 87 rfl) rfl
theorem q868 : (Jvm.Cond.selects "FewKeys$Dial" ({ cls := "FewKeys$Dial", name := "isTyped", desc := "(I)Z" } : Jvm.MethodName) ({ cls := "FewKeys$Dial", name := "isTyped", desc := "(I)Z" } : Jvm.MethodName)) ∈ lw_all := lw_g (lw_at lw_m4 88 rfl) rfl
theorem q869 : (Jvm.Cond.code ({ cls := "FewKeys$Dial", name := "isTyped", desc := "(I)Z" } : Jvm.MethodName) prog_4_method_4_code (2 : Nat) (Option.some Jvm.ClassFile.FieldType.boolean)) ∈ lw_all := lw_g (lw_at lw_m4 89 rfl) rfl
theorem q870 : (Jvm.Cond.methodLink "FewKeys$Dial" (37 : Nat) ({ cls := "FewKeys$Dial", name := "shown", desc := "(I)I" } : Jvm.MethodName)) ∈ lw_all := lw_g (lw_at lw_m4 90 rfl) rfl
theorem q871 : (Jvm.Cond.methodLink "FewKeys$Dial" (41 : Nat) ({ cls := "FewKeys$Dial", name := "waits", desc := "(I)I" } : Jvm.MethodName)) ∈ lw_all := lw_g (lw_at lw_m4 91 rfl) rfl
theorem q872 : (Jvm.Cond.methodLink "FewKeys$Dial" (44 : Nat) ({ cls := "FewKeys$Dial", name := "held", desc := "(I)I" } : Jvm.MethodName)) ∈ lw_all := lw_g (lw_at lw_m4 92 rfl) rfl
theorem q873 : (Jvm.Cond.methodLink "FewKeys$Dial" (47 : Nat) ({ cls := "FewKeys$Dial", name := "state", desc := "(IIIZ)I" } : Jvm.MethodName)) ∈ lw_all := lw_g (lw_at lw_m4 93 rfl) rfl
theorem q874 : (Jvm.Cond.instanceMethod ({ cls := "FewKeys$Dial", name := "state", desc := "(IIIZ)I" } : Jvm.MethodName)) ∈ lw_all := lw_g (lw_at lw_m4 94 rfl) rfl
theorem q875 : (Jvm.Cond.selects "FewKeys$Dial" ({ cls := "FewKeys$Dial", name := "state", desc := "(IIIZ)I" } : Jvm.MethodName) ({ cls := "FewKeys$Dial", name := "state", desc := "(IIIZ)I" } : Jvm.MethodName)) ∈ lw_all := lw_g (lw_at lw_m4 95 rfl) rfl
theorem q876 : (Jvm.Cond.code ({ cls := "FewKeys$Dial", name := "state", desc := "(IIIZ)I" } : Jvm.MethodName) prog_4_method_3_code (5 : Nat) (Option.some Jvm.ClassFile.FieldType.int)) ∈ lw_all := lw_g (lw_at lw_m4 96 rfl) rfl
theorem q884 : (Jvm.Cond.instanceMethod ({ cls := "FewKeys$Dial", name := "reckon", desc := "(III)I" } : Jvm.MethodName)) ∈ lw_all := lw_g (lw_at lw_m4 104 rfl) rfl
theorem q885 : (Jvm.Cond.selects "FewKeys$Dial" ({ cls := "FewKeys$Dial", name := "reckon", desc := "(III)I" } : Jvm.MethodName) ({ cls := "FewKeys$Dial", name := "reckon", desc := "(III)I" } : Jvm.MethodName)) ∈ lw_all := lw_g (lw_at lw_m4 105 rfl) rfl
theorem q886 : (Jvm.Cond.code ({ cls := "FewKeys$Dial", name := "reckon", desc := "(III)I" } : Jvm.MethodName) prog_4_method_2_code (6 : Nat) (Option.some Jvm.ClassFile.FieldType.int)) ∈ lw_all := lw_g (lw_at lw_m4 106 rfl) rfl
theorem q887 : (Jvm.Cond.methodLink "FewKeys$Dial" (24 : Nat) ({ cls := "java/lang/Math", name := "min", desc := "(II)I" } : Jvm.MethodName)) ∈ lw_all := lw_g (lw_at lw_m4 107 rfl) rfl
theorem q888 : (Jvm.Cond.methodLink "FewKeys$Dial" (30 : Nat) ({ cls := "java/lang/Math", name := "max", desc := "(II)I" } : Jvm.MethodName)) ∈ lw_all := lw_g (lw_at lw_m4 108 rfl) rfl
theorem q929 : (Jvm.Cond.instanceMethod ({ cls := "FewKeys$Dial", name := "states", desc := "()I" } : Jvm.MethodName)) ∈ lw_all := lw_g (lw_at lw_m4 149 rfl) rfl
theorem q930 : (Jvm.Cond.selects "FewKeys$Dial" ({ cls := "FewKeys$Dial", name := "states", desc := "()I" } : Jvm.MethodName) ({ cls := "FewKeys$Dial", name := "states", desc := "()I" } : Jvm.MethodName)) ∈ lw_all := lw_g (lw_at lw_m4 150 rfl) rfl
theorem q931 : (Jvm.Cond.code ({ cls := "FewKeys$Dial", name := "states", desc := "()I" } : Jvm.MethodName) prog_4_method_8_code (1 : Nat) (Option.some Jvm.ClassFile.FieldType.int)) ∈ lw_all := lw_g (lw_at lw_m4 151 rfl) rfl
theorem in_X6 : ∀ w ∈ wsX60, w ∈ lw_all := lw_in wsX60 [562, 564, 566, 568] (by decide +kernel) (by decide +kernel)

/-! FewKeys$Key -/
set_option maxRecDepth 100000
def RX7 : String := "FewKeys$Key"
abbrev cX7_init : ByteArray := prog_8_method_1_code
def yX7_init : MethodName := ⟨RX7, "<init>", "(LFewKeys$Dial;I)V"⟩
def dkwX7_init_0 : List UInt8 := [42, 183, 0, 3, 42, 43, 181, 0, 9, 42, 28, 181, 0, 15, 177]
abbrev dktX7_init_0 : List UInt8 := dkwX7_init_0 ++ []
theorem dksX7_init_0 : cX7_init.data.toList.drop 0 = dktX7_init_0 := by decide +kernel
theorem dX7_init_0 : decode cX7_init 0 = .ok (.aload_n 0, 1) := dk_42 (dk_at dksX7_init_0 0 rfl rfl)
theorem dX7_init_1 : decode cX7_init 1 = .ok (.invokespecial 3, 3) := dk_183 0 3 (dk_at dksX7_init_0 1 rfl rfl)
theorem dX7_init_4 : decode cX7_init 4 = .ok (.aload_n 0, 1) := dk_42 (dk_at dksX7_init_0 4 rfl rfl)
theorem dX7_init_5 : decode cX7_init 5 = .ok (.aload_n 1, 1) := dk_43 (dk_at dksX7_init_0 5 rfl rfl)
theorem dX7_init_6 : decode cX7_init 6 = .ok (.putfield 9, 3) := dk_181 0 9 (dk_at dksX7_init_0 6 rfl rfl)
theorem dX7_init_9 : decode cX7_init 9 = .ok (.aload_n 0, 1) := dk_42 (dk_at dksX7_init_0 9 rfl rfl)
theorem dX7_init_10 : decode cX7_init 10 = .ok (.iload_n 2, 1) := dk_28 (dk_at dksX7_init_0 10 rfl rfl)
theorem dX7_init_11 : decode cX7_init 11 = .ok (.putfield 15, 3) := dk_181 0 15 (dk_at dksX7_init_0 11 rfl rfl)
theorem dX7_init_14 : decode cX7_init 14 = .ok (.return_, 1) := dk_177 (dk_at dksX7_init_0 14 rfl rfl)
abbrev cX7_number : ByteArray := prog_8_method_4_code
def yX7_number : MethodName := ⟨RX7, "number", "()I"⟩
theorem dX7_number_0 : decode cX7_number 0 = .ok (.iconst (-1), 1) := by decide +kernel
theorem dX7_number_1 : decode cX7_number 1 = .ok (.ireturn, 1) := by decide +kernel
abbrev cX7_other : ByteArray := prog_8_method_5_code
def yX7_other : MethodName := ⟨RX7, "other", "()I"⟩
theorem dX7_other_0 : decode cX7_other 0 = .ok (.iconst (-1), 1) := by decide +kernel
theorem dX7_other_1 : decode cX7_other 1 = .ok (.ireturn, 1) := by decide +kernel
theorem q80 : (Jvm.Cond.initialized "FewKeys$Key") ∈ lw_all := lw_g (lw_at lw_m1 20 rfl) rfl
theorem q657 : (Jvm.Cond.instanceMethod ({ cls := "FewKeys$Key", name := "<init>", desc := "(LFewKeys$Dial;I)V" } : Jvm.MethodName)) ∈ lw_all := lw_g (lw_at lw_m3 117 rfl) rfl
theorem q658 : (Jvm.Cond.code ({ cls := "FewKeys$Key", name := "<init>", desc := "(LFewKeys$Dial;I)V" } : Jvm.MethodName) prog_8_method_1_code (3 : Nat) (Option.none : Option Jvm.ClassFile.FieldType)) ∈ lw_all := lw_g (lw_at lw_m3 118 rfl) rfl
theorem q659 : (Jvm.Cond.methodLink "FewKeys$Key" (3 : Nat) ({ cls := "java/lang/Object", name := "<init>", desc := "()V" } : Jvm.MethodName)) ∈ lw_all := lw_g (lw_at lw_m3 119 rfl) rfl
theorem q661 : (Jvm.Cond.fieldLink "FewKeys$Key" (9 : Nat) "FewKeys$Key" "dial" "LFewKeys$Dial;") ∈ lw_all := lw_g (lw_at lw_m3 121 rfl) rfl
theorem q672 : (Jvm.Cond.fieldLink "FewKeys$Key" (15 : Nat) "FewKeys$Key" "cost" "I") ∈ lw_all := lw_g (lw_at lw_m3 132 rfl) rfl
theorem q677 : (Jvm.Cond.soleField "FewKeys$Key" "dial") ∈ lw_all := lw_g (lw_at lw_m3 137 rfl) rfl
theorem q679 : (Jvm.Cond.soleField "FewKeys$Key" "cost") ∈ lw_all := lw_g (lw_at lw_m3 139 rfl) rfl
theorem q797 : (Jvm.Cond.declares ({ cls := "FewKeys$Key", name := "kind", desc := "()I" } : Jvm.MethodName)) ∈ lw_tbl := lw_at lw_m4 17 rfl
theorem q798 : (Jvm.Cond.sameMethod "FewKeys$Key" "FewKeys$Key" "kind" "()I") ∈ lw_all := lw_g (lw_at lw_m4 18 rfl) rfl
theorem q818 : (Jvm.Cond.instanceMethod ({ cls := "FewKeys$Key", name := "number", desc := "()I" } : Jvm.MethodName)) ∈ lw_all := lw_g (lw_at lw_m4 38 rfl) rfl
theorem q819 : (Jvm.Cond.sameMethod "FewKeys$Key" "FewKeys$Key" "number" "()I") ∈ lw_all := lw_g (lw_at lw_m4 39 rfl) rfl
theorem q830 : (Jvm.Cond.code ({ cls := "FewKeys$Key", name := "number", desc := "()I" } : Jvm.MethodName) prog_8_method_4_code (1 : Nat) (Option.some Jvm.ClassFile.FieldType.int)) ∈ lw_all := lw_g (lw_at lw_m4 50 rfl) rfl
theorem q832 : (Jvm.Cond.instanceMethod ({ cls := "FewKeys$Key", name := "other", desc := "()I" } : Jvm.MethodName)) ∈ lw_all := lw_g (lw_at lw_m4 52 rfl) rfl
theorem q833 : (Jvm.Cond.sameMethod "FewKeys$Key" "FewKeys$Key" "other" "()I") ∈ lw_all := lw_g (lw_at lw_m4 53 rfl) rfl
theorem q844 : (Jvm.Cond.code ({ cls := "FewKeys$Key", name := "other", desc := "()I" } : Jvm.MethodName) prog_8_method_5_code (1 : Nat) (Option.some Jvm.ClassFile.FieldType.int)) ∈ lw_all := lw_g (lw_at lw_m4 64 rfl) rfl
theorem q854 : (Jvm.Cond.declares ({ cls := "FewKeys$Key", name := "strike", desc := "(I)I" } : Jvm.MethodName)) ∈ lw_tbl := lw_at lw_m4 74 rfl
theorem q855 : (Jvm.Cond.sameMethod "FewKeys$Key" "FewKeys$Key" "strike" "(I)I") ∈ lw_all := lw_g (lw_at lw_m4 75 rfl) rfl

/-! FewKeys$FigureKey -/
set_option maxRecDepth 100000
def RX8 : String := "FewKeys$FigureKey"
def TX8 : u_T := fun k => match k with
  | 0 => ("FewKeys$Key", "dial", "LFewKeys$Dial;", true)
  | 1 => ("FewKeys$Key", "cost", "I", true)
  | _ => ("FewKeys$FigureKey", "figure", "I", true)
def tyX8 : Nat → FieldType := fun k => match k with
  | 0 => .object "FewKeys$Dial"
  | 1 => .int
  | _ => .int
abbrev wsX80 : List Cond := u_ws RX8 TX8 3
theorem nmX8 : ∀ a, a < 3 → ∀ b, b < 3 → a ≠ b → (TX8 a).2.1 ≠ (TX8 b).2.1 := by decide +kernel
theorem tyX8_ok : ∀ k, k < 3 → parseFieldDescriptor (TX8 k).2.2.1 = some (tyX8 k) := by decide +kernel
abbrev cX8_init : ByteArray := prog_6_method_1_code
def yX8_init : MethodName := ⟨RX8, "<init>", "(LFewKeys$Dial;II)V"⟩
def dkwX8_init_0 : List UInt8 := [42, 43, 29, 183, 0, 1, 42, 28, 181, 0, 7, 177]
abbrev dktX8_init_0 : List UInt8 := dkwX8_init_0 ++ []
theorem dksX8_init_0 : cX8_init.data.toList.drop 0 = dktX8_init_0 := by decide +kernel
theorem dX8_init_0 : decode cX8_init 0 = .ok (.aload_n 0, 1) := dk_42 (dk_at dksX8_init_0 0 rfl rfl)
theorem dX8_init_1 : decode cX8_init 1 = .ok (.aload_n 1, 1) := dk_43 (dk_at dksX8_init_0 1 rfl rfl)
theorem dX8_init_2 : decode cX8_init 2 = .ok (.iload_n 3, 1) := dk_29 (dk_at dksX8_init_0 2 rfl rfl)
theorem dX8_init_3 : decode cX8_init 3 = .ok (.invokespecial 1, 3) := dk_183 0 1 (dk_at dksX8_init_0 3 rfl rfl)
theorem dX8_init_6 : decode cX8_init 6 = .ok (.aload_n 0, 1) := dk_42 (dk_at dksX8_init_0 6 rfl rfl)
theorem dX8_init_7 : decode cX8_init 7 = .ok (.iload_n 2, 1) := dk_28 (dk_at dksX8_init_0 7 rfl rfl)
theorem dX8_init_8 : decode cX8_init 8 = .ok (.putfield 7, 3) := dk_181 0 7 (dk_at dksX8_init_0 8 rfl rfl)
theorem dX8_init_11 : decode cX8_init 11 = .ok (.return_, 1) := dk_177 (dk_at dksX8_init_0 11 rfl rfl)
abbrev cX8_kind : ByteArray := prog_6_method_2_code
def yX8_kind : MethodName := ⟨RX8, "kind", "()I"⟩
theorem dX8_kind_0 : decode cX8_kind 0 = .ok (.iconst 0, 1) := by decide +kernel
theorem dX8_kind_1 : decode cX8_kind 1 = .ok (.ireturn, 1) := by decide +kernel
abbrev cX8_number : ByteArray := prog_6_method_4_code
def yX8_number : MethodName := ⟨RX8, "number", "()I"⟩
theorem dX8_number_0 : decode cX8_number 0 = .ok (.aload_n 0, 1) := by decide +kernel
theorem dX8_number_1 : decode cX8_number 1 = .ok (.getfield 7, 3) := by decide +kernel
theorem dX8_number_4 : decode cX8_number 4 = .ok (.ireturn, 1) := by decide +kernel
abbrev cX8_strike : ByteArray := prog_6_method_3_code
def yX8_strike : MethodName := ⟨RX8, "strike", "(I)I"⟩
def dkwX8_strike_0 : List UInt8 := [42, 180, 0, 13, 27, 42, 180, 0, 7, 182, 0, 17, 172]
abbrev dktX8_strike_0 : List UInt8 := dkwX8_strike_0 ++ []
theorem dksX8_strike_0 : cX8_strike.data.toList.drop 0 = dktX8_strike_0 := by decide +kernel
theorem dX8_strike_0 : decode cX8_strike 0 = .ok (.aload_n 0, 1) := dk_42 (dk_at dksX8_strike_0 0 rfl rfl)
theorem dX8_strike_1 : decode cX8_strike 1 = .ok (.getfield 13, 3) := dk_180 0 13 (dk_at dksX8_strike_0 1 rfl rfl)
theorem dX8_strike_4 : decode cX8_strike 4 = .ok (.iload_n 1, 1) := dk_27 (dk_at dksX8_strike_0 4 rfl rfl)
theorem dX8_strike_5 : decode cX8_strike 5 = .ok (.aload_n 0, 1) := dk_42 (dk_at dksX8_strike_0 5 rfl rfl)
theorem dX8_strike_6 : decode cX8_strike 6 = .ok (.getfield 7, 3) := dk_180 0 7 (dk_at dksX8_strike_0 6 rfl rfl)
theorem dX8_strike_9 : decode cX8_strike 9 = .ok (.invokevirtual 17, 3) := dk_182 0 17 (dk_at dksX8_strike_0 9 rfl rfl)
theorem dX8_strike_12 : decode cX8_strike 12 = .ok (.ireturn, 1) := dk_172 (dk_at dksX8_strike_0 12 rfl rfl)
theorem q81 : (Jvm.Cond.initialized "FewKeys$FigureKey") ∈ lw_all := lw_g (lw_at lw_m1 21 rfl) rfl
theorem q648 : (Jvm.Cond.instantiable "FewKeys$FigureKey" (3 : Nat)) ∈ lw_all := lw_g (lw_at lw_m3 108 rfl) rfl
theorem q654 : (Jvm.Cond.instanceMethod ({ cls := "FewKeys$FigureKey", name := "<init>", desc := "(LFewKeys$Dial;II)V" } : Jvm.MethodName)) ∈ lw_all := lw_g (lw_at lw_m3 114 rfl) rfl
theorem q655 : (Jvm.Cond.code ({ cls := "FewKeys$FigureKey", name := "<init>", desc := "(LFewKeys$Dial;II)V" } : Jvm.MethodName) prog_6_method_1_code (4 : Nat) (Option.none : Option Jvm.ClassFile.FieldType)) ∈ lw_all := lw_g (lw_at lw_m3 115 rfl) rfl
theorem q656 : (Jvm.Cond.methodLink "FewKeys$FigureKey" (1 : Nat) ({ cls := "FewKeys$Key", name := "<init>", desc := "(LFewKeys$Dial;I)V" } : Jvm.MethodName)) ∈ lw_all := lw_g (lw_at lw_m3 116 rfl) rfl
theorem q660 : (Jvm.Cond.fieldLink "FewKeys$FigureKey" (7 : Nat) "FewKeys$FigureKey" "figure" "I") ∈ lw_all := lw_g (lw_at lw_m3 120 rfl) rfl
theorem q662 : (Jvm.Cond.fieldLink "FewKeys$FigureKey" (13 : Nat) "FewKeys$FigureKey" "dial" "LFewKeys$Dial;") ∈ lw_all := lw_g (lw_at lw_m3 122 rfl) rfl
theorem q663 : (Jvm.Cond.sameField "FewKeys$FigureKey" "FewKeys$Key" "dial" "LFewKeys$Dial;") ∈ lw_all := lw_g (lw_at lw_m3 123 rfl) rfl
theorem q674 : (Jvm.Cond.laysFinal "FewKeys$FigureKey" "FewKeys$FigureKey" "figure" "I") ∈ lw_all := lw_g (lw_at lw_m3 134 rfl) rfl
theorem q675 : (Jvm.Cond.soleField "FewKeys$FigureKey" "figure") ∈ lw_all := lw_g (lw_at lw_m3 135 rfl) rfl
theorem q676 : (Jvm.Cond.laysFinal "FewKeys$FigureKey" "FewKeys$Key" "dial" "LFewKeys$Dial;") ∈ lw_all := lw_g (lw_at lw_m3 136 rfl) rfl
theorem q678 : (Jvm.Cond.laysFinal "FewKeys$FigureKey" "FewKeys$Key" "cost" "I") ∈ lw_all := lw_g (lw_at lw_m3 138 rfl) rfl
theorem q680 : (Jvm.Cond.superclass "FewKeys$FigureKey" "FewKeys$Key") ∈ lw_all := lw_g (lw_at lw_m3 140 rfl) rfl
theorem q802 : (Jvm.Cond.selects "FewKeys$FigureKey" ({ cls := "FewKeys$Key", name := "kind", desc := "()I" } : Jvm.MethodName) ({ cls := "FewKeys$FigureKey", name := "kind", desc := "()I" } : Jvm.MethodName)) ∈ lw_all := lw_g (lw_at lw_m4 22 rfl) rfl
theorem q803 : (Jvm.Cond.instanceMethod ({ cls := "FewKeys$FigureKey", name := "kind", desc := "()I" } : Jvm.MethodName)) ∈ lw_all := lw_g (lw_at lw_m4 23 rfl) rfl
theorem q804 : (Jvm.Cond.code ({ cls := "FewKeys$FigureKey", name := "kind", desc := "()I" } : Jvm.MethodName) prog_6_method_2_code (1 : Nat) (Option.some Jvm.ClassFile.FieldType.int)) ∈ lw_all := lw_g (lw_at lw_m4 24 rfl) rfl
theorem q821 : (Jvm.Cond.selects "FewKeys$FigureKey" ({ cls := "FewKeys$Key", name := "number", desc := "()I" } : Jvm.MethodName) ({ cls := "FewKeys$FigureKey", name := "number", desc := "()I" } : Jvm.MethodName)) ∈ lw_all := lw_g (lw_at lw_m4 41 rfl) rfl
theorem q822 : (Jvm.Cond.instanceMethod ({ cls := "FewKeys$FigureKey", name := "number", desc := "()I" } : Jvm.MethodName)) ∈ lw_all := lw_g (lw_at lw_m4 42 rfl) rfl
theorem q823 : (Jvm.Cond.code ({ cls := "FewKeys$FigureKey", name := "number", desc := "()I" } : Jvm.MethodName) prog_6_method_4_code (1 : Nat) (Option.some Jvm.ClassFile.FieldType.int)) ∈ lw_all := lw_g (lw_at lw_m4 43 rfl) rfl
theorem q835 : (Jvm.Cond.selects "FewKeys$FigureKey" ({ cls := "FewKeys$Key", name := "other", desc := "()I" } : Jvm.MethodName) ({ cls := "FewKeys$Key", name := "other", desc := "()I" } : Jvm.MethodName)) ∈ lw_all := lw_g (lw_at lw_m4 55 rfl) rfl
theorem q859 : (Jvm.Cond.selects "FewKeys$FigureKey" ({ cls := "FewKeys$Key", name := "strike", desc := "(I)I" } : Jvm.MethodName) ({ cls := "FewKeys$FigureKey", name := "strike", desc := "(I)I" } : Jvm.MethodName)) ∈ lw_all := lw_g (lw_at lw_m4 79 rfl) rfl
theorem q860 : (Jvm.Cond.instanceMethod ({ cls := "FewKeys$FigureKey", name := "strike", desc := "(I)I" } : Jvm.MethodName)) ∈ lw_all := lw_g (lw_at lw_m4 80 rfl) rfl
theorem q861 : (Jvm.Cond.code ({ cls := "FewKeys$FigureKey", name := "strike", desc := "(I)I" } : Jvm.MethodName) prog_6_method_3_code (2 : Nat) (Option.some Jvm.ClassFile.FieldType.int)) ∈ lw_all := lw_g (lw_at lw_m4 81 rfl) rfl
theorem q862 : (Jvm.Cond.methodLink "FewKeys$FigureKey" (17 : Nat) ({ cls := "FewKeys$Dial", name := "type", desc := "(II)I" } : Jvm.MethodName)) ∈ lw_all := lw_g (lw_at lw_m4 82 rfl) rfl
theorem q1510 : (Jvm.Cond.sameMethod "FewKeys$FigureKey" "FewKeys$FigureKey" "strike" "(I)I") ∈ lw_all := lw_g (lw_at lw_m7 10 rfl) rfl
theorem q1511 : (Jvm.Cond.castable "FewKeys$FigureKey" "FewKeys$Key") ∈ lw_tbl := lw_at lw_m7 11 rfl
theorem in_X8 : ∀ w ∈ wsX80, w ∈ lw_all := lw_in wsX80 [676, 678, 674] (by decide +kernel) (by decide +kernel)

/-! FewKeys$IsKey -/
set_option maxRecDepth 100000
def RX9 : String := "FewKeys$IsKey"
def TX9 : u_T := fun k => match k with
  | 0 => ("FewKeys$Key", "dial", "LFewKeys$Dial;", true)
  | _ => ("FewKeys$Key", "cost", "I", true)
def tyX9 : Nat → FieldType := fun k => match k with
  | 0 => .object "FewKeys$Dial"
  | _ => .int
abbrev wsX90 : List Cond := u_ws RX9 TX9 2
theorem nmX9 : ∀ a, a < 2 → ∀ b, b < 2 → a ≠ b → (TX9 a).2.1 ≠ (TX9 b).2.1 := by decide +kernel
theorem tyX9_ok : ∀ k, k < 2 → parseFieldDescriptor (TX9 k).2.2.1 = some (tyX9 k) := by decide +kernel
abbrev cX9_init : ByteArray := prog_7_method_1_code
def yX9_init : MethodName := ⟨RX9, "<init>", "(LFewKeys$Dial;I)V"⟩
def dkwX9_init_0 : List UInt8 := [42, 43, 28, 183, 0, 1, 177]
abbrev dktX9_init_0 : List UInt8 := dkwX9_init_0 ++ []
theorem dksX9_init_0 : cX9_init.data.toList.drop 0 = dktX9_init_0 := by decide +kernel
theorem dX9_init_0 : decode cX9_init 0 = .ok (.aload_n 0, 1) := dk_42 (dk_at dksX9_init_0 0 rfl rfl)
theorem dX9_init_1 : decode cX9_init 1 = .ok (.aload_n 1, 1) := dk_43 (dk_at dksX9_init_0 1 rfl rfl)
theorem dX9_init_2 : decode cX9_init 2 = .ok (.iload_n 2, 1) := dk_28 (dk_at dksX9_init_0 2 rfl rfl)
theorem dX9_init_3 : decode cX9_init 3 = .ok (.invokespecial 1, 3) := dk_183 0 1 (dk_at dksX9_init_0 3 rfl rfl)
theorem dX9_init_6 : decode cX9_init 6 = .ok (.return_, 1) := dk_177 (dk_at dksX9_init_0 6 rfl rfl)
abbrev cX9_kind : ByteArray := prog_7_method_2_code
def yX9_kind : MethodName := ⟨RX9, "kind", "()I"⟩
theorem dX9_kind_0 : decode cX9_kind 0 = .ok (.iconst 4, 1) := by decide +kernel
theorem dX9_kind_1 : decode cX9_kind 1 = .ok (.ireturn, 1) := by decide +kernel
abbrev cX9_strike : ByteArray := prog_7_method_3_code
def yX9_strike : MethodName := ⟨RX9, "strike", "(I)I"⟩
def dkwX9_strike_2 : List UInt8 := [62, 42, 180, 0, 7, 3, 3, 29, 3, 182, 0, 29, 172]
abbrev dktX9_strike_2 : List UInt8 := dkwX9_strike_2 ++ []
def dkwX9_strike_1 : List UInt8 := [42, 180, 0, 7, 27, 182, 0, 19, 42, 180, 0, 7, 27, 182, 0, 22, 28, 182, 0, 25, 167, 0, 4, 28]
abbrev dktX9_strike_1 : List UInt8 := dkwX9_strike_1 ++ dktX9_strike_2
def dkwX9_strike_0 : List UInt8 := [42, 180, 0, 7, 27, 182, 0, 13, 61, 42, 180, 0, 7, 27, 182, 0, 19, 158, 0, 30, 42, 180, 0, 7]
abbrev dktX9_strike_0 : List UInt8 := dkwX9_strike_0 ++ dktX9_strike_1
theorem dksX9_strike_0 : cX9_strike.data.toList.drop 0 = dktX9_strike_0 := by decide +kernel
theorem dksX9_strike_1 : cX9_strike.data.toList.drop 24 = dktX9_strike_1 := dk_seg dksX9_strike_0 24 rfl rfl
theorem dksX9_strike_2 : cX9_strike.data.toList.drop 48 = dktX9_strike_2 := dk_seg dksX9_strike_1 24 rfl rfl
theorem dX9_strike_0 : decode cX9_strike 0 = .ok (.aload_n 0, 1) := dk_42 (dk_at dksX9_strike_0 0 rfl rfl)
theorem dX9_strike_1 : decode cX9_strike 1 = .ok (.getfield 7, 3) := dk_180 0 7 (dk_at dksX9_strike_0 1 rfl rfl)
theorem dX9_strike_4 : decode cX9_strike 4 = .ok (.iload_n 1, 1) := dk_27 (dk_at dksX9_strike_0 4 rfl rfl)
theorem dX9_strike_5 : decode cX9_strike 5 = .ok (.invokevirtual 13, 3) := dk_182 0 13 (dk_at dksX9_strike_0 5 rfl rfl)
theorem dX9_strike_8 : decode cX9_strike 8 = .ok (.istore_n 2, 1) := dk_61 (dk_at dksX9_strike_0 8 rfl rfl)
theorem dX9_strike_9 : decode cX9_strike 9 = .ok (.aload_n 0, 1) := dk_42 (dk_at dksX9_strike_0 9 rfl rfl)
theorem dX9_strike_10 : decode cX9_strike 10 = .ok (.getfield 7, 3) := dk_180 0 7 (dk_at dksX9_strike_0 10 rfl rfl)
theorem dX9_strike_13 : decode cX9_strike 13 = .ok (.iload_n 1, 1) := dk_27 (dk_at dksX9_strike_0 13 rfl rfl)
theorem dX9_strike_14 : decode cX9_strike 14 = .ok (.invokevirtual 19, 3) := dk_182 0 19 (dk_at dksX9_strike_0 14 rfl rfl)
theorem dX9_strike_17 : decode cX9_strike 17 = .ok (.ifCond .le 30, 3) := dk_158 0 30 (dk_at dksX9_strike_0 17 rfl rfl)
theorem dX9_strike_20 : decode cX9_strike 20 = .ok (.aload_n 0, 1) := dk_42 (dk_at dksX9_strike_0 20 rfl rfl)
theorem dX9_strike_21 : decode cX9_strike 21 = .ok (.getfield 7, 3) := dk_180 0 7 (dk_at dksX9_strike_0 21 rfl rfl)
theorem dX9_strike_24 : decode cX9_strike 24 = .ok (.aload_n 0, 1) := dk_42 (dk_at dksX9_strike_1 0 rfl rfl)
theorem dX9_strike_25 : decode cX9_strike 25 = .ok (.getfield 7, 3) := dk_180 0 7 (dk_at dksX9_strike_1 1 rfl rfl)
theorem dX9_strike_28 : decode cX9_strike 28 = .ok (.iload_n 1, 1) := dk_27 (dk_at dksX9_strike_1 4 rfl rfl)
theorem dX9_strike_29 : decode cX9_strike 29 = .ok (.invokevirtual 19, 3) := dk_182 0 19 (dk_at dksX9_strike_1 5 rfl rfl)
theorem dX9_strike_32 : decode cX9_strike 32 = .ok (.aload_n 0, 1) := dk_42 (dk_at dksX9_strike_1 8 rfl rfl)
theorem dX9_strike_33 : decode cX9_strike 33 = .ok (.getfield 7, 3) := dk_180 0 7 (dk_at dksX9_strike_1 9 rfl rfl)
theorem dX9_strike_36 : decode cX9_strike 36 = .ok (.iload_n 1, 1) := dk_27 (dk_at dksX9_strike_1 12 rfl rfl)
theorem dX9_strike_37 : decode cX9_strike 37 = .ok (.invokevirtual 22, 3) := dk_182 0 22 (dk_at dksX9_strike_1 13 rfl rfl)
theorem dX9_strike_40 : decode cX9_strike 40 = .ok (.iload_n 2, 1) := dk_28 (dk_at dksX9_strike_1 16 rfl rfl)
theorem dX9_strike_41 : decode cX9_strike 41 = .ok (.invokevirtual 25, 3) := dk_182 0 25 (dk_at dksX9_strike_1 17 rfl rfl)
theorem dX9_strike_44 : decode cX9_strike 44 = .ok (.goto 4, 3) := dk_167 0 4 (dk_at dksX9_strike_1 20 rfl rfl)
theorem dX9_strike_47 : decode cX9_strike 47 = .ok (.iload_n 2, 1) := dk_28 (dk_at dksX9_strike_1 23 rfl rfl)
theorem dX9_strike_48 : decode cX9_strike 48 = .ok (.istore_n 3, 1) := dk_62 (dk_at dksX9_strike_2 0 rfl rfl)
theorem dX9_strike_49 : decode cX9_strike 49 = .ok (.aload_n 0, 1) := dk_42 (dk_at dksX9_strike_2 1 rfl rfl)
theorem dX9_strike_50 : decode cX9_strike 50 = .ok (.getfield 7, 3) := dk_180 0 7 (dk_at dksX9_strike_2 2 rfl rfl)
theorem dX9_strike_53 : decode cX9_strike 53 = .ok (.iconst 0, 1) := dk_3 (dk_at dksX9_strike_2 5 rfl rfl)
theorem dX9_strike_54 : decode cX9_strike 54 = .ok (.iconst 0, 1) := dk_3 (dk_at dksX9_strike_2 6 rfl rfl)
theorem dX9_strike_55 : decode cX9_strike 55 = .ok (.iload_n 3, 1) := dk_29 (dk_at dksX9_strike_2 7 rfl rfl)
theorem dX9_strike_56 : decode cX9_strike 56 = .ok (.iconst 0, 1) := dk_3 (dk_at dksX9_strike_2 8 rfl rfl)
theorem dX9_strike_57 : decode cX9_strike 57 = .ok (.invokevirtual 29, 3) := dk_182 0 29 (dk_at dksX9_strike_2 9 rfl rfl)
theorem dX9_strike_60 : decode cX9_strike 60 = .ok (.ireturn, 1) := dk_172 (dk_at dksX9_strike_2 12 rfl rfl)
theorem q82 : (Jvm.Cond.initialized "FewKeys$IsKey") ∈ lw_all := lw_g (lw_at lw_m1 22 rfl) rfl
theorem q664 : (Jvm.Cond.fieldLink "FewKeys$IsKey" (7 : Nat) "FewKeys$IsKey" "dial" "LFewKeys$Dial;") ∈ lw_all := lw_g (lw_at lw_m3 124 rfl) rfl
theorem q665 : (Jvm.Cond.sameField "FewKeys$IsKey" "FewKeys$Key" "dial" "LFewKeys$Dial;") ∈ lw_all := lw_g (lw_at lw_m3 125 rfl) rfl
theorem q682 : (Jvm.Cond.instantiable "FewKeys$IsKey" (2 : Nat)) ∈ lw_all := lw_g (lw_at lw_m3 142 rfl) rfl
theorem q684 : (Jvm.Cond.instanceMethod ({ cls := "FewKeys$IsKey", name := "<init>", desc := "(LFewKeys$Dial;I)V" } : Jvm.MethodName)) ∈ lw_all := lw_g (lw_at lw_m3 144 rfl) rfl
theorem q685 : (Jvm.Cond.code ({ cls := "FewKeys$IsKey", name := "<init>", desc := "(LFewKeys$Dial;I)V" } : Jvm.MethodName) prog_7_method_1_code (3 : Nat) (Option.none : Option Jvm.ClassFile.FieldType)) ∈ lw_all := lw_g (lw_at lw_m3 145 rfl) rfl
theorem q686 : (Jvm.Cond.methodLink "FewKeys$IsKey" (1 : Nat) ({ cls := "FewKeys$Key", name := "<init>", desc := "(LFewKeys$Dial;I)V" } : Jvm.MethodName)) ∈ lw_all := lw_g (lw_at lw_m3 146 rfl) rfl
theorem q687 : (Jvm.Cond.laysFinal "FewKeys$IsKey" "FewKeys$Key" "dial" "LFewKeys$Dial;") ∈ lw_all := lw_g (lw_at lw_m3 147 rfl) rfl
theorem q688 : (Jvm.Cond.laysFinal "FewKeys$IsKey" "FewKeys$Key" "cost" "I") ∈ lw_all := lw_g (lw_at lw_m3 148 rfl) rfl
theorem q689 : (Jvm.Cond.superclass "FewKeys$IsKey" "FewKeys$Key") ∈ lw_all := lw_g (lw_at lw_m3 149 rfl) rfl
theorem q805 : (Jvm.Cond.selects "FewKeys$IsKey" ({ cls := "FewKeys$Key", name := "kind", desc := "()I" } : Jvm.MethodName) ({ cls := "FewKeys$IsKey", name := "kind", desc := "()I" } : Jvm.MethodName)) ∈ lw_all := lw_g (lw_at lw_m4 25 rfl) rfl
theorem q806 : (Jvm.Cond.instanceMethod ({ cls := "FewKeys$IsKey", name := "kind", desc := "()I" } : Jvm.MethodName)) ∈ lw_all := lw_g (lw_at lw_m4 26 rfl) rfl
theorem q807 : (Jvm.Cond.code ({ cls := "FewKeys$IsKey", name := "kind", desc := "()I" } : Jvm.MethodName) prog_7_method_2_code (1 : Nat) (Option.some Jvm.ClassFile.FieldType.int)) ∈ lw_all := lw_g (lw_at lw_m4 27 rfl) rfl
theorem q824 : (Jvm.Cond.selects "FewKeys$IsKey" ({ cls := "FewKeys$Key", name := "number", desc := "()I" } : Jvm.MethodName) ({ cls := "FewKeys$Key", name := "number", desc := "()I" } : Jvm.MethodName)) ∈ lw_all := lw_g (lw_at lw_m4 44 rfl) rfl
theorem q836 : (Jvm.Cond.selects "FewKeys$IsKey" ({ cls := "FewKeys$Key", name := "other", desc := "()I" } : Jvm.MethodName) ({ cls := "FewKeys$Key", name := "other", desc := "()I" } : Jvm.MethodName)) ∈ lw_all := lw_g (lw_at lw_m4 56 rfl) rfl
theorem q877 : (Jvm.Cond.selects "FewKeys$IsKey" ({ cls := "FewKeys$Key", name := "strike", desc := "(I)I" } : Jvm.MethodName) ({ cls := "FewKeys$IsKey", name := "strike", desc := "(I)I" } : Jvm.MethodName)) ∈ lw_all := lw_g (lw_at lw_m4 97 rfl) rfl
theorem q878 : (Jvm.Cond.instanceMethod ({ cls := "FewKeys$IsKey", name := "strike", desc := "(I)I" } : Jvm.MethodName)) ∈ lw_all := lw_g (lw_at lw_m4 98 rfl) rfl
theorem q879 : (Jvm.Cond.code ({ cls := "FewKeys$IsKey", name := "strike", desc := "(I)I" } : Jvm.MethodName) prog_7_method_3_code (4 : Nat) (Option.some Jvm.ClassFile.FieldType.int)) ∈ lw_all := lw_g (lw_at lw_m4 99 rfl) rfl
theorem q880 : (Jvm.Cond.methodLink "FewKeys$IsKey" (13 : Nat) ({ cls := "FewKeys$Dial", name := "shown", desc := "(I)I" } : Jvm.MethodName)) ∈ lw_all := lw_g (lw_at lw_m4 100 rfl) rfl
theorem q881 : (Jvm.Cond.methodLink "FewKeys$IsKey" (19 : Nat) ({ cls := "FewKeys$Dial", name := "waits", desc := "(I)I" } : Jvm.MethodName)) ∈ lw_all := lw_g (lw_at lw_m4 101 rfl) rfl
theorem q882 : (Jvm.Cond.methodLink "FewKeys$IsKey" (22 : Nat) ({ cls := "FewKeys$Dial", name := "held", desc := "(I)I" } : Jvm.MethodName)) ∈ lw_all := lw_g (lw_at lw_m4 102 rfl) rfl
theorem q883 : (Jvm.Cond.methodLink "FewKeys$IsKey" (25 : Nat) ({ cls := "FewKeys$Dial", name := "reckon", desc := "(III)I" } : Jvm.MethodName)) ∈ lw_all := lw_g (lw_at lw_m4 103 rfl) rfl
theorem q889 : (Jvm.Cond.methodLink "FewKeys$IsKey" (29 : Nat) ({ cls := "FewKeys$Dial", name := "state", desc := "(IIIZ)I" } : Jvm.MethodName)) ∈ lw_all := lw_g (lw_at lw_m4 109 rfl) rfl
theorem q1512 : (Jvm.Cond.castable "FewKeys$IsKey" "FewKeys$Key") ∈ lw_tbl := lw_at lw_m7 12 rfl
theorem in_X9 : ∀ w ∈ wsX90, w ∈ lw_all := lw_in wsX90 [687, 688] (by decide +kernel) (by decide +kernel)

/-! FewKeys$ClearKey -/
set_option maxRecDepth 100000
def RX10 : String := "FewKeys$ClearKey"
def TX10 : u_T := fun k => match k with
  | 0 => ("FewKeys$Key", "dial", "LFewKeys$Dial;", true)
  | _ => ("FewKeys$Key", "cost", "I", true)
def tyX10 : Nat → FieldType := fun k => match k with
  | 0 => .object "FewKeys$Dial"
  | _ => .int
abbrev wsX100 : List Cond := u_ws RX10 TX10 2
theorem nmX10 : ∀ a, a < 2 → ∀ b, b < 2 → a ≠ b → (TX10 a).2.1 ≠ (TX10 b).2.1 := by decide +kernel
theorem tyX10_ok : ∀ k, k < 2 → parseFieldDescriptor (TX10 k).2.2.1 = some (tyX10 k) := by decide +kernel
abbrev cX10_init : ByteArray := prog_2_method_1_code
def yX10_init : MethodName := ⟨RX10, "<init>", "(LFewKeys$Dial;I)V"⟩
def dkwX10_init_0 : List UInt8 := [42, 43, 28, 183, 0, 1, 177]
abbrev dktX10_init_0 : List UInt8 := dkwX10_init_0 ++ []
theorem dksX10_init_0 : cX10_init.data.toList.drop 0 = dktX10_init_0 := by decide +kernel
theorem dX10_init_0 : decode cX10_init 0 = .ok (.aload_n 0, 1) := dk_42 (dk_at dksX10_init_0 0 rfl rfl)
theorem dX10_init_1 : decode cX10_init 1 = .ok (.aload_n 1, 1) := dk_43 (dk_at dksX10_init_0 1 rfl rfl)
theorem dX10_init_2 : decode cX10_init 2 = .ok (.iload_n 2, 1) := dk_28 (dk_at dksX10_init_0 2 rfl rfl)
theorem dX10_init_3 : decode cX10_init 3 = .ok (.invokespecial 1, 3) := dk_183 0 1 (dk_at dksX10_init_0 3 rfl rfl)
theorem dX10_init_6 : decode cX10_init 6 = .ok (.return_, 1) := dk_177 (dk_at dksX10_init_0 6 rfl rfl)
abbrev cX10_kind : ByteArray := prog_2_method_2_code
def yX10_kind : MethodName := ⟨RX10, "kind", "()I"⟩
theorem dX10_kind_0 : decode cX10_kind 0 = .ok (.iconst 5, 1) := by decide +kernel
theorem dX10_kind_1 : decode cX10_kind 1 = .ok (.ireturn, 1) := by decide +kernel
abbrev cX10_strike : ByteArray := prog_2_method_3_code
def yX10_strike : MethodName := ⟨RX10, "strike", "(I)I"⟩
theorem dX10_strike_0 : decode cX10_strike 0 = .ok (.iconst 0, 1) := by decide +kernel
theorem dX10_strike_1 : decode cX10_strike 1 = .ok (.ireturn, 1) := by decide +kernel
theorem q83 : (Jvm.Cond.initialized "FewKeys$ClearKey") ∈ lw_all := lw_g (lw_at lw_m1 23 rfl) rfl
theorem q691 : (Jvm.Cond.instantiable "FewKeys$ClearKey" (2 : Nat)) ∈ lw_all := lw_g (lw_at lw_m3 151 rfl) rfl
theorem q693 : (Jvm.Cond.instanceMethod ({ cls := "FewKeys$ClearKey", name := "<init>", desc := "(LFewKeys$Dial;I)V" } : Jvm.MethodName)) ∈ lw_all := lw_g (lw_at lw_m3 153 rfl) rfl
theorem q694 : (Jvm.Cond.code ({ cls := "FewKeys$ClearKey", name := "<init>", desc := "(LFewKeys$Dial;I)V" } : Jvm.MethodName) prog_2_method_1_code (3 : Nat) (Option.none : Option Jvm.ClassFile.FieldType)) ∈ lw_all := lw_g (lw_at lw_m3 154 rfl) rfl
theorem q695 : (Jvm.Cond.methodLink "FewKeys$ClearKey" (1 : Nat) ({ cls := "FewKeys$Key", name := "<init>", desc := "(LFewKeys$Dial;I)V" } : Jvm.MethodName)) ∈ lw_all := lw_g (lw_at lw_m3 155 rfl) rfl
theorem q696 : (Jvm.Cond.laysFinal "FewKeys$ClearKey" "FewKeys$Key" "dial" "LFewKeys$Dial;") ∈ lw_all := lw_g (lw_at lw_m3 156 rfl) rfl
theorem q697 : (Jvm.Cond.laysFinal "FewKeys$ClearKey" "FewKeys$Key" "cost" "I") ∈ lw_all := lw_g (lw_at lw_m3 157 rfl) rfl
theorem q698 : (Jvm.Cond.superclass "FewKeys$ClearKey" "FewKeys$Key") ∈ lw_all := lw_g (lw_at lw_m3 158 rfl) rfl
theorem q799 : (Jvm.Cond.selects "FewKeys$ClearKey" ({ cls := "FewKeys$Key", name := "kind", desc := "()I" } : Jvm.MethodName) ({ cls := "FewKeys$ClearKey", name := "kind", desc := "()I" } : Jvm.MethodName)) ∈ lw_all := lw_g (lw_at lw_m4 19 rfl) rfl
theorem q800 : (Jvm.Cond.instanceMethod ({ cls := "FewKeys$ClearKey", name := "kind", desc := "()I" } : Jvm.MethodName)) ∈ lw_all := lw_g (lw_at lw_m4 20 rfl) rfl
theorem q801 : (Jvm.Cond.code ({ cls := "FewKeys$ClearKey", name := "kind", desc := "()I" } : Jvm.MethodName) prog_2_method_2_code (1 : Nat) (Option.some Jvm.ClassFile.FieldType.int)) ∈ lw_all := lw_g (lw_at lw_m4 21 rfl) rfl
theorem q820 : (Jvm.Cond.selects "FewKeys$ClearKey" ({ cls := "FewKeys$Key", name := "number", desc := "()I" } : Jvm.MethodName) ({ cls := "FewKeys$Key", name := "number", desc := "()I" } : Jvm.MethodName)) ∈ lw_all := lw_g (lw_at lw_m4 40 rfl) rfl
theorem q834 : (Jvm.Cond.selects "FewKeys$ClearKey" ({ cls := "FewKeys$Key", name := "other", desc := "()I" } : Jvm.MethodName) ({ cls := "FewKeys$Key", name := "other", desc := "()I" } : Jvm.MethodName)) ∈ lw_all := lw_g (lw_at lw_m4 54 rfl) rfl
theorem q856 : (Jvm.Cond.selects "FewKeys$ClearKey" ({ cls := "FewKeys$Key", name := "strike", desc := "(I)I" } : Jvm.MethodName) ({ cls := "FewKeys$ClearKey", name := "strike", desc := "(I)I" } : Jvm.MethodName)) ∈ lw_all := lw_g (lw_at lw_m4 76 rfl) rfl
theorem q857 : (Jvm.Cond.instanceMethod ({ cls := "FewKeys$ClearKey", name := "strike", desc := "(I)I" } : Jvm.MethodName)) ∈ lw_all := lw_g (lw_at lw_m4 77 rfl) rfl
theorem q858 : (Jvm.Cond.code ({ cls := "FewKeys$ClearKey", name := "strike", desc := "(I)I" } : Jvm.MethodName) prog_2_method_3_code (2 : Nat) (Option.some Jvm.ClassFile.FieldType.int)) ∈ lw_all := lw_g (lw_at lw_m4 78 rfl) rfl
theorem q1513 : (Jvm.Cond.castable "FewKeys$ClearKey" "FewKeys$Key") ∈ lw_tbl := lw_at lw_m7 13 rfl
theorem in_X10 : ∀ w ∈ wsX100, w ∈ lw_all := lw_in wsX100 [696, 697] (by decide +kernel) (by decide +kernel)

/-! FewKeys$NowKey -/
set_option maxRecDepth 100000
def RX11 : String := "FewKeys$NowKey"
def TX11 : u_T := fun k => match k with
  | 0 => ("FewKeys$Key", "dial", "LFewKeys$Dial;", true)
  | 1 => ("FewKeys$Key", "cost", "I", true)
  | 2 => ("FewKeys$NowKey", "sign", "I", true)
  | _ => ("FewKeys$NowKey", "number", "I", true)
def tyX11 : Nat → FieldType := fun k => match k with
  | 0 => .object "FewKeys$Dial"
  | 1 => .int
  | 2 => .int
  | _ => .int
abbrev wsX110 : List Cond := u_ws RX11 TX11 4
theorem nmX11 : ∀ a, a < 4 → ∀ b, b < 4 → a ≠ b → (TX11 a).2.1 ≠ (TX11 b).2.1 := by decide +kernel
theorem tyX11_ok : ∀ k, k < 4 → parseFieldDescriptor (TX11 k).2.2.1 = some (tyX11 k) := by decide +kernel
abbrev cX11_init : ByteArray := prog_9_method_1_code
def yX11_init : MethodName := ⟨RX11, "<init>", "(LFewKeys$Dial;III)V"⟩
def dkwX11_init_0 : List UInt8 := [42, 43, 21, 4, 183, 0, 1, 42, 28, 181, 0, 7, 42, 29, 181, 0, 13, 177]
abbrev dktX11_init_0 : List UInt8 := dkwX11_init_0 ++ []
theorem dksX11_init_0 : cX11_init.data.toList.drop 0 = dktX11_init_0 := by decide +kernel
theorem dX11_init_0 : decode cX11_init 0 = .ok (.aload_n 0, 1) := dk_42 (dk_at dksX11_init_0 0 rfl rfl)
theorem dX11_init_1 : decode cX11_init 1 = .ok (.aload_n 1, 1) := dk_43 (dk_at dksX11_init_0 1 rfl rfl)
theorem dX11_init_2 : decode cX11_init 2 = .ok (.iload 4, 2) := dk_21 4 (dk_at dksX11_init_0 2 rfl rfl)
theorem dX11_init_4 : decode cX11_init 4 = .ok (.invokespecial 1, 3) := dk_183 0 1 (dk_at dksX11_init_0 4 rfl rfl)
theorem dX11_init_7 : decode cX11_init 7 = .ok (.aload_n 0, 1) := dk_42 (dk_at dksX11_init_0 7 rfl rfl)
theorem dX11_init_8 : decode cX11_init 8 = .ok (.iload_n 2, 1) := dk_28 (dk_at dksX11_init_0 8 rfl rfl)
theorem dX11_init_9 : decode cX11_init 9 = .ok (.putfield 7, 3) := dk_181 0 7 (dk_at dksX11_init_0 9 rfl rfl)
theorem dX11_init_12 : decode cX11_init 12 = .ok (.aload_n 0, 1) := dk_42 (dk_at dksX11_init_0 12 rfl rfl)
theorem dX11_init_13 : decode cX11_init 13 = .ok (.iload_n 3, 1) := dk_29 (dk_at dksX11_init_0 13 rfl rfl)
theorem dX11_init_14 : decode cX11_init 14 = .ok (.putfield 13, 3) := dk_181 0 13 (dk_at dksX11_init_0 14 rfl rfl)
theorem dX11_init_17 : decode cX11_init 17 = .ok (.return_, 1) := dk_177 (dk_at dksX11_init_0 17 rfl rfl)
abbrev cX11_kind : ByteArray := prog_9_method_2_code
def yX11_kind : MethodName := ⟨RX11, "kind", "()I"⟩
theorem dX11_kind_0 : decode cX11_kind 0 = .ok (.bipush 6, 2) := by decide +kernel
theorem dX11_kind_2 : decode cX11_kind 2 = .ok (.ireturn, 1) := by decide +kernel
abbrev cX11_number : ByteArray := prog_9_method_4_code
def yX11_number : MethodName := ⟨RX11, "number", "()I"⟩
theorem dX11_number_0 : decode cX11_number 0 = .ok (.aload_n 0, 1) := by decide +kernel
theorem dX11_number_1 : decode cX11_number 1 = .ok (.getfield 13, 3) := by decide +kernel
theorem dX11_number_4 : decode cX11_number 4 = .ok (.ireturn, 1) := by decide +kernel
abbrev cX11_other : ByteArray := prog_9_method_5_code
def yX11_other : MethodName := ⟨RX11, "other", "()I"⟩
theorem dX11_other_0 : decode cX11_other 0 = .ok (.aload_n 0, 1) := by decide +kernel
theorem dX11_other_1 : decode cX11_other 1 = .ok (.getfield 7, 3) := by decide +kernel
theorem dX11_other_4 : decode cX11_other 4 = .ok (.ireturn, 1) := by decide +kernel
abbrev cX11_strike : ByteArray := prog_9_method_3_code
def yX11_strike : MethodName := ⟨RX11, "strike", "(I)I"⟩
def dkwX11_strike_1 : List UInt8 := [42, 180, 0, 7, 42, 180, 0, 16, 27, 182, 0, 29, 42, 180, 0, 13, 182, 0, 32, 3, 182, 0, 36, 172]
abbrev dktX11_strike_1 : List UInt8 := dkwX11_strike_1 ++ []
def dkwX11_strike_0 : List UInt8 := [42, 180, 0, 16, 42, 180, 0, 16, 27, 182, 0, 20, 42, 180, 0, 16, 27, 182, 0, 26, 42, 180, 0, 16]
abbrev dktX11_strike_0 : List UInt8 := dkwX11_strike_0 ++ dktX11_strike_1
theorem dksX11_strike_0 : cX11_strike.data.toList.drop 0 = dktX11_strike_0 := by decide +kernel
theorem dksX11_strike_1 : cX11_strike.data.toList.drop 24 = dktX11_strike_1 := dk_seg dksX11_strike_0 24 rfl rfl
theorem dX11_strike_0 : decode cX11_strike 0 = .ok (.aload_n 0, 1) := dk_42 (dk_at dksX11_strike_0 0 rfl rfl)
theorem dX11_strike_1 : decode cX11_strike 1 = .ok (.getfield 16, 3) := dk_180 0 16 (dk_at dksX11_strike_0 1 rfl rfl)
theorem dX11_strike_4 : decode cX11_strike 4 = .ok (.aload_n 0, 1) := dk_42 (dk_at dksX11_strike_0 4 rfl rfl)
theorem dX11_strike_5 : decode cX11_strike 5 = .ok (.getfield 16, 3) := dk_180 0 16 (dk_at dksX11_strike_0 5 rfl rfl)
theorem dX11_strike_8 : decode cX11_strike 8 = .ok (.iload_n 1, 1) := dk_27 (dk_at dksX11_strike_0 8 rfl rfl)
theorem dX11_strike_9 : decode cX11_strike 9 = .ok (.invokevirtual 20, 3) := dk_182 0 20 (dk_at dksX11_strike_0 9 rfl rfl)
theorem dX11_strike_12 : decode cX11_strike 12 = .ok (.aload_n 0, 1) := dk_42 (dk_at dksX11_strike_0 12 rfl rfl)
theorem dX11_strike_13 : decode cX11_strike 13 = .ok (.getfield 16, 3) := dk_180 0 16 (dk_at dksX11_strike_0 13 rfl rfl)
theorem dX11_strike_16 : decode cX11_strike 16 = .ok (.iload_n 1, 1) := dk_27 (dk_at dksX11_strike_0 16 rfl rfl)
theorem dX11_strike_17 : decode cX11_strike 17 = .ok (.invokevirtual 26, 3) := dk_182 0 26 (dk_at dksX11_strike_0 17 rfl rfl)
theorem dX11_strike_20 : decode cX11_strike 20 = .ok (.aload_n 0, 1) := dk_42 (dk_at dksX11_strike_0 20 rfl rfl)
theorem dX11_strike_21 : decode cX11_strike 21 = .ok (.getfield 16, 3) := dk_180 0 16 (dk_at dksX11_strike_0 21 rfl rfl)
theorem dX11_strike_24 : decode cX11_strike 24 = .ok (.aload_n 0, 1) := dk_42 (dk_at dksX11_strike_1 0 rfl rfl)
theorem dX11_strike_25 : decode cX11_strike 25 = .ok (.getfield 7, 3) := dk_180 0 7 (dk_at dksX11_strike_1 1 rfl rfl)
theorem dX11_strike_28 : decode cX11_strike 28 = .ok (.aload_n 0, 1) := dk_42 (dk_at dksX11_strike_1 4 rfl rfl)
theorem dX11_strike_29 : decode cX11_strike 29 = .ok (.getfield 16, 3) := dk_180 0 16 (dk_at dksX11_strike_1 5 rfl rfl)
theorem dX11_strike_32 : decode cX11_strike 32 = .ok (.iload_n 1, 1) := dk_27 (dk_at dksX11_strike_1 8 rfl rfl)
theorem dX11_strike_33 : decode cX11_strike 33 = .ok (.invokevirtual 29, 3) := dk_182 0 29 (dk_at dksX11_strike_1 9 rfl rfl)
theorem dX11_strike_36 : decode cX11_strike 36 = .ok (.aload_n 0, 1) := dk_42 (dk_at dksX11_strike_1 12 rfl rfl)
theorem dX11_strike_37 : decode cX11_strike 37 = .ok (.getfield 13, 3) := dk_180 0 13 (dk_at dksX11_strike_1 13 rfl rfl)
theorem dX11_strike_40 : decode cX11_strike 40 = .ok (.invokevirtual 32, 3) := dk_182 0 32 (dk_at dksX11_strike_1 16 rfl rfl)
theorem dX11_strike_43 : decode cX11_strike 43 = .ok (.iconst 0, 1) := dk_3 (dk_at dksX11_strike_1 19 rfl rfl)
theorem dX11_strike_44 : decode cX11_strike 44 = .ok (.invokevirtual 36, 3) := dk_182 0 36 (dk_at dksX11_strike_1 20 rfl rfl)
theorem dX11_strike_47 : decode cX11_strike 47 = .ok (.ireturn, 1) := dk_172 (dk_at dksX11_strike_1 23 rfl rfl)
theorem q84 : (Jvm.Cond.initialized "FewKeys$NowKey") ∈ lw_all := lw_g (lw_at lw_m1 24 rfl) rfl
theorem q666 : (Jvm.Cond.fieldLink "FewKeys$NowKey" (16 : Nat) "FewKeys$NowKey" "dial" "LFewKeys$Dial;") ∈ lw_all := lw_g (lw_at lw_m3 126 rfl) rfl
theorem q667 : (Jvm.Cond.sameField "FewKeys$NowKey" "FewKeys$Key" "dial" "LFewKeys$Dial;") ∈ lw_all := lw_g (lw_at lw_m3 127 rfl) rfl
theorem q708 : (Jvm.Cond.instantiable "FewKeys$NowKey" (4 : Nat)) ∈ lw_all := lw_g (lw_at lw_m3 168 rfl) rfl
theorem q710 : (Jvm.Cond.instanceMethod ({ cls := "FewKeys$NowKey", name := "<init>", desc := "(LFewKeys$Dial;III)V" } : Jvm.MethodName)) ∈ lw_all := lw_g (lw_at lw_m3 170 rfl) rfl
theorem q711 : (Jvm.Cond.code ({ cls := "FewKeys$NowKey", name := "<init>", desc := "(LFewKeys$Dial;III)V" } : Jvm.MethodName) prog_9_method_1_code (5 : Nat) (Option.none : Option Jvm.ClassFile.FieldType)) ∈ lw_all := lw_g (lw_at lw_m3 171 rfl) rfl
theorem q712 : (Jvm.Cond.methodLink "FewKeys$NowKey" (1 : Nat) ({ cls := "FewKeys$Key", name := "<init>", desc := "(LFewKeys$Dial;I)V" } : Jvm.MethodName)) ∈ lw_all := lw_g (lw_at lw_m3 172 rfl) rfl
theorem q713 : (Jvm.Cond.fieldLink "FewKeys$NowKey" (7 : Nat) "FewKeys$NowKey" "sign" "I") ∈ lw_all := lw_g (lw_at lw_m3 173 rfl) rfl
theorem q714 : (Jvm.Cond.fieldLink "FewKeys$NowKey" (13 : Nat) "FewKeys$NowKey" "number" "I") ∈ lw_all := lw_g (lw_at lw_m3 174 rfl) rfl
theorem q715 : (Jvm.Cond.laysFinal "FewKeys$NowKey" "FewKeys$NowKey" "sign" "I") ∈ lw_all := lw_g (lw_at lw_m3 175 rfl) rfl
theorem q716 : (Jvm.Cond.soleField "FewKeys$NowKey" "sign") ∈ lw_all := lw_g (lw_at lw_m3 176 rfl) rfl
theorem q717 : (Jvm.Cond.laysFinal "FewKeys$NowKey" "FewKeys$NowKey" "number" "I") ∈ lw_all := lw_g (lw_at lw_m3 177 rfl) rfl
theorem q718 : (Jvm.Cond.soleField "FewKeys$NowKey" "number") ∈ lw_all := lw_g (lw_at lw_m3 178 rfl) rfl
theorem q719 : (Jvm.Cond.laysFinal "FewKeys$NowKey" "FewKeys$Key" "dial" "LFewKeys$Dial;") ∈ lw_all := lw_g (lw_at lw_m3 179 rfl) rfl
theorem q720 : (Jvm.Cond.laysFinal "FewKeys$NowKey" "FewKeys$Key" "cost" "I") ∈ lw_all := lw_g (lw_at lw_m3 180 rfl) rfl
theorem q721 : (Jvm.Cond.superclass "FewKeys$NowKey" "FewKeys$Key") ∈ lw_all := lw_g (lw_at lw_m3 181 rfl) rfl
theorem q808 : (Jvm.Cond.selects "FewKeys$NowKey" ({ cls := "FewKeys$Key", name := "kind", desc := "()I" } : Jvm.MethodName) ({ cls := "FewKeys$NowKey", name := "kind", desc := "()I" } : Jvm.MethodName)) ∈ lw_all := lw_g (lw_at lw_m4 28 rfl) rfl
theorem q809 : (Jvm.Cond.instanceMethod ({ cls := "FewKeys$NowKey", name := "kind", desc := "()I" } : Jvm.MethodName)) ∈ lw_all := lw_g (lw_at lw_m4 29 rfl) rfl
theorem q810 : (Jvm.Cond.code ({ cls := "FewKeys$NowKey", name := "kind", desc := "()I" } : Jvm.MethodName) prog_9_method_2_code (1 : Nat) (Option.some Jvm.ClassFile.FieldType.int)) ∈ lw_all := lw_g (lw_at lw_m4 30 rfl) rfl
theorem q825 : (Jvm.Cond.selects "FewKeys$NowKey" ({ cls := "FewKeys$Key", name := "number", desc := "()I" } : Jvm.MethodName) ({ cls := "FewKeys$NowKey", name := "number", desc := "()I" } : Jvm.MethodName)) ∈ lw_all := lw_g (lw_at lw_m4 45 rfl) rfl
theorem q826 : (Jvm.Cond.instanceMethod ({ cls := "FewKeys$NowKey", name := "number", desc := "()I" } : Jvm.MethodName)) ∈ lw_all := lw_g (lw_at lw_m4 46 rfl) rfl
theorem q827 : (Jvm.Cond.code ({ cls := "FewKeys$NowKey", name := "number", desc := "()I" } : Jvm.MethodName) prog_9_method_4_code (1 : Nat) (Option.some Jvm.ClassFile.FieldType.int)) ∈ lw_all := lw_g (lw_at lw_m4 47 rfl) rfl
theorem q837 : (Jvm.Cond.selects "FewKeys$NowKey" ({ cls := "FewKeys$Key", name := "other", desc := "()I" } : Jvm.MethodName) ({ cls := "FewKeys$NowKey", name := "other", desc := "()I" } : Jvm.MethodName)) ∈ lw_all := lw_g (lw_at lw_m4 57 rfl) rfl
theorem q838 : (Jvm.Cond.instanceMethod ({ cls := "FewKeys$NowKey", name := "other", desc := "()I" } : Jvm.MethodName)) ∈ lw_all := lw_g (lw_at lw_m4 58 rfl) rfl
theorem q839 : (Jvm.Cond.code ({ cls := "FewKeys$NowKey", name := "other", desc := "()I" } : Jvm.MethodName) prog_9_method_5_code (1 : Nat) (Option.some Jvm.ClassFile.FieldType.int)) ∈ lw_all := lw_g (lw_at lw_m4 59 rfl) rfl
theorem q890 : (Jvm.Cond.selects "FewKeys$NowKey" ({ cls := "FewKeys$Key", name := "strike", desc := "(I)I" } : Jvm.MethodName) ({ cls := "FewKeys$NowKey", name := "strike", desc := "(I)I" } : Jvm.MethodName)) ∈ lw_all := lw_g (lw_at lw_m4 110 rfl) rfl
theorem q891 : (Jvm.Cond.instanceMethod ({ cls := "FewKeys$NowKey", name := "strike", desc := "(I)I" } : Jvm.MethodName)) ∈ lw_all := lw_g (lw_at lw_m4 111 rfl) rfl
theorem q892 : (Jvm.Cond.code ({ cls := "FewKeys$NowKey", name := "strike", desc := "(I)I" } : Jvm.MethodName) prog_9_method_3_code (2 : Nat) (Option.some Jvm.ClassFile.FieldType.int)) ∈ lw_all := lw_g (lw_at lw_m4 112 rfl) rfl
theorem q893 : (Jvm.Cond.methodLink "FewKeys$NowKey" (20 : Nat) ({ cls := "FewKeys$Dial", name := "waits", desc := "(I)I" } : Jvm.MethodName)) ∈ lw_all := lw_g (lw_at lw_m4 113 rfl) rfl
theorem q894 : (Jvm.Cond.methodLink "FewKeys$NowKey" (26 : Nat) ({ cls := "FewKeys$Dial", name := "held", desc := "(I)I" } : Jvm.MethodName)) ∈ lw_all := lw_g (lw_at lw_m4 114 rfl) rfl
theorem q895 : (Jvm.Cond.methodLink "FewKeys$NowKey" (29 : Nat) ({ cls := "FewKeys$Dial", name := "shown", desc := "(I)I" } : Jvm.MethodName)) ∈ lw_all := lw_g (lw_at lw_m4 115 rfl) rfl
theorem q896 : (Jvm.Cond.methodLink "FewKeys$NowKey" (32 : Nat) ({ cls := "FewKeys$Dial", name := "reckon", desc := "(III)I" } : Jvm.MethodName)) ∈ lw_all := lw_g (lw_at lw_m4 116 rfl) rfl
theorem q897 : (Jvm.Cond.methodLink "FewKeys$NowKey" (36 : Nat) ({ cls := "FewKeys$Dial", name := "state", desc := "(IIIZ)I" } : Jvm.MethodName)) ∈ lw_all := lw_g (lw_at lw_m4 117 rfl) rfl
theorem q1514 : (Jvm.Cond.castable "FewKeys$NowKey" "FewKeys$Key") ∈ lw_tbl := lw_at lw_m7 14 rfl
theorem in_X11 : ∀ w ∈ wsX110, w ∈ lw_all := lw_in wsX110 [719, 720, 715, 717] (by decide +kernel) (by decide +kernel)

/-! FewKeys$StuckKey -/
set_option maxRecDepth 100000
def RX12 : String := "FewKeys$StuckKey"
def TX12 : u_T := fun k => match k with
  | 0 => ("FewKeys$Key", "dial", "LFewKeys$Dial;", true)
  | 1 => ("FewKeys$Key", "cost", "I", true)
  | 2 => ("FewKeys$FigureKey", "figure", "I", true)
  | _ => ("FewKeys$StuckKey", "second", "I", true)
def tyX12 : Nat → FieldType := fun k => match k with
  | 0 => .object "FewKeys$Dial"
  | 1 => .int
  | 2 => .int
  | _ => .int
abbrev wsX120 : List Cond := u_ws RX12 TX12 4
theorem nmX12 : ∀ a, a < 4 → ∀ b, b < 4 → a ≠ b → (TX12 a).2.1 ≠ (TX12 b).2.1 := by decide +kernel
theorem tyX12_ok : ∀ k, k < 4 → parseFieldDescriptor (TX12 k).2.2.1 = some (tyX12 k) := by decide +kernel
abbrev cX12_init : ByteArray := prog_13_method_1_code
def yX12_init : MethodName := ⟨RX12, "<init>", "(LFewKeys$Dial;III)V"⟩
def dkwX12_init_0 : List UInt8 := [42, 43, 28, 21, 4, 183, 0, 1, 42, 29, 181, 0, 7, 177]
abbrev dktX12_init_0 : List UInt8 := dkwX12_init_0 ++ []
theorem dksX12_init_0 : cX12_init.data.toList.drop 0 = dktX12_init_0 := by decide +kernel
theorem dX12_init_0 : decode cX12_init 0 = .ok (.aload_n 0, 1) := dk_42 (dk_at dksX12_init_0 0 rfl rfl)
theorem dX12_init_1 : decode cX12_init 1 = .ok (.aload_n 1, 1) := dk_43 (dk_at dksX12_init_0 1 rfl rfl)
theorem dX12_init_2 : decode cX12_init 2 = .ok (.iload_n 2, 1) := dk_28 (dk_at dksX12_init_0 2 rfl rfl)
theorem dX12_init_3 : decode cX12_init 3 = .ok (.iload 4, 2) := dk_21 4 (dk_at dksX12_init_0 3 rfl rfl)
theorem dX12_init_5 : decode cX12_init 5 = .ok (.invokespecial 1, 3) := dk_183 0 1 (dk_at dksX12_init_0 5 rfl rfl)
theorem dX12_init_8 : decode cX12_init 8 = .ok (.aload_n 0, 1) := dk_42 (dk_at dksX12_init_0 8 rfl rfl)
theorem dX12_init_9 : decode cX12_init 9 = .ok (.iload_n 3, 1) := dk_29 (dk_at dksX12_init_0 9 rfl rfl)
theorem dX12_init_10 : decode cX12_init 10 = .ok (.putfield 7, 3) := dk_181 0 7 (dk_at dksX12_init_0 10 rfl rfl)
theorem dX12_init_13 : decode cX12_init 13 = .ok (.return_, 1) := dk_177 (dk_at dksX12_init_0 13 rfl rfl)
abbrev cX12_kind : ByteArray := prog_13_method_2_code
def yX12_kind : MethodName := ⟨RX12, "kind", "()I"⟩
theorem dX12_kind_0 : decode cX12_kind 0 = .ok (.bipush 7, 2) := by decide +kernel
theorem dX12_kind_2 : decode cX12_kind 2 = .ok (.ireturn, 1) := by decide +kernel
abbrev cX12_other : ByteArray := prog_13_method_4_code
def yX12_other : MethodName := ⟨RX12, "other", "()I"⟩
theorem dX12_other_0 : decode cX12_other 0 = .ok (.aload_n 0, 1) := by decide +kernel
theorem dX12_other_1 : decode cX12_other 1 = .ok (.getfield 7, 3) := by decide +kernel
theorem dX12_other_4 : decode cX12_other 4 = .ok (.ireturn, 1) := by decide +kernel
abbrev cX12_strike : ByteArray := prog_13_method_3_code
def yX12_strike : MethodName := ⟨RX12, "strike", "(I)I"⟩
def dkwX12_strike_0 : List UInt8 := [42, 180, 0, 13, 42, 27, 183, 0, 17, 42, 180, 0, 7, 182, 0, 21, 172]
abbrev dktX12_strike_0 : List UInt8 := dkwX12_strike_0 ++ []
theorem dksX12_strike_0 : cX12_strike.data.toList.drop 0 = dktX12_strike_0 := by decide +kernel
theorem dX12_strike_0 : decode cX12_strike 0 = .ok (.aload_n 0, 1) := dk_42 (dk_at dksX12_strike_0 0 rfl rfl)
theorem dX12_strike_1 : decode cX12_strike 1 = .ok (.getfield 13, 3) := dk_180 0 13 (dk_at dksX12_strike_0 1 rfl rfl)
theorem dX12_strike_4 : decode cX12_strike 4 = .ok (.aload_n 0, 1) := dk_42 (dk_at dksX12_strike_0 4 rfl rfl)
theorem dX12_strike_5 : decode cX12_strike 5 = .ok (.iload_n 1, 1) := dk_27 (dk_at dksX12_strike_0 5 rfl rfl)
theorem dX12_strike_6 : decode cX12_strike 6 = .ok (.invokespecial 17, 3) := dk_183 0 17 (dk_at dksX12_strike_0 6 rfl rfl)
theorem dX12_strike_9 : decode cX12_strike 9 = .ok (.aload_n 0, 1) := dk_42 (dk_at dksX12_strike_0 9 rfl rfl)
theorem dX12_strike_10 : decode cX12_strike 10 = .ok (.getfield 7, 3) := dk_180 0 7 (dk_at dksX12_strike_0 10 rfl rfl)
theorem dX12_strike_13 : decode cX12_strike 13 = .ok (.invokevirtual 21, 3) := dk_182 0 21 (dk_at dksX12_strike_0 13 rfl rfl)
theorem dX12_strike_16 : decode cX12_strike 16 = .ok (.ireturn, 1) := dk_172 (dk_at dksX12_strike_0 16 rfl rfl)
theorem q85 : (Jvm.Cond.initialized "FewKeys$StuckKey") ∈ lw_all := lw_g (lw_at lw_m1 25 rfl) rfl
theorem q670 : (Jvm.Cond.fieldLink "FewKeys$StuckKey" (13 : Nat) "FewKeys$StuckKey" "dial" "LFewKeys$Dial;") ∈ lw_all := lw_g (lw_at lw_m3 130 rfl) rfl
theorem q671 : (Jvm.Cond.sameField "FewKeys$StuckKey" "FewKeys$Key" "dial" "LFewKeys$Dial;") ∈ lw_all := lw_g (lw_at lw_m3 131 rfl) rfl
theorem q727 : (Jvm.Cond.instantiable "FewKeys$StuckKey" (4 : Nat)) ∈ lw_all := lw_g (lw_at lw_m3 187 rfl) rfl
theorem q729 : (Jvm.Cond.instanceMethod ({ cls := "FewKeys$StuckKey", name := "<init>", desc := "(LFewKeys$Dial;III)V" } : Jvm.MethodName)) ∈ lw_all := lw_g (lw_at lw_m3 189 rfl) rfl
theorem q730 : (Jvm.Cond.code ({ cls := "FewKeys$StuckKey", name := "<init>", desc := "(LFewKeys$Dial;III)V" } : Jvm.MethodName) prog_13_method_1_code (5 : Nat) (Option.none : Option Jvm.ClassFile.FieldType)) ∈ lw_all := lw_g (lw_at lw_m3 190 rfl) rfl
theorem q731 : (Jvm.Cond.methodLink "FewKeys$StuckKey" (1 : Nat) ({ cls := "FewKeys$FigureKey", name := "<init>", desc := "(LFewKeys$Dial;II)V" } : Jvm.MethodName)) ∈ lw_all := lw_g (lw_at lw_m3 191 rfl) rfl
theorem q732 : (Jvm.Cond.fieldLink "FewKeys$StuckKey" (7 : Nat) "FewKeys$StuckKey" "second" "I") ∈ lw_all := lw_g (lw_at lw_m3 192 rfl) rfl
theorem q733 : (Jvm.Cond.laysFinal "FewKeys$StuckKey" "FewKeys$StuckKey" "second" "I") ∈ lw_all := lw_g (lw_at lw_m3 193 rfl) rfl
theorem q734 : (Jvm.Cond.soleField "FewKeys$StuckKey" "second") ∈ lw_all := lw_g (lw_at lw_m3 194 rfl) rfl
theorem q735 : (Jvm.Cond.laysFinal "FewKeys$StuckKey" "FewKeys$FigureKey" "figure" "I") ∈ lw_all := lw_g (lw_at lw_m3 195 rfl) rfl
theorem q736 : (Jvm.Cond.laysFinal "FewKeys$StuckKey" "FewKeys$Key" "dial" "LFewKeys$Dial;") ∈ lw_all := lw_g (lw_at lw_m3 196 rfl) rfl
theorem q737 : (Jvm.Cond.laysFinal "FewKeys$StuckKey" "FewKeys$Key" "cost" "I") ∈ lw_all := lw_g (lw_at lw_m3 197 rfl) rfl
theorem q738 : (Jvm.Cond.superclass "FewKeys$StuckKey" "FewKeys$FigureKey") ∈ lw_all := lw_g (lw_at lw_m3 198 rfl) rfl
theorem q814 : (Jvm.Cond.selects "FewKeys$StuckKey" ({ cls := "FewKeys$Key", name := "kind", desc := "()I" } : Jvm.MethodName) ({ cls := "FewKeys$StuckKey", name := "kind", desc := "()I" } : Jvm.MethodName)) ∈ lw_all := lw_g (lw_at lw_m4 34 rfl) rfl
theorem q815 : (Jvm.Cond.instanceMethod ({ cls := "FewKeys$StuckKey", name := "kind", desc := "()I" } : Jvm.MethodName)) ∈ lw_all := lw_g (lw_at lw_m4 35 rfl) rfl
theorem q816 : (Jvm.Cond.code ({ cls := "FewKeys$StuckKey", name := "kind", desc := "()I" } : Jvm.MethodName) prog_13_method_2_code (1 : Nat) (Option.some Jvm.ClassFile.FieldType.int)) ∈ lw_all := lw_g (lw_at lw_m4 36 rfl) rfl
theorem q829 : (Jvm.Cond.selects "FewKeys$StuckKey" ({ cls := "FewKeys$Key", name := "number", desc := "()I" } : Jvm.MethodName) ({ cls := "FewKeys$FigureKey", name := "number", desc := "()I" } : Jvm.MethodName)) ∈ lw_all := lw_g (lw_at lw_m4 49 rfl) rfl
theorem q841 : (Jvm.Cond.selects "FewKeys$StuckKey" ({ cls := "FewKeys$Key", name := "other", desc := "()I" } : Jvm.MethodName) ({ cls := "FewKeys$StuckKey", name := "other", desc := "()I" } : Jvm.MethodName)) ∈ lw_all := lw_g (lw_at lw_m4 61 rfl) rfl
theorem q842 : (Jvm.Cond.instanceMethod ({ cls := "FewKeys$StuckKey", name := "other", desc := "()I" } : Jvm.MethodName)) ∈ lw_all := lw_g (lw_at lw_m4 62 rfl) rfl
theorem q843 : (Jvm.Cond.code ({ cls := "FewKeys$StuckKey", name := "other", desc := "()I" } : Jvm.MethodName) prog_13_method_4_code (1 : Nat) (Option.some Jvm.ClassFile.FieldType.int)) ∈ lw_all := lw_g (lw_at lw_m4 63 rfl) rfl
theorem q907 : (Jvm.Cond.selects "FewKeys$StuckKey" ({ cls := "FewKeys$Key", name := "strike", desc := "(I)I" } : Jvm.MethodName) ({ cls := "FewKeys$StuckKey", name := "strike", desc := "(I)I" } : Jvm.MethodName)) ∈ lw_all := lw_g (lw_at lw_m4 127 rfl) rfl
theorem q908 : (Jvm.Cond.instanceMethod ({ cls := "FewKeys$StuckKey", name := "strike", desc := "(I)I" } : Jvm.MethodName)) ∈ lw_all := lw_g (lw_at lw_m4 128 rfl) rfl
theorem q909 : (Jvm.Cond.code ({ cls := "FewKeys$StuckKey", name := "strike", desc := "(I)I" } : Jvm.MethodName) prog_13_method_3_code (2 : Nat) (Option.some Jvm.ClassFile.FieldType.int)) ∈ lw_all := lw_g (lw_at lw_m4 129 rfl) rfl
theorem q910 : (Jvm.Cond.methodLink "FewKeys$StuckKey" (17 : Nat) ({ cls := "FewKeys$FigureKey", name := "strike", desc := "(I)I" } : Jvm.MethodName)) ∈ lw_all := lw_g (lw_at lw_m4 130 rfl) rfl
theorem q911 : (Jvm.Cond.methodLink "FewKeys$StuckKey" (21 : Nat) ({ cls := "FewKeys$Dial", name := "type", desc := "(II)I" } : Jvm.MethodName)) ∈ lw_all := lw_g (lw_at lw_m4 131 rfl) rfl
theorem q1515 : (Jvm.Cond.castable "FewKeys$StuckKey" "FewKeys$Key") ∈ lw_tbl := lw_at lw_m7 15 rfl
theorem in_X12 : ∀ w ∈ wsX120, w ∈ lw_all := lw_in wsX120 [736, 737, 735, 733] (by decide +kernel) (by decide +kernel)

/-! FewKeys$SignKey -/
set_option maxRecDepth 100000
def RX13 : String := "FewKeys$SignKey"
def TX13 : u_T := fun k => match k with
  | 0 => ("FewKeys$Key", "dial", "LFewKeys$Dial;", true)
  | 1 => ("FewKeys$Key", "cost", "I", true)
  | _ => ("FewKeys$SignKey", "sign", "I", true)
def tyX13 : Nat → FieldType := fun k => match k with
  | 0 => .object "FewKeys$Dial"
  | 1 => .int
  | _ => .int
abbrev wsX130 : List Cond := u_ws RX13 TX13 3
theorem nmX13 : ∀ a, a < 3 → ∀ b, b < 3 → a ≠ b → (TX13 a).2.1 ≠ (TX13 b).2.1 := by decide +kernel
theorem tyX13_ok : ∀ k, k < 3 → parseFieldDescriptor (TX13 k).2.2.1 = some (tyX13 k) := by decide +kernel
abbrev cX13_init : ByteArray := prog_12_method_1_code
def yX13_init : MethodName := ⟨RX13, "<init>", "(LFewKeys$Dial;II)V"⟩
def dkwX13_init_0 : List UInt8 := [42, 43, 29, 183, 0, 1, 42, 28, 181, 0, 7, 177]
abbrev dktX13_init_0 : List UInt8 := dkwX13_init_0 ++ []
theorem dksX13_init_0 : cX13_init.data.toList.drop 0 = dktX13_init_0 := by decide +kernel
theorem dX13_init_0 : decode cX13_init 0 = .ok (.aload_n 0, 1) := dk_42 (dk_at dksX13_init_0 0 rfl rfl)
theorem dX13_init_1 : decode cX13_init 1 = .ok (.aload_n 1, 1) := dk_43 (dk_at dksX13_init_0 1 rfl rfl)
theorem dX13_init_2 : decode cX13_init 2 = .ok (.iload_n 3, 1) := dk_29 (dk_at dksX13_init_0 2 rfl rfl)
theorem dX13_init_3 : decode cX13_init 3 = .ok (.invokespecial 1, 3) := dk_183 0 1 (dk_at dksX13_init_0 3 rfl rfl)
theorem dX13_init_6 : decode cX13_init 6 = .ok (.aload_n 0, 1) := dk_42 (dk_at dksX13_init_0 6 rfl rfl)
theorem dX13_init_7 : decode cX13_init 7 = .ok (.iload_n 2, 1) := dk_28 (dk_at dksX13_init_0 7 rfl rfl)
theorem dX13_init_8 : decode cX13_init 8 = .ok (.putfield 7, 3) := dk_181 0 7 (dk_at dksX13_init_0 8 rfl rfl)
theorem dX13_init_11 : decode cX13_init 11 = .ok (.return_, 1) := dk_177 (dk_at dksX13_init_0 11 rfl rfl)
abbrev cX13_kind : ByteArray := prog_12_method_2_code
def yX13_kind : MethodName := ⟨RX13, "kind", "()I"⟩
theorem dX13_kind_0 : decode cX13_kind 0 = .ok (.aload_n 0, 1) := by decide +kernel
theorem dX13_kind_1 : decode cX13_kind 1 = .ok (.getfield 7, 3) := by decide +kernel
theorem dX13_kind_4 : decode cX13_kind 4 = .ok (.ireturn, 1) := by decide +kernel
abbrev cX13_strike : ByteArray := prog_12_method_3_code
def yX13_strike : MethodName := ⟨RX13, "strike", "(I)I"⟩
def dkwX13_strike_3 : List UInt8 := [182, 0, 37, 172]
abbrev dktX13_strike_3 : List UInt8 := dkwX13_strike_3 ++ []
def dkwX13_strike_2 : List UInt8 := [182, 0, 30, 28, 182, 0, 33, 167, 0, 4, 28, 62, 42, 180, 0, 13, 42, 180, 0, 7, 29, 29, 3]
abbrev dktX13_strike_2 : List UInt8 := dkwX13_strike_2 ++ dktX13_strike_3
def dkwX13_strike_1 : List UInt8 := [27, 182, 0, 26, 153, 0, 30, 42, 180, 0, 13, 42, 180, 0, 13, 27, 182, 0, 23, 42, 180, 0, 13, 27]
abbrev dktX13_strike_1 : List UInt8 := dkwX13_strike_1 ++ dktX13_strike_2
def dkwX13_strike_0 : List UInt8 := [42, 180, 0, 13, 27, 182, 0, 17, 61, 42, 180, 0, 13, 27, 182, 0, 23, 158, 0, 41, 42, 180, 0, 13]
abbrev dktX13_strike_0 : List UInt8 := dkwX13_strike_0 ++ dktX13_strike_1
theorem dksX13_strike_0 : cX13_strike.data.toList.drop 0 = dktX13_strike_0 := by decide +kernel
theorem dksX13_strike_1 : cX13_strike.data.toList.drop 24 = dktX13_strike_1 := dk_seg dksX13_strike_0 24 rfl rfl
theorem dksX13_strike_2 : cX13_strike.data.toList.drop 48 = dktX13_strike_2 := dk_seg dksX13_strike_1 24 rfl rfl
theorem dksX13_strike_3 : cX13_strike.data.toList.drop 71 = dktX13_strike_3 := dk_seg dksX13_strike_2 23 rfl rfl
theorem dX13_strike_0 : decode cX13_strike 0 = .ok (.aload_n 0, 1) := dk_42 (dk_at dksX13_strike_0 0 rfl rfl)
theorem dX13_strike_1 : decode cX13_strike 1 = .ok (.getfield 13, 3) := dk_180 0 13 (dk_at dksX13_strike_0 1 rfl rfl)
theorem dX13_strike_4 : decode cX13_strike 4 = .ok (.iload_n 1, 1) := dk_27 (dk_at dksX13_strike_0 4 rfl rfl)
theorem dX13_strike_5 : decode cX13_strike 5 = .ok (.invokevirtual 17, 3) := dk_182 0 17 (dk_at dksX13_strike_0 5 rfl rfl)
theorem dX13_strike_8 : decode cX13_strike 8 = .ok (.istore_n 2, 1) := dk_61 (dk_at dksX13_strike_0 8 rfl rfl)
theorem dX13_strike_9 : decode cX13_strike 9 = .ok (.aload_n 0, 1) := dk_42 (dk_at dksX13_strike_0 9 rfl rfl)
theorem dX13_strike_10 : decode cX13_strike 10 = .ok (.getfield 13, 3) := dk_180 0 13 (dk_at dksX13_strike_0 10 rfl rfl)
theorem dX13_strike_13 : decode cX13_strike 13 = .ok (.iload_n 1, 1) := dk_27 (dk_at dksX13_strike_0 13 rfl rfl)
theorem dX13_strike_14 : decode cX13_strike 14 = .ok (.invokevirtual 23, 3) := dk_182 0 23 (dk_at dksX13_strike_0 14 rfl rfl)
theorem dX13_strike_17 : decode cX13_strike 17 = .ok (.ifCond .le 41, 3) := dk_158 0 41 (dk_at dksX13_strike_0 17 rfl rfl)
theorem dX13_strike_20 : decode cX13_strike 20 = .ok (.aload_n 0, 1) := dk_42 (dk_at dksX13_strike_0 20 rfl rfl)
theorem dX13_strike_21 : decode cX13_strike 21 = .ok (.getfield 13, 3) := dk_180 0 13 (dk_at dksX13_strike_0 21 rfl rfl)
theorem dX13_strike_24 : decode cX13_strike 24 = .ok (.iload_n 1, 1) := dk_27 (dk_at dksX13_strike_1 0 rfl rfl)
theorem dX13_strike_25 : decode cX13_strike 25 = .ok (.invokevirtual 26, 3) := dk_182 0 26 (dk_at dksX13_strike_1 1 rfl rfl)
theorem dX13_strike_28 : decode cX13_strike 28 = .ok (.ifCond .eq 30, 3) := dk_153 0 30 (dk_at dksX13_strike_1 4 rfl rfl)
theorem dX13_strike_31 : decode cX13_strike 31 = .ok (.aload_n 0, 1) := dk_42 (dk_at dksX13_strike_1 7 rfl rfl)
theorem dX13_strike_32 : decode cX13_strike 32 = .ok (.getfield 13, 3) := dk_180 0 13 (dk_at dksX13_strike_1 8 rfl rfl)
theorem dX13_strike_35 : decode cX13_strike 35 = .ok (.aload_n 0, 1) := dk_42 (dk_at dksX13_strike_1 11 rfl rfl)
theorem dX13_strike_36 : decode cX13_strike 36 = .ok (.getfield 13, 3) := dk_180 0 13 (dk_at dksX13_strike_1 12 rfl rfl)
theorem dX13_strike_39 : decode cX13_strike 39 = .ok (.iload_n 1, 1) := dk_27 (dk_at dksX13_strike_1 15 rfl rfl)
theorem dX13_strike_40 : decode cX13_strike 40 = .ok (.invokevirtual 23, 3) := dk_182 0 23 (dk_at dksX13_strike_1 16 rfl rfl)
theorem dX13_strike_43 : decode cX13_strike 43 = .ok (.aload_n 0, 1) := dk_42 (dk_at dksX13_strike_1 19 rfl rfl)
theorem dX13_strike_44 : decode cX13_strike 44 = .ok (.getfield 13, 3) := dk_180 0 13 (dk_at dksX13_strike_1 20 rfl rfl)
theorem dX13_strike_47 : decode cX13_strike 47 = .ok (.iload_n 1, 1) := dk_27 (dk_at dksX13_strike_1 23 rfl rfl)
theorem dX13_strike_48 : decode cX13_strike 48 = .ok (.invokevirtual 30, 3) := dk_182 0 30 (dk_at dksX13_strike_2 0 rfl rfl)
theorem dX13_strike_51 : decode cX13_strike 51 = .ok (.iload_n 2, 1) := dk_28 (dk_at dksX13_strike_2 3 rfl rfl)
theorem dX13_strike_52 : decode cX13_strike 52 = .ok (.invokevirtual 33, 3) := dk_182 0 33 (dk_at dksX13_strike_2 4 rfl rfl)
theorem dX13_strike_55 : decode cX13_strike 55 = .ok (.goto 4, 3) := dk_167 0 4 (dk_at dksX13_strike_2 7 rfl rfl)
theorem dX13_strike_58 : decode cX13_strike 58 = .ok (.iload_n 2, 1) := dk_28 (dk_at dksX13_strike_2 10 rfl rfl)
theorem dX13_strike_59 : decode cX13_strike 59 = .ok (.istore_n 3, 1) := dk_62 (dk_at dksX13_strike_2 11 rfl rfl)
theorem dX13_strike_60 : decode cX13_strike 60 = .ok (.aload_n 0, 1) := dk_42 (dk_at dksX13_strike_2 12 rfl rfl)
theorem dX13_strike_61 : decode cX13_strike 61 = .ok (.getfield 13, 3) := dk_180 0 13 (dk_at dksX13_strike_2 13 rfl rfl)
theorem dX13_strike_64 : decode cX13_strike 64 = .ok (.aload_n 0, 1) := dk_42 (dk_at dksX13_strike_2 16 rfl rfl)
theorem dX13_strike_65 : decode cX13_strike 65 = .ok (.getfield 7, 3) := dk_180 0 7 (dk_at dksX13_strike_2 17 rfl rfl)
theorem dX13_strike_68 : decode cX13_strike 68 = .ok (.iload_n 3, 1) := dk_29 (dk_at dksX13_strike_2 20 rfl rfl)
theorem dX13_strike_69 : decode cX13_strike 69 = .ok (.iload_n 3, 1) := dk_29 (dk_at dksX13_strike_2 21 rfl rfl)
theorem dX13_strike_70 : decode cX13_strike 70 = .ok (.iconst 0, 1) := dk_3 (dk_at dksX13_strike_2 22 rfl rfl)
theorem dX13_strike_71 : decode cX13_strike 71 = .ok (.invokevirtual 37, 3) := dk_182 0 37 (dk_at dksX13_strike_3 0 rfl rfl)
theorem dX13_strike_74 : decode cX13_strike 74 = .ok (.ireturn, 1) := dk_172 (dk_at dksX13_strike_3 3 rfl rfl)
theorem q86 : (Jvm.Cond.initialized "FewKeys$SignKey") ∈ lw_all := lw_g (lw_at lw_m1 26 rfl) rfl
theorem q668 : (Jvm.Cond.fieldLink "FewKeys$SignKey" (13 : Nat) "FewKeys$SignKey" "dial" "LFewKeys$Dial;") ∈ lw_all := lw_g (lw_at lw_m3 128 rfl) rfl
theorem q669 : (Jvm.Cond.sameField "FewKeys$SignKey" "FewKeys$Key" "dial" "LFewKeys$Dial;") ∈ lw_all := lw_g (lw_at lw_m3 129 rfl) rfl
theorem q740 : (Jvm.Cond.instantiable "FewKeys$SignKey" (3 : Nat)) ∈ lw_all := lw_g (lw_at lw_m3 200 rfl) rfl
theorem q742 : (Jvm.Cond.instanceMethod ({ cls := "FewKeys$SignKey", name := "<init>", desc := "(LFewKeys$Dial;II)V" } : Jvm.MethodName)) ∈ lw_all := lw_g (lw_at lw_m3 202 rfl) rfl
theorem q743 : (Jvm.Cond.code ({ cls := "FewKeys$SignKey", name := "<init>", desc := "(LFewKeys$Dial;II)V" } : Jvm.MethodName) prog_12_method_1_code (4 : Nat) (Option.none : Option Jvm.ClassFile.FieldType)) ∈ lw_all := lw_g (lw_at lw_m3 203 rfl) rfl
theorem q744 : (Jvm.Cond.methodLink "FewKeys$SignKey" (1 : Nat) ({ cls := "FewKeys$Key", name := "<init>", desc := "(LFewKeys$Dial;I)V" } : Jvm.MethodName)) ∈ lw_all := lw_g (lw_at lw_m3 204 rfl) rfl
theorem q745 : (Jvm.Cond.fieldLink "FewKeys$SignKey" (7 : Nat) "FewKeys$SignKey" "sign" "I") ∈ lw_all := lw_g (lw_at lw_m3 205 rfl) rfl
theorem q746 : (Jvm.Cond.laysFinal "FewKeys$SignKey" "FewKeys$SignKey" "sign" "I") ∈ lw_all := lw_g (lw_at lw_m3 206 rfl) rfl
theorem q747 : (Jvm.Cond.soleField "FewKeys$SignKey" "sign") ∈ lw_all := lw_g (lw_at lw_m3 207 rfl) rfl
theorem q748 : (Jvm.Cond.laysFinal "FewKeys$SignKey" "FewKeys$Key" "dial" "LFewKeys$Dial;") ∈ lw_all := lw_g (lw_at lw_m3 208 rfl) rfl
theorem q749 : (Jvm.Cond.laysFinal "FewKeys$SignKey" "FewKeys$Key" "cost" "I") ∈ lw_all := lw_g (lw_at lw_m3 209 rfl) rfl
theorem q750 : (Jvm.Cond.superclass "FewKeys$SignKey" "FewKeys$Key") ∈ lw_all := lw_g (lw_at lw_m3 210 rfl) rfl
theorem q811 : (Jvm.Cond.selects "FewKeys$SignKey" ({ cls := "FewKeys$Key", name := "kind", desc := "()I" } : Jvm.MethodName) ({ cls := "FewKeys$SignKey", name := "kind", desc := "()I" } : Jvm.MethodName)) ∈ lw_all := lw_g (lw_at lw_m4 31 rfl) rfl
theorem q812 : (Jvm.Cond.instanceMethod ({ cls := "FewKeys$SignKey", name := "kind", desc := "()I" } : Jvm.MethodName)) ∈ lw_all := lw_g (lw_at lw_m4 32 rfl) rfl
theorem q813 : (Jvm.Cond.code ({ cls := "FewKeys$SignKey", name := "kind", desc := "()I" } : Jvm.MethodName) prog_12_method_2_code (1 : Nat) (Option.some Jvm.ClassFile.FieldType.int)) ∈ lw_all := lw_g (lw_at lw_m4 33 rfl) rfl
theorem q828 : (Jvm.Cond.selects "FewKeys$SignKey" ({ cls := "FewKeys$Key", name := "number", desc := "()I" } : Jvm.MethodName) ({ cls := "FewKeys$Key", name := "number", desc := "()I" } : Jvm.MethodName)) ∈ lw_all := lw_g (lw_at lw_m4 48 rfl) rfl
theorem q840 : (Jvm.Cond.selects "FewKeys$SignKey" ({ cls := "FewKeys$Key", name := "other", desc := "()I" } : Jvm.MethodName) ({ cls := "FewKeys$Key", name := "other", desc := "()I" } : Jvm.MethodName)) ∈ lw_all := lw_g (lw_at lw_m4 60 rfl) rfl
theorem q898 : (Jvm.Cond.selects "FewKeys$SignKey" ({ cls := "FewKeys$Key", name := "strike", desc := "(I)I" } : Jvm.MethodName) ({ cls := "FewKeys$SignKey", name := "strike", desc := "(I)I" } : Jvm.MethodName)) ∈ lw_all := lw_g (lw_at lw_m4 118 rfl) rfl
theorem q899 : (Jvm.Cond.instanceMethod ({ cls := "FewKeys$SignKey", name := "strike", desc := "(I)I" } : Jvm.MethodName)) ∈ lw_all := lw_g (lw_at lw_m4 119 rfl) rfl
theorem q900 : (Jvm.Cond.code ({ cls := "FewKeys$SignKey", name := "strike", desc := "(I)I" } : Jvm.MethodName) prog_12_method_3_code (4 : Nat) (Option.some Jvm.ClassFile.FieldType.int)) ∈ lw_all := lw_g (lw_at lw_m4 120 rfl) rfl
theorem q901 : (Jvm.Cond.methodLink "FewKeys$SignKey" (17 : Nat) ({ cls := "FewKeys$Dial", name := "shown", desc := "(I)I" } : Jvm.MethodName)) ∈ lw_all := lw_g (lw_at lw_m4 121 rfl) rfl
theorem q902 : (Jvm.Cond.methodLink "FewKeys$SignKey" (23 : Nat) ({ cls := "FewKeys$Dial", name := "waits", desc := "(I)I" } : Jvm.MethodName)) ∈ lw_all := lw_g (lw_at lw_m4 122 rfl) rfl
theorem q903 : (Jvm.Cond.methodLink "FewKeys$SignKey" (26 : Nat) ({ cls := "FewKeys$Dial", name := "isTyped", desc := "(I)Z" } : Jvm.MethodName)) ∈ lw_all := lw_g (lw_at lw_m4 123 rfl) rfl
theorem q904 : (Jvm.Cond.methodLink "FewKeys$SignKey" (30 : Nat) ({ cls := "FewKeys$Dial", name := "held", desc := "(I)I" } : Jvm.MethodName)) ∈ lw_all := lw_g (lw_at lw_m4 124 rfl) rfl
theorem q905 : (Jvm.Cond.methodLink "FewKeys$SignKey" (33 : Nat) ({ cls := "FewKeys$Dial", name := "reckon", desc := "(III)I" } : Jvm.MethodName)) ∈ lw_all := lw_g (lw_at lw_m4 125 rfl) rfl
theorem q906 : (Jvm.Cond.methodLink "FewKeys$SignKey" (37 : Nat) ({ cls := "FewKeys$Dial", name := "state", desc := "(IIIZ)I" } : Jvm.MethodName)) ∈ lw_all := lw_g (lw_at lw_m4 126 rfl) rfl
theorem q1516 : (Jvm.Cond.castable "FewKeys$SignKey" "FewKeys$Key") ∈ lw_tbl := lw_at lw_m7 16 rfl
theorem in_X13 : ∀ w ∈ wsX130, w ∈ lw_all := lw_in wsX130 [748, 749, 746] (by decide +kernel) (by decide +kernel)

