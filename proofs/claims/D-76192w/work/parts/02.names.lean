/-! DECODE ROWS BY BYTES: one lemma an opcode; a method's code is cut into short pieces once, and a row reads its own piece alone. -/
set_option maxRecDepth 100000
/-- the code has just these bytes from pc on -/
def DkAt (code : ByteArray) (pc : Nat) (bs : List UInt8) : Prop := ∀ (j : Nat) (b : UInt8), bs[j]? = some b → code.data.toList[pc + j]? = some b
/-- the piece W has the bytes bs from its place j on -/
def dkIn (W : List UInt8) (j : Nat) (bs : List UInt8) : Bool := decide ((W.drop j).take bs.length = bs)
theorem dk_seg {l W T : List UInt8} {o o2 : Nat} (h : l.drop o = W ++ T) (n : Nat) (hn : W.length = n) (ho : o + n = o2) : l.drop o2 = T := by
  subst ho
  rw [← List.drop_drop, h, List.drop_left' hn]
theorem dk_at {code : ByteArray} {W T bs : List UInt8} {o pc : Nat} (h : code.data.toList.drop o = W ++ T) (j : Nat) (hp : o + j = pc) (hw : dkIn W j bs = true) : DkAt code pc bs := by
  subst hp
  intro i b e
  have h1 := of_decide_eq_true hw
  have h2 : i < bs.length := (List.getElem?_eq_some_iff.mp e).1
  have h3 : W[j + i]? = some b := by
    rw [← h1, List.getElem?_take, if_pos h2, List.getElem?_drop] at e
    exact e
  have h4 : j + i < W.length := (List.getElem?_eq_some_iff.mp h3).1
  have h5 : (code.data.toList.drop o)[j + i]? = some b := by
    rw [h, List.getElem?_append_left h4]
    exact h3
  rw [List.getElem?_drop, ← Nat.add_assoc] at h5
  exact h5
theorem dk_u1 {A : ByteArray} {p : Nat} {b : UInt8} (h : A.data.toList[p]? = some b) : (Reader.u1 : Reader DecodeError Nat) A p = .ok (b.toNat, p + 1) := by
  obtain ⟨h1, h2⟩ := List.getElem?_eq_some_iff.mp h
  have h3 : p < A.size := by simpa using h1
  have h4 : A[p]'h3 = b := h2
  have e : (Reader.u1 : Reader DecodeError Nat) A p = (if h : p < A.size then .ok (A[p].toNat, p + 1) else .error (HasTruncated.truncated p)) := by
    show (do if h : p < A.size then do set (p + 1); Pure.pure A[p].toNat else MonadExcept.throw (HasTruncated.truncated p) : Reader DecodeError Nat) A p = _
    by_cases hi : p < A.size
    · rw [dif_pos hi, dif_pos hi]; rfl
    · rw [dif_neg hi, dif_neg hi]; rfl
  rw [e, dif_pos h3, h4]
theorem dk_bind {α β : Type} {r : Reader DecodeError α} {f : α → Reader DecodeError β} {A : ByteArray} {p s : Nat} {a : α} (h : r A p = .ok (a, s)) : (r >>= f) A p = f a A s := by
  show (do let (a, s) ← r A p; f a A s : Except DecodeError (β × Nat)) = _
  rw [h]
  rfl
theorem dk_map {α β : Type} {r : Reader DecodeError α} {g : α → β} {A : ByteArray} {p s : Nat} {a : α} (h : r A p = .ok (a, s)) : (g <$> r) A p = .ok (g a, s) := by
  show (do let (a, s) ← r A p; .ok (g a, s) : Except DecodeError (β × Nat)) = _
  rw [h]
  rfl
theorem dk_u2 {A : ByteArray} {p : Nat} {a b : UInt8} (h : A.data.toList[p]? = some a) (h2 : A.data.toList[p + 1]? = some b) : (Reader.u2 : Reader DecodeError Nat) A p = .ok (a.toNat * 256 + b.toNat, p + 2) := by
  show (Reader.u1 >>= fun hi => Reader.u1 >>= fun lo => Pure.pure (hi * 256 + lo) : Reader DecodeError Nat) A p = _
  rw [dk_bind (dk_u1 h), dk_bind (dk_u1 h2)]
  rfl
theorem dk_of {code : ByteArray} {pc n : Nat} {i : Instr} (h : Decoder.instr pc code pc = .ok (i, pc + n)) : decode code pc = .ok (i, n) := by
  have e : decode code pc = (match Decoder.instr pc code pc with | .error x => .error x | .ok (j, s) => .ok (j, s - pc)) := by
    show (do let (j, s) ← Decoder.instr pc code pc; Pure.pure (j, s - pc) : Except DecodeError (Instr × Nat)) = _
    cases Decoder.instr pc code pc <;> rfl
  rw [e, h]
  show Except.ok (i, pc + n - pc) = _
  rw [Nat.add_sub_cancel_left]
theorem dk_1 {code : ByteArray} {pc : Nat} (h : DkAt code pc [1]) : decode code pc = .ok (.aconst_null, 1) := dk_of ((dk_bind (dk_u1 (h 0 _ rfl))).trans rfl)
theorem dk_2 {code : ByteArray} {pc : Nat} (h : DkAt code pc [2]) : decode code pc = .ok (.iconst (-1), 1) := dk_of ((dk_bind (dk_u1 (h 0 _ rfl))).trans rfl)
theorem dk_3 {code : ByteArray} {pc : Nat} (h : DkAt code pc [3]) : decode code pc = .ok (.iconst 0, 1) := dk_of ((dk_bind (dk_u1 (h 0 _ rfl))).trans rfl)
theorem dk_4 {code : ByteArray} {pc : Nat} (h : DkAt code pc [4]) : decode code pc = .ok (.iconst 1, 1) := dk_of ((dk_bind (dk_u1 (h 0 _ rfl))).trans rfl)
theorem dk_5 {code : ByteArray} {pc : Nat} (h : DkAt code pc [5]) : decode code pc = .ok (.iconst 2, 1) := dk_of ((dk_bind (dk_u1 (h 0 _ rfl))).trans rfl)
theorem dk_6 {code : ByteArray} {pc : Nat} (h : DkAt code pc [6]) : decode code pc = .ok (.iconst 3, 1) := dk_of ((dk_bind (dk_u1 (h 0 _ rfl))).trans rfl)
theorem dk_7 {code : ByteArray} {pc : Nat} (h : DkAt code pc [7]) : decode code pc = .ok (.iconst 4, 1) := dk_of ((dk_bind (dk_u1 (h 0 _ rfl))).trans rfl)
theorem dk_8 {code : ByteArray} {pc : Nat} (h : DkAt code pc [8]) : decode code pc = .ok (.iconst 5, 1) := dk_of ((dk_bind (dk_u1 (h 0 _ rfl))).trans rfl)
theorem dk_9 {code : ByteArray} {pc : Nat} (h : DkAt code pc [9]) : decode code pc = .ok (.lconst 0, 1) := dk_of ((dk_bind (dk_u1 (h 0 _ rfl))).trans rfl)
theorem dk_10 {code : ByteArray} {pc : Nat} (h : DkAt code pc [10]) : decode code pc = .ok (.lconst 1, 1) := dk_of ((dk_bind (dk_u1 (h 0 _ rfl))).trans rfl)
theorem dk_16 {code : ByteArray} {pc : Nat} (a : UInt8) (h : DkAt code pc [16, a]) : decode code pc = .ok (.bipush (Reader.signed 8 a.toNat), 2) := dk_of ((dk_bind (dk_u1 (h 0 _ rfl))).trans ((dk_bind (dk_map (dk_u1 (h 1 _ rfl)))).trans rfl))
theorem dk_17 {code : ByteArray} {pc : Nat} (a b : UInt8) (h : DkAt code pc [17, a, b]) : decode code pc = .ok (.sipush (Reader.signed 16 (a.toNat * 256 + b.toNat)), 3) := dk_of ((dk_bind (dk_u1 (h 0 _ rfl))).trans ((dk_bind (dk_map (dk_u2 (h 1 _ rfl) (h 2 _ rfl)))).trans rfl))
theorem dk_18 {code : ByteArray} {pc : Nat} (a : UInt8) (h : DkAt code pc [18, a]) : decode code pc = .ok (.ldc a.toNat, 2) := dk_of ((dk_bind (dk_u1 (h 0 _ rfl))).trans ((dk_bind (dk_u1 (h 1 _ rfl))).trans rfl))
theorem dk_19 {code : ByteArray} {pc : Nat} (a b : UInt8) (h : DkAt code pc [19, a, b]) : decode code pc = .ok (.ldc_w (a.toNat * 256 + b.toNat), 3) := dk_of ((dk_bind (dk_u1 (h 0 _ rfl))).trans ((dk_bind (dk_u2 (h 1 _ rfl) (h 2 _ rfl))).trans rfl))
theorem dk_20 {code : ByteArray} {pc : Nat} (a b : UInt8) (h : DkAt code pc [20, a, b]) : decode code pc = .ok (.ldc2_w (a.toNat * 256 + b.toNat), 3) := dk_of ((dk_bind (dk_u1 (h 0 _ rfl))).trans ((dk_bind (dk_u2 (h 1 _ rfl) (h 2 _ rfl))).trans rfl))
theorem dk_21 {code : ByteArray} {pc : Nat} (a : UInt8) (h : DkAt code pc [21, a]) : decode code pc = .ok (.iload a.toNat, 2) := dk_of ((dk_bind (dk_u1 (h 0 _ rfl))).trans ((dk_bind (dk_u1 (h 1 _ rfl))).trans rfl))
theorem dk_22 {code : ByteArray} {pc : Nat} (a : UInt8) (h : DkAt code pc [22, a]) : decode code pc = .ok (.lload a.toNat, 2) := dk_of ((dk_bind (dk_u1 (h 0 _ rfl))).trans ((dk_bind (dk_u1 (h 1 _ rfl))).trans rfl))
theorem dk_25 {code : ByteArray} {pc : Nat} (a : UInt8) (h : DkAt code pc [25, a]) : decode code pc = .ok (.aload a.toNat, 2) := dk_of ((dk_bind (dk_u1 (h 0 _ rfl))).trans ((dk_bind (dk_u1 (h 1 _ rfl))).trans rfl))
theorem dk_26 {code : ByteArray} {pc : Nat} (h : DkAt code pc [26]) : decode code pc = .ok (.iload_n 0, 1) := dk_of ((dk_bind (dk_u1 (h 0 _ rfl))).trans rfl)
theorem dk_27 {code : ByteArray} {pc : Nat} (h : DkAt code pc [27]) : decode code pc = .ok (.iload_n 1, 1) := dk_of ((dk_bind (dk_u1 (h 0 _ rfl))).trans rfl)
theorem dk_28 {code : ByteArray} {pc : Nat} (h : DkAt code pc [28]) : decode code pc = .ok (.iload_n 2, 1) := dk_of ((dk_bind (dk_u1 (h 0 _ rfl))).trans rfl)
theorem dk_29 {code : ByteArray} {pc : Nat} (h : DkAt code pc [29]) : decode code pc = .ok (.iload_n 3, 1) := dk_of ((dk_bind (dk_u1 (h 0 _ rfl))).trans rfl)
theorem dk_30 {code : ByteArray} {pc : Nat} (h : DkAt code pc [30]) : decode code pc = .ok (.lload_n 0, 1) := dk_of ((dk_bind (dk_u1 (h 0 _ rfl))).trans rfl)
theorem dk_31 {code : ByteArray} {pc : Nat} (h : DkAt code pc [31]) : decode code pc = .ok (.lload_n 1, 1) := dk_of ((dk_bind (dk_u1 (h 0 _ rfl))).trans rfl)
theorem dk_32 {code : ByteArray} {pc : Nat} (h : DkAt code pc [32]) : decode code pc = .ok (.lload_n 2, 1) := dk_of ((dk_bind (dk_u1 (h 0 _ rfl))).trans rfl)
theorem dk_33 {code : ByteArray} {pc : Nat} (h : DkAt code pc [33]) : decode code pc = .ok (.lload_n 3, 1) := dk_of ((dk_bind (dk_u1 (h 0 _ rfl))).trans rfl)
theorem dk_42 {code : ByteArray} {pc : Nat} (h : DkAt code pc [42]) : decode code pc = .ok (.aload_n 0, 1) := dk_of ((dk_bind (dk_u1 (h 0 _ rfl))).trans rfl)
theorem dk_43 {code : ByteArray} {pc : Nat} (h : DkAt code pc [43]) : decode code pc = .ok (.aload_n 1, 1) := dk_of ((dk_bind (dk_u1 (h 0 _ rfl))).trans rfl)
theorem dk_44 {code : ByteArray} {pc : Nat} (h : DkAt code pc [44]) : decode code pc = .ok (.aload_n 2, 1) := dk_of ((dk_bind (dk_u1 (h 0 _ rfl))).trans rfl)
theorem dk_45 {code : ByteArray} {pc : Nat} (h : DkAt code pc [45]) : decode code pc = .ok (.aload_n 3, 1) := dk_of ((dk_bind (dk_u1 (h 0 _ rfl))).trans rfl)
theorem dk_46 {code : ByteArray} {pc : Nat} (h : DkAt code pc [46]) : decode code pc = .ok (.iaload, 1) := dk_of ((dk_bind (dk_u1 (h 0 _ rfl))).trans rfl)
theorem dk_47 {code : ByteArray} {pc : Nat} (h : DkAt code pc [47]) : decode code pc = .ok (.laload, 1) := dk_of ((dk_bind (dk_u1 (h 0 _ rfl))).trans rfl)
theorem dk_50 {code : ByteArray} {pc : Nat} (h : DkAt code pc [50]) : decode code pc = .ok (.aaload, 1) := dk_of ((dk_bind (dk_u1 (h 0 _ rfl))).trans rfl)
theorem dk_51 {code : ByteArray} {pc : Nat} (h : DkAt code pc [51]) : decode code pc = .ok (.baload, 1) := dk_of ((dk_bind (dk_u1 (h 0 _ rfl))).trans rfl)
theorem dk_53 {code : ByteArray} {pc : Nat} (h : DkAt code pc [53]) : decode code pc = .ok (.saload, 1) := dk_of ((dk_bind (dk_u1 (h 0 _ rfl))).trans rfl)
theorem dk_54 {code : ByteArray} {pc : Nat} (a : UInt8) (h : DkAt code pc [54, a]) : decode code pc = .ok (.istore a.toNat, 2) := dk_of ((dk_bind (dk_u1 (h 0 _ rfl))).trans ((dk_bind (dk_u1 (h 1 _ rfl))).trans rfl))
theorem dk_55 {code : ByteArray} {pc : Nat} (a : UInt8) (h : DkAt code pc [55, a]) : decode code pc = .ok (.lstore a.toNat, 2) := dk_of ((dk_bind (dk_u1 (h 0 _ rfl))).trans ((dk_bind (dk_u1 (h 1 _ rfl))).trans rfl))
theorem dk_58 {code : ByteArray} {pc : Nat} (a : UInt8) (h : DkAt code pc [58, a]) : decode code pc = .ok (.astore a.toNat, 2) := dk_of ((dk_bind (dk_u1 (h 0 _ rfl))).trans ((dk_bind (dk_u1 (h 1 _ rfl))).trans rfl))
theorem dk_59 {code : ByteArray} {pc : Nat} (h : DkAt code pc [59]) : decode code pc = .ok (.istore_n 0, 1) := dk_of ((dk_bind (dk_u1 (h 0 _ rfl))).trans rfl)
theorem dk_60 {code : ByteArray} {pc : Nat} (h : DkAt code pc [60]) : decode code pc = .ok (.istore_n 1, 1) := dk_of ((dk_bind (dk_u1 (h 0 _ rfl))).trans rfl)
theorem dk_61 {code : ByteArray} {pc : Nat} (h : DkAt code pc [61]) : decode code pc = .ok (.istore_n 2, 1) := dk_of ((dk_bind (dk_u1 (h 0 _ rfl))).trans rfl)
theorem dk_62 {code : ByteArray} {pc : Nat} (h : DkAt code pc [62]) : decode code pc = .ok (.istore_n 3, 1) := dk_of ((dk_bind (dk_u1 (h 0 _ rfl))).trans rfl)
theorem dk_64 {code : ByteArray} {pc : Nat} (h : DkAt code pc [64]) : decode code pc = .ok (.lstore_n 1, 1) := dk_of ((dk_bind (dk_u1 (h 0 _ rfl))).trans rfl)
theorem dk_65 {code : ByteArray} {pc : Nat} (h : DkAt code pc [65]) : decode code pc = .ok (.lstore_n 2, 1) := dk_of ((dk_bind (dk_u1 (h 0 _ rfl))).trans rfl)
theorem dk_66 {code : ByteArray} {pc : Nat} (h : DkAt code pc [66]) : decode code pc = .ok (.lstore_n 3, 1) := dk_of ((dk_bind (dk_u1 (h 0 _ rfl))).trans rfl)
theorem dk_76 {code : ByteArray} {pc : Nat} (h : DkAt code pc [76]) : decode code pc = .ok (.astore_n 1, 1) := dk_of ((dk_bind (dk_u1 (h 0 _ rfl))).trans rfl)
theorem dk_77 {code : ByteArray} {pc : Nat} (h : DkAt code pc [77]) : decode code pc = .ok (.astore_n 2, 1) := dk_of ((dk_bind (dk_u1 (h 0 _ rfl))).trans rfl)
theorem dk_78 {code : ByteArray} {pc : Nat} (h : DkAt code pc [78]) : decode code pc = .ok (.astore_n 3, 1) := dk_of ((dk_bind (dk_u1 (h 0 _ rfl))).trans rfl)
theorem dk_79 {code : ByteArray} {pc : Nat} (h : DkAt code pc [79]) : decode code pc = .ok (.iastore, 1) := dk_of ((dk_bind (dk_u1 (h 0 _ rfl))).trans rfl)
theorem dk_80 {code : ByteArray} {pc : Nat} (h : DkAt code pc [80]) : decode code pc = .ok (.lastore, 1) := dk_of ((dk_bind (dk_u1 (h 0 _ rfl))).trans rfl)
theorem dk_83 {code : ByteArray} {pc : Nat} (h : DkAt code pc [83]) : decode code pc = .ok (.aastore, 1) := dk_of ((dk_bind (dk_u1 (h 0 _ rfl))).trans rfl)
theorem dk_84 {code : ByteArray} {pc : Nat} (h : DkAt code pc [84]) : decode code pc = .ok (.bastore, 1) := dk_of ((dk_bind (dk_u1 (h 0 _ rfl))).trans rfl)
theorem dk_86 {code : ByteArray} {pc : Nat} (h : DkAt code pc [86]) : decode code pc = .ok (.sastore, 1) := dk_of ((dk_bind (dk_u1 (h 0 _ rfl))).trans rfl)
theorem dk_87 {code : ByteArray} {pc : Nat} (h : DkAt code pc [87]) : decode code pc = .ok (.pop, 1) := dk_of ((dk_bind (dk_u1 (h 0 _ rfl))).trans rfl)
theorem dk_89 {code : ByteArray} {pc : Nat} (h : DkAt code pc [89]) : decode code pc = .ok (.dup, 1) := dk_of ((dk_bind (dk_u1 (h 0 _ rfl))).trans rfl)
theorem dk_92 {code : ByteArray} {pc : Nat} (h : DkAt code pc [92]) : decode code pc = .ok (.dup2, 1) := dk_of ((dk_bind (dk_u1 (h 0 _ rfl))).trans rfl)
theorem dk_96 {code : ByteArray} {pc : Nat} (h : DkAt code pc [96]) : decode code pc = .ok (.iadd, 1) := dk_of ((dk_bind (dk_u1 (h 0 _ rfl))).trans rfl)
theorem dk_97 {code : ByteArray} {pc : Nat} (h : DkAt code pc [97]) : decode code pc = .ok (.ladd, 1) := dk_of ((dk_bind (dk_u1 (h 0 _ rfl))).trans rfl)
theorem dk_100 {code : ByteArray} {pc : Nat} (h : DkAt code pc [100]) : decode code pc = .ok (.isub, 1) := dk_of ((dk_bind (dk_u1 (h 0 _ rfl))).trans rfl)
theorem dk_101 {code : ByteArray} {pc : Nat} (h : DkAt code pc [101]) : decode code pc = .ok (.lsub, 1) := dk_of ((dk_bind (dk_u1 (h 0 _ rfl))).trans rfl)
theorem dk_104 {code : ByteArray} {pc : Nat} (h : DkAt code pc [104]) : decode code pc = .ok (.imul, 1) := dk_of ((dk_bind (dk_u1 (h 0 _ rfl))).trans rfl)
theorem dk_105 {code : ByteArray} {pc : Nat} (h : DkAt code pc [105]) : decode code pc = .ok (.lmul, 1) := dk_of ((dk_bind (dk_u1 (h 0 _ rfl))).trans rfl)
theorem dk_108 {code : ByteArray} {pc : Nat} (h : DkAt code pc [108]) : decode code pc = .ok (.idiv, 1) := dk_of ((dk_bind (dk_u1 (h 0 _ rfl))).trans rfl)
theorem dk_109 {code : ByteArray} {pc : Nat} (h : DkAt code pc [109]) : decode code pc = .ok (.ldiv, 1) := dk_of ((dk_bind (dk_u1 (h 0 _ rfl))).trans rfl)
theorem dk_112 {code : ByteArray} {pc : Nat} (h : DkAt code pc [112]) : decode code pc = .ok (.irem, 1) := dk_of ((dk_bind (dk_u1 (h 0 _ rfl))).trans rfl)
theorem dk_113 {code : ByteArray} {pc : Nat} (h : DkAt code pc [113]) : decode code pc = .ok (.lrem, 1) := dk_of ((dk_bind (dk_u1 (h 0 _ rfl))).trans rfl)
theorem dk_116 {code : ByteArray} {pc : Nat} (h : DkAt code pc [116]) : decode code pc = .ok (.ineg, 1) := dk_of ((dk_bind (dk_u1 (h 0 _ rfl))).trans rfl)
theorem dk_117 {code : ByteArray} {pc : Nat} (h : DkAt code pc [117]) : decode code pc = .ok (.lneg, 1) := dk_of ((dk_bind (dk_u1 (h 0 _ rfl))).trans rfl)
theorem dk_120 {code : ByteArray} {pc : Nat} (h : DkAt code pc [120]) : decode code pc = .ok (.ishl, 1) := dk_of ((dk_bind (dk_u1 (h 0 _ rfl))).trans rfl)
theorem dk_121 {code : ByteArray} {pc : Nat} (h : DkAt code pc [121]) : decode code pc = .ok (.lshl, 1) := dk_of ((dk_bind (dk_u1 (h 0 _ rfl))).trans rfl)
theorem dk_122 {code : ByteArray} {pc : Nat} (h : DkAt code pc [122]) : decode code pc = .ok (.ishr, 1) := dk_of ((dk_bind (dk_u1 (h 0 _ rfl))).trans rfl)
theorem dk_123 {code : ByteArray} {pc : Nat} (h : DkAt code pc [123]) : decode code pc = .ok (.lshr, 1) := dk_of ((dk_bind (dk_u1 (h 0 _ rfl))).trans rfl)
theorem dk_124 {code : ByteArray} {pc : Nat} (h : DkAt code pc [124]) : decode code pc = .ok (.iushr, 1) := dk_of ((dk_bind (dk_u1 (h 0 _ rfl))).trans rfl)
theorem dk_125 {code : ByteArray} {pc : Nat} (h : DkAt code pc [125]) : decode code pc = .ok (.lushr, 1) := dk_of ((dk_bind (dk_u1 (h 0 _ rfl))).trans rfl)
theorem dk_126 {code : ByteArray} {pc : Nat} (h : DkAt code pc [126]) : decode code pc = .ok (.iand, 1) := dk_of ((dk_bind (dk_u1 (h 0 _ rfl))).trans rfl)
theorem dk_127 {code : ByteArray} {pc : Nat} (h : DkAt code pc [127]) : decode code pc = .ok (.land, 1) := dk_of ((dk_bind (dk_u1 (h 0 _ rfl))).trans rfl)
theorem dk_128 {code : ByteArray} {pc : Nat} (h : DkAt code pc [128]) : decode code pc = .ok (.ior, 1) := dk_of ((dk_bind (dk_u1 (h 0 _ rfl))).trans rfl)
theorem dk_129 {code : ByteArray} {pc : Nat} (h : DkAt code pc [129]) : decode code pc = .ok (.lor, 1) := dk_of ((dk_bind (dk_u1 (h 0 _ rfl))).trans rfl)
theorem dk_130 {code : ByteArray} {pc : Nat} (h : DkAt code pc [130]) : decode code pc = .ok (.ixor, 1) := dk_of ((dk_bind (dk_u1 (h 0 _ rfl))).trans rfl)
theorem dk_131 {code : ByteArray} {pc : Nat} (h : DkAt code pc [131]) : decode code pc = .ok (.lxor, 1) := dk_of ((dk_bind (dk_u1 (h 0 _ rfl))).trans rfl)
theorem dk_132 {code : ByteArray} {pc : Nat} (a b : UInt8) (h : DkAt code pc [132, a, b]) : decode code pc = .ok (.iinc a.toNat (Reader.signed 8 b.toNat), 3) := dk_of ((dk_bind (dk_u1 (h 0 _ rfl))).trans ((dk_bind (dk_u1 (h 1 _ rfl))).trans ((dk_bind (dk_map (dk_u1 (h 2 _ rfl)))).trans rfl)))
theorem dk_133 {code : ByteArray} {pc : Nat} (h : DkAt code pc [133]) : decode code pc = .ok (.i2l, 1) := dk_of ((dk_bind (dk_u1 (h 0 _ rfl))).trans rfl)
theorem dk_136 {code : ByteArray} {pc : Nat} (h : DkAt code pc [136]) : decode code pc = .ok (.l2i, 1) := dk_of ((dk_bind (dk_u1 (h 0 _ rfl))).trans rfl)
theorem dk_145 {code : ByteArray} {pc : Nat} (h : DkAt code pc [145]) : decode code pc = .ok (.i2b, 1) := dk_of ((dk_bind (dk_u1 (h 0 _ rfl))).trans rfl)
theorem dk_146 {code : ByteArray} {pc : Nat} (h : DkAt code pc [146]) : decode code pc = .ok (.i2c, 1) := dk_of ((dk_bind (dk_u1 (h 0 _ rfl))).trans rfl)
theorem dk_147 {code : ByteArray} {pc : Nat} (h : DkAt code pc [147]) : decode code pc = .ok (.i2s, 1) := dk_of ((dk_bind (dk_u1 (h 0 _ rfl))).trans rfl)
theorem dk_148 {code : ByteArray} {pc : Nat} (h : DkAt code pc [148]) : decode code pc = .ok (.lcmp, 1) := dk_of ((dk_bind (dk_u1 (h 0 _ rfl))).trans rfl)
theorem dk_153 {code : ByteArray} {pc : Nat} (a b : UInt8) (h : DkAt code pc [153, a, b]) : decode code pc = .ok (.ifCond .eq (Reader.signed 16 (a.toNat * 256 + b.toNat)), 3) := dk_of ((dk_bind (dk_u1 (h 0 _ rfl))).trans ((dk_bind (dk_map (dk_u2 (h 1 _ rfl) (h 2 _ rfl)))).trans rfl))
theorem dk_154 {code : ByteArray} {pc : Nat} (a b : UInt8) (h : DkAt code pc [154, a, b]) : decode code pc = .ok (.ifCond .ne (Reader.signed 16 (a.toNat * 256 + b.toNat)), 3) := dk_of ((dk_bind (dk_u1 (h 0 _ rfl))).trans ((dk_bind (dk_map (dk_u2 (h 1 _ rfl) (h 2 _ rfl)))).trans rfl))
theorem dk_155 {code : ByteArray} {pc : Nat} (a b : UInt8) (h : DkAt code pc [155, a, b]) : decode code pc = .ok (.ifCond .lt (Reader.signed 16 (a.toNat * 256 + b.toNat)), 3) := dk_of ((dk_bind (dk_u1 (h 0 _ rfl))).trans ((dk_bind (dk_map (dk_u2 (h 1 _ rfl) (h 2 _ rfl)))).trans rfl))
theorem dk_156 {code : ByteArray} {pc : Nat} (a b : UInt8) (h : DkAt code pc [156, a, b]) : decode code pc = .ok (.ifCond .ge (Reader.signed 16 (a.toNat * 256 + b.toNat)), 3) := dk_of ((dk_bind (dk_u1 (h 0 _ rfl))).trans ((dk_bind (dk_map (dk_u2 (h 1 _ rfl) (h 2 _ rfl)))).trans rfl))
theorem dk_157 {code : ByteArray} {pc : Nat} (a b : UInt8) (h : DkAt code pc [157, a, b]) : decode code pc = .ok (.ifCond .gt (Reader.signed 16 (a.toNat * 256 + b.toNat)), 3) := dk_of ((dk_bind (dk_u1 (h 0 _ rfl))).trans ((dk_bind (dk_map (dk_u2 (h 1 _ rfl) (h 2 _ rfl)))).trans rfl))
theorem dk_158 {code : ByteArray} {pc : Nat} (a b : UInt8) (h : DkAt code pc [158, a, b]) : decode code pc = .ok (.ifCond .le (Reader.signed 16 (a.toNat * 256 + b.toNat)), 3) := dk_of ((dk_bind (dk_u1 (h 0 _ rfl))).trans ((dk_bind (dk_map (dk_u2 (h 1 _ rfl) (h 2 _ rfl)))).trans rfl))
theorem dk_159 {code : ByteArray} {pc : Nat} (a b : UInt8) (h : DkAt code pc [159, a, b]) : decode code pc = .ok (.if_icmp .eq (Reader.signed 16 (a.toNat * 256 + b.toNat)), 3) := dk_of ((dk_bind (dk_u1 (h 0 _ rfl))).trans ((dk_bind (dk_map (dk_u2 (h 1 _ rfl) (h 2 _ rfl)))).trans rfl))
theorem dk_160 {code : ByteArray} {pc : Nat} (a b : UInt8) (h : DkAt code pc [160, a, b]) : decode code pc = .ok (.if_icmp .ne (Reader.signed 16 (a.toNat * 256 + b.toNat)), 3) := dk_of ((dk_bind (dk_u1 (h 0 _ rfl))).trans ((dk_bind (dk_map (dk_u2 (h 1 _ rfl) (h 2 _ rfl)))).trans rfl))
theorem dk_161 {code : ByteArray} {pc : Nat} (a b : UInt8) (h : DkAt code pc [161, a, b]) : decode code pc = .ok (.if_icmp .lt (Reader.signed 16 (a.toNat * 256 + b.toNat)), 3) := dk_of ((dk_bind (dk_u1 (h 0 _ rfl))).trans ((dk_bind (dk_map (dk_u2 (h 1 _ rfl) (h 2 _ rfl)))).trans rfl))
theorem dk_162 {code : ByteArray} {pc : Nat} (a b : UInt8) (h : DkAt code pc [162, a, b]) : decode code pc = .ok (.if_icmp .ge (Reader.signed 16 (a.toNat * 256 + b.toNat)), 3) := dk_of ((dk_bind (dk_u1 (h 0 _ rfl))).trans ((dk_bind (dk_map (dk_u2 (h 1 _ rfl) (h 2 _ rfl)))).trans rfl))
theorem dk_163 {code : ByteArray} {pc : Nat} (a b : UInt8) (h : DkAt code pc [163, a, b]) : decode code pc = .ok (.if_icmp .gt (Reader.signed 16 (a.toNat * 256 + b.toNat)), 3) := dk_of ((dk_bind (dk_u1 (h 0 _ rfl))).trans ((dk_bind (dk_map (dk_u2 (h 1 _ rfl) (h 2 _ rfl)))).trans rfl))
theorem dk_164 {code : ByteArray} {pc : Nat} (a b : UInt8) (h : DkAt code pc [164, a, b]) : decode code pc = .ok (.if_icmp .le (Reader.signed 16 (a.toNat * 256 + b.toNat)), 3) := dk_of ((dk_bind (dk_u1 (h 0 _ rfl))).trans ((dk_bind (dk_map (dk_u2 (h 1 _ rfl) (h 2 _ rfl)))).trans rfl))
theorem dk_167 {code : ByteArray} {pc : Nat} (a b : UInt8) (h : DkAt code pc [167, a, b]) : decode code pc = .ok (.goto (Reader.signed 16 (a.toNat * 256 + b.toNat)), 3) := dk_of ((dk_bind (dk_u1 (h 0 _ rfl))).trans ((dk_bind (dk_map (dk_u2 (h 1 _ rfl) (h 2 _ rfl)))).trans rfl))
theorem dk_172 {code : ByteArray} {pc : Nat} (h : DkAt code pc [172]) : decode code pc = .ok (.ireturn, 1) := dk_of ((dk_bind (dk_u1 (h 0 _ rfl))).trans rfl)
theorem dk_173 {code : ByteArray} {pc : Nat} (h : DkAt code pc [173]) : decode code pc = .ok (.lreturn, 1) := dk_of ((dk_bind (dk_u1 (h 0 _ rfl))).trans rfl)
theorem dk_176 {code : ByteArray} {pc : Nat} (h : DkAt code pc [176]) : decode code pc = .ok (.areturn, 1) := dk_of ((dk_bind (dk_u1 (h 0 _ rfl))).trans rfl)
theorem dk_177 {code : ByteArray} {pc : Nat} (h : DkAt code pc [177]) : decode code pc = .ok (.return_, 1) := dk_of ((dk_bind (dk_u1 (h 0 _ rfl))).trans rfl)
theorem dk_178 {code : ByteArray} {pc : Nat} (a b : UInt8) (h : DkAt code pc [178, a, b]) : decode code pc = .ok (.getstatic (a.toNat * 256 + b.toNat), 3) := dk_of ((dk_bind (dk_u1 (h 0 _ rfl))).trans ((dk_bind (dk_u2 (h 1 _ rfl) (h 2 _ rfl))).trans rfl))
theorem dk_180 {code : ByteArray} {pc : Nat} (a b : UInt8) (h : DkAt code pc [180, a, b]) : decode code pc = .ok (.getfield (a.toNat * 256 + b.toNat), 3) := dk_of ((dk_bind (dk_u1 (h 0 _ rfl))).trans ((dk_bind (dk_u2 (h 1 _ rfl) (h 2 _ rfl))).trans rfl))
theorem dk_181 {code : ByteArray} {pc : Nat} (a b : UInt8) (h : DkAt code pc [181, a, b]) : decode code pc = .ok (.putfield (a.toNat * 256 + b.toNat), 3) := dk_of ((dk_bind (dk_u1 (h 0 _ rfl))).trans ((dk_bind (dk_u2 (h 1 _ rfl) (h 2 _ rfl))).trans rfl))
theorem dk_182 {code : ByteArray} {pc : Nat} (a b : UInt8) (h : DkAt code pc [182, a, b]) : decode code pc = .ok (.invokevirtual (a.toNat * 256 + b.toNat), 3) := dk_of ((dk_bind (dk_u1 (h 0 _ rfl))).trans ((dk_bind (dk_u2 (h 1 _ rfl) (h 2 _ rfl))).trans rfl))
theorem dk_183 {code : ByteArray} {pc : Nat} (a b : UInt8) (h : DkAt code pc [183, a, b]) : decode code pc = .ok (.invokespecial (a.toNat * 256 + b.toNat), 3) := dk_of ((dk_bind (dk_u1 (h 0 _ rfl))).trans ((dk_bind (dk_u2 (h 1 _ rfl) (h 2 _ rfl))).trans rfl))
theorem dk_184 {code : ByteArray} {pc : Nat} (a b : UInt8) (h : DkAt code pc [184, a, b]) : decode code pc = .ok (.invokestatic (a.toNat * 256 + b.toNat), 3) := dk_of ((dk_bind (dk_u1 (h 0 _ rfl))).trans ((dk_bind (dk_u2 (h 1 _ rfl) (h 2 _ rfl))).trans rfl))
theorem dk_187 {code : ByteArray} {pc : Nat} (a b : UInt8) (h : DkAt code pc [187, a, b]) : decode code pc = .ok (.new (a.toNat * 256 + b.toNat), 3) := dk_of ((dk_bind (dk_u1 (h 0 _ rfl))).trans ((dk_bind (dk_u2 (h 1 _ rfl) (h 2 _ rfl))).trans rfl))
theorem dk_188_8 {code : ByteArray} {pc : Nat} (h : DkAt code pc [188, 8]) : decode code pc = .ok (.newarray .byte, 2) := dk_of ((dk_bind (dk_u1 (h 0 _ rfl))).trans ((dk_bind (dk_u1 (h 1 _ rfl))).trans rfl))
theorem dk_188_9 {code : ByteArray} {pc : Nat} (h : DkAt code pc [188, 9]) : decode code pc = .ok (.newarray .short, 2) := dk_of ((dk_bind (dk_u1 (h 0 _ rfl))).trans ((dk_bind (dk_u1 (h 1 _ rfl))).trans rfl))
theorem dk_188_10 {code : ByteArray} {pc : Nat} (h : DkAt code pc [188, 10]) : decode code pc = .ok (.newarray .int, 2) := dk_of ((dk_bind (dk_u1 (h 0 _ rfl))).trans ((dk_bind (dk_u1 (h 1 _ rfl))).trans rfl))
theorem dk_188_11 {code : ByteArray} {pc : Nat} (h : DkAt code pc [188, 11]) : decode code pc = .ok (.newarray .long, 2) := dk_of ((dk_bind (dk_u1 (h 0 _ rfl))).trans ((dk_bind (dk_u1 (h 1 _ rfl))).trans rfl))
theorem dk_189 {code : ByteArray} {pc : Nat} (a b : UInt8) (h : DkAt code pc [189, a, b]) : decode code pc = .ok (.anewarray (a.toNat * 256 + b.toNat), 3) := dk_of ((dk_bind (dk_u1 (h 0 _ rfl))).trans ((dk_bind (dk_u2 (h 1 _ rfl) (h 2 _ rfl))).trans rfl))
theorem dk_190 {code : ByteArray} {pc : Nat} (h : DkAt code pc [190]) : decode code pc = .ok (.arraylength, 1) := dk_of ((dk_bind (dk_u1 (h 0 _ rfl))).trans rfl)
theorem dk_191 {code : ByteArray} {pc : Nat} (h : DkAt code pc [191]) : decode code pc = .ok (.athrow, 1) := dk_of ((dk_bind (dk_u1 (h 0 _ rfl))).trans rfl)
theorem dk_192 {code : ByteArray} {pc : Nat} (a b : UInt8) (h : DkAt code pc [192, a, b]) : decode code pc = .ok (.checkcast (a.toNat * 256 + b.toNat), 3) := dk_of ((dk_bind (dk_u1 (h 0 _ rfl))).trans ((dk_bind (dk_u2 (h 1 _ rfl) (h 2 _ rfl))).trans rfl))
theorem dk_193 {code : ByteArray} {pc : Nat} (a b : UInt8) (h : DkAt code pc [193, a, b]) : decode code pc = .ok (.instanceof (a.toNat * 256 + b.toNat), 3) := dk_of ((dk_bind (dk_u1 (h 0 _ rfl))).trans ((dk_bind (dk_u2 (h 1 _ rfl) (h 2 _ rfl))).trans rfl))
theorem dk_198 {code : ByteArray} {pc : Nat} (a b : UInt8) (h : DkAt code pc [198, a, b]) : decode code pc = .ok (.ifnull (Reader.signed 16 (a.toNat * 256 + b.toNat)), 3) := dk_of ((dk_bind (dk_u1 (h 0 _ rfl))).trans ((dk_bind (dk_map (dk_u2 (h 1 _ rfl) (h 2 _ rfl)))).trans rfl))
theorem dk_199 {code : ByteArray} {pc : Nat} (a b : UInt8) (h : DkAt code pc [199, a, b]) : decode code pc = .ok (.ifnonnull (Reader.signed 16 (a.toNat * 256 + b.toNat)), 3) := dk_of ((dk_bind (dk_u1 (h 0 _ rfl))).trans ((dk_bind (dk_map (dk_u2 (h 1 _ rfl) (h 2 _ rfl)))).trans rfl))
/-! java/lang/Throwable -/
set_option maxRecDepth 100000
def RJ0 : String := "java/lang/Throwable"
def TJ0 : u_T := fun k => match k with
  | 0 => ("java/lang/Throwable", "cause", "Ljava/lang/Throwable;", false)
  | 1 => ("java/lang/Throwable", "stackTrace", "[Ljava/lang/StackTraceElement;", false)
  | 2 => ("java/lang/Throwable", "suppressedExceptions", "Ljava/util/List;", false)
  | 3 => ("java/lang/Throwable", "detailMessage", "Ljava/lang/String;", false)
  | _ => ("java/lang/Throwable", "backtrace", "Ljava/lang/Object;", false)
def tyJ0 : Nat → FieldType := fun k => match k with
  | 0 => .object "java/lang/Throwable"
  | 1 => .array (.object "java/lang/StackTraceElement")
  | 2 => .object "java/util/List"
  | 3 => .object "java/lang/String"
  | _ => .object "java/lang/Object"
abbrev wsJ00 : List Cond := u_ws RJ0 TJ0 5
theorem nmJ0 : ∀ a, a < 5 → ∀ b, b < 5 → a ≠ b → (TJ0 a).2.1 ≠ (TJ0 b).2.1 := by decide +kernel
theorem tyJ0_ok : ∀ k, k < 5 → parseFieldDescriptor (TJ0 k).2.2.1 = some (tyJ0 k) := by decide +kernel
abbrev cJ0_init : ByteArray := prog_40_method_1_code
def yJ0_init : MethodName := ⟨RJ0, "<init>", "()V"⟩
def dkwJ0_init_1 : List UInt8 := [182, 0, 27, 87, 177]
abbrev dktJ0_init_1 : List UInt8 := dkwJ0_init_1 ++ []
def dkwJ0_init_0 : List UInt8 := [42, 183, 0, 1, 42, 42, 181, 0, 7, 42, 178, 0, 13, 181, 0, 17, 42, 178, 0, 20, 181, 0, 24, 42]
abbrev dktJ0_init_0 : List UInt8 := dkwJ0_init_0 ++ dktJ0_init_1
theorem dksJ0_init_0 : cJ0_init.data.toList.drop 0 = dktJ0_init_0 := by decide +kernel
theorem dksJ0_init_1 : cJ0_init.data.toList.drop 24 = dktJ0_init_1 := dk_seg dksJ0_init_0 24 rfl rfl
theorem dJ0_init_0 : decode cJ0_init 0 = .ok (.aload_n 0, 1) := dk_42 (dk_at dksJ0_init_0 0 rfl rfl)
theorem dJ0_init_1 : decode cJ0_init 1 = .ok (.invokespecial 1, 3) := dk_183 0 1 (dk_at dksJ0_init_0 1 rfl rfl)
theorem dJ0_init_4 : decode cJ0_init 4 = .ok (.aload_n 0, 1) := dk_42 (dk_at dksJ0_init_0 4 rfl rfl)
theorem dJ0_init_5 : decode cJ0_init 5 = .ok (.aload_n 0, 1) := dk_42 (dk_at dksJ0_init_0 5 rfl rfl)
theorem dJ0_init_6 : decode cJ0_init 6 = .ok (.putfield 7, 3) := dk_181 0 7 (dk_at dksJ0_init_0 6 rfl rfl)
theorem dJ0_init_9 : decode cJ0_init 9 = .ok (.aload_n 0, 1) := dk_42 (dk_at dksJ0_init_0 9 rfl rfl)
theorem dJ0_init_10 : decode cJ0_init 10 = .ok (.getstatic 13, 3) := dk_178 0 13 (dk_at dksJ0_init_0 10 rfl rfl)
theorem dJ0_init_13 : decode cJ0_init 13 = .ok (.putfield 17, 3) := dk_181 0 17 (dk_at dksJ0_init_0 13 rfl rfl)
theorem dJ0_init_16 : decode cJ0_init 16 = .ok (.aload_n 0, 1) := dk_42 (dk_at dksJ0_init_0 16 rfl rfl)
theorem dJ0_init_17 : decode cJ0_init 17 = .ok (.getstatic 20, 3) := dk_178 0 20 (dk_at dksJ0_init_0 17 rfl rfl)
theorem dJ0_init_20 : decode cJ0_init 20 = .ok (.putfield 24, 3) := dk_181 0 24 (dk_at dksJ0_init_0 20 rfl rfl)
theorem dJ0_init_23 : decode cJ0_init 23 = .ok (.aload_n 0, 1) := dk_42 (dk_at dksJ0_init_0 23 rfl rfl)
theorem dJ0_init_24 : decode cJ0_init 24 = .ok (.invokevirtual 27, 3) := dk_182 0 27 (dk_at dksJ0_init_1 0 rfl rfl)
theorem dJ0_init_27 : decode cJ0_init 27 = .ok (.pop, 1) := dk_87 (dk_at dksJ0_init_1 3 rfl rfl)
theorem dJ0_init_28 : decode cJ0_init 28 = .ok (.return_, 1) := dk_177 (dk_at dksJ0_init_1 4 rfl rfl)
abbrev cJ0_init_2 : ByteArray := prog_40_method_5_code
def yJ0_init_2 : MethodName := ⟨RJ0, "<init>", "(Ljava/lang/String;Ljava/lang/Throwable;ZZ)V"⟩
def dkwJ0_init_2_2 : List UInt8 := [44, 181, 0, 7, 29, 154, 0, 8, 42, 1, 181, 0, 24, 177]
abbrev dktJ0_init_2_2 : List UInt8 := dkwJ0_init_2_2 ++ []
def dkwJ0_init_2_1 : List UInt8 := [21, 4, 153, 0, 11, 42, 182, 0, 27, 87, 167, 0, 8, 42, 1, 181, 0, 17, 42, 43, 181, 0, 31, 42]
abbrev dktJ0_init_2_1 : List UInt8 := dkwJ0_init_2_1 ++ dktJ0_init_2_2
def dkwJ0_init_2_0 : List UInt8 := [42, 183, 0, 1, 42, 42, 181, 0, 7, 42, 178, 0, 13, 181, 0, 17, 42, 178, 0, 20, 181, 0, 24]
abbrev dktJ0_init_2_0 : List UInt8 := dkwJ0_init_2_0 ++ dktJ0_init_2_1
theorem dksJ0_init_2_0 : cJ0_init_2.data.toList.drop 0 = dktJ0_init_2_0 := by decide +kernel
theorem dksJ0_init_2_1 : cJ0_init_2.data.toList.drop 23 = dktJ0_init_2_1 := dk_seg dksJ0_init_2_0 23 rfl rfl
theorem dksJ0_init_2_2 : cJ0_init_2.data.toList.drop 47 = dktJ0_init_2_2 := dk_seg dksJ0_init_2_1 24 rfl rfl
theorem dJ0_init_2_0 : decode cJ0_init_2 0 = .ok (.aload_n 0, 1) := dk_42 (dk_at dksJ0_init_2_0 0 rfl rfl)
theorem dJ0_init_2_1 : decode cJ0_init_2 1 = .ok (.invokespecial 1, 3) := dk_183 0 1 (dk_at dksJ0_init_2_0 1 rfl rfl)
theorem dJ0_init_2_4 : decode cJ0_init_2 4 = .ok (.aload_n 0, 1) := dk_42 (dk_at dksJ0_init_2_0 4 rfl rfl)
theorem dJ0_init_2_5 : decode cJ0_init_2 5 = .ok (.aload_n 0, 1) := dk_42 (dk_at dksJ0_init_2_0 5 rfl rfl)
theorem dJ0_init_2_6 : decode cJ0_init_2 6 = .ok (.putfield 7, 3) := dk_181 0 7 (dk_at dksJ0_init_2_0 6 rfl rfl)
theorem dJ0_init_2_9 : decode cJ0_init_2 9 = .ok (.aload_n 0, 1) := dk_42 (dk_at dksJ0_init_2_0 9 rfl rfl)
theorem dJ0_init_2_10 : decode cJ0_init_2 10 = .ok (.getstatic 13, 3) := dk_178 0 13 (dk_at dksJ0_init_2_0 10 rfl rfl)
theorem dJ0_init_2_13 : decode cJ0_init_2 13 = .ok (.putfield 17, 3) := dk_181 0 17 (dk_at dksJ0_init_2_0 13 rfl rfl)
theorem dJ0_init_2_16 : decode cJ0_init_2 16 = .ok (.aload_n 0, 1) := dk_42 (dk_at dksJ0_init_2_0 16 rfl rfl)
theorem dJ0_init_2_17 : decode cJ0_init_2 17 = .ok (.getstatic 20, 3) := dk_178 0 20 (dk_at dksJ0_init_2_0 17 rfl rfl)
theorem dJ0_init_2_20 : decode cJ0_init_2 20 = .ok (.putfield 24, 3) := dk_181 0 24 (dk_at dksJ0_init_2_0 20 rfl rfl)
theorem dJ0_init_2_23 : decode cJ0_init_2 23 = .ok (.iload 4, 2) := dk_21 4 (dk_at dksJ0_init_2_1 0 rfl rfl)
theorem dJ0_init_2_25 : decode cJ0_init_2 25 = .ok (.ifCond .eq 11, 3) := dk_153 0 11 (dk_at dksJ0_init_2_1 2 rfl rfl)
theorem dJ0_init_2_28 : decode cJ0_init_2 28 = .ok (.aload_n 0, 1) := dk_42 (dk_at dksJ0_init_2_1 5 rfl rfl)
theorem dJ0_init_2_29 : decode cJ0_init_2 29 = .ok (.invokevirtual 27, 3) := dk_182 0 27 (dk_at dksJ0_init_2_1 6 rfl rfl)
theorem dJ0_init_2_32 : decode cJ0_init_2 32 = .ok (.pop, 1) := dk_87 (dk_at dksJ0_init_2_1 9 rfl rfl)
theorem dJ0_init_2_33 : decode cJ0_init_2 33 = .ok (.goto 8, 3) := dk_167 0 8 (dk_at dksJ0_init_2_1 10 rfl rfl)
theorem dJ0_init_2_36 : decode cJ0_init_2 36 = .ok (.aload_n 0, 1) := dk_42 (dk_at dksJ0_init_2_1 13 rfl rfl)
theorem dJ0_init_2_37 : decode cJ0_init_2 37 = .ok (.aconst_null, 1) := dk_1 (dk_at dksJ0_init_2_1 14 rfl rfl)
theorem dJ0_init_2_38 : decode cJ0_init_2 38 = .ok (.putfield 17, 3) := dk_181 0 17 (dk_at dksJ0_init_2_1 15 rfl rfl)
theorem dJ0_init_2_41 : decode cJ0_init_2 41 = .ok (.aload_n 0, 1) := dk_42 (dk_at dksJ0_init_2_1 18 rfl rfl)
theorem dJ0_init_2_42 : decode cJ0_init_2 42 = .ok (.aload_n 1, 1) := dk_43 (dk_at dksJ0_init_2_1 19 rfl rfl)
theorem dJ0_init_2_43 : decode cJ0_init_2 43 = .ok (.putfield 31, 3) := dk_181 0 31 (dk_at dksJ0_init_2_1 20 rfl rfl)
theorem dJ0_init_2_46 : decode cJ0_init_2 46 = .ok (.aload_n 0, 1) := dk_42 (dk_at dksJ0_init_2_1 23 rfl rfl)
theorem dJ0_init_2_47 : decode cJ0_init_2 47 = .ok (.aload_n 2, 1) := dk_44 (dk_at dksJ0_init_2_2 0 rfl rfl)
theorem dJ0_init_2_48 : decode cJ0_init_2 48 = .ok (.putfield 7, 3) := dk_181 0 7 (dk_at dksJ0_init_2_2 1 rfl rfl)
theorem dJ0_init_2_51 : decode cJ0_init_2 51 = .ok (.iload_n 3, 1) := dk_29 (dk_at dksJ0_init_2_2 4 rfl rfl)
theorem dJ0_init_2_52 : decode cJ0_init_2 52 = .ok (.ifCond .ne 8, 3) := dk_154 0 8 (dk_at dksJ0_init_2_2 5 rfl rfl)
theorem dJ0_init_2_55 : decode cJ0_init_2 55 = .ok (.aload_n 0, 1) := dk_42 (dk_at dksJ0_init_2_2 8 rfl rfl)
theorem dJ0_init_2_56 : decode cJ0_init_2 56 = .ok (.aconst_null, 1) := dk_1 (dk_at dksJ0_init_2_2 9 rfl rfl)
theorem dJ0_init_2_57 : decode cJ0_init_2 57 = .ok (.putfield 24, 3) := dk_181 0 24 (dk_at dksJ0_init_2_2 10 rfl rfl)
theorem dJ0_init_2_60 : decode cJ0_init_2 60 = .ok (.return_, 1) := dk_177 (dk_at dksJ0_init_2_2 13 rfl rfl)
abbrev cJ0_init_3 : ByteArray := prog_40_method_2_code
def yJ0_init_3 : MethodName := ⟨RJ0, "<init>", "(Ljava/lang/String;)V"⟩
def dkwJ0_init_3_1 : List UInt8 := [182, 0, 27, 87, 42, 43, 181, 0, 31, 177]
abbrev dktJ0_init_3_1 : List UInt8 := dkwJ0_init_3_1 ++ []
def dkwJ0_init_3_0 : List UInt8 := [42, 183, 0, 1, 42, 42, 181, 0, 7, 42, 178, 0, 13, 181, 0, 17, 42, 178, 0, 20, 181, 0, 24, 42]
abbrev dktJ0_init_3_0 : List UInt8 := dkwJ0_init_3_0 ++ dktJ0_init_3_1
theorem dksJ0_init_3_0 : cJ0_init_3.data.toList.drop 0 = dktJ0_init_3_0 := by decide +kernel
theorem dksJ0_init_3_1 : cJ0_init_3.data.toList.drop 24 = dktJ0_init_3_1 := dk_seg dksJ0_init_3_0 24 rfl rfl
theorem dJ0_init_3_0 : decode cJ0_init_3 0 = .ok (.aload_n 0, 1) := dk_42 (dk_at dksJ0_init_3_0 0 rfl rfl)
theorem dJ0_init_3_1 : decode cJ0_init_3 1 = .ok (.invokespecial 1, 3) := dk_183 0 1 (dk_at dksJ0_init_3_0 1 rfl rfl)
theorem dJ0_init_3_4 : decode cJ0_init_3 4 = .ok (.aload_n 0, 1) := dk_42 (dk_at dksJ0_init_3_0 4 rfl rfl)
theorem dJ0_init_3_5 : decode cJ0_init_3 5 = .ok (.aload_n 0, 1) := dk_42 (dk_at dksJ0_init_3_0 5 rfl rfl)
theorem dJ0_init_3_6 : decode cJ0_init_3 6 = .ok (.putfield 7, 3) := dk_181 0 7 (dk_at dksJ0_init_3_0 6 rfl rfl)
theorem dJ0_init_3_9 : decode cJ0_init_3 9 = .ok (.aload_n 0, 1) := dk_42 (dk_at dksJ0_init_3_0 9 rfl rfl)
theorem dJ0_init_3_10 : decode cJ0_init_3 10 = .ok (.getstatic 13, 3) := dk_178 0 13 (dk_at dksJ0_init_3_0 10 rfl rfl)
theorem dJ0_init_3_13 : decode cJ0_init_3 13 = .ok (.putfield 17, 3) := dk_181 0 17 (dk_at dksJ0_init_3_0 13 rfl rfl)
theorem dJ0_init_3_16 : decode cJ0_init_3 16 = .ok (.aload_n 0, 1) := dk_42 (dk_at dksJ0_init_3_0 16 rfl rfl)
theorem dJ0_init_3_17 : decode cJ0_init_3 17 = .ok (.getstatic 20, 3) := dk_178 0 20 (dk_at dksJ0_init_3_0 17 rfl rfl)
theorem dJ0_init_3_20 : decode cJ0_init_3 20 = .ok (.putfield 24, 3) := dk_181 0 24 (dk_at dksJ0_init_3_0 20 rfl rfl)
theorem dJ0_init_3_23 : decode cJ0_init_3 23 = .ok (.aload_n 0, 1) := dk_42 (dk_at dksJ0_init_3_0 23 rfl rfl)
theorem dJ0_init_3_24 : decode cJ0_init_3 24 = .ok (.invokevirtual 27, 3) := dk_182 0 27 (dk_at dksJ0_init_3_1 0 rfl rfl)
theorem dJ0_init_3_27 : decode cJ0_init_3 27 = .ok (.pop, 1) := dk_87 (dk_at dksJ0_init_3_1 3 rfl rfl)
theorem dJ0_init_3_28 : decode cJ0_init_3 28 = .ok (.aload_n 0, 1) := dk_42 (dk_at dksJ0_init_3_1 4 rfl rfl)
theorem dJ0_init_3_29 : decode cJ0_init_3 29 = .ok (.aload_n 1, 1) := dk_43 (dk_at dksJ0_init_3_1 5 rfl rfl)
theorem dJ0_init_3_30 : decode cJ0_init_3 30 = .ok (.putfield 31, 3) := dk_181 0 31 (dk_at dksJ0_init_3_1 6 rfl rfl)
theorem dJ0_init_3_33 : decode cJ0_init_3 33 = .ok (.return_, 1) := dk_177 (dk_at dksJ0_init_3_1 9 rfl rfl)
theorem q103 : (Jvm.Cond.initialized "java/lang/Throwable") ∈ lw_all := lw_g (lw_at lw_m1 2 rfl) rfl
theorem q153 : (Jvm.Cond.declares ({ cls := "java/lang/Throwable", name := "<init>", desc := "()V" } : Jvm.MethodName)) ∈ lw_tbl := lw_at lw_m1 52 rfl
theorem q154 : (Jvm.Cond.declares ({ cls := "java/lang/Throwable", name := "<init>", desc := "(Ljava/lang/String;)V" } : Jvm.MethodName)) ∈ lw_tbl := lw_at lw_m1 53 rfl
theorem q158 : (Jvm.Cond.lays "java/lang/Throwable" "java/lang/Throwable" "cause" "Ljava/lang/Throwable;") ∈ lw_all := lw_g (lw_at lw_m1 57 rfl) rfl
theorem q160 : (Jvm.Cond.lays "java/lang/Throwable" "java/lang/Throwable" "stackTrace" "[Ljava/lang/StackTraceElement;") ∈ lw_all := lw_g (lw_at lw_m1 59 rfl) rfl
theorem q162 : (Jvm.Cond.lays "java/lang/Throwable" "java/lang/Throwable" "suppressedExceptions" "Ljava/util/List;") ∈ lw_all := lw_g (lw_at lw_m1 61 rfl) rfl
theorem q164 : (Jvm.Cond.lays "java/lang/Throwable" "java/lang/Throwable" "detailMessage" "Ljava/lang/String;") ∈ lw_all := lw_g (lw_at lw_m1 63 rfl) rfl
theorem q166 : (Jvm.Cond.lays "java/lang/Throwable" "java/lang/Throwable" "backtrace" "Ljava/lang/Object;") ∈ lw_all := lw_g (lw_at lw_m1 65 rfl) rfl
theorem q167 : (Jvm.Cond.fieldLink "java/lang/Throwable" (198 : Nat) "java/lang/Throwable" "backtrace" "Ljava/lang/Object;") ∈ lw_all := lw_g (lw_at lw_m1 66 rfl) rfl
theorem q168 : (Jvm.Cond.superclass "java/lang/Throwable" "java/lang/Object") ∈ lw_all := lw_g (lw_at lw_m1 67 rfl) rfl
theorem q169 : (Jvm.Cond.instanceMethod ({ cls := "java/lang/Throwable", name := "<init>", desc := "()V" } : Jvm.MethodName)) ∈ lw_all := lw_g (lw_at lw_m1 68 rfl) rfl
theorem q170 : (Jvm.Cond.code ({ cls := "java/lang/Throwable", name := "<init>", desc := "()V" } : Jvm.MethodName) prog_40_method_1_code (1 : Nat) (Option.none : Option Jvm.ClassFile.FieldType)) ∈ lw_all := lw_g (lw_at lw_m1 69 rfl) rfl
theorem q171 : (Jvm.Cond.methodLink "java/lang/Throwable" (1 : Nat) ({ cls := "java/lang/Object", name := "<init>", desc := "()V" } : Jvm.MethodName)) ∈ lw_all := lw_g (lw_at lw_m1 70 rfl) rfl
theorem q172 : (Jvm.Cond.fieldLink "java/lang/Throwable" (13 : Nat) "java/lang/Throwable" "UNASSIGNED_STACK" "[Ljava/lang/StackTraceElement;") ∈ lw_all := lw_g (lw_at lw_m1 71 rfl) rfl
theorem q173 : (Jvm.Cond.laysStatic "java/lang/Throwable" "UNASSIGNED_STACK" "[Ljava/lang/StackTraceElement;") ∈ lw_tbl := lw_at lw_m1 72 rfl
theorem q174 : (Jvm.Cond.fieldLink "java/lang/Throwable" (20 : Nat) "java/lang/Throwable" "SUPPRESSED_SENTINEL" "Ljava/util/List;") ∈ lw_all := lw_g (lw_at lw_m1 73 rfl) rfl
theorem q175 : (Jvm.Cond.laysStatic "java/lang/Throwable" "SUPPRESSED_SENTINEL" "Ljava/util/List;") ∈ lw_tbl := lw_at lw_m1 74 rfl
theorem q176 : (Jvm.Cond.methodLink "java/lang/Throwable" (27 : Nat) ({ cls := "java/lang/Throwable", name := "fillInStackTrace", desc := "()Ljava/lang/Throwable;" } : Jvm.MethodName)) ∈ lw_all := lw_g (lw_at lw_m1 75 rfl) rfl
theorem q177 : (Jvm.Cond.instanceMethod ({ cls := "java/lang/Throwable", name := "fillInStackTrace", desc := "()Ljava/lang/Throwable;" } : Jvm.MethodName)) ∈ lw_all := lw_g (lw_at lw_m1 76 rfl) rfl
theorem q178 : (Jvm.Cond.sameMethod "java/lang/Throwable" "java/lang/Throwable" "fillInStackTrace" "()Ljava/lang/Throwable;") ∈ lw_all := lw_g (lw_at lw_m1 77 rfl) rfl
theorem q196 : (Jvm.Cond.declares ({ cls := "java/lang/Throwable", name := "fillInStackTrace", desc := "()Ljava/lang/Throwable;" } : Jvm.MethodName)) ∈ lw_tbl := lw_at lw_m1 95 rfl
theorem q200 : (Jvm.Cond.codeSync ({ cls := "java/lang/Throwable", name := "fillInStackTrace", desc := "()Ljava/lang/Throwable;" } : Jvm.MethodName) prog_40_method_18_code (1 : Nat) (Option.some (Jvm.ClassFile.FieldType.object "java/lang/Throwable"))) ∈ lw_all := lw_g (lw_at lw_m1 99 rfl) rfl
theorem q201 : (Jvm.Cond.methodLink "java/lang/Throwable" (202 : Nat) ({ cls := "java/lang/Throwable", name := "fillInStackTrace", desc := "(I)Ljava/lang/Throwable;" } : Jvm.MethodName)) ∈ lw_all := lw_g (lw_at lw_m1 100 rfl) rfl
theorem q202 : (Jvm.Cond.privateMethod ({ cls := "java/lang/Throwable", name := "fillInStackTrace", desc := "(I)Ljava/lang/Throwable;" } : Jvm.MethodName)) ∈ lw_tbl := lw_at lw_m1 101 rfl
theorem q203 : (Jvm.Cond.instanceMethod ({ cls := "java/lang/Throwable", name := "fillInStackTrace", desc := "(I)Ljava/lang/Throwable;" } : Jvm.MethodName)) ∈ lw_all := lw_g (lw_at lw_m1 102 rfl) rfl
theorem q204 : (Jvm.Cond.instantiable "java/lang/Throwable" (6 : Nat)) ∈ lw_all := lw_g (lw_at lw_m1 103 rfl) rfl
theorem q205 : (Jvm.Cond.native ({ cls := "java/lang/Throwable", name := "fillInStackTrace", desc := "(I)Ljava/lang/Throwable;" } : Jvm.MethodName)) ∈ lw_all := lw_g (lw_at lw_m1 104 rfl) rfl
theorem q216 : (Jvm.Cond.instanceMethod ({ cls := "java/lang/Throwable", name := "<init>", desc := "(Ljava/lang/String;Ljava/lang/Throwable;ZZ)V" } : Jvm.MethodName)) ∈ lw_all := lw_g (lw_at lw_m1 115 rfl) rfl
theorem q217 : (Jvm.Cond.code ({ cls := "java/lang/Throwable", name := "<init>", desc := "(Ljava/lang/String;Ljava/lang/Throwable;ZZ)V" } : Jvm.MethodName) prog_40_method_5_code (5 : Nat) (Option.none : Option Jvm.ClassFile.FieldType)) ∈ lw_all := lw_g (lw_at lw_m1 116 rfl) rfl
theorem q222 : (Jvm.Cond.fieldLink "java/lang/Throwable" (198 : Nat) "java/lang/Throwable" "backtrace" "Ljava/lang/Object;") ∈ lw_all := lw_g (lw_at lw_m1 121 rfl) rfl
theorem q223 : (Jvm.Cond.fieldLink "java/lang/Throwable" (31 : Nat) "java/lang/Throwable" "detailMessage" "Ljava/lang/String;") ∈ lw_all := lw_g (lw_at lw_m1 122 rfl) rfl
theorem q224 : (Jvm.Cond.fieldLink "java/lang/Throwable" (7 : Nat) "java/lang/Throwable" "cause" "Ljava/lang/Throwable;") ∈ lw_all := lw_g (lw_at lw_m1 123 rfl) rfl
theorem q225 : (Jvm.Cond.fieldLink "java/lang/Throwable" (17 : Nat) "java/lang/Throwable" "stackTrace" "[Ljava/lang/StackTraceElement;") ∈ lw_all := lw_g (lw_at lw_m1 124 rfl) rfl
theorem q226 : (Jvm.Cond.fieldLink "java/lang/Throwable" (24 : Nat) "java/lang/Throwable" "suppressedExceptions" "Ljava/util/List;") ∈ lw_all := lw_g (lw_at lw_m1 125 rfl) rfl
theorem q229 : (Jvm.Cond.soleField "java/lang/Throwable" "backtrace") ∈ lw_all := lw_g (lw_at lw_m1 128 rfl) rfl
theorem q230 : (Jvm.Cond.soleField "java/lang/Throwable" "detailMessage") ∈ lw_all := lw_g (lw_at lw_m1 129 rfl) rfl
theorem q231 : (Jvm.Cond.soleField "java/lang/Throwable" "cause") ∈ lw_all := lw_g (lw_at lw_m1 130 rfl) rfl
theorem q232 : (Jvm.Cond.soleField "java/lang/Throwable" "stackTrace") ∈ lw_all := lw_g (lw_at lw_m1 131 rfl) rfl
theorem q234 : (Jvm.Cond.soleField "java/lang/Throwable" "depth") ∈ lw_all := lw_g (lw_at lw_m1 133 rfl) rfl
theorem q235 : (Jvm.Cond.soleField "java/lang/Throwable" "suppressedExceptions") ∈ lw_all := lw_g (lw_at lw_m1 134 rfl) rfl
theorem q528 : (Jvm.Cond.instanceMethod ({ cls := "java/lang/Throwable", name := "<init>", desc := "(Ljava/lang/String;)V" } : Jvm.MethodName)) ∈ lw_all := lw_g (lw_at lw_m2 187 rfl) rfl
theorem q529 : (Jvm.Cond.code ({ cls := "java/lang/Throwable", name := "<init>", desc := "(Ljava/lang/String;)V" } : Jvm.MethodName) prog_40_method_2_code (2 : Nat) (Option.none : Option Jvm.ClassFile.FieldType)) ∈ lw_all := lw_g (lw_at lw_m2 188 rfl) rfl
theorem q2154 : (Jvm.Cond.sameMethod "java/lang/Throwable" "java/lang/Throwable" "fillInStackTrace" "(I)Ljava/lang/Throwable;") ∈ lw_all := lw_g (lw_at lw_m9 133 rfl) rfl
theorem in_J0 : ∀ w ∈ wsJ00, w ∈ lw_all := lw_in wsJ00 [158, 160, 162, 164, 166] (by decide +kernel) (by decide +kernel)
/-! java/lang/Exception -/
set_option maxRecDepth 100000
def RJ1 : String := "java/lang/Exception"
abbrev cJ1_init : ByteArray := prog_29_method_5_code
def yJ1_init : MethodName := ⟨RJ1, "<init>", "(Ljava/lang/String;Ljava/lang/Throwable;ZZ)V"⟩
def dkwJ1_init_0 : List UInt8 := [42, 43, 44, 29, 21, 4, 183, 0, 16, 177]
abbrev dktJ1_init_0 : List UInt8 := dkwJ1_init_0 ++ []
theorem dksJ1_init_0 : cJ1_init.data.toList.drop 0 = dktJ1_init_0 := by decide +kernel
theorem dJ1_init_0 : decode cJ1_init 0 = .ok (.aload_n 0, 1) := dk_42 (dk_at dksJ1_init_0 0 rfl rfl)
theorem dJ1_init_1 : decode cJ1_init 1 = .ok (.aload_n 1, 1) := dk_43 (dk_at dksJ1_init_0 1 rfl rfl)
theorem dJ1_init_2 : decode cJ1_init 2 = .ok (.aload_n 2, 1) := dk_44 (dk_at dksJ1_init_0 2 rfl rfl)
theorem dJ1_init_3 : decode cJ1_init 3 = .ok (.iload_n 3, 1) := dk_29 (dk_at dksJ1_init_0 3 rfl rfl)
theorem dJ1_init_4 : decode cJ1_init 4 = .ok (.iload 4, 2) := dk_21 4 (dk_at dksJ1_init_0 4 rfl rfl)
theorem dJ1_init_6 : decode cJ1_init 6 = .ok (.invokespecial 16, 3) := dk_183 0 16 (dk_at dksJ1_init_0 6 rfl rfl)
theorem dJ1_init_9 : decode cJ1_init 9 = .ok (.return_, 1) := dk_177 (dk_at dksJ1_init_0 9 rfl rfl)
abbrev cJ1_init_2 : ByteArray := prog_29_method_2_code
def yJ1_init_2 : MethodName := ⟨RJ1, "<init>", "(Ljava/lang/String;)V"⟩
def dkwJ1_init_2_0 : List UInt8 := [42, 43, 183, 0, 7, 177]
abbrev dktJ1_init_2_0 : List UInt8 := dkwJ1_init_2_0 ++ []
theorem dksJ1_init_2_0 : cJ1_init_2.data.toList.drop 0 = dktJ1_init_2_0 := by decide +kernel
theorem dJ1_init_2_0 : decode cJ1_init_2 0 = .ok (.aload_n 0, 1) := dk_42 (dk_at dksJ1_init_2_0 0 rfl rfl)
theorem dJ1_init_2_1 : decode cJ1_init_2 1 = .ok (.aload_n 1, 1) := dk_43 (dk_at dksJ1_init_2_0 1 rfl rfl)
theorem dJ1_init_2_2 : decode cJ1_init_2 2 = .ok (.invokespecial 7, 3) := dk_183 0 7 (dk_at dksJ1_init_2_0 2 rfl rfl)
theorem dJ1_init_2_5 : decode cJ1_init_2 5 = .ok (.return_, 1) := dk_177 (dk_at dksJ1_init_2_0 5 rfl rfl)
abbrev cJ1_init_3 : ByteArray := prog_29_method_1_code
def yJ1_init_3 : MethodName := ⟨RJ1, "<init>", "()V"⟩
theorem dJ1_init_3_0 : decode cJ1_init_3 0 = .ok (.aload_n 0, 1) := by decide +kernel
theorem dJ1_init_3_1 : decode cJ1_init_3 1 = .ok (.invokespecial 1, 3) := by decide +kernel
theorem dJ1_init_3_4 : decode cJ1_init_3 4 = .ok (.return_, 1) := by decide +kernel
theorem q104 : (Jvm.Cond.initialized "java/lang/Exception") ∈ lw_all := lw_g (lw_at lw_m1 3 rfl) rfl
theorem q151 : (Jvm.Cond.declares ({ cls := "java/lang/Exception", name := "<init>", desc := "()V" } : Jvm.MethodName)) ∈ lw_tbl := lw_at lw_m1 50 rfl
theorem q152 : (Jvm.Cond.declares ({ cls := "java/lang/Exception", name := "<init>", desc := "(Ljava/lang/String;)V" } : Jvm.MethodName)) ∈ lw_tbl := lw_at lw_m1 51 rfl
theorem q199 : (Jvm.Cond.superclass "java/lang/Exception" "java/lang/Throwable") ∈ lw_all := lw_g (lw_at lw_m1 98 rfl) rfl
theorem q213 : (Jvm.Cond.instanceMethod ({ cls := "java/lang/Exception", name := "<init>", desc := "(Ljava/lang/String;Ljava/lang/Throwable;ZZ)V" } : Jvm.MethodName)) ∈ lw_all := lw_g (lw_at lw_m1 112 rfl) rfl
theorem q214 : (Jvm.Cond.code ({ cls := "java/lang/Exception", name := "<init>", desc := "(Ljava/lang/String;Ljava/lang/Throwable;ZZ)V" } : Jvm.MethodName) prog_29_method_5_code (5 : Nat) (Option.none : Option Jvm.ClassFile.FieldType)) ∈ lw_all := lw_g (lw_at lw_m1 113 rfl) rfl
theorem q215 : (Jvm.Cond.methodLink "java/lang/Exception" (16 : Nat) ({ cls := "java/lang/Throwable", name := "<init>", desc := "(Ljava/lang/String;Ljava/lang/Throwable;ZZ)V" } : Jvm.MethodName)) ∈ lw_all := lw_g (lw_at lw_m1 114 rfl) rfl
theorem q525 : (Jvm.Cond.instanceMethod ({ cls := "java/lang/Exception", name := "<init>", desc := "(Ljava/lang/String;)V" } : Jvm.MethodName)) ∈ lw_all := lw_g (lw_at lw_m2 184 rfl) rfl
theorem q526 : (Jvm.Cond.code ({ cls := "java/lang/Exception", name := "<init>", desc := "(Ljava/lang/String;)V" } : Jvm.MethodName) prog_29_method_2_code (2 : Nat) (Option.none : Option Jvm.ClassFile.FieldType)) ∈ lw_all := lw_g (lw_at lw_m2 185 rfl) rfl
theorem q527 : (Jvm.Cond.methodLink "java/lang/Exception" (7 : Nat) ({ cls := "java/lang/Throwable", name := "<init>", desc := "(Ljava/lang/String;)V" } : Jvm.MethodName)) ∈ lw_all := lw_g (lw_at lw_m2 186 rfl) rfl
theorem q1245 : (Jvm.Cond.instanceMethod ({ cls := "java/lang/Exception", name := "<init>", desc := "()V" } : Jvm.MethodName)) ∈ lw_all := lw_g (lw_at lw_m5 184 rfl) rfl
theorem q1246 : (Jvm.Cond.code ({ cls := "java/lang/Exception", name := "<init>", desc := "()V" } : Jvm.MethodName) prog_29_method_1_code (1 : Nat) (Option.none : Option Jvm.ClassFile.FieldType)) ∈ lw_all := lw_g (lw_at lw_m5 185 rfl) rfl
theorem q1247 : (Jvm.Cond.methodLink "java/lang/Exception" (1 : Nat) ({ cls := "java/lang/Throwable", name := "<init>", desc := "()V" } : Jvm.MethodName)) ∈ lw_all := lw_g (lw_at lw_m5 186 rfl) rfl
/-! java/lang/RuntimeException -/
set_option maxRecDepth 100000
def RJ2 : String := "java/lang/RuntimeException"
abbrev cJ2_init : ByteArray := prog_35_method_5_code
def yJ2_init : MethodName := ⟨RJ2, "<init>", "(Ljava/lang/String;Ljava/lang/Throwable;ZZ)V"⟩
def dkwJ2_init_0 : List UInt8 := [42, 43, 44, 29, 21, 4, 183, 0, 16, 177]
abbrev dktJ2_init_0 : List UInt8 := dkwJ2_init_0 ++ []
theorem dksJ2_init_0 : cJ2_init.data.toList.drop 0 = dktJ2_init_0 := by decide +kernel
theorem dJ2_init_0 : decode cJ2_init 0 = .ok (.aload_n 0, 1) := dk_42 (dk_at dksJ2_init_0 0 rfl rfl)
theorem dJ2_init_1 : decode cJ2_init 1 = .ok (.aload_n 1, 1) := dk_43 (dk_at dksJ2_init_0 1 rfl rfl)
theorem dJ2_init_2 : decode cJ2_init 2 = .ok (.aload_n 2, 1) := dk_44 (dk_at dksJ2_init_0 2 rfl rfl)
theorem dJ2_init_3 : decode cJ2_init 3 = .ok (.iload_n 3, 1) := dk_29 (dk_at dksJ2_init_0 3 rfl rfl)
theorem dJ2_init_4 : decode cJ2_init 4 = .ok (.iload 4, 2) := dk_21 4 (dk_at dksJ2_init_0 4 rfl rfl)
theorem dJ2_init_6 : decode cJ2_init 6 = .ok (.invokespecial 16, 3) := dk_183 0 16 (dk_at dksJ2_init_0 6 rfl rfl)
theorem dJ2_init_9 : decode cJ2_init 9 = .ok (.return_, 1) := dk_177 (dk_at dksJ2_init_0 9 rfl rfl)
abbrev cJ2_init_2 : ByteArray := prog_35_method_2_code
def yJ2_init_2 : MethodName := ⟨RJ2, "<init>", "(Ljava/lang/String;)V"⟩
def dkwJ2_init_2_0 : List UInt8 := [42, 43, 183, 0, 7, 177]
abbrev dktJ2_init_2_0 : List UInt8 := dkwJ2_init_2_0 ++ []
theorem dksJ2_init_2_0 : cJ2_init_2.data.toList.drop 0 = dktJ2_init_2_0 := by decide +kernel
theorem dJ2_init_2_0 : decode cJ2_init_2 0 = .ok (.aload_n 0, 1) := dk_42 (dk_at dksJ2_init_2_0 0 rfl rfl)
theorem dJ2_init_2_1 : decode cJ2_init_2 1 = .ok (.aload_n 1, 1) := dk_43 (dk_at dksJ2_init_2_0 1 rfl rfl)
theorem dJ2_init_2_2 : decode cJ2_init_2 2 = .ok (.invokespecial 7, 3) := dk_183 0 7 (dk_at dksJ2_init_2_0 2 rfl rfl)
theorem dJ2_init_2_5 : decode cJ2_init_2 5 = .ok (.return_, 1) := dk_177 (dk_at dksJ2_init_2_0 5 rfl rfl)
abbrev cJ2_init_3 : ByteArray := prog_35_method_1_code
def yJ2_init_3 : MethodName := ⟨RJ2, "<init>", "()V"⟩
theorem dJ2_init_3_0 : decode cJ2_init_3 0 = .ok (.aload_n 0, 1) := by decide +kernel
theorem dJ2_init_3_1 : decode cJ2_init_3 1 = .ok (.invokespecial 1, 3) := by decide +kernel
theorem dJ2_init_3_4 : decode cJ2_init_3 4 = .ok (.return_, 1) := by decide +kernel
theorem q105 : (Jvm.Cond.initialized "java/lang/RuntimeException") ∈ lw_all := lw_g (lw_at lw_m1 4 rfl) rfl
theorem q149 : (Jvm.Cond.declares ({ cls := "java/lang/RuntimeException", name := "<init>", desc := "()V" } : Jvm.MethodName)) ∈ lw_tbl := lw_at lw_m1 48 rfl
theorem q150 : (Jvm.Cond.declares ({ cls := "java/lang/RuntimeException", name := "<init>", desc := "(Ljava/lang/String;)V" } : Jvm.MethodName)) ∈ lw_tbl := lw_at lw_m1 49 rfl
theorem q195 : (Jvm.Cond.sameMethod "java/lang/RuntimeException" "java/lang/Throwable" "fillInStackTrace" "()Ljava/lang/Throwable;") ∈ lw_all := lw_g (lw_at lw_m1 94 rfl) rfl
theorem q198 : (Jvm.Cond.superclass "java/lang/RuntimeException" "java/lang/Exception") ∈ lw_all := lw_g (lw_at lw_m1 97 rfl) rfl
theorem q210 : (Jvm.Cond.instanceMethod ({ cls := "java/lang/RuntimeException", name := "<init>", desc := "(Ljava/lang/String;Ljava/lang/Throwable;ZZ)V" } : Jvm.MethodName)) ∈ lw_all := lw_g (lw_at lw_m1 109 rfl) rfl
theorem q211 : (Jvm.Cond.code ({ cls := "java/lang/RuntimeException", name := "<init>", desc := "(Ljava/lang/String;Ljava/lang/Throwable;ZZ)V" } : Jvm.MethodName) prog_35_method_5_code (5 : Nat) (Option.none : Option Jvm.ClassFile.FieldType)) ∈ lw_all := lw_g (lw_at lw_m1 110 rfl) rfl
theorem q212 : (Jvm.Cond.methodLink "java/lang/RuntimeException" (16 : Nat) ({ cls := "java/lang/Exception", name := "<init>", desc := "(Ljava/lang/String;Ljava/lang/Throwable;ZZ)V" } : Jvm.MethodName)) ∈ lw_all := lw_g (lw_at lw_m1 111 rfl) rfl
theorem q522 : (Jvm.Cond.instanceMethod ({ cls := "java/lang/RuntimeException", name := "<init>", desc := "(Ljava/lang/String;)V" } : Jvm.MethodName)) ∈ lw_all := lw_g (lw_at lw_m2 181 rfl) rfl
theorem q523 : (Jvm.Cond.code ({ cls := "java/lang/RuntimeException", name := "<init>", desc := "(Ljava/lang/String;)V" } : Jvm.MethodName) prog_35_method_2_code (2 : Nat) (Option.none : Option Jvm.ClassFile.FieldType)) ∈ lw_all := lw_g (lw_at lw_m2 182 rfl) rfl
theorem q524 : (Jvm.Cond.methodLink "java/lang/RuntimeException" (7 : Nat) ({ cls := "java/lang/Exception", name := "<init>", desc := "(Ljava/lang/String;)V" } : Jvm.MethodName)) ∈ lw_all := lw_g (lw_at lw_m2 183 rfl) rfl
theorem q1242 : (Jvm.Cond.instanceMethod ({ cls := "java/lang/RuntimeException", name := "<init>", desc := "()V" } : Jvm.MethodName)) ∈ lw_all := lw_g (lw_at lw_m5 181 rfl) rfl
theorem q1243 : (Jvm.Cond.code ({ cls := "java/lang/RuntimeException", name := "<init>", desc := "()V" } : Jvm.MethodName) prog_35_method_1_code (1 : Nat) (Option.none : Option Jvm.ClassFile.FieldType)) ∈ lw_all := lw_g (lw_at lw_m5 182 rfl) rfl
theorem q1244 : (Jvm.Cond.methodLink "java/lang/RuntimeException" (1 : Nat) ({ cls := "java/lang/Exception", name := "<init>", desc := "()V" } : Jvm.MethodName)) ∈ lw_all := lw_g (lw_at lw_m5 183 rfl) rfl
theorem q1262 : (Jvm.Cond.castable "java/lang/RuntimeException" "java/lang/Throwable") ∈ lw_tbl := lw_at lw_m5 201 rfl
/-! TwoSidedTables$Refusal -/
set_option maxRecDepth 100000
def RX1 : String := "TwoSidedTables$Refusal"
def TX1 : u_T := fun k => match k with
  | 0 => ("java/lang/Throwable", "cause", "Ljava/lang/Throwable;", false)
  | 1 => ("java/lang/Throwable", "stackTrace", "[Ljava/lang/StackTraceElement;", false)
  | 2 => ("java/lang/Throwable", "suppressedExceptions", "Ljava/util/List;", false)
  | 3 => ("java/lang/Throwable", "detailMessage", "Ljava/lang/String;", false)
  | 4 => ("java/lang/Throwable", "backtrace", "Ljava/lang/Object;", false)
  | 5 => ("java/lang/Throwable", "depth", "I", false)
  | _ => ("TwoSidedTables$Refusal", "answer", "I", false)
def tyX1 : Nat → FieldType := fun k => match k with
  | 0 => .object "java/lang/Throwable"
  | 1 => .array (.object "java/lang/StackTraceElement")
  | 2 => .object "java/util/List"
  | 3 => .object "java/lang/String"
  | 4 => .object "java/lang/Object"
  | 5 => .int
  | _ => .int
abbrev wsX10 : List Cond := u_ws RX1 TX1 7
theorem nmX1 : ∀ a, a < 7 → ∀ b, b < 7 → a ≠ b → (TX1 a).2.1 ≠ (TX1 b).2.1 := by decide +kernel
theorem tyX1_ok : ∀ k, k < 7 → parseFieldDescriptor (TX1 k).2.2.1 = some (tyX1 k) := by decide +kernel
abbrev cX1_init : ByteArray := prog_13_method_1_code
def yX1_init : MethodName := ⟨RX1, "<init>", "()V"⟩
def dkwX1_init_0 : List UInt8 := [42, 1, 1, 3, 3, 183, 0, 1, 177]
abbrev dktX1_init_0 : List UInt8 := dkwX1_init_0 ++ []
theorem dksX1_init_0 : cX1_init.data.toList.drop 0 = dktX1_init_0 := by decide +kernel
theorem dX1_init_0 : decode cX1_init 0 = .ok (.aload_n 0, 1) := dk_42 (dk_at dksX1_init_0 0 rfl rfl)
theorem dX1_init_1 : decode cX1_init 1 = .ok (.aconst_null, 1) := dk_1 (dk_at dksX1_init_0 1 rfl rfl)
theorem dX1_init_2 : decode cX1_init 2 = .ok (.aconst_null, 1) := dk_1 (dk_at dksX1_init_0 2 rfl rfl)
theorem dX1_init_3 : decode cX1_init 3 = .ok (.iconst 0, 1) := dk_3 (dk_at dksX1_init_0 3 rfl rfl)
theorem dX1_init_4 : decode cX1_init 4 = .ok (.iconst 0, 1) := dk_3 (dk_at dksX1_init_0 4 rfl rfl)
theorem dX1_init_5 : decode cX1_init 5 = .ok (.invokespecial 1, 3) := dk_183 0 1 (dk_at dksX1_init_0 5 rfl rfl)
theorem dX1_init_8 : decode cX1_init 8 = .ok (.return_, 1) := dk_177 (dk_at dksX1_init_0 8 rfl rfl)
abbrev cX1_of : ByteArray := prog_13_method_2_code
def yX1_of : MethodName := ⟨RX1, "of", "(I)LTwoSidedTables$Refusal;"⟩
def dkwX1_of_0 : List UInt8 := [42, 27, 181, 0, 7, 42, 176]
abbrev dktX1_of_0 : List UInt8 := dkwX1_of_0 ++ []
theorem dksX1_of_0 : cX1_of.data.toList.drop 0 = dktX1_of_0 := by decide +kernel
theorem dX1_of_0 : decode cX1_of 0 = .ok (.aload_n 0, 1) := dk_42 (dk_at dksX1_of_0 0 rfl rfl)
theorem dX1_of_1 : decode cX1_of 1 = .ok (.iload_n 1, 1) := dk_27 (dk_at dksX1_of_0 1 rfl rfl)
theorem dX1_of_2 : decode cX1_of 2 = .ok (.putfield 7, 3) := dk_181 0 7 (dk_at dksX1_of_0 2 rfl rfl)
theorem dX1_of_5 : decode cX1_of 5 = .ok (.aload_n 0, 1) := dk_42 (dk_at dksX1_of_0 5 rfl rfl)
theorem dX1_of_6 : decode cX1_of 6 = .ok (.areturn, 1) := dk_176 (dk_at dksX1_of_0 6 rfl rfl)
theorem q106 : (Jvm.Cond.initialized "TwoSidedTables$Refusal") ∈ lw_all := lw_g (lw_at lw_m1 5 rfl) rfl
theorem q147 : (Jvm.Cond.instantiable "TwoSidedTables$Refusal" (7 : Nat)) ∈ lw_all := lw_g (lw_at lw_m1 46 rfl) rfl
theorem q148 : (Jvm.Cond.castable "TwoSidedTables$Refusal" "TwoSidedTables$Refusal") ∈ lw_tbl := lw_at lw_m1 47 rfl
theorem q155 : (Jvm.Cond.selects "TwoSidedTables$Refusal" ({ cls := "java/lang/Throwable", name := "fillInStackTrace", desc := "(I)Ljava/lang/Throwable;" } : Jvm.MethodName) ({ cls := "java/lang/Throwable", name := "fillInStackTrace", desc := "(I)Ljava/lang/Throwable;" } : Jvm.MethodName)) ∈ lw_all := lw_g (lw_at lw_m1 54 rfl) rfl
theorem q156 : (Jvm.Cond.selects "TwoSidedTables$Refusal" ({ cls := "java/lang/Throwable", name := "fillInStackTrace", desc := "()Ljava/lang/Throwable;" } : Jvm.MethodName) ({ cls := "java/lang/Throwable", name := "fillInStackTrace", desc := "()Ljava/lang/Throwable;" } : Jvm.MethodName)) ∈ lw_all := lw_g (lw_at lw_m1 55 rfl) rfl
theorem q157 : (Jvm.Cond.lays "TwoSidedTables$Refusal" "java/lang/Throwable" "cause" "Ljava/lang/Throwable;") ∈ lw_all := lw_g (lw_at lw_m1 56 rfl) rfl
theorem q159 : (Jvm.Cond.lays "TwoSidedTables$Refusal" "java/lang/Throwable" "stackTrace" "[Ljava/lang/StackTraceElement;") ∈ lw_all := lw_g (lw_at lw_m1 58 rfl) rfl
theorem q161 : (Jvm.Cond.lays "TwoSidedTables$Refusal" "java/lang/Throwable" "suppressedExceptions" "Ljava/util/List;") ∈ lw_all := lw_g (lw_at lw_m1 60 rfl) rfl
theorem q163 : (Jvm.Cond.lays "TwoSidedTables$Refusal" "java/lang/Throwable" "detailMessage" "Ljava/lang/String;") ∈ lw_all := lw_g (lw_at lw_m1 62 rfl) rfl
theorem q165 : (Jvm.Cond.lays "TwoSidedTables$Refusal" "java/lang/Throwable" "backtrace" "Ljava/lang/Object;") ∈ lw_all := lw_g (lw_at lw_m1 64 rfl) rfl
theorem q207 : (Jvm.Cond.instanceMethod ({ cls := "TwoSidedTables$Refusal", name := "<init>", desc := "()V" } : Jvm.MethodName)) ∈ lw_all := lw_g (lw_at lw_m1 106 rfl) rfl
theorem q208 : (Jvm.Cond.code ({ cls := "TwoSidedTables$Refusal", name := "<init>", desc := "()V" } : Jvm.MethodName) prog_13_method_1_code (1 : Nat) (Option.none : Option Jvm.ClassFile.FieldType)) ∈ lw_all := lw_g (lw_at lw_m1 107 rfl) rfl
theorem q209 : (Jvm.Cond.methodLink "TwoSidedTables$Refusal" (1 : Nat) ({ cls := "java/lang/RuntimeException", name := "<init>", desc := "(Ljava/lang/String;Ljava/lang/Throwable;ZZ)V" } : Jvm.MethodName)) ∈ lw_all := lw_g (lw_at lw_m1 108 rfl) rfl
theorem q218 : (Jvm.Cond.fieldLink "TwoSidedTables$Refusal" (7 : Nat) "TwoSidedTables$Refusal" "answer" "I") ∈ lw_all := lw_g (lw_at lw_m1 117 rfl) rfl
theorem q227 : (Jvm.Cond.lays "TwoSidedTables$Refusal" "TwoSidedTables$Refusal" "answer" "I") ∈ lw_all := lw_g (lw_at lw_m1 126 rfl) rfl
theorem q228 : (Jvm.Cond.soleField "TwoSidedTables$Refusal" "answer") ∈ lw_all := lw_g (lw_at lw_m1 127 rfl) rfl
theorem q233 : (Jvm.Cond.lays "TwoSidedTables$Refusal" "java/lang/Throwable" "depth" "I") ∈ lw_all := lw_g (lw_at lw_m1 132 rfl) rfl
theorem q236 : (Jvm.Cond.superclass "TwoSidedTables$Refusal" "java/lang/RuntimeException") ∈ lw_all := lw_g (lw_at lw_m1 135 rfl) rfl
theorem q240 : (Jvm.Cond.declares ({ cls := "TwoSidedTables$Refusal", name := "<init>", desc := "()V" } : Jvm.MethodName)) ∈ lw_tbl := lw_at lw_m1 139 rfl
theorem q659 : (Jvm.Cond.declares ({ cls := "TwoSidedTables$Refusal", name := "of", desc := "(I)LTwoSidedTables$Refusal;" } : Jvm.MethodName)) ∈ lw_tbl := lw_at lw_m3 78 rfl
theorem q661 : (Jvm.Cond.instanceMethod ({ cls := "TwoSidedTables$Refusal", name := "of", desc := "(I)LTwoSidedTables$Refusal;" } : Jvm.MethodName)) ∈ lw_all := lw_g (lw_at lw_m3 80 rfl) rfl
theorem q662 : (Jvm.Cond.code ({ cls := "TwoSidedTables$Refusal", name := "of", desc := "(I)LTwoSidedTables$Refusal;" } : Jvm.MethodName) prog_13_method_2_code (2 : Nat) (Option.some (Jvm.ClassFile.FieldType.object "TwoSidedTables$Refusal"))) ∈ lw_all := lw_g (lw_at lw_m3 81 rfl) rfl
theorem q2160 : (Jvm.Cond.sameMethod "TwoSidedTables$Refusal" "TwoSidedTables$Refusal" "of" "(I)LTwoSidedTables$Refusal;") ∈ lw_all := lw_g (lw_at lw_m9 139 rfl) rfl
theorem q2162 : (Jvm.Cond.selects "TwoSidedTables$Refusal" ({ cls := "TwoSidedTables$Refusal", name := "of", desc := "(I)LTwoSidedTables$Refusal;" } : Jvm.MethodName) ({ cls := "TwoSidedTables$Refusal", name := "of", desc := "(I)LTwoSidedTables$Refusal;" } : Jvm.MethodName)) ∈ lw_all := lw_g (lw_at lw_m9 141 rfl) rfl
theorem in_X1 : ∀ w ∈ wsX10, w ∈ lw_all := lw_in wsX10 [157, 159, 161, 163, 165, 233, 227] (by decide +kernel) (by decide +kernel)
/-! TwoSidedTables$Fault -/
set_option maxRecDepth 100000
def RX2 : String := "TwoSidedTables$Fault"
def TX2 : u_T := fun k => match k with
  | 0 => ("java/lang/Throwable", "cause", "Ljava/lang/Throwable;", false)
  | 1 => ("java/lang/Throwable", "stackTrace", "[Ljava/lang/StackTraceElement;", false)
  | 2 => ("java/lang/Throwable", "suppressedExceptions", "Ljava/util/List;", false)
  | 3 => ("java/lang/Throwable", "detailMessage", "Ljava/lang/String;", false)
  | 4 => ("java/lang/Throwable", "backtrace", "Ljava/lang/Object;", false)
  | 5 => ("java/lang/Throwable", "depth", "I", false)
  | _ => ("TwoSidedTables$Refusal", "answer", "I", false)
def tyX2 : Nat → FieldType := fun k => match k with
  | 0 => .object "java/lang/Throwable"
  | 1 => .array (.object "java/lang/StackTraceElement")
  | 2 => .object "java/util/List"
  | 3 => .object "java/lang/String"
  | 4 => .object "java/lang/Object"
  | 5 => .int
  | _ => .int
abbrev wsX20 : List Cond := u_ws RX2 TX2 7
theorem nmX2 : ∀ a, a < 7 → ∀ b, b < 7 → a ≠ b → (TX2 a).2.1 ≠ (TX2 b).2.1 := by decide +kernel
theorem tyX2_ok : ∀ k, k < 7 → parseFieldDescriptor (TX2 k).2.2.1 = some (tyX2 k) := by decide +kernel
abbrev cX2_init : ByteArray := prog_5_method_1_code
def yX2_init : MethodName := ⟨RX2, "<init>", "()V"⟩
theorem dX2_init_0 : decode cX2_init 0 = .ok (.aload_n 0, 1) := by decide +kernel
theorem dX2_init_1 : decode cX2_init 1 = .ok (.invokespecial 1, 3) := by decide +kernel
theorem dX2_init_4 : decode cX2_init 4 = .ok (.return_, 1) := by decide +kernel
theorem q107 : (Jvm.Cond.initialized "TwoSidedTables$Fault") ∈ lw_all := lw_g (lw_at lw_m1 6 rfl) rfl
theorem q179 : (Jvm.Cond.selects "TwoSidedTables$Fault" ({ cls := "java/lang/Throwable", name := "fillInStackTrace", desc := "()Ljava/lang/Throwable;" } : Jvm.MethodName) ({ cls := "java/lang/Throwable", name := "fillInStackTrace", desc := "()Ljava/lang/Throwable;" } : Jvm.MethodName)) ∈ lw_all := lw_g (lw_at lw_m1 78 rfl) rfl
theorem q220 : (Jvm.Cond.sameField "TwoSidedTables$Fault" "TwoSidedTables$Refusal" "answer" "I") ∈ lw_all := lw_g (lw_at lw_m1 119 rfl) rfl
theorem q238 : (Jvm.Cond.instantiable "TwoSidedTables$Fault" (7 : Nat)) ∈ lw_all := lw_g (lw_at lw_m1 137 rfl) rfl
theorem q239 : (Jvm.Cond.castable "TwoSidedTables$Fault" "TwoSidedTables$Fault") ∈ lw_tbl := lw_at lw_m1 138 rfl
theorem q241 : (Jvm.Cond.selects "TwoSidedTables$Fault" ({ cls := "java/lang/Throwable", name := "fillInStackTrace", desc := "(I)Ljava/lang/Throwable;" } : Jvm.MethodName) ({ cls := "java/lang/Throwable", name := "fillInStackTrace", desc := "(I)Ljava/lang/Throwable;" } : Jvm.MethodName)) ∈ lw_all := lw_g (lw_at lw_m1 140 rfl) rfl
theorem q242 : (Jvm.Cond.lays "TwoSidedTables$Fault" "java/lang/Throwable" "cause" "Ljava/lang/Throwable;") ∈ lw_all := lw_g (lw_at lw_m1 141 rfl) rfl
theorem q243 : (Jvm.Cond.lays "TwoSidedTables$Fault" "java/lang/Throwable" "stackTrace" "[Ljava/lang/StackTraceElement;") ∈ lw_all := lw_g (lw_at lw_m1 142 rfl) rfl
theorem q244 : (Jvm.Cond.lays "TwoSidedTables$Fault" "java/lang/Throwable" "suppressedExceptions" "Ljava/util/List;") ∈ lw_all := lw_g (lw_at lw_m1 143 rfl) rfl
theorem q245 : (Jvm.Cond.lays "TwoSidedTables$Fault" "java/lang/Throwable" "detailMessage" "Ljava/lang/String;") ∈ lw_all := lw_g (lw_at lw_m1 144 rfl) rfl
theorem q246 : (Jvm.Cond.lays "TwoSidedTables$Fault" "java/lang/Throwable" "backtrace" "Ljava/lang/Object;") ∈ lw_all := lw_g (lw_at lw_m1 145 rfl) rfl
theorem q248 : (Jvm.Cond.instanceMethod ({ cls := "TwoSidedTables$Fault", name := "<init>", desc := "()V" } : Jvm.MethodName)) ∈ lw_all := lw_g (lw_at lw_m1 147 rfl) rfl
theorem q249 : (Jvm.Cond.code ({ cls := "TwoSidedTables$Fault", name := "<init>", desc := "()V" } : Jvm.MethodName) prog_5_method_1_code (1 : Nat) (Option.none : Option Jvm.ClassFile.FieldType)) ∈ lw_all := lw_g (lw_at lw_m1 148 rfl) rfl
theorem q250 : (Jvm.Cond.methodLink "TwoSidedTables$Fault" (1 : Nat) ({ cls := "TwoSidedTables$Refusal", name := "<init>", desc := "()V" } : Jvm.MethodName)) ∈ lw_all := lw_g (lw_at lw_m1 149 rfl) rfl
theorem q251 : (Jvm.Cond.lays "TwoSidedTables$Fault" "TwoSidedTables$Refusal" "answer" "I") ∈ lw_all := lw_g (lw_at lw_m1 150 rfl) rfl
theorem q252 : (Jvm.Cond.lays "TwoSidedTables$Fault" "java/lang/Throwable" "depth" "I") ∈ lw_all := lw_g (lw_at lw_m1 151 rfl) rfl
theorem q253 : (Jvm.Cond.superclass "TwoSidedTables$Fault" "TwoSidedTables$Refusal") ∈ lw_all := lw_g (lw_at lw_m1 152 rfl) rfl
theorem q658 : (Jvm.Cond.sameMethod "TwoSidedTables$Fault" "TwoSidedTables$Refusal" "of" "(I)LTwoSidedTables$Refusal;") ∈ lw_all := lw_g (lw_at lw_m3 77 rfl) rfl
theorem q660 : (Jvm.Cond.selects "TwoSidedTables$Fault" ({ cls := "TwoSidedTables$Fault", name := "of", desc := "(I)LTwoSidedTables$Refusal;" } : Jvm.MethodName) ({ cls := "TwoSidedTables$Refusal", name := "of", desc := "(I)LTwoSidedTables$Refusal;" } : Jvm.MethodName)) ∈ lw_all := lw_g (lw_at lw_m3 79 rfl) rfl
theorem q2161 : (Jvm.Cond.selects "TwoSidedTables$Fault" ({ cls := "TwoSidedTables$Refusal", name := "of", desc := "(I)LTwoSidedTables$Refusal;" } : Jvm.MethodName) ({ cls := "TwoSidedTables$Refusal", name := "of", desc := "(I)LTwoSidedTables$Refusal;" } : Jvm.MethodName)) ∈ lw_all := lw_g (lw_at lw_m9 140 rfl) rfl
theorem q2174 : (Jvm.Cond.castable "TwoSidedTables$Fault" "TwoSidedTables$Refusal") ∈ lw_tbl := lw_at lw_m9 153 rfl
theorem in_X2 : ∀ w ∈ wsX20, w ∈ lw_all := lw_in wsX20 [242, 243, 244, 245, 246, 252, 251] (by decide +kernel) (by decide +kernel)
/-! TwoSidedTables$Unsolvable -/
set_option maxRecDepth 100000
def RX3 : String := "TwoSidedTables$Unsolvable"
def TX3 : u_T := fun k => match k with
  | 0 => ("java/lang/Throwable", "cause", "Ljava/lang/Throwable;", false)
  | 1 => ("java/lang/Throwable", "stackTrace", "[Ljava/lang/StackTraceElement;", false)
  | 2 => ("java/lang/Throwable", "suppressedExceptions", "Ljava/util/List;", false)
  | 3 => ("java/lang/Throwable", "detailMessage", "Ljava/lang/String;", false)
  | 4 => ("java/lang/Throwable", "backtrace", "Ljava/lang/Object;", false)
  | 5 => ("java/lang/Throwable", "depth", "I", false)
  | _ => ("TwoSidedTables$Refusal", "answer", "I", false)
def tyX3 : Nat → FieldType := fun k => match k with
  | 0 => .object "java/lang/Throwable"
  | 1 => .array (.object "java/lang/StackTraceElement")
  | 2 => .object "java/util/List"
  | 3 => .object "java/lang/String"
  | 4 => .object "java/lang/Object"
  | 5 => .int
  | _ => .int
abbrev wsX30 : List Cond := u_ws RX3 TX3 7
theorem nmX3 : ∀ a, a < 7 → ∀ b, b < 7 → a ≠ b → (TX3 a).2.1 ≠ (TX3 b).2.1 := by decide +kernel
theorem tyX3_ok : ∀ k, k < 7 → parseFieldDescriptor (TX3 k).2.2.1 = some (tyX3 k) := by decide +kernel
abbrev cX3_init : ByteArray := prog_21_method_1_code
def yX3_init : MethodName := ⟨RX3, "<init>", "()V"⟩
theorem dX3_init_0 : decode cX3_init 0 = .ok (.aload_n 0, 1) := by decide +kernel
theorem dX3_init_1 : decode cX3_init 1 = .ok (.invokespecial 1, 3) := by decide +kernel
theorem dX3_init_4 : decode cX3_init 4 = .ok (.return_, 1) := by decide +kernel
theorem q108 : (Jvm.Cond.initialized "TwoSidedTables$Unsolvable") ∈ lw_all := lw_g (lw_at lw_m1 7 rfl) rfl
theorem q180 : (Jvm.Cond.selects "TwoSidedTables$Unsolvable" ({ cls := "java/lang/Throwable", name := "fillInStackTrace", desc := "()Ljava/lang/Throwable;" } : Jvm.MethodName) ({ cls := "java/lang/Throwable", name := "fillInStackTrace", desc := "()Ljava/lang/Throwable;" } : Jvm.MethodName)) ∈ lw_all := lw_g (lw_at lw_m1 79 rfl) rfl
theorem q255 : (Jvm.Cond.instantiable "TwoSidedTables$Unsolvable" (7 : Nat)) ∈ lw_all := lw_g (lw_at lw_m1 154 rfl) rfl
theorem q256 : (Jvm.Cond.castable "TwoSidedTables$Unsolvable" "TwoSidedTables$Unsolvable") ∈ lw_tbl := lw_at lw_m1 155 rfl
theorem q257 : (Jvm.Cond.selects "TwoSidedTables$Unsolvable" ({ cls := "java/lang/Throwable", name := "fillInStackTrace", desc := "(I)Ljava/lang/Throwable;" } : Jvm.MethodName) ({ cls := "java/lang/Throwable", name := "fillInStackTrace", desc := "(I)Ljava/lang/Throwable;" } : Jvm.MethodName)) ∈ lw_all := lw_g (lw_at lw_m1 156 rfl) rfl
theorem q258 : (Jvm.Cond.lays "TwoSidedTables$Unsolvable" "java/lang/Throwable" "cause" "Ljava/lang/Throwable;") ∈ lw_all := lw_g (lw_at lw_m1 157 rfl) rfl
theorem q259 : (Jvm.Cond.lays "TwoSidedTables$Unsolvable" "java/lang/Throwable" "stackTrace" "[Ljava/lang/StackTraceElement;") ∈ lw_all := lw_g (lw_at lw_m1 158 rfl) rfl
theorem q260 : (Jvm.Cond.lays "TwoSidedTables$Unsolvable" "java/lang/Throwable" "suppressedExceptions" "Ljava/util/List;") ∈ lw_all := lw_g (lw_at lw_m1 159 rfl) rfl
theorem q261 : (Jvm.Cond.lays "TwoSidedTables$Unsolvable" "java/lang/Throwable" "detailMessage" "Ljava/lang/String;") ∈ lw_all := lw_g (lw_at lw_m1 160 rfl) rfl
theorem q262 : (Jvm.Cond.lays "TwoSidedTables$Unsolvable" "java/lang/Throwable" "backtrace" "Ljava/lang/Object;") ∈ lw_all := lw_g (lw_at lw_m1 161 rfl) rfl
theorem q264 : (Jvm.Cond.instanceMethod ({ cls := "TwoSidedTables$Unsolvable", name := "<init>", desc := "()V" } : Jvm.MethodName)) ∈ lw_all := lw_g (lw_at lw_m1 163 rfl) rfl
theorem q265 : (Jvm.Cond.code ({ cls := "TwoSidedTables$Unsolvable", name := "<init>", desc := "()V" } : Jvm.MethodName) prog_21_method_1_code (1 : Nat) (Option.none : Option Jvm.ClassFile.FieldType)) ∈ lw_all := lw_g (lw_at lw_m1 164 rfl) rfl
theorem q266 : (Jvm.Cond.methodLink "TwoSidedTables$Unsolvable" (1 : Nat) ({ cls := "TwoSidedTables$Refusal", name := "<init>", desc := "()V" } : Jvm.MethodName)) ∈ lw_all := lw_g (lw_at lw_m1 165 rfl) rfl
theorem q267 : (Jvm.Cond.lays "TwoSidedTables$Unsolvable" "TwoSidedTables$Refusal" "answer" "I") ∈ lw_all := lw_g (lw_at lw_m1 166 rfl) rfl
theorem q268 : (Jvm.Cond.lays "TwoSidedTables$Unsolvable" "java/lang/Throwable" "depth" "I") ∈ lw_all := lw_g (lw_at lw_m1 167 rfl) rfl
theorem q269 : (Jvm.Cond.superclass "TwoSidedTables$Unsolvable" "TwoSidedTables$Refusal") ∈ lw_all := lw_g (lw_at lw_m1 168 rfl) rfl
theorem q2163 : (Jvm.Cond.selects "TwoSidedTables$Unsolvable" ({ cls := "TwoSidedTables$Refusal", name := "of", desc := "(I)LTwoSidedTables$Refusal;" } : Jvm.MethodName) ({ cls := "TwoSidedTables$Refusal", name := "of", desc := "(I)LTwoSidedTables$Refusal;" } : Jvm.MethodName)) ∈ lw_all := lw_g (lw_at lw_m9 142 rfl) rfl
theorem q2175 : (Jvm.Cond.castable "TwoSidedTables$Unsolvable" "TwoSidedTables$Refusal") ∈ lw_tbl := lw_at lw_m9 154 rfl
theorem in_X3 : ∀ w ∈ wsX30, w ∈ lw_all := lw_in wsX30 [258, 259, 260, 261, 262, 268, 267] (by decide +kernel) (by decide +kernel)
/-! TwoSidedTables$Tables -/
set_option maxRecDepth 100000
def RX4 : String := "TwoSidedTables$Tables"
def TX4 : u_T := fun k => match k with
  | 0 => ("TwoSidedTables$Tables", "m", "I", true)
  | 1 => ("TwoSidedTables$Tables", "n", "I", true)
  | 2 => ("TwoSidedTables$Tables", "a", "LTwoSidedTables$Table;", true)
  | 3 => ("TwoSidedTables$Tables", "b", "LTwoSidedTables$Table;", true)
  | _ => ("TwoSidedTables$Tables", "c", "LTwoSidedTables$Table;", true)
def tyX4 : Nat → FieldType := fun k => match k with
  | 0 => .int
  | 1 => .int
  | 2 => .object "TwoSidedTables$Table"
  | 3 => .object "TwoSidedTables$Table"
  | _ => .object "TwoSidedTables$Table"
abbrev wsX40 : List Cond := u_ws RX4 TX4 5
theorem nmX4 : ∀ a, a < 5 → ∀ b, b < 5 → a ≠ b → (TX4 a).2.1 ≠ (TX4 b).2.1 := by decide +kernel
theorem tyX4_ok : ∀ k, k < 5 → parseFieldDescriptor (TX4 k).2.2.1 = some (tyX4 k) := by decide +kernel
abbrev cX4_init : ByteArray := prog_16_method_2_code
def yX4_init : MethodName := ⟨RX4, "<init>", "()V"⟩
def dkwX4_init_0 : List UInt8 := [42, 5, 5, 183, 0, 34, 177]
abbrev dktX4_init_0 : List UInt8 := dkwX4_init_0 ++ []
theorem dksX4_init_0 : cX4_init.data.toList.drop 0 = dktX4_init_0 := by decide +kernel
theorem dX4_init_0 : decode cX4_init 0 = .ok (.aload_n 0, 1) := dk_42 (dk_at dksX4_init_0 0 rfl rfl)
theorem dX4_init_1 : decode cX4_init 1 = .ok (.iconst 2, 1) := dk_5 (dk_at dksX4_init_0 1 rfl rfl)
theorem dX4_init_2 : decode cX4_init 2 = .ok (.iconst 2, 1) := dk_5 (dk_at dksX4_init_0 2 rfl rfl)
theorem dX4_init_3 : decode cX4_init 3 = .ok (.invokespecial 34, 3) := dk_183 0 34 (dk_at dksX4_init_0 3 rfl rfl)
theorem dX4_init_6 : decode cX4_init 6 = .ok (.return_, 1) := dk_177 (dk_at dksX4_init_0 6 rfl rfl)
abbrev cX4_init_2 : ByteArray := prog_16_method_1_code
def yX4_init_2 : MethodName := ⟨RX4, "<init>", "(II)V"⟩
def dkwX4_init_2_2 : List UInt8 := [183, 0, 28, 181, 0, 31, 177]
abbrev dktX4_init_2_2 : List UInt8 := dkwX4_init_2_2 ++ []
def dkwX4_init_2_1 : List UInt8 := [181, 0, 21, 42, 187, 0, 16, 89, 28, 183, 0, 18, 181, 0, 25, 42, 187, 0, 16, 89, 27, 28]
abbrev dktX4_init_2_1 : List UInt8 := dkwX4_init_2_1 ++ dktX4_init_2_2
def dkwX4_init_2_0 : List UInt8 := [42, 183, 0, 1, 42, 27, 181, 0, 7, 42, 28, 181, 0, 13, 42, 187, 0, 16, 89, 27, 183, 0, 18]
abbrev dktX4_init_2_0 : List UInt8 := dkwX4_init_2_0 ++ dktX4_init_2_1
theorem dksX4_init_2_0 : cX4_init_2.data.toList.drop 0 = dktX4_init_2_0 := by decide +kernel
theorem dksX4_init_2_1 : cX4_init_2.data.toList.drop 23 = dktX4_init_2_1 := dk_seg dksX4_init_2_0 23 rfl rfl
theorem dksX4_init_2_2 : cX4_init_2.data.toList.drop 45 = dktX4_init_2_2 := dk_seg dksX4_init_2_1 22 rfl rfl
theorem dX4_init_2_0 : decode cX4_init_2 0 = .ok (.aload_n 0, 1) := dk_42 (dk_at dksX4_init_2_0 0 rfl rfl)
theorem dX4_init_2_1 : decode cX4_init_2 1 = .ok (.invokespecial 1, 3) := dk_183 0 1 (dk_at dksX4_init_2_0 1 rfl rfl)
theorem dX4_init_2_4 : decode cX4_init_2 4 = .ok (.aload_n 0, 1) := dk_42 (dk_at dksX4_init_2_0 4 rfl rfl)
theorem dX4_init_2_5 : decode cX4_init_2 5 = .ok (.iload_n 1, 1) := dk_27 (dk_at dksX4_init_2_0 5 rfl rfl)
theorem dX4_init_2_6 : decode cX4_init_2 6 = .ok (.putfield 7, 3) := dk_181 0 7 (dk_at dksX4_init_2_0 6 rfl rfl)
theorem dX4_init_2_9 : decode cX4_init_2 9 = .ok (.aload_n 0, 1) := dk_42 (dk_at dksX4_init_2_0 9 rfl rfl)
theorem dX4_init_2_10 : decode cX4_init_2 10 = .ok (.iload_n 2, 1) := dk_28 (dk_at dksX4_init_2_0 10 rfl rfl)
theorem dX4_init_2_11 : decode cX4_init_2 11 = .ok (.putfield 13, 3) := dk_181 0 13 (dk_at dksX4_init_2_0 11 rfl rfl)
theorem dX4_init_2_14 : decode cX4_init_2 14 = .ok (.aload_n 0, 1) := dk_42 (dk_at dksX4_init_2_0 14 rfl rfl)
theorem dX4_init_2_15 : decode cX4_init_2 15 = .ok (.new 16, 3) := dk_187 0 16 (dk_at dksX4_init_2_0 15 rfl rfl)
theorem dX4_init_2_18 : decode cX4_init_2 18 = .ok (.dup, 1) := dk_89 (dk_at dksX4_init_2_0 18 rfl rfl)
theorem dX4_init_2_19 : decode cX4_init_2 19 = .ok (.iload_n 1, 1) := dk_27 (dk_at dksX4_init_2_0 19 rfl rfl)
theorem dX4_init_2_20 : decode cX4_init_2 20 = .ok (.invokespecial 18, 3) := dk_183 0 18 (dk_at dksX4_init_2_0 20 rfl rfl)
theorem dX4_init_2_23 : decode cX4_init_2 23 = .ok (.putfield 21, 3) := dk_181 0 21 (dk_at dksX4_init_2_1 0 rfl rfl)
theorem dX4_init_2_26 : decode cX4_init_2 26 = .ok (.aload_n 0, 1) := dk_42 (dk_at dksX4_init_2_1 3 rfl rfl)
theorem dX4_init_2_27 : decode cX4_init_2 27 = .ok (.new 16, 3) := dk_187 0 16 (dk_at dksX4_init_2_1 4 rfl rfl)
theorem dX4_init_2_30 : decode cX4_init_2 30 = .ok (.dup, 1) := dk_89 (dk_at dksX4_init_2_1 7 rfl rfl)
theorem dX4_init_2_31 : decode cX4_init_2 31 = .ok (.iload_n 2, 1) := dk_28 (dk_at dksX4_init_2_1 8 rfl rfl)
theorem dX4_init_2_32 : decode cX4_init_2 32 = .ok (.invokespecial 18, 3) := dk_183 0 18 (dk_at dksX4_init_2_1 9 rfl rfl)
theorem dX4_init_2_35 : decode cX4_init_2 35 = .ok (.putfield 25, 3) := dk_181 0 25 (dk_at dksX4_init_2_1 12 rfl rfl)
theorem dX4_init_2_38 : decode cX4_init_2 38 = .ok (.aload_n 0, 1) := dk_42 (dk_at dksX4_init_2_1 15 rfl rfl)
theorem dX4_init_2_39 : decode cX4_init_2 39 = .ok (.new 16, 3) := dk_187 0 16 (dk_at dksX4_init_2_1 16 rfl rfl)
theorem dX4_init_2_42 : decode cX4_init_2 42 = .ok (.dup, 1) := dk_89 (dk_at dksX4_init_2_1 19 rfl rfl)
theorem dX4_init_2_43 : decode cX4_init_2 43 = .ok (.iload_n 1, 1) := dk_27 (dk_at dksX4_init_2_1 20 rfl rfl)
theorem dX4_init_2_44 : decode cX4_init_2 44 = .ok (.iload_n 2, 1) := dk_28 (dk_at dksX4_init_2_1 21 rfl rfl)
theorem dX4_init_2_45 : decode cX4_init_2 45 = .ok (.invokespecial 28, 3) := dk_183 0 28 (dk_at dksX4_init_2_2 0 rfl rfl)
theorem dX4_init_2_48 : decode cX4_init_2 48 = .ok (.putfield 31, 3) := dk_181 0 31 (dk_at dksX4_init_2_2 3 rfl rfl)
theorem dX4_init_2_51 : decode cX4_init_2 51 = .ok (.return_, 1) := dk_177 (dk_at dksX4_init_2_2 6 rfl rfl)
abbrev cX4_byNumber : ByteArray := prog_16_method_3_code
def yX4_byNumber : MethodName := ⟨RX4, "byNumber", "(I)LTwoSidedTables$Table;"⟩
def dkwX4_byNumber_1 : List UInt8 := [180, 0, 31, 176]
abbrev dktX4_byNumber_1 : List UInt8 := dkwX4_byNumber_1 ++ []
def dkwX4_byNumber_0 : List UInt8 := [27, 154, 0, 10, 42, 180, 0, 21, 167, 0, 19, 27, 4, 160, 0, 10, 42, 180, 0, 25, 167, 0, 7, 42]
abbrev dktX4_byNumber_0 : List UInt8 := dkwX4_byNumber_0 ++ dktX4_byNumber_1
theorem dksX4_byNumber_0 : cX4_byNumber.data.toList.drop 0 = dktX4_byNumber_0 := by decide +kernel
theorem dksX4_byNumber_1 : cX4_byNumber.data.toList.drop 24 = dktX4_byNumber_1 := dk_seg dksX4_byNumber_0 24 rfl rfl
theorem dX4_byNumber_0 : decode cX4_byNumber 0 = .ok (.iload_n 1, 1) := dk_27 (dk_at dksX4_byNumber_0 0 rfl rfl)
theorem dX4_byNumber_1 : decode cX4_byNumber 1 = .ok (.ifCond .ne 10, 3) := dk_154 0 10 (dk_at dksX4_byNumber_0 1 rfl rfl)
theorem dX4_byNumber_4 : decode cX4_byNumber 4 = .ok (.aload_n 0, 1) := dk_42 (dk_at dksX4_byNumber_0 4 rfl rfl)
theorem dX4_byNumber_5 : decode cX4_byNumber 5 = .ok (.getfield 21, 3) := dk_180 0 21 (dk_at dksX4_byNumber_0 5 rfl rfl)
theorem dX4_byNumber_8 : decode cX4_byNumber 8 = .ok (.goto 19, 3) := dk_167 0 19 (dk_at dksX4_byNumber_0 8 rfl rfl)
theorem dX4_byNumber_11 : decode cX4_byNumber 11 = .ok (.iload_n 1, 1) := dk_27 (dk_at dksX4_byNumber_0 11 rfl rfl)
theorem dX4_byNumber_12 : decode cX4_byNumber 12 = .ok (.iconst 1, 1) := dk_4 (dk_at dksX4_byNumber_0 12 rfl rfl)
theorem dX4_byNumber_13 : decode cX4_byNumber 13 = .ok (.if_icmp .ne 10, 3) := dk_160 0 10 (dk_at dksX4_byNumber_0 13 rfl rfl)
theorem dX4_byNumber_16 : decode cX4_byNumber 16 = .ok (.aload_n 0, 1) := dk_42 (dk_at dksX4_byNumber_0 16 rfl rfl)
theorem dX4_byNumber_17 : decode cX4_byNumber 17 = .ok (.getfield 25, 3) := dk_180 0 25 (dk_at dksX4_byNumber_0 17 rfl rfl)
theorem dX4_byNumber_20 : decode cX4_byNumber 20 = .ok (.goto 7, 3) := dk_167 0 7 (dk_at dksX4_byNumber_0 20 rfl rfl)
theorem dX4_byNumber_23 : decode cX4_byNumber 23 = .ok (.aload_n 0, 1) := dk_42 (dk_at dksX4_byNumber_0 23 rfl rfl)
theorem dX4_byNumber_24 : decode cX4_byNumber 24 = .ok (.getfield 31, 3) := dk_180 0 31 (dk_at dksX4_byNumber_1 0 rfl rfl)
theorem dX4_byNumber_27 : decode cX4_byNumber 27 = .ok (.areturn, 1) := dk_176 (dk_at dksX4_byNumber_1 3 rfl rfl)
abbrev cX4_become : ByteArray := prog_16_method_4_code
def yX4_become : MethodName := ⟨RX4, "become", "(LTwoSidedTables$Tables;)V"⟩
def dkwX4_become_1 : List UInt8 := [167, 255, 235, 177]
abbrev dktX4_become_1 : List UInt8 := dkwX4_become_1 ++ []
def dkwX4_become_0 : List UInt8 := [3, 61, 28, 6, 162, 0, 22, 42, 28, 182, 0, 35, 43, 28, 182, 0, 35, 182, 0, 39, 132, 2, 1]
abbrev dktX4_become_0 : List UInt8 := dkwX4_become_0 ++ dktX4_become_1
theorem dksX4_become_0 : cX4_become.data.toList.drop 0 = dktX4_become_0 := by decide +kernel
theorem dksX4_become_1 : cX4_become.data.toList.drop 23 = dktX4_become_1 := dk_seg dksX4_become_0 23 rfl rfl
theorem dX4_become_0 : decode cX4_become 0 = .ok (.iconst 0, 1) := dk_3 (dk_at dksX4_become_0 0 rfl rfl)
theorem dX4_become_1 : decode cX4_become 1 = .ok (.istore_n 2, 1) := dk_61 (dk_at dksX4_become_0 1 rfl rfl)
theorem dX4_become_2 : decode cX4_become 2 = .ok (.iload_n 2, 1) := dk_28 (dk_at dksX4_become_0 2 rfl rfl)
theorem dX4_become_3 : decode cX4_become 3 = .ok (.iconst 3, 1) := dk_6 (dk_at dksX4_become_0 3 rfl rfl)
theorem dX4_become_4 : decode cX4_become 4 = .ok (.if_icmp .ge 22, 3) := dk_162 0 22 (dk_at dksX4_become_0 4 rfl rfl)
theorem dX4_become_7 : decode cX4_become 7 = .ok (.aload_n 0, 1) := dk_42 (dk_at dksX4_become_0 7 rfl rfl)
theorem dX4_become_8 : decode cX4_become 8 = .ok (.iload_n 2, 1) := dk_28 (dk_at dksX4_become_0 8 rfl rfl)
theorem dX4_become_9 : decode cX4_become 9 = .ok (.invokevirtual 35, 3) := dk_182 0 35 (dk_at dksX4_become_0 9 rfl rfl)
theorem dX4_become_12 : decode cX4_become 12 = .ok (.aload_n 1, 1) := dk_43 (dk_at dksX4_become_0 12 rfl rfl)
theorem dX4_become_13 : decode cX4_become 13 = .ok (.iload_n 2, 1) := dk_28 (dk_at dksX4_become_0 13 rfl rfl)
theorem dX4_become_14 : decode cX4_become 14 = .ok (.invokevirtual 35, 3) := dk_182 0 35 (dk_at dksX4_become_0 14 rfl rfl)
theorem dX4_become_17 : decode cX4_become 17 = .ok (.invokevirtual 39, 3) := dk_182 0 39 (dk_at dksX4_become_0 17 rfl rfl)
theorem dX4_become_20 : decode cX4_become 20 = .ok (.iinc 2 1, 3) := dk_132 2 1 (dk_at dksX4_become_0 20 rfl rfl)
theorem dX4_become_23 : decode cX4_become 23 = .ok (.goto (-21), 3) := dk_167 255 235 (dk_at dksX4_become_1 0 rfl rfl)
theorem dX4_become_26 : decode cX4_become 26 = .ok (.return_, 1) := dk_177 (dk_at dksX4_become_1 3 rfl rfl)
theorem q109 : (Jvm.Cond.initialized "TwoSidedTables$Tables") ∈ lw_all := lw_g (lw_at lw_m1 8 rfl) rfl
theorem q271 : (Jvm.Cond.instantiable "TwoSidedTables$Tables" (5 : Nat)) ∈ lw_all := lw_g (lw_at lw_m1 170 rfl) rfl
theorem q273 : (Jvm.Cond.instanceMethod ({ cls := "TwoSidedTables$Tables", name := "<init>", desc := "()V" } : Jvm.MethodName)) ∈ lw_all := lw_g (lw_at lw_m1 172 rfl) rfl
theorem q274 : (Jvm.Cond.code ({ cls := "TwoSidedTables$Tables", name := "<init>", desc := "()V" } : Jvm.MethodName) prog_16_method_2_code (1 : Nat) (Option.none : Option Jvm.ClassFile.FieldType)) ∈ lw_all := lw_g (lw_at lw_m1 173 rfl) rfl
theorem q275 : (Jvm.Cond.methodLink "TwoSidedTables$Tables" (34 : Nat) ({ cls := "TwoSidedTables$Tables", name := "<init>", desc := "(II)V" } : Jvm.MethodName)) ∈ lw_all := lw_g (lw_at lw_m1 174 rfl) rfl
theorem q276 : (Jvm.Cond.instanceMethod ({ cls := "TwoSidedTables$Tables", name := "<init>", desc := "(II)V" } : Jvm.MethodName)) ∈ lw_all := lw_g (lw_at lw_m1 175 rfl) rfl
theorem q277 : (Jvm.Cond.code ({ cls := "TwoSidedTables$Tables", name := "<init>", desc := "(II)V" } : Jvm.MethodName) prog_16_method_1_code (3 : Nat) (Option.none : Option Jvm.ClassFile.FieldType)) ∈ lw_all := lw_g (lw_at lw_m1 176 rfl) rfl
theorem q278 : (Jvm.Cond.methodLink "TwoSidedTables$Tables" (1 : Nat) ({ cls := "java/lang/Object", name := "<init>", desc := "()V" } : Jvm.MethodName)) ∈ lw_all := lw_g (lw_at lw_m1 177 rfl) rfl
theorem q279 : (Jvm.Cond.classLink "TwoSidedTables$Tables" (16 : Nat) "TwoSidedTables$Table") ∈ lw_all := lw_g (lw_at lw_m1 178 rfl) rfl
theorem q281 : (Jvm.Cond.methodLink "TwoSidedTables$Tables" (18 : Nat) ({ cls := "TwoSidedTables$Table", name := "<init>", desc := "(I)V" } : Jvm.MethodName)) ∈ lw_all := lw_g (lw_at lw_m1 180 rfl) rfl
theorem q305 : (Jvm.Cond.methodLink "TwoSidedTables$Tables" (28 : Nat) ({ cls := "TwoSidedTables$Table", name := "<init>", desc := "(II)V" } : Jvm.MethodName)) ∈ lw_all := lw_g (lw_at lw_m1 204 rfl) rfl
theorem q306 : (Jvm.Cond.fieldLink "TwoSidedTables$Tables" (7 : Nat) "TwoSidedTables$Tables" "m" "I") ∈ lw_all := lw_g (lw_at lw_m1 205 rfl) rfl
theorem q308 : (Jvm.Cond.fieldLink "TwoSidedTables$Tables" (13 : Nat) "TwoSidedTables$Tables" "n" "I") ∈ lw_all := lw_g (lw_at lw_m1 207 rfl) rfl
theorem q310 : (Jvm.Cond.fieldLink "TwoSidedTables$Tables" (21 : Nat) "TwoSidedTables$Tables" "a" "LTwoSidedTables$Table;") ∈ lw_all := lw_g (lw_at lw_m1 209 rfl) rfl
theorem q314 : (Jvm.Cond.fieldLink "TwoSidedTables$Tables" (25 : Nat) "TwoSidedTables$Tables" "b" "LTwoSidedTables$Table;") ∈ lw_all := lw_g (lw_at lw_m1 213 rfl) rfl
theorem q317 : (Jvm.Cond.fieldLink "TwoSidedTables$Tables" (31 : Nat) "TwoSidedTables$Tables" "c" "LTwoSidedTables$Table;") ∈ lw_all := lw_g (lw_at lw_m1 216 rfl) rfl
theorem q319 : (Jvm.Cond.laysFinal "TwoSidedTables$Tables" "TwoSidedTables$Tables" "m" "I") ∈ lw_all := lw_g (lw_at lw_m1 218 rfl) rfl
theorem q320 : (Jvm.Cond.soleField "TwoSidedTables$Tables" "m") ∈ lw_all := lw_g (lw_at lw_m1 219 rfl) rfl
theorem q321 : (Jvm.Cond.laysFinal "TwoSidedTables$Tables" "TwoSidedTables$Tables" "n" "I") ∈ lw_all := lw_g (lw_at lw_m1 220 rfl) rfl
theorem q322 : (Jvm.Cond.soleField "TwoSidedTables$Tables" "n") ∈ lw_all := lw_g (lw_at lw_m1 221 rfl) rfl
theorem q323 : (Jvm.Cond.laysFinal "TwoSidedTables$Tables" "TwoSidedTables$Tables" "a" "LTwoSidedTables$Table;") ∈ lw_all := lw_g (lw_at lw_m1 222 rfl) rfl
theorem q324 : (Jvm.Cond.soleField "TwoSidedTables$Tables" "a") ∈ lw_all := lw_g (lw_at lw_m1 223 rfl) rfl
theorem q325 : (Jvm.Cond.laysFinal "TwoSidedTables$Tables" "TwoSidedTables$Tables" "b" "LTwoSidedTables$Table;") ∈ lw_all := lw_g (lw_at lw_m1 224 rfl) rfl
theorem q326 : (Jvm.Cond.soleField "TwoSidedTables$Tables" "b") ∈ lw_all := lw_g (lw_at lw_m1 225 rfl) rfl
theorem q327 : (Jvm.Cond.laysFinal "TwoSidedTables$Tables" "TwoSidedTables$Tables" "c" "LTwoSidedTables$Table;") ∈ lw_all := lw_g (lw_at lw_m1 226 rfl) rfl
theorem q328 : (Jvm.Cond.soleField "TwoSidedTables$Tables" "c") ∈ lw_all := lw_g (lw_at lw_m1 227 rfl) rfl
theorem q329 : (Jvm.Cond.superclass "TwoSidedTables$Tables" "java/lang/Object") ∈ lw_all := lw_g (lw_at lw_m1 228 rfl) rfl
theorem q469 : (Jvm.Cond.instanceMethod ({ cls := "TwoSidedTables$Tables", name := "byNumber", desc := "(I)LTwoSidedTables$Table;" } : Jvm.MethodName)) ∈ lw_all := lw_g (lw_at lw_m2 128 rfl) rfl
theorem q470 : (Jvm.Cond.selects "TwoSidedTables$Tables" ({ cls := "TwoSidedTables$Tables", name := "byNumber", desc := "(I)LTwoSidedTables$Table;" } : Jvm.MethodName) ({ cls := "TwoSidedTables$Tables", name := "byNumber", desc := "(I)LTwoSidedTables$Table;" } : Jvm.MethodName)) ∈ lw_all := lw_g (lw_at lw_m2 129 rfl) rfl
theorem q471 : (Jvm.Cond.code ({ cls := "TwoSidedTables$Tables", name := "byNumber", desc := "(I)LTwoSidedTables$Table;" } : Jvm.MethodName) prog_16_method_3_code (2 : Nat) (Option.some (Jvm.ClassFile.FieldType.object "TwoSidedTables$Table"))) ∈ lw_all := lw_g (lw_at lw_m2 130 rfl) rfl
theorem q572 : (Jvm.Cond.instanceMethod ({ cls := "TwoSidedTables$Tables", name := "become", desc := "(LTwoSidedTables$Tables;)V" } : Jvm.MethodName)) ∈ lw_all := lw_g (lw_at lw_m2 231 rfl) rfl
theorem q573 : (Jvm.Cond.selects "TwoSidedTables$Tables" ({ cls := "TwoSidedTables$Tables", name := "become", desc := "(LTwoSidedTables$Tables;)V" } : Jvm.MethodName) ({ cls := "TwoSidedTables$Tables", name := "become", desc := "(LTwoSidedTables$Tables;)V" } : Jvm.MethodName)) ∈ lw_all := lw_g (lw_at lw_m2 232 rfl) rfl
theorem q574 : (Jvm.Cond.code ({ cls := "TwoSidedTables$Tables", name := "become", desc := "(LTwoSidedTables$Tables;)V" } : Jvm.MethodName) prog_16_method_4_code (3 : Nat) (Option.none : Option Jvm.ClassFile.FieldType)) ∈ lw_all := lw_g (lw_at lw_m2 233 rfl) rfl
theorem q575 : (Jvm.Cond.methodLink "TwoSidedTables$Tables" (35 : Nat) ({ cls := "TwoSidedTables$Tables", name := "byNumber", desc := "(I)LTwoSidedTables$Table;" } : Jvm.MethodName)) ∈ lw_all := lw_g (lw_at lw_m2 234 rfl) rfl
theorem q576 : (Jvm.Cond.methodLink "TwoSidedTables$Tables" (39 : Nat) ({ cls := "TwoSidedTables$Table", name := "become", desc := "(LTwoSidedTables$Table;)V" } : Jvm.MethodName)) ∈ lw_all := lw_g (lw_at lw_m2 235 rfl) rfl
theorem in_X4 : ∀ w ∈ wsX40, w ∈ lw_all := lw_in wsX40 [319, 321, 323, 325, 327] (by decide +kernel) (by decide +kernel)
/-! TwoSidedTables$Table -/
set_option maxRecDepth 100000
def RX5 : String := "TwoSidedTables$Table"
def TX5 : u_T := fun k => match k with
  | 0 => ("TwoSidedTables$Table", "rows", "I", true)
  | 1 => ("TwoSidedTables$Table", "columns", "I", true)
  | 2 => ("TwoSidedTables$Table", "most", "I", true)
  | _ => ("TwoSidedTables$Table", "cells", "[J", true)
def tyX5 : Nat → FieldType := fun k => match k with
  | 0 => .int
  | 1 => .int
  | 2 => .int
  | _ => .array .long
abbrev wsX50 : List Cond := u_ws RX5 TX5 4
theorem nmX5 : ∀ a, a < 4 → ∀ b, b < 4 → a ≠ b → (TX5 a).2.1 ≠ (TX5 b).2.1 := by decide +kernel
theorem tyX5_ok : ∀ k, k < 4 → parseFieldDescriptor (TX5 k).2.2.1 = some (tyX5 k) := by decide +kernel
abbrev cX5_init : ByteArray := prog_15_method_2_code
def yX5_init : MethodName := ⟨RX5, "<init>", "(I)V"⟩
def dkwX5_init_0 : List UInt8 := [42, 27, 27, 183, 0, 25, 177]
abbrev dktX5_init_0 : List UInt8 := dkwX5_init_0 ++ []
theorem dksX5_init_0 : cX5_init.data.toList.drop 0 = dktX5_init_0 := by decide +kernel
theorem dX5_init_0 : decode cX5_init 0 = .ok (.aload_n 0, 1) := dk_42 (dk_at dksX5_init_0 0 rfl rfl)
theorem dX5_init_1 : decode cX5_init 1 = .ok (.iload_n 1, 1) := dk_27 (dk_at dksX5_init_0 1 rfl rfl)
theorem dX5_init_2 : decode cX5_init 2 = .ok (.iload_n 1, 1) := dk_27 (dk_at dksX5_init_0 2 rfl rfl)
theorem dX5_init_3 : decode cX5_init 3 = .ok (.invokespecial 25, 3) := dk_183 0 25 (dk_at dksX5_init_0 3 rfl rfl)
theorem dX5_init_6 : decode cX5_init 6 = .ok (.return_, 1) := dk_177 (dk_at dksX5_init_0 6 rfl rfl)
abbrev cX5_init_2 : ByteArray := prog_15_method_1_code
def yX5_init_2 : MethodName := ⟨RX5, "<init>", "(II)V"⟩
def dkwX5_init_2_1 : List UInt8 := [181, 0, 19, 42, 28, 181, 0, 22, 177]
abbrev dktX5_init_2_1 : List UInt8 := dkwX5_init_2_1 ++ []
def dkwX5_init_2_0 : List UInt8 := [42, 183, 0, 3, 42, 16, 9, 181, 0, 9, 42, 42, 180, 0, 9, 188, 11, 181, 0, 15, 42, 27]
abbrev dktX5_init_2_0 : List UInt8 := dkwX5_init_2_0 ++ dktX5_init_2_1
theorem dksX5_init_2_0 : cX5_init_2.data.toList.drop 0 = dktX5_init_2_0 := by decide +kernel
theorem dksX5_init_2_1 : cX5_init_2.data.toList.drop 22 = dktX5_init_2_1 := dk_seg dksX5_init_2_0 22 rfl rfl
theorem dX5_init_2_0 : decode cX5_init_2 0 = .ok (.aload_n 0, 1) := dk_42 (dk_at dksX5_init_2_0 0 rfl rfl)
theorem dX5_init_2_1 : decode cX5_init_2 1 = .ok (.invokespecial 3, 3) := dk_183 0 3 (dk_at dksX5_init_2_0 1 rfl rfl)
theorem dX5_init_2_4 : decode cX5_init_2 4 = .ok (.aload_n 0, 1) := dk_42 (dk_at dksX5_init_2_0 4 rfl rfl)
theorem dX5_init_2_5 : decode cX5_init_2 5 = .ok (.bipush 9, 2) := dk_16 9 (dk_at dksX5_init_2_0 5 rfl rfl)
theorem dX5_init_2_7 : decode cX5_init_2 7 = .ok (.putfield 9, 3) := dk_181 0 9 (dk_at dksX5_init_2_0 7 rfl rfl)
theorem dX5_init_2_10 : decode cX5_init_2 10 = .ok (.aload_n 0, 1) := dk_42 (dk_at dksX5_init_2_0 10 rfl rfl)
theorem dX5_init_2_11 : decode cX5_init_2 11 = .ok (.aload_n 0, 1) := dk_42 (dk_at dksX5_init_2_0 11 rfl rfl)
theorem dX5_init_2_12 : decode cX5_init_2 12 = .ok (.getfield 9, 3) := dk_180 0 9 (dk_at dksX5_init_2_0 12 rfl rfl)
theorem dX5_init_2_15 : decode cX5_init_2 15 = .ok (.newarray .long, 2) := dk_188_11 (dk_at dksX5_init_2_0 15 rfl rfl)
theorem dX5_init_2_17 : decode cX5_init_2 17 = .ok (.putfield 15, 3) := dk_181 0 15 (dk_at dksX5_init_2_0 17 rfl rfl)
theorem dX5_init_2_20 : decode cX5_init_2 20 = .ok (.aload_n 0, 1) := dk_42 (dk_at dksX5_init_2_0 20 rfl rfl)
theorem dX5_init_2_21 : decode cX5_init_2 21 = .ok (.iload_n 1, 1) := dk_27 (dk_at dksX5_init_2_0 21 rfl rfl)
theorem dX5_init_2_22 : decode cX5_init_2 22 = .ok (.putfield 19, 3) := dk_181 0 19 (dk_at dksX5_init_2_1 0 rfl rfl)
theorem dX5_init_2_25 : decode cX5_init_2 25 = .ok (.aload_n 0, 1) := dk_42 (dk_at dksX5_init_2_1 3 rfl rfl)
theorem dX5_init_2_26 : decode cX5_init_2 26 = .ok (.iload_n 2, 1) := dk_28 (dk_at dksX5_init_2_1 4 rfl rfl)
theorem dX5_init_2_27 : decode cX5_init_2 27 = .ok (.putfield 22, 3) := dk_181 0 22 (dk_at dksX5_init_2_1 5 rfl rfl)
theorem dX5_init_2_30 : decode cX5_init_2 30 = .ok (.return_, 1) := dk_177 (dk_at dksX5_init_2_1 8 rfl rfl)
abbrev cX5_has : ByteArray := prog_15_method_5_code
def yX5_has : MethodName := ⟨RX5, "has", "(II)Z"⟩
def dkwX5_has_1 : List UInt8 := [184, 0, 28, 153, 0, 7, 4, 167, 0, 4, 3, 172]
abbrev dktX5_has_1 : List UInt8 := dkwX5_has_1 ++ []
def dkwX5_has_0 : List UInt8 := [27, 3, 42, 180, 0, 19, 4, 100, 184, 0, 28, 153, 0, 21, 28, 3, 42, 180, 0, 22, 4, 100]
abbrev dktX5_has_0 : List UInt8 := dkwX5_has_0 ++ dktX5_has_1
theorem dksX5_has_0 : cX5_has.data.toList.drop 0 = dktX5_has_0 := by decide +kernel
theorem dksX5_has_1 : cX5_has.data.toList.drop 22 = dktX5_has_1 := dk_seg dksX5_has_0 22 rfl rfl
theorem dX5_has_0 : decode cX5_has 0 = .ok (.iload_n 1, 1) := dk_27 (dk_at dksX5_has_0 0 rfl rfl)
theorem dX5_has_1 : decode cX5_has 1 = .ok (.iconst 0, 1) := dk_3 (dk_at dksX5_has_0 1 rfl rfl)
theorem dX5_has_2 : decode cX5_has 2 = .ok (.aload_n 0, 1) := dk_42 (dk_at dksX5_has_0 2 rfl rfl)
theorem dX5_has_3 : decode cX5_has 3 = .ok (.getfield 19, 3) := dk_180 0 19 (dk_at dksX5_has_0 3 rfl rfl)
theorem dX5_has_6 : decode cX5_has 6 = .ok (.iconst 1, 1) := dk_4 (dk_at dksX5_has_0 6 rfl rfl)
theorem dX5_has_7 : decode cX5_has 7 = .ok (.isub, 1) := dk_100 (dk_at dksX5_has_0 7 rfl rfl)
theorem dX5_has_8 : decode cX5_has 8 = .ok (.invokestatic 28, 3) := dk_184 0 28 (dk_at dksX5_has_0 8 rfl rfl)
theorem dX5_has_11 : decode cX5_has 11 = .ok (.ifCond .eq 21, 3) := dk_153 0 21 (dk_at dksX5_has_0 11 rfl rfl)
theorem dX5_has_14 : decode cX5_has 14 = .ok (.iload_n 2, 1) := dk_28 (dk_at dksX5_has_0 14 rfl rfl)
theorem dX5_has_15 : decode cX5_has 15 = .ok (.iconst 0, 1) := dk_3 (dk_at dksX5_has_0 15 rfl rfl)
theorem dX5_has_16 : decode cX5_has 16 = .ok (.aload_n 0, 1) := dk_42 (dk_at dksX5_has_0 16 rfl rfl)
theorem dX5_has_17 : decode cX5_has 17 = .ok (.getfield 22, 3) := dk_180 0 22 (dk_at dksX5_has_0 17 rfl rfl)
theorem dX5_has_20 : decode cX5_has 20 = .ok (.iconst 1, 1) := dk_4 (dk_at dksX5_has_0 20 rfl rfl)
theorem dX5_has_21 : decode cX5_has 21 = .ok (.isub, 1) := dk_100 (dk_at dksX5_has_0 21 rfl rfl)
theorem dX5_has_22 : decode cX5_has 22 = .ok (.invokestatic 28, 3) := dk_184 0 28 (dk_at dksX5_has_1 0 rfl rfl)
theorem dX5_has_25 : decode cX5_has 25 = .ok (.ifCond .eq 7, 3) := dk_153 0 7 (dk_at dksX5_has_1 3 rfl rfl)
theorem dX5_has_28 : decode cX5_has 28 = .ok (.iconst 1, 1) := dk_4 (dk_at dksX5_has_1 6 rfl rfl)
theorem dX5_has_29 : decode cX5_has 29 = .ok (.goto 4, 3) := dk_167 0 4 (dk_at dksX5_has_1 7 rfl rfl)
theorem dX5_has_32 : decode cX5_has 32 = .ok (.iconst 0, 1) := dk_3 (dk_at dksX5_has_1 10 rfl rfl)
theorem dX5_has_33 : decode cX5_has 33 = .ok (.ireturn, 1) := dk_172 (dk_at dksX5_has_1 11 rfl rfl)
abbrev cX5_at : ByteArray := prog_15_method_3_code
def yX5_at : MethodName := ⟨RX5, "at", "(II)J"⟩
def dkwX5_at_0 : List UInt8 := [42, 180, 0, 15, 42, 180, 0, 22, 27, 104, 28, 96, 47, 173]
abbrev dktX5_at_0 : List UInt8 := dkwX5_at_0 ++ []
theorem dksX5_at_0 : cX5_at.data.toList.drop 0 = dktX5_at_0 := by decide +kernel
theorem dX5_at_0 : decode cX5_at 0 = .ok (.aload_n 0, 1) := dk_42 (dk_at dksX5_at_0 0 rfl rfl)
theorem dX5_at_1 : decode cX5_at 1 = .ok (.getfield 15, 3) := dk_180 0 15 (dk_at dksX5_at_0 1 rfl rfl)
theorem dX5_at_4 : decode cX5_at 4 = .ok (.aload_n 0, 1) := dk_42 (dk_at dksX5_at_0 4 rfl rfl)
theorem dX5_at_5 : decode cX5_at 5 = .ok (.getfield 22, 3) := dk_180 0 22 (dk_at dksX5_at_0 5 rfl rfl)
theorem dX5_at_8 : decode cX5_at 8 = .ok (.iload_n 1, 1) := dk_27 (dk_at dksX5_at_0 8 rfl rfl)
theorem dX5_at_9 : decode cX5_at 9 = .ok (.imul, 1) := dk_104 (dk_at dksX5_at_0 9 rfl rfl)
theorem dX5_at_10 : decode cX5_at 10 = .ok (.iload_n 2, 1) := dk_28 (dk_at dksX5_at_0 10 rfl rfl)
theorem dX5_at_11 : decode cX5_at 11 = .ok (.iadd, 1) := dk_96 (dk_at dksX5_at_0 11 rfl rfl)
theorem dX5_at_12 : decode cX5_at 12 = .ok (.laload, 1) := dk_47 (dk_at dksX5_at_0 12 rfl rfl)
theorem dX5_at_13 : decode cX5_at 13 = .ok (.lreturn, 1) := dk_173 (dk_at dksX5_at_0 13 rfl rfl)
abbrev cX5_set : ByteArray := prog_15_method_4_code
def yX5_set : MethodName := ⟨RX5, "set", "(IIJ)V"⟩
def dkwX5_set_0 : List UInt8 := [42, 180, 0, 15, 42, 180, 0, 22, 27, 104, 28, 96, 33, 80, 177]
abbrev dktX5_set_0 : List UInt8 := dkwX5_set_0 ++ []
theorem dksX5_set_0 : cX5_set.data.toList.drop 0 = dktX5_set_0 := by decide +kernel
theorem dX5_set_0 : decode cX5_set 0 = .ok (.aload_n 0, 1) := dk_42 (dk_at dksX5_set_0 0 rfl rfl)
theorem dX5_set_1 : decode cX5_set 1 = .ok (.getfield 15, 3) := dk_180 0 15 (dk_at dksX5_set_0 1 rfl rfl)
theorem dX5_set_4 : decode cX5_set 4 = .ok (.aload_n 0, 1) := dk_42 (dk_at dksX5_set_0 4 rfl rfl)
theorem dX5_set_5 : decode cX5_set 5 = .ok (.getfield 22, 3) := dk_180 0 22 (dk_at dksX5_set_0 5 rfl rfl)
theorem dX5_set_8 : decode cX5_set 8 = .ok (.iload_n 1, 1) := dk_27 (dk_at dksX5_set_0 8 rfl rfl)
theorem dX5_set_9 : decode cX5_set 9 = .ok (.imul, 1) := dk_104 (dk_at dksX5_set_0 9 rfl rfl)
theorem dX5_set_10 : decode cX5_set 10 = .ok (.iload_n 2, 1) := dk_28 (dk_at dksX5_set_0 10 rfl rfl)
theorem dX5_set_11 : decode cX5_set 11 = .ok (.iadd, 1) := dk_96 (dk_at dksX5_set_0 11 rfl rfl)
theorem dX5_set_12 : decode cX5_set 12 = .ok (.lload_n 3, 1) := dk_33 (dk_at dksX5_set_0 12 rfl rfl)
theorem dX5_set_13 : decode cX5_set 13 = .ok (.lastore, 1) := dk_80 (dk_at dksX5_set_0 13 rfl rfl)
theorem dX5_set_14 : decode cX5_set 14 = .ok (.return_, 1) := dk_177 (dk_at dksX5_set_0 14 rfl rfl)
abbrev cX5_diagonal : ByteArray := prog_15_method_7_code
def yX5_diagonal : MethodName := ⟨RX5, "diagonal", "()J"⟩
def dkwX5_diagonal_1 : List UInt8 := [167, 255, 236, 31, 173]
abbrev dktX5_diagonal_1 : List UInt8 := dkwX5_diagonal_1 ++ []
def dkwX5_diagonal_0 : List UInt8 := [9, 64, 3, 62, 29, 42, 180, 0, 19, 162, 0, 18, 31, 42, 29, 29, 182, 0, 38, 97, 64, 132, 3, 1]
abbrev dktX5_diagonal_0 : List UInt8 := dkwX5_diagonal_0 ++ dktX5_diagonal_1
theorem dksX5_diagonal_0 : cX5_diagonal.data.toList.drop 0 = dktX5_diagonal_0 := by decide +kernel
theorem dksX5_diagonal_1 : cX5_diagonal.data.toList.drop 24 = dktX5_diagonal_1 := dk_seg dksX5_diagonal_0 24 rfl rfl
theorem dX5_diagonal_0 : decode cX5_diagonal 0 = .ok (.lconst 0, 1) := dk_9 (dk_at dksX5_diagonal_0 0 rfl rfl)
theorem dX5_diagonal_1 : decode cX5_diagonal 1 = .ok (.lstore_n 1, 1) := dk_64 (dk_at dksX5_diagonal_0 1 rfl rfl)
theorem dX5_diagonal_2 : decode cX5_diagonal 2 = .ok (.iconst 0, 1) := dk_3 (dk_at dksX5_diagonal_0 2 rfl rfl)
theorem dX5_diagonal_3 : decode cX5_diagonal 3 = .ok (.istore_n 3, 1) := dk_62 (dk_at dksX5_diagonal_0 3 rfl rfl)
theorem dX5_diagonal_4 : decode cX5_diagonal 4 = .ok (.iload_n 3, 1) := dk_29 (dk_at dksX5_diagonal_0 4 rfl rfl)
theorem dX5_diagonal_5 : decode cX5_diagonal 5 = .ok (.aload_n 0, 1) := dk_42 (dk_at dksX5_diagonal_0 5 rfl rfl)
theorem dX5_diagonal_6 : decode cX5_diagonal 6 = .ok (.getfield 19, 3) := dk_180 0 19 (dk_at dksX5_diagonal_0 6 rfl rfl)
theorem dX5_diagonal_9 : decode cX5_diagonal 9 = .ok (.if_icmp .ge 18, 3) := dk_162 0 18 (dk_at dksX5_diagonal_0 9 rfl rfl)
theorem dX5_diagonal_12 : decode cX5_diagonal 12 = .ok (.lload_n 1, 1) := dk_31 (dk_at dksX5_diagonal_0 12 rfl rfl)
theorem dX5_diagonal_13 : decode cX5_diagonal 13 = .ok (.aload_n 0, 1) := dk_42 (dk_at dksX5_diagonal_0 13 rfl rfl)
theorem dX5_diagonal_14 : decode cX5_diagonal 14 = .ok (.iload_n 3, 1) := dk_29 (dk_at dksX5_diagonal_0 14 rfl rfl)
theorem dX5_diagonal_15 : decode cX5_diagonal 15 = .ok (.iload_n 3, 1) := dk_29 (dk_at dksX5_diagonal_0 15 rfl rfl)
theorem dX5_diagonal_16 : decode cX5_diagonal 16 = .ok (.invokevirtual 38, 3) := dk_182 0 38 (dk_at dksX5_diagonal_0 16 rfl rfl)
theorem dX5_diagonal_19 : decode cX5_diagonal 19 = .ok (.ladd, 1) := dk_97 (dk_at dksX5_diagonal_0 19 rfl rfl)
theorem dX5_diagonal_20 : decode cX5_diagonal 20 = .ok (.lstore_n 1, 1) := dk_64 (dk_at dksX5_diagonal_0 20 rfl rfl)
theorem dX5_diagonal_21 : decode cX5_diagonal 21 = .ok (.iinc 3 1, 3) := dk_132 3 1 (dk_at dksX5_diagonal_0 21 rfl rfl)
theorem dX5_diagonal_24 : decode cX5_diagonal 24 = .ok (.goto (-20), 3) := dk_167 255 236 (dk_at dksX5_diagonal_1 0 rfl rfl)
theorem dX5_diagonal_27 : decode cX5_diagonal 27 = .ok (.lload_n 1, 1) := dk_31 (dk_at dksX5_diagonal_1 3 rfl rfl)
theorem dX5_diagonal_28 : decode cX5_diagonal 28 = .ok (.lreturn, 1) := dk_173 (dk_at dksX5_diagonal_1 4 rfl rfl)
abbrev cX5_become : ByteArray := prog_15_method_6_code
def yX5_become : MethodName := ⟨RX5, "become", "(LTwoSidedTables$Table;)V"⟩
def dkwX5_become_0 : List UInt8 := [43, 180, 0, 15, 3, 42, 180, 0, 15, 3, 42, 180, 0, 9, 184, 0, 32, 177]
abbrev dktX5_become_0 : List UInt8 := dkwX5_become_0 ++ []
theorem dksX5_become_0 : cX5_become.data.toList.drop 0 = dktX5_become_0 := by decide +kernel
theorem dX5_become_0 : decode cX5_become 0 = .ok (.aload_n 1, 1) := dk_43 (dk_at dksX5_become_0 0 rfl rfl)
theorem dX5_become_1 : decode cX5_become 1 = .ok (.getfield 15, 3) := dk_180 0 15 (dk_at dksX5_become_0 1 rfl rfl)
theorem dX5_become_4 : decode cX5_become 4 = .ok (.iconst 0, 1) := dk_3 (dk_at dksX5_become_0 4 rfl rfl)
theorem dX5_become_5 : decode cX5_become 5 = .ok (.aload_n 0, 1) := dk_42 (dk_at dksX5_become_0 5 rfl rfl)
theorem dX5_become_6 : decode cX5_become 6 = .ok (.getfield 15, 3) := dk_180 0 15 (dk_at dksX5_become_0 6 rfl rfl)
theorem dX5_become_9 : decode cX5_become 9 = .ok (.iconst 0, 1) := dk_3 (dk_at dksX5_become_0 9 rfl rfl)
theorem dX5_become_10 : decode cX5_become 10 = .ok (.aload_n 0, 1) := dk_42 (dk_at dksX5_become_0 10 rfl rfl)
theorem dX5_become_11 : decode cX5_become 11 = .ok (.getfield 9, 3) := dk_180 0 9 (dk_at dksX5_become_0 11 rfl rfl)
theorem dX5_become_14 : decode cX5_become 14 = .ok (.invokestatic 32, 3) := dk_184 0 32 (dk_at dksX5_become_0 14 rfl rfl)
theorem dX5_become_17 : decode cX5_become 17 = .ok (.return_, 1) := dk_177 (dk_at dksX5_become_0 17 rfl rfl)
theorem q110 : (Jvm.Cond.initialized "TwoSidedTables$Table") ∈ lw_all := lw_g (lw_at lw_m1 9 rfl) rfl
theorem q280 : (Jvm.Cond.instantiable "TwoSidedTables$Table" (4 : Nat)) ∈ lw_all := lw_g (lw_at lw_m1 179 rfl) rfl
theorem q282 : (Jvm.Cond.instanceMethod ({ cls := "TwoSidedTables$Table", name := "<init>", desc := "(I)V" } : Jvm.MethodName)) ∈ lw_all := lw_g (lw_at lw_m1 181 rfl) rfl
theorem q283 : (Jvm.Cond.code ({ cls := "TwoSidedTables$Table", name := "<init>", desc := "(I)V" } : Jvm.MethodName) prog_15_method_2_code (2 : Nat) (Option.none : Option Jvm.ClassFile.FieldType)) ∈ lw_all := lw_g (lw_at lw_m1 182 rfl) rfl
theorem q284 : (Jvm.Cond.methodLink "TwoSidedTables$Table" (25 : Nat) ({ cls := "TwoSidedTables$Table", name := "<init>", desc := "(II)V" } : Jvm.MethodName)) ∈ lw_all := lw_g (lw_at lw_m1 183 rfl) rfl
theorem q285 : (Jvm.Cond.instanceMethod ({ cls := "TwoSidedTables$Table", name := "<init>", desc := "(II)V" } : Jvm.MethodName)) ∈ lw_all := lw_g (lw_at lw_m1 184 rfl) rfl
theorem q286 : (Jvm.Cond.code ({ cls := "TwoSidedTables$Table", name := "<init>", desc := "(II)V" } : Jvm.MethodName) prog_15_method_1_code (3 : Nat) (Option.none : Option Jvm.ClassFile.FieldType)) ∈ lw_all := lw_g (lw_at lw_m1 185 rfl) rfl
theorem q287 : (Jvm.Cond.methodLink "TwoSidedTables$Table" (3 : Nat) ({ cls := "java/lang/Object", name := "<init>", desc := "()V" } : Jvm.MethodName)) ∈ lw_all := lw_g (lw_at lw_m1 186 rfl) rfl
theorem q288 : (Jvm.Cond.fieldLink "TwoSidedTables$Table" (19 : Nat) "TwoSidedTables$Table" "rows" "I") ∈ lw_all := lw_g (lw_at lw_m1 187 rfl) rfl
theorem q290 : (Jvm.Cond.fieldLink "TwoSidedTables$Table" (22 : Nat) "TwoSidedTables$Table" "columns" "I") ∈ lw_all := lw_g (lw_at lw_m1 189 rfl) rfl
theorem q292 : (Jvm.Cond.fieldLink "TwoSidedTables$Table" (9 : Nat) "TwoSidedTables$Table" "most" "I") ∈ lw_all := lw_g (lw_at lw_m1 191 rfl) rfl
theorem q293 : (Jvm.Cond.fieldLink "TwoSidedTables$Table" (15 : Nat) "TwoSidedTables$Table" "cells" "[J") ∈ lw_all := lw_g (lw_at lw_m1 192 rfl) rfl
theorem q295 : (Jvm.Cond.laysFinal "TwoSidedTables$Table" "TwoSidedTables$Table" "rows" "I") ∈ lw_all := lw_g (lw_at lw_m1 194 rfl) rfl
theorem q296 : (Jvm.Cond.soleField "TwoSidedTables$Table" "rows") ∈ lw_all := lw_g (lw_at lw_m1 195 rfl) rfl
theorem q297 : (Jvm.Cond.laysFinal "TwoSidedTables$Table" "TwoSidedTables$Table" "columns" "I") ∈ lw_all := lw_g (lw_at lw_m1 196 rfl) rfl
theorem q298 : (Jvm.Cond.soleField "TwoSidedTables$Table" "columns") ∈ lw_all := lw_g (lw_at lw_m1 197 rfl) rfl
theorem q299 : (Jvm.Cond.laysFinal "TwoSidedTables$Table" "TwoSidedTables$Table" "most" "I") ∈ lw_all := lw_g (lw_at lw_m1 198 rfl) rfl
theorem q300 : (Jvm.Cond.soleField "TwoSidedTables$Table" "most") ∈ lw_all := lw_g (lw_at lw_m1 199 rfl) rfl
theorem q301 : (Jvm.Cond.laysFinal "TwoSidedTables$Table" "TwoSidedTables$Table" "cells" "[J") ∈ lw_all := lw_g (lw_at lw_m1 200 rfl) rfl
theorem q302 : (Jvm.Cond.soleField "TwoSidedTables$Table" "cells") ∈ lw_all := lw_g (lw_at lw_m1 201 rfl) rfl
theorem q303 : (Jvm.Cond.superclass "TwoSidedTables$Table" "java/lang/Object") ∈ lw_all := lw_g (lw_at lw_m1 202 rfl) rfl
theorem q473 : (Jvm.Cond.instanceMethod ({ cls := "TwoSidedTables$Table", name := "has", desc := "(II)Z" } : Jvm.MethodName)) ∈ lw_all := lw_g (lw_at lw_m2 132 rfl) rfl
theorem q474 : (Jvm.Cond.selects "TwoSidedTables$Table" ({ cls := "TwoSidedTables$Table", name := "has", desc := "(II)Z" } : Jvm.MethodName) ({ cls := "TwoSidedTables$Table", name := "has", desc := "(II)Z" } : Jvm.MethodName)) ∈ lw_all := lw_g (lw_at lw_m2 133 rfl) rfl
theorem q475 : (Jvm.Cond.code ({ cls := "TwoSidedTables$Table", name := "has", desc := "(II)Z" } : Jvm.MethodName) prog_15_method_5_code (3 : Nat) (Option.some Jvm.ClassFile.FieldType.boolean)) ∈ lw_all := lw_g (lw_at lw_m2 134 rfl) rfl
theorem q476 : (Jvm.Cond.methodLinkNest "TwoSidedTables$Table" (28 : Nat) ({ cls := "TwoSidedTables", name := "isIn", desc := "(III)Z" } : Jvm.MethodName) "TwoSidedTables") ∈ lw_tbl := lw_at lw_m2 135 rfl
theorem q481 : (Jvm.Cond.instanceMethod ({ cls := "TwoSidedTables$Table", name := "at", desc := "(II)J" } : Jvm.MethodName)) ∈ lw_all := lw_g (lw_at lw_m2 140 rfl) rfl
theorem q482 : (Jvm.Cond.selects "TwoSidedTables$Table" ({ cls := "TwoSidedTables$Table", name := "at", desc := "(II)J" } : Jvm.MethodName) ({ cls := "TwoSidedTables$Table", name := "at", desc := "(II)J" } : Jvm.MethodName)) ∈ lw_all := lw_g (lw_at lw_m2 141 rfl) rfl
theorem q483 : (Jvm.Cond.code ({ cls := "TwoSidedTables$Table", name := "at", desc := "(II)J" } : Jvm.MethodName) prog_15_method_3_code (3 : Nat) (Option.some Jvm.ClassFile.FieldType.long)) ∈ lw_all := lw_g (lw_at lw_m2 142 rfl) rfl
theorem q485 : (Jvm.Cond.instanceMethod ({ cls := "TwoSidedTables$Table", name := "set", desc := "(IIJ)V" } : Jvm.MethodName)) ∈ lw_all := lw_g (lw_at lw_m2 144 rfl) rfl
theorem q486 : (Jvm.Cond.selects "TwoSidedTables$Table" ({ cls := "TwoSidedTables$Table", name := "set", desc := "(IIJ)V" } : Jvm.MethodName) ({ cls := "TwoSidedTables$Table", name := "set", desc := "(IIJ)V" } : Jvm.MethodName)) ∈ lw_all := lw_g (lw_at lw_m2 145 rfl) rfl
theorem q487 : (Jvm.Cond.code ({ cls := "TwoSidedTables$Table", name := "set", desc := "(IIJ)V" } : Jvm.MethodName) prog_15_method_4_code (5 : Nat) (Option.none : Option Jvm.ClassFile.FieldType)) ∈ lw_all := lw_g (lw_at lw_m2 146 rfl) rfl
theorem q545 : (Jvm.Cond.instanceMethod ({ cls := "TwoSidedTables$Table", name := "diagonal", desc := "()J" } : Jvm.MethodName)) ∈ lw_all := lw_g (lw_at lw_m2 204 rfl) rfl
theorem q546 : (Jvm.Cond.selects "TwoSidedTables$Table" ({ cls := "TwoSidedTables$Table", name := "diagonal", desc := "()J" } : Jvm.MethodName) ({ cls := "TwoSidedTables$Table", name := "diagonal", desc := "()J" } : Jvm.MethodName)) ∈ lw_all := lw_g (lw_at lw_m2 205 rfl) rfl
theorem q547 : (Jvm.Cond.code ({ cls := "TwoSidedTables$Table", name := "diagonal", desc := "()J" } : Jvm.MethodName) prog_15_method_7_code (4 : Nat) (Option.some Jvm.ClassFile.FieldType.long)) ∈ lw_all := lw_g (lw_at lw_m2 206 rfl) rfl
theorem q548 : (Jvm.Cond.methodLink "TwoSidedTables$Table" (38 : Nat) ({ cls := "TwoSidedTables$Table", name := "at", desc := "(II)J" } : Jvm.MethodName)) ∈ lw_all := lw_g (lw_at lw_m2 207 rfl) rfl
theorem q577 : (Jvm.Cond.instanceMethod ({ cls := "TwoSidedTables$Table", name := "become", desc := "(LTwoSidedTables$Table;)V" } : Jvm.MethodName)) ∈ lw_all := lw_g (lw_at lw_m2 236 rfl) rfl
theorem q578 : (Jvm.Cond.selects "TwoSidedTables$Table" ({ cls := "TwoSidedTables$Table", name := "become", desc := "(LTwoSidedTables$Table;)V" } : Jvm.MethodName) ({ cls := "TwoSidedTables$Table", name := "become", desc := "(LTwoSidedTables$Table;)V" } : Jvm.MethodName)) ∈ lw_all := lw_g (lw_at lw_m2 237 rfl) rfl
theorem q579 : (Jvm.Cond.code ({ cls := "TwoSidedTables$Table", name := "become", desc := "(LTwoSidedTables$Table;)V" } : Jvm.MethodName) prog_15_method_6_code (2 : Nat) (Option.none : Option Jvm.ClassFile.FieldType)) ∈ lw_all := lw_g (lw_at lw_m2 238 rfl) rfl
theorem q580 : (Jvm.Cond.methodLink "TwoSidedTables$Table" (32 : Nat) ({ cls := "java/lang/System", name := "arraycopy", desc := "(Ljava/lang/Object;ILjava/lang/Object;II)V" } : Jvm.MethodName)) ∈ lw_all := lw_g (lw_at lw_m2 239 rfl) rfl
theorem in_X5 : ∀ w ∈ wsX50, w ∈ lw_all := lw_in wsX50 [295, 297, 299, 301] (by decide +kernel) (by decide +kernel)
/-! TwoSidedTables$Trace -/
set_option maxRecDepth 100000
def RX6 : String := "TwoSidedTables$Trace"
def TX6 : u_T := fun k => match k with
  | 0 => ("TwoSidedTables$Trace", "bodies", "[I", true)
  | _ => ("TwoSidedTables$Trace", "many", "I", false)
def tyX6 : Nat → FieldType := fun k => match k with
  | 0 => .array .int
  | _ => .int
abbrev wsX60 : List Cond := u_ws RX6 TX6 2
theorem nmX6 : ∀ a, a < 2 → ∀ b, b < 2 → a ≠ b → (TX6 a).2.1 ≠ (TX6 b).2.1 := by decide +kernel
theorem tyX6_ok : ∀ k, k < 2 → parseFieldDescriptor (TX6 k).2.2.1 = some (tyX6 k) := by decide +kernel
abbrev cX6_init : ByteArray := prog_18_method_1_code
def yX6_init : MethodName := ⟨RX6, "<init>", "()V"⟩
def dkwX6_init_0 : List UInt8 := [42, 183, 0, 1, 42, 16, 30, 188, 10, 181, 0, 7, 177]
abbrev dktX6_init_0 : List UInt8 := dkwX6_init_0 ++ []
theorem dksX6_init_0 : cX6_init.data.toList.drop 0 = dktX6_init_0 := by decide +kernel
theorem dX6_init_0 : decode cX6_init 0 = .ok (.aload_n 0, 1) := dk_42 (dk_at dksX6_init_0 0 rfl rfl)
theorem dX6_init_1 : decode cX6_init 1 = .ok (.invokespecial 1, 3) := dk_183 0 1 (dk_at dksX6_init_0 1 rfl rfl)
theorem dX6_init_4 : decode cX6_init 4 = .ok (.aload_n 0, 1) := dk_42 (dk_at dksX6_init_0 4 rfl rfl)
theorem dX6_init_5 : decode cX6_init 5 = .ok (.bipush 30, 2) := dk_16 30 (dk_at dksX6_init_0 5 rfl rfl)
theorem dX6_init_7 : decode cX6_init 7 = .ok (.newarray .int, 2) := dk_188_10 (dk_at dksX6_init_0 7 rfl rfl)
theorem dX6_init_9 : decode cX6_init 9 = .ok (.putfield 7, 3) := dk_181 0 7 (dk_at dksX6_init_0 9 rfl rfl)
theorem dX6_init_12 : decode cX6_init 12 = .ok (.return_, 1) := dk_177 (dk_at dksX6_init_0 12 rfl rfl)
abbrev cX6_ran : ByteArray := prog_18_method_2_code
def yX6_ran : MethodName := ⟨RX6, "ran", "(I)V"⟩
def dkwX6_ran_1 : List UInt8 := [89, 180, 0, 13, 4, 96, 181, 0, 13, 177]
abbrev dktX6_ran_1 : List UInt8 := dkwX6_ran_1 ++ []
def dkwX6_ran_0 : List UInt8 := [42, 180, 0, 13, 42, 180, 0, 7, 190, 160, 0, 4, 177, 42, 180, 0, 7, 42, 180, 0, 13, 27, 79, 42]
abbrev dktX6_ran_0 : List UInt8 := dkwX6_ran_0 ++ dktX6_ran_1
theorem dksX6_ran_0 : cX6_ran.data.toList.drop 0 = dktX6_ran_0 := by decide +kernel
theorem dksX6_ran_1 : cX6_ran.data.toList.drop 24 = dktX6_ran_1 := dk_seg dksX6_ran_0 24 rfl rfl
theorem dX6_ran_0 : decode cX6_ran 0 = .ok (.aload_n 0, 1) := dk_42 (dk_at dksX6_ran_0 0 rfl rfl)
theorem dX6_ran_1 : decode cX6_ran 1 = .ok (.getfield 13, 3) := dk_180 0 13 (dk_at dksX6_ran_0 1 rfl rfl)
theorem dX6_ran_4 : decode cX6_ran 4 = .ok (.aload_n 0, 1) := dk_42 (dk_at dksX6_ran_0 4 rfl rfl)
theorem dX6_ran_5 : decode cX6_ran 5 = .ok (.getfield 7, 3) := dk_180 0 7 (dk_at dksX6_ran_0 5 rfl rfl)
theorem dX6_ran_8 : decode cX6_ran 8 = .ok (.arraylength, 1) := dk_190 (dk_at dksX6_ran_0 8 rfl rfl)
theorem dX6_ran_9 : decode cX6_ran 9 = .ok (.if_icmp .ne 4, 3) := dk_160 0 4 (dk_at dksX6_ran_0 9 rfl rfl)
theorem dX6_ran_12 : decode cX6_ran 12 = .ok (.return_, 1) := dk_177 (dk_at dksX6_ran_0 12 rfl rfl)
theorem dX6_ran_13 : decode cX6_ran 13 = .ok (.aload_n 0, 1) := dk_42 (dk_at dksX6_ran_0 13 rfl rfl)
theorem dX6_ran_14 : decode cX6_ran 14 = .ok (.getfield 7, 3) := dk_180 0 7 (dk_at dksX6_ran_0 14 rfl rfl)
theorem dX6_ran_17 : decode cX6_ran 17 = .ok (.aload_n 0, 1) := dk_42 (dk_at dksX6_ran_0 17 rfl rfl)
theorem dX6_ran_18 : decode cX6_ran 18 = .ok (.getfield 13, 3) := dk_180 0 13 (dk_at dksX6_ran_0 18 rfl rfl)
theorem dX6_ran_21 : decode cX6_ran 21 = .ok (.iload_n 1, 1) := dk_27 (dk_at dksX6_ran_0 21 rfl rfl)
theorem dX6_ran_22 : decode cX6_ran 22 = .ok (.iastore, 1) := dk_79 (dk_at dksX6_ran_0 22 rfl rfl)
theorem dX6_ran_23 : decode cX6_ran 23 = .ok (.aload_n 0, 1) := dk_42 (dk_at dksX6_ran_0 23 rfl rfl)
theorem dX6_ran_24 : decode cX6_ran 24 = .ok (.dup, 1) := dk_89 (dk_at dksX6_ran_1 0 rfl rfl)
theorem dX6_ran_25 : decode cX6_ran 25 = .ok (.getfield 13, 3) := dk_180 0 13 (dk_at dksX6_ran_1 1 rfl rfl)
theorem dX6_ran_28 : decode cX6_ran 28 = .ok (.iconst 1, 1) := dk_4 (dk_at dksX6_ran_1 4 rfl rfl)
theorem dX6_ran_29 : decode cX6_ran 29 = .ok (.iadd, 1) := dk_96 (dk_at dksX6_ran_1 5 rfl rfl)
theorem dX6_ran_30 : decode cX6_ran 30 = .ok (.putfield 13, 3) := dk_181 0 13 (dk_at dksX6_ran_1 6 rfl rfl)
theorem dX6_ran_33 : decode cX6_ran 33 = .ok (.return_, 1) := dk_177 (dk_at dksX6_ran_1 9 rfl rfl)
theorem q111 : (Jvm.Cond.initialized "TwoSidedTables$Trace") ∈ lw_all := lw_g (lw_at lw_m1 10 rfl) rfl
theorem q340 : (Jvm.Cond.instantiable "TwoSidedTables$Trace" (2 : Nat)) ∈ lw_all := lw_g (lw_at lw_m1 239 rfl) rfl
theorem q342 : (Jvm.Cond.instanceMethod ({ cls := "TwoSidedTables$Trace", name := "<init>", desc := "()V" } : Jvm.MethodName)) ∈ lw_all := lw_g (lw_at lw_m2 1 rfl) rfl
theorem q343 : (Jvm.Cond.code ({ cls := "TwoSidedTables$Trace", name := "<init>", desc := "()V" } : Jvm.MethodName) prog_18_method_1_code (1 : Nat) (Option.none : Option Jvm.ClassFile.FieldType)) ∈ lw_all := lw_g (lw_at lw_m2 2 rfl) rfl
theorem q344 : (Jvm.Cond.methodLink "TwoSidedTables$Trace" (1 : Nat) ({ cls := "java/lang/Object", name := "<init>", desc := "()V" } : Jvm.MethodName)) ∈ lw_all := lw_g (lw_at lw_m2 3 rfl) rfl
theorem q345 : (Jvm.Cond.fieldLink "TwoSidedTables$Trace" (7 : Nat) "TwoSidedTables$Trace" "bodies" "[I") ∈ lw_all := lw_g (lw_at lw_m2 4 rfl) rfl
theorem q347 : (Jvm.Cond.fieldLink "TwoSidedTables$Trace" (13 : Nat) "TwoSidedTables$Trace" "many" "I") ∈ lw_all := lw_g (lw_at lw_m2 6 rfl) rfl
theorem q349 : (Jvm.Cond.laysFinal "TwoSidedTables$Trace" "TwoSidedTables$Trace" "bodies" "[I") ∈ lw_all := lw_g (lw_at lw_m2 8 rfl) rfl
theorem q350 : (Jvm.Cond.soleField "TwoSidedTables$Trace" "bodies") ∈ lw_all := lw_g (lw_at lw_m2 9 rfl) rfl
theorem q351 : (Jvm.Cond.lays "TwoSidedTables$Trace" "TwoSidedTables$Trace" "many" "I") ∈ lw_all := lw_g (lw_at lw_m2 10 rfl) rfl
theorem q352 : (Jvm.Cond.soleField "TwoSidedTables$Trace" "many") ∈ lw_all := lw_g (lw_at lw_m2 11 rfl) rfl
theorem q353 : (Jvm.Cond.superclass "TwoSidedTables$Trace" "java/lang/Object") ∈ lw_all := lw_g (lw_at lw_m2 12 rfl) rfl
theorem q1355 : (Jvm.Cond.instanceMethod ({ cls := "TwoSidedTables$Trace", name := "ran", desc := "(I)V" } : Jvm.MethodName)) ∈ lw_all := lw_g (lw_at lw_m6 54 rfl) rfl
theorem q1356 : (Jvm.Cond.selects "TwoSidedTables$Trace" ({ cls := "TwoSidedTables$Trace", name := "ran", desc := "(I)V" } : Jvm.MethodName) ({ cls := "TwoSidedTables$Trace", name := "ran", desc := "(I)V" } : Jvm.MethodName)) ∈ lw_all := lw_g (lw_at lw_m6 55 rfl) rfl
theorem q1357 : (Jvm.Cond.code ({ cls := "TwoSidedTables$Trace", name := "ran", desc := "(I)V" } : Jvm.MethodName) prog_18_method_2_code (2 : Nat) (Option.none : Option Jvm.ClassFile.FieldType)) ∈ lw_all := lw_g (lw_at lw_m6 56 rfl) rfl
theorem in_X6 : ∀ w ∈ wsX60, w ∈ lw_all := lw_in wsX60 [349, 351] (by decide +kernel) (by decide +kernel)
/-! TwoSidedTables$Shelf -/
set_option maxRecDepth 100000
def RX7 : String := "TwoSidedTables$Shelf"
def TX7 : u_T := fun k => match k with
  | _ => ("TwoSidedTables$Shelf", "held", "Ljava/lang/Object;", false)
def tyX7 : Nat → FieldType := fun k => match k with
  | _ => .object "java/lang/Object"
abbrev wsX70 : List Cond := u_ws RX7 TX7 1
theorem nmX7 : ∀ a, a < 1 → ∀ b, b < 1 → a ≠ b → (TX7 a).2.1 ≠ (TX7 b).2.1 := by decide +kernel
theorem tyX7_ok : ∀ k, k < 1 → parseFieldDescriptor (TX7 k).2.2.1 = some (tyX7 k) := by decide +kernel
abbrev cX7_init : ByteArray := prog_14_method_1_code
def yX7_init : MethodName := ⟨RX7, "<init>", "()V"⟩
theorem dX7_init_0 : decode cX7_init 0 = .ok (.aload_n 0, 1) := by decide +kernel
theorem dX7_init_1 : decode cX7_init 1 = .ok (.invokespecial 1, 3) := by decide +kernel
theorem dX7_init_4 : decode cX7_init 4 = .ok (.return_, 1) := by decide +kernel
theorem q112 : (Jvm.Cond.initialized "TwoSidedTables$Shelf") ∈ lw_all := lw_g (lw_at lw_m1 11 rfl) rfl
theorem q356 : (Jvm.Cond.instantiable "TwoSidedTables$Shelf" (1 : Nat)) ∈ lw_all := lw_g (lw_at lw_m2 15 rfl) rfl
theorem q358 : (Jvm.Cond.instanceMethod ({ cls := "TwoSidedTables$Shelf", name := "<init>", desc := "()V" } : Jvm.MethodName)) ∈ lw_all := lw_g (lw_at lw_m2 17 rfl) rfl
theorem q359 : (Jvm.Cond.code ({ cls := "TwoSidedTables$Shelf", name := "<init>", desc := "()V" } : Jvm.MethodName) prog_14_method_1_code (1 : Nat) (Option.none : Option Jvm.ClassFile.FieldType)) ∈ lw_all := lw_g (lw_at lw_m2 18 rfl) rfl
theorem q360 : (Jvm.Cond.methodLink "TwoSidedTables$Shelf" (1 : Nat) ({ cls := "java/lang/Object", name := "<init>", desc := "()V" } : Jvm.MethodName)) ∈ lw_all := lw_g (lw_at lw_m2 19 rfl) rfl
theorem q362 : (Jvm.Cond.lays "TwoSidedTables$Shelf" "TwoSidedTables$Shelf" "held" "Ljava/lang/Object;") ∈ lw_all := lw_g (lw_at lw_m2 21 rfl) rfl
theorem q363 : (Jvm.Cond.soleField "TwoSidedTables$Shelf" "held") ∈ lw_all := lw_g (lw_at lw_m2 22 rfl) rfl
theorem q364 : (Jvm.Cond.superclass "TwoSidedTables$Shelf" "java/lang/Object") ∈ lw_all := lw_g (lw_at lw_m2 23 rfl) rfl
theorem in_X7 : ∀ w ∈ wsX70, w ∈ lw_all := lw_in wsX70 [362] (by decide +kernel) (by decide +kernel)
/-! java/lang/Math -/
set_option maxRecDepth 100000
def RJ3 : String := "java/lang/Math"
abbrev cJ3_addExact : ByteArray := prog_32_method_25_code
def yJ3_addExact : MethodName := ⟨RJ3, "addExact", "(JJ)J"⟩
def dkwJ3_addExact_1 : List UInt8 := [18, 116, 183, 0, 113, 191, 22, 4, 173]
abbrev dktJ3_addExact_1 : List UInt8 := dkwJ3_addExact_1 ++ []
def dkwJ3_addExact_0 : List UInt8 := [30, 32, 97, 55, 4, 30, 22, 4, 131, 32, 22, 4, 131, 127, 9, 148, 156, 0, 13, 187, 0, 109, 89]
abbrev dktJ3_addExact_0 : List UInt8 := dkwJ3_addExact_0 ++ dktJ3_addExact_1
theorem dksJ3_addExact_0 : cJ3_addExact.data.toList.drop 0 = dktJ3_addExact_0 := by decide +kernel
theorem dksJ3_addExact_1 : cJ3_addExact.data.toList.drop 23 = dktJ3_addExact_1 := dk_seg dksJ3_addExact_0 23 rfl rfl
theorem dJ3_addExact_0 : decode cJ3_addExact 0 = .ok (.lload_n 0, 1) := dk_30 (dk_at dksJ3_addExact_0 0 rfl rfl)
theorem dJ3_addExact_1 : decode cJ3_addExact 1 = .ok (.lload_n 2, 1) := dk_32 (dk_at dksJ3_addExact_0 1 rfl rfl)
theorem dJ3_addExact_2 : decode cJ3_addExact 2 = .ok (.ladd, 1) := dk_97 (dk_at dksJ3_addExact_0 2 rfl rfl)
theorem dJ3_addExact_3 : decode cJ3_addExact 3 = .ok (.lstore 4, 2) := dk_55 4 (dk_at dksJ3_addExact_0 3 rfl rfl)
theorem dJ3_addExact_5 : decode cJ3_addExact 5 = .ok (.lload_n 0, 1) := dk_30 (dk_at dksJ3_addExact_0 5 rfl rfl)
theorem dJ3_addExact_6 : decode cJ3_addExact 6 = .ok (.lload 4, 2) := dk_22 4 (dk_at dksJ3_addExact_0 6 rfl rfl)
theorem dJ3_addExact_8 : decode cJ3_addExact 8 = .ok (.lxor, 1) := dk_131 (dk_at dksJ3_addExact_0 8 rfl rfl)
theorem dJ3_addExact_9 : decode cJ3_addExact 9 = .ok (.lload_n 2, 1) := dk_32 (dk_at dksJ3_addExact_0 9 rfl rfl)
theorem dJ3_addExact_10 : decode cJ3_addExact 10 = .ok (.lload 4, 2) := dk_22 4 (dk_at dksJ3_addExact_0 10 rfl rfl)
theorem dJ3_addExact_12 : decode cJ3_addExact 12 = .ok (.lxor, 1) := dk_131 (dk_at dksJ3_addExact_0 12 rfl rfl)
theorem dJ3_addExact_13 : decode cJ3_addExact 13 = .ok (.land, 1) := dk_127 (dk_at dksJ3_addExact_0 13 rfl rfl)
theorem dJ3_addExact_14 : decode cJ3_addExact 14 = .ok (.lconst 0, 1) := dk_9 (dk_at dksJ3_addExact_0 14 rfl rfl)
theorem dJ3_addExact_15 : decode cJ3_addExact 15 = .ok (.lcmp, 1) := dk_148 (dk_at dksJ3_addExact_0 15 rfl rfl)
theorem dJ3_addExact_16 : decode cJ3_addExact 16 = .ok (.ifCond .ge 13, 3) := dk_156 0 13 (dk_at dksJ3_addExact_0 16 rfl rfl)
theorem dJ3_addExact_19 : decode cJ3_addExact 19 = .ok (.new 109, 3) := dk_187 0 109 (dk_at dksJ3_addExact_0 19 rfl rfl)
theorem dJ3_addExact_22 : decode cJ3_addExact 22 = .ok (.dup, 1) := dk_89 (dk_at dksJ3_addExact_0 22 rfl rfl)
theorem dJ3_addExact_23 : decode cJ3_addExact 23 = .ok (.ldc 116, 2) := dk_18 116 (dk_at dksJ3_addExact_1 0 rfl rfl)
theorem dJ3_addExact_25 : decode cJ3_addExact 25 = .ok (.invokespecial 113, 3) := dk_183 0 113 (dk_at dksJ3_addExact_1 2 rfl rfl)
theorem dJ3_addExact_28 : decode cJ3_addExact 28 = .ok (.athrow, 1) := dk_191 (dk_at dksJ3_addExact_1 5 rfl rfl)
theorem dJ3_addExact_29 : decode cJ3_addExact 29 = .ok (.lload 4, 2) := dk_22 4 (dk_at dksJ3_addExact_1 6 rfl rfl)
theorem dJ3_addExact_31 : decode cJ3_addExact 31 = .ok (.lreturn, 1) := dk_173 (dk_at dksJ3_addExact_1 8 rfl rfl)
abbrev cJ3_negateExact : ByteArray := prog_32_method_42_code
def yJ3_negateExact : MethodName := ⟨RJ3, "negateExact", "(J)J"⟩
def dkwJ3_negateExact_0 : List UInt8 := [30, 20, 0, 128, 148, 154, 0, 13, 187, 0, 109, 89, 18, 116, 183, 0, 113, 191, 30, 117, 173]
abbrev dktJ3_negateExact_0 : List UInt8 := dkwJ3_negateExact_0 ++ []
theorem dksJ3_negateExact_0 : cJ3_negateExact.data.toList.drop 0 = dktJ3_negateExact_0 := by decide +kernel
theorem dJ3_negateExact_0 : decode cJ3_negateExact 0 = .ok (.lload_n 0, 1) := dk_30 (dk_at dksJ3_negateExact_0 0 rfl rfl)
theorem dJ3_negateExact_1 : decode cJ3_negateExact 1 = .ok (.ldc2_w 128, 3) := dk_20 0 128 (dk_at dksJ3_negateExact_0 1 rfl rfl)
theorem dJ3_negateExact_4 : decode cJ3_negateExact 4 = .ok (.lcmp, 1) := dk_148 (dk_at dksJ3_negateExact_0 4 rfl rfl)
theorem dJ3_negateExact_5 : decode cJ3_negateExact 5 = .ok (.ifCond .ne 13, 3) := dk_154 0 13 (dk_at dksJ3_negateExact_0 5 rfl rfl)
theorem dJ3_negateExact_8 : decode cJ3_negateExact 8 = .ok (.new 109, 3) := dk_187 0 109 (dk_at dksJ3_negateExact_0 8 rfl rfl)
theorem dJ3_negateExact_11 : decode cJ3_negateExact 11 = .ok (.dup, 1) := dk_89 (dk_at dksJ3_negateExact_0 11 rfl rfl)
theorem dJ3_negateExact_12 : decode cJ3_negateExact 12 = .ok (.ldc 116, 2) := dk_18 116 (dk_at dksJ3_negateExact_0 12 rfl rfl)
theorem dJ3_negateExact_14 : decode cJ3_negateExact 14 = .ok (.invokespecial 113, 3) := dk_183 0 113 (dk_at dksJ3_negateExact_0 14 rfl rfl)
theorem dJ3_negateExact_17 : decode cJ3_negateExact 17 = .ok (.athrow, 1) := dk_191 (dk_at dksJ3_negateExact_0 17 rfl rfl)
theorem dJ3_negateExact_18 : decode cJ3_negateExact 18 = .ok (.lload_n 0, 1) := dk_30 (dk_at dksJ3_negateExact_0 18 rfl rfl)
theorem dJ3_negateExact_19 : decode cJ3_negateExact 19 = .ok (.lneg, 1) := dk_117 (dk_at dksJ3_negateExact_0 19 rfl rfl)
theorem dJ3_negateExact_20 : decode cJ3_negateExact 20 = .ok (.lreturn, 1) := dk_173 (dk_at dksJ3_negateExact_0 20 rfl rfl)
abbrev cJ3_abs : ByteArray := prog_32_method_59_code
def yJ3_abs : MethodName := ⟨RJ3, "abs", "(I)I"⟩
def dkwJ3_abs_0 : List UInt8 := [26, 156, 0, 8, 26, 116, 167, 0, 4, 26, 172]
abbrev dktJ3_abs_0 : List UInt8 := dkwJ3_abs_0 ++ []
theorem dksJ3_abs_0 : cJ3_abs.data.toList.drop 0 = dktJ3_abs_0 := by decide +kernel
theorem dJ3_abs_0 : decode cJ3_abs 0 = .ok (.iload_n 0, 1) := dk_26 (dk_at dksJ3_abs_0 0 rfl rfl)
theorem dJ3_abs_1 : decode cJ3_abs 1 = .ok (.ifCond .ge 8, 3) := dk_156 0 8 (dk_at dksJ3_abs_0 1 rfl rfl)
theorem dJ3_abs_4 : decode cJ3_abs 4 = .ok (.iload_n 0, 1) := dk_26 (dk_at dksJ3_abs_0 4 rfl rfl)
theorem dJ3_abs_5 : decode cJ3_abs 5 = .ok (.ineg, 1) := dk_116 (dk_at dksJ3_abs_0 5 rfl rfl)
theorem dJ3_abs_6 : decode cJ3_abs 6 = .ok (.goto 4, 3) := dk_167 0 4 (dk_at dksJ3_abs_0 6 rfl rfl)
theorem dJ3_abs_9 : decode cJ3_abs 9 = .ok (.iload_n 0, 1) := dk_26 (dk_at dksJ3_abs_0 9 rfl rfl)
theorem dJ3_abs_10 : decode cJ3_abs 10 = .ok (.ireturn, 1) := dk_172 (dk_at dksJ3_abs_0 10 rfl rfl)
abbrev cJ3_multiplyExact : ByteArray := prog_32_method_30_code
def yJ3_multiplyExact : MethodName := ⟨RJ3, "multiplyExact", "(JJ)J"⟩
def dkwJ3_multiplyExact_3 : List UInt8 := [191, 22, 4, 173]
abbrev dktJ3_multiplyExact_3 : List UInt8 := dkwJ3_multiplyExact_3 ++ []
def dkwJ3_multiplyExact_2 : List UInt8 := [20, 0, 128, 148, 154, 0, 21, 32, 20, 0, 130, 148, 154, 0, 13, 187, 0, 109, 89, 18, 116, 183, 0, 113]
abbrev dktJ3_multiplyExact_2 : List UInt8 := dkwJ3_multiplyExact_2 ++ dktJ3_multiplyExact_3
def dkwJ3_multiplyExact_1 : List UInt8 := [125, 9, 148, 153, 0, 44, 32, 9, 148, 153, 0, 12, 22, 4, 32, 109, 30, 148, 154, 0, 19, 30]
abbrev dktJ3_multiplyExact_1 : List UInt8 := dkwJ3_multiplyExact_1 ++ dktJ3_multiplyExact_2
def dkwJ3_multiplyExact_0 : List UInt8 := [30, 32, 105, 55, 4, 30, 184, 0, 122, 55, 6, 32, 184, 0, 122, 55, 8, 22, 6, 22, 8, 129, 16, 31]
abbrev dktJ3_multiplyExact_0 : List UInt8 := dkwJ3_multiplyExact_0 ++ dktJ3_multiplyExact_1
theorem dksJ3_multiplyExact_0 : cJ3_multiplyExact.data.toList.drop 0 = dktJ3_multiplyExact_0 := by decide +kernel
theorem dksJ3_multiplyExact_1 : cJ3_multiplyExact.data.toList.drop 24 = dktJ3_multiplyExact_1 := dk_seg dksJ3_multiplyExact_0 24 rfl rfl
theorem dksJ3_multiplyExact_2 : cJ3_multiplyExact.data.toList.drop 46 = dktJ3_multiplyExact_2 := dk_seg dksJ3_multiplyExact_1 22 rfl rfl
theorem dksJ3_multiplyExact_3 : cJ3_multiplyExact.data.toList.drop 70 = dktJ3_multiplyExact_3 := dk_seg dksJ3_multiplyExact_2 24 rfl rfl
theorem dJ3_multiplyExact_0 : decode cJ3_multiplyExact 0 = .ok (.lload_n 0, 1) := dk_30 (dk_at dksJ3_multiplyExact_0 0 rfl rfl)
theorem dJ3_multiplyExact_1 : decode cJ3_multiplyExact 1 = .ok (.lload_n 2, 1) := dk_32 (dk_at dksJ3_multiplyExact_0 1 rfl rfl)
theorem dJ3_multiplyExact_2 : decode cJ3_multiplyExact 2 = .ok (.lmul, 1) := dk_105 (dk_at dksJ3_multiplyExact_0 2 rfl rfl)
theorem dJ3_multiplyExact_3 : decode cJ3_multiplyExact 3 = .ok (.lstore 4, 2) := dk_55 4 (dk_at dksJ3_multiplyExact_0 3 rfl rfl)
theorem dJ3_multiplyExact_5 : decode cJ3_multiplyExact 5 = .ok (.lload_n 0, 1) := dk_30 (dk_at dksJ3_multiplyExact_0 5 rfl rfl)
theorem dJ3_multiplyExact_6 : decode cJ3_multiplyExact 6 = .ok (.invokestatic 122, 3) := dk_184 0 122 (dk_at dksJ3_multiplyExact_0 6 rfl rfl)
theorem dJ3_multiplyExact_9 : decode cJ3_multiplyExact 9 = .ok (.lstore 6, 2) := dk_55 6 (dk_at dksJ3_multiplyExact_0 9 rfl rfl)
theorem dJ3_multiplyExact_11 : decode cJ3_multiplyExact 11 = .ok (.lload_n 2, 1) := dk_32 (dk_at dksJ3_multiplyExact_0 11 rfl rfl)
theorem dJ3_multiplyExact_12 : decode cJ3_multiplyExact 12 = .ok (.invokestatic 122, 3) := dk_184 0 122 (dk_at dksJ3_multiplyExact_0 12 rfl rfl)
theorem dJ3_multiplyExact_15 : decode cJ3_multiplyExact 15 = .ok (.lstore 8, 2) := dk_55 8 (dk_at dksJ3_multiplyExact_0 15 rfl rfl)
theorem dJ3_multiplyExact_17 : decode cJ3_multiplyExact 17 = .ok (.lload 6, 2) := dk_22 6 (dk_at dksJ3_multiplyExact_0 17 rfl rfl)
theorem dJ3_multiplyExact_19 : decode cJ3_multiplyExact 19 = .ok (.lload 8, 2) := dk_22 8 (dk_at dksJ3_multiplyExact_0 19 rfl rfl)
theorem dJ3_multiplyExact_21 : decode cJ3_multiplyExact 21 = .ok (.lor, 1) := dk_129 (dk_at dksJ3_multiplyExact_0 21 rfl rfl)
theorem dJ3_multiplyExact_22 : decode cJ3_multiplyExact 22 = .ok (.bipush 31, 2) := dk_16 31 (dk_at dksJ3_multiplyExact_0 22 rfl rfl)
theorem dJ3_multiplyExact_24 : decode cJ3_multiplyExact 24 = .ok (.lushr, 1) := dk_125 (dk_at dksJ3_multiplyExact_1 0 rfl rfl)
theorem dJ3_multiplyExact_25 : decode cJ3_multiplyExact 25 = .ok (.lconst 0, 1) := dk_9 (dk_at dksJ3_multiplyExact_1 1 rfl rfl)
theorem dJ3_multiplyExact_26 : decode cJ3_multiplyExact 26 = .ok (.lcmp, 1) := dk_148 (dk_at dksJ3_multiplyExact_1 2 rfl rfl)
theorem dJ3_multiplyExact_27 : decode cJ3_multiplyExact 27 = .ok (.ifCond .eq 44, 3) := dk_153 0 44 (dk_at dksJ3_multiplyExact_1 3 rfl rfl)
theorem dJ3_multiplyExact_30 : decode cJ3_multiplyExact 30 = .ok (.lload_n 2, 1) := dk_32 (dk_at dksJ3_multiplyExact_1 6 rfl rfl)
theorem dJ3_multiplyExact_31 : decode cJ3_multiplyExact 31 = .ok (.lconst 0, 1) := dk_9 (dk_at dksJ3_multiplyExact_1 7 rfl rfl)
theorem dJ3_multiplyExact_32 : decode cJ3_multiplyExact 32 = .ok (.lcmp, 1) := dk_148 (dk_at dksJ3_multiplyExact_1 8 rfl rfl)
theorem dJ3_multiplyExact_33 : decode cJ3_multiplyExact 33 = .ok (.ifCond .eq 12, 3) := dk_153 0 12 (dk_at dksJ3_multiplyExact_1 9 rfl rfl)
theorem dJ3_multiplyExact_36 : decode cJ3_multiplyExact 36 = .ok (.lload 4, 2) := dk_22 4 (dk_at dksJ3_multiplyExact_1 12 rfl rfl)
theorem dJ3_multiplyExact_38 : decode cJ3_multiplyExact 38 = .ok (.lload_n 2, 1) := dk_32 (dk_at dksJ3_multiplyExact_1 14 rfl rfl)
theorem dJ3_multiplyExact_39 : decode cJ3_multiplyExact 39 = .ok (.ldiv, 1) := dk_109 (dk_at dksJ3_multiplyExact_1 15 rfl rfl)
theorem dJ3_multiplyExact_40 : decode cJ3_multiplyExact 40 = .ok (.lload_n 0, 1) := dk_30 (dk_at dksJ3_multiplyExact_1 16 rfl rfl)
theorem dJ3_multiplyExact_41 : decode cJ3_multiplyExact 41 = .ok (.lcmp, 1) := dk_148 (dk_at dksJ3_multiplyExact_1 17 rfl rfl)
theorem dJ3_multiplyExact_42 : decode cJ3_multiplyExact 42 = .ok (.ifCond .ne 19, 3) := dk_154 0 19 (dk_at dksJ3_multiplyExact_1 18 rfl rfl)
theorem dJ3_multiplyExact_45 : decode cJ3_multiplyExact 45 = .ok (.lload_n 0, 1) := dk_30 (dk_at dksJ3_multiplyExact_1 21 rfl rfl)
theorem dJ3_multiplyExact_46 : decode cJ3_multiplyExact 46 = .ok (.ldc2_w 128, 3) := dk_20 0 128 (dk_at dksJ3_multiplyExact_2 0 rfl rfl)
theorem dJ3_multiplyExact_49 : decode cJ3_multiplyExact 49 = .ok (.lcmp, 1) := dk_148 (dk_at dksJ3_multiplyExact_2 3 rfl rfl)
theorem dJ3_multiplyExact_50 : decode cJ3_multiplyExact 50 = .ok (.ifCond .ne 21, 3) := dk_154 0 21 (dk_at dksJ3_multiplyExact_2 4 rfl rfl)
theorem dJ3_multiplyExact_53 : decode cJ3_multiplyExact 53 = .ok (.lload_n 2, 1) := dk_32 (dk_at dksJ3_multiplyExact_2 7 rfl rfl)
theorem dJ3_multiplyExact_54 : decode cJ3_multiplyExact 54 = .ok (.ldc2_w 130, 3) := dk_20 0 130 (dk_at dksJ3_multiplyExact_2 8 rfl rfl)
theorem dJ3_multiplyExact_57 : decode cJ3_multiplyExact 57 = .ok (.lcmp, 1) := dk_148 (dk_at dksJ3_multiplyExact_2 11 rfl rfl)
theorem dJ3_multiplyExact_58 : decode cJ3_multiplyExact 58 = .ok (.ifCond .ne 13, 3) := dk_154 0 13 (dk_at dksJ3_multiplyExact_2 12 rfl rfl)
theorem dJ3_multiplyExact_61 : decode cJ3_multiplyExact 61 = .ok (.new 109, 3) := dk_187 0 109 (dk_at dksJ3_multiplyExact_2 15 rfl rfl)
theorem dJ3_multiplyExact_64 : decode cJ3_multiplyExact 64 = .ok (.dup, 1) := dk_89 (dk_at dksJ3_multiplyExact_2 18 rfl rfl)
theorem dJ3_multiplyExact_65 : decode cJ3_multiplyExact 65 = .ok (.ldc 116, 2) := dk_18 116 (dk_at dksJ3_multiplyExact_2 19 rfl rfl)
theorem dJ3_multiplyExact_67 : decode cJ3_multiplyExact 67 = .ok (.invokespecial 113, 3) := dk_183 0 113 (dk_at dksJ3_multiplyExact_2 21 rfl rfl)
theorem dJ3_multiplyExact_70 : decode cJ3_multiplyExact 70 = .ok (.athrow, 1) := dk_191 (dk_at dksJ3_multiplyExact_3 0 rfl rfl)
theorem dJ3_multiplyExact_71 : decode cJ3_multiplyExact 71 = .ok (.lload 4, 2) := dk_22 4 (dk_at dksJ3_multiplyExact_3 1 rfl rfl)
theorem dJ3_multiplyExact_73 : decode cJ3_multiplyExact 73 = .ok (.lreturn, 1) := dk_173 (dk_at dksJ3_multiplyExact_3 3 rfl rfl)
abbrev cJ3_abs_2 : ByteArray := prog_32_method_61_code
def yJ3_abs_2 : MethodName := ⟨RJ3, "abs", "(J)J"⟩
def dkwJ3_abs_2_0 : List UInt8 := [30, 9, 148, 156, 0, 8, 30, 117, 167, 0, 4, 30, 173]
abbrev dktJ3_abs_2_0 : List UInt8 := dkwJ3_abs_2_0 ++ []
theorem dksJ3_abs_2_0 : cJ3_abs_2.data.toList.drop 0 = dktJ3_abs_2_0 := by decide +kernel
theorem dJ3_abs_2_0 : decode cJ3_abs_2 0 = .ok (.lload_n 0, 1) := dk_30 (dk_at dksJ3_abs_2_0 0 rfl rfl)
theorem dJ3_abs_2_1 : decode cJ3_abs_2 1 = .ok (.lconst 0, 1) := dk_9 (dk_at dksJ3_abs_2_0 1 rfl rfl)
theorem dJ3_abs_2_2 : decode cJ3_abs_2 2 = .ok (.lcmp, 1) := dk_148 (dk_at dksJ3_abs_2_0 2 rfl rfl)
theorem dJ3_abs_2_3 : decode cJ3_abs_2 3 = .ok (.ifCond .ge 8, 3) := dk_156 0 8 (dk_at dksJ3_abs_2_0 3 rfl rfl)
theorem dJ3_abs_2_6 : decode cJ3_abs_2 6 = .ok (.lload_n 0, 1) := dk_30 (dk_at dksJ3_abs_2_0 6 rfl rfl)
theorem dJ3_abs_2_7 : decode cJ3_abs_2 7 = .ok (.lneg, 1) := dk_117 (dk_at dksJ3_abs_2_0 7 rfl rfl)
theorem dJ3_abs_2_8 : decode cJ3_abs_2 8 = .ok (.goto 4, 3) := dk_167 0 4 (dk_at dksJ3_abs_2_0 8 rfl rfl)
theorem dJ3_abs_2_11 : decode cJ3_abs_2 11 = .ok (.lload_n 0, 1) := dk_30 (dk_at dksJ3_abs_2_0 11 rfl rfl)
theorem dJ3_abs_2_12 : decode cJ3_abs_2 12 = .ok (.lreturn, 1) := dk_173 (dk_at dksJ3_abs_2_0 12 rfl rfl)
abbrev cJ3_subtractExact : ByteArray := prog_32_method_27_code
def yJ3_subtractExact : MethodName := ⟨RJ3, "subtractExact", "(JJ)J"⟩
def dkwJ3_subtractExact_1 : List UInt8 := [183, 0, 113, 191, 22, 4, 173]
abbrev dktJ3_subtractExact_1 : List UInt8 := dkwJ3_subtractExact_1 ++ []
def dkwJ3_subtractExact_0 : List UInt8 := [30, 32, 101, 55, 4, 30, 32, 131, 30, 22, 4, 131, 127, 9, 148, 156, 0, 13, 187, 0, 109, 89, 18, 116]
abbrev dktJ3_subtractExact_0 : List UInt8 := dkwJ3_subtractExact_0 ++ dktJ3_subtractExact_1
theorem dksJ3_subtractExact_0 : cJ3_subtractExact.data.toList.drop 0 = dktJ3_subtractExact_0 := by decide +kernel
theorem dksJ3_subtractExact_1 : cJ3_subtractExact.data.toList.drop 24 = dktJ3_subtractExact_1 := dk_seg dksJ3_subtractExact_0 24 rfl rfl
theorem dJ3_subtractExact_0 : decode cJ3_subtractExact 0 = .ok (.lload_n 0, 1) := dk_30 (dk_at dksJ3_subtractExact_0 0 rfl rfl)
theorem dJ3_subtractExact_1 : decode cJ3_subtractExact 1 = .ok (.lload_n 2, 1) := dk_32 (dk_at dksJ3_subtractExact_0 1 rfl rfl)
theorem dJ3_subtractExact_2 : decode cJ3_subtractExact 2 = .ok (.lsub, 1) := dk_101 (dk_at dksJ3_subtractExact_0 2 rfl rfl)
theorem dJ3_subtractExact_3 : decode cJ3_subtractExact 3 = .ok (.lstore 4, 2) := dk_55 4 (dk_at dksJ3_subtractExact_0 3 rfl rfl)
theorem dJ3_subtractExact_5 : decode cJ3_subtractExact 5 = .ok (.lload_n 0, 1) := dk_30 (dk_at dksJ3_subtractExact_0 5 rfl rfl)
theorem dJ3_subtractExact_6 : decode cJ3_subtractExact 6 = .ok (.lload_n 2, 1) := dk_32 (dk_at dksJ3_subtractExact_0 6 rfl rfl)
theorem dJ3_subtractExact_7 : decode cJ3_subtractExact 7 = .ok (.lxor, 1) := dk_131 (dk_at dksJ3_subtractExact_0 7 rfl rfl)
theorem dJ3_subtractExact_8 : decode cJ3_subtractExact 8 = .ok (.lload_n 0, 1) := dk_30 (dk_at dksJ3_subtractExact_0 8 rfl rfl)
theorem dJ3_subtractExact_9 : decode cJ3_subtractExact 9 = .ok (.lload 4, 2) := dk_22 4 (dk_at dksJ3_subtractExact_0 9 rfl rfl)
theorem dJ3_subtractExact_11 : decode cJ3_subtractExact 11 = .ok (.lxor, 1) := dk_131 (dk_at dksJ3_subtractExact_0 11 rfl rfl)
theorem dJ3_subtractExact_12 : decode cJ3_subtractExact 12 = .ok (.land, 1) := dk_127 (dk_at dksJ3_subtractExact_0 12 rfl rfl)
theorem dJ3_subtractExact_13 : decode cJ3_subtractExact 13 = .ok (.lconst 0, 1) := dk_9 (dk_at dksJ3_subtractExact_0 13 rfl rfl)
theorem dJ3_subtractExact_14 : decode cJ3_subtractExact 14 = .ok (.lcmp, 1) := dk_148 (dk_at dksJ3_subtractExact_0 14 rfl rfl)
theorem dJ3_subtractExact_15 : decode cJ3_subtractExact 15 = .ok (.ifCond .ge 13, 3) := dk_156 0 13 (dk_at dksJ3_subtractExact_0 15 rfl rfl)
theorem dJ3_subtractExact_18 : decode cJ3_subtractExact 18 = .ok (.new 109, 3) := dk_187 0 109 (dk_at dksJ3_subtractExact_0 18 rfl rfl)
theorem dJ3_subtractExact_21 : decode cJ3_subtractExact 21 = .ok (.dup, 1) := dk_89 (dk_at dksJ3_subtractExact_0 21 rfl rfl)
theorem dJ3_subtractExact_22 : decode cJ3_subtractExact 22 = .ok (.ldc 116, 2) := dk_18 116 (dk_at dksJ3_subtractExact_0 22 rfl rfl)
theorem dJ3_subtractExact_24 : decode cJ3_subtractExact 24 = .ok (.invokespecial 113, 3) := dk_183 0 113 (dk_at dksJ3_subtractExact_1 0 rfl rfl)
theorem dJ3_subtractExact_27 : decode cJ3_subtractExact 27 = .ok (.athrow, 1) := dk_191 (dk_at dksJ3_subtractExact_1 3 rfl rfl)
theorem dJ3_subtractExact_28 : decode cJ3_subtractExact 28 = .ok (.lload 4, 2) := dk_22 4 (dk_at dksJ3_subtractExact_1 4 rfl rfl)
theorem dJ3_subtractExact_30 : decode cJ3_subtractExact 30 = .ok (.lreturn, 1) := dk_173 (dk_at dksJ3_subtractExact_1 6 rfl rfl)
abbrev cJ3_toIntExact : ByteArray := prog_32_method_43_code
def yJ3_toIntExact : MethodName := ⟨RJ3, "toIntExact", "(J)I"⟩
def dkwJ3_toIntExact_0 : List UInt8 := [30, 136, 133, 30, 148, 153, 0, 13, 187, 0, 109, 89, 18, 111, 183, 0, 113, 191, 30, 136, 172]
abbrev dktJ3_toIntExact_0 : List UInt8 := dkwJ3_toIntExact_0 ++ []
theorem dksJ3_toIntExact_0 : cJ3_toIntExact.data.toList.drop 0 = dktJ3_toIntExact_0 := by decide +kernel
theorem dJ3_toIntExact_0 : decode cJ3_toIntExact 0 = .ok (.lload_n 0, 1) := dk_30 (dk_at dksJ3_toIntExact_0 0 rfl rfl)
theorem dJ3_toIntExact_1 : decode cJ3_toIntExact 1 = .ok (.l2i, 1) := dk_136 (dk_at dksJ3_toIntExact_0 1 rfl rfl)
theorem dJ3_toIntExact_2 : decode cJ3_toIntExact 2 = .ok (.i2l, 1) := dk_133 (dk_at dksJ3_toIntExact_0 2 rfl rfl)
theorem dJ3_toIntExact_3 : decode cJ3_toIntExact 3 = .ok (.lload_n 0, 1) := dk_30 (dk_at dksJ3_toIntExact_0 3 rfl rfl)
theorem dJ3_toIntExact_4 : decode cJ3_toIntExact 4 = .ok (.lcmp, 1) := dk_148 (dk_at dksJ3_toIntExact_0 4 rfl rfl)
theorem dJ3_toIntExact_5 : decode cJ3_toIntExact 5 = .ok (.ifCond .eq 13, 3) := dk_153 0 13 (dk_at dksJ3_toIntExact_0 5 rfl rfl)
theorem dJ3_toIntExact_8 : decode cJ3_toIntExact 8 = .ok (.new 109, 3) := dk_187 0 109 (dk_at dksJ3_toIntExact_0 8 rfl rfl)
theorem dJ3_toIntExact_11 : decode cJ3_toIntExact 11 = .ok (.dup, 1) := dk_89 (dk_at dksJ3_toIntExact_0 11 rfl rfl)
theorem dJ3_toIntExact_12 : decode cJ3_toIntExact 12 = .ok (.ldc 111, 2) := dk_18 111 (dk_at dksJ3_toIntExact_0 12 rfl rfl)
theorem dJ3_toIntExact_14 : decode cJ3_toIntExact 14 = .ok (.invokespecial 113, 3) := dk_183 0 113 (dk_at dksJ3_toIntExact_0 14 rfl rfl)
theorem dJ3_toIntExact_17 : decode cJ3_toIntExact 17 = .ok (.athrow, 1) := dk_191 (dk_at dksJ3_toIntExact_0 17 rfl rfl)
theorem dJ3_toIntExact_18 : decode cJ3_toIntExact 18 = .ok (.lload_n 0, 1) := dk_30 (dk_at dksJ3_toIntExact_0 18 rfl rfl)
theorem dJ3_toIntExact_19 : decode cJ3_toIntExact 19 = .ok (.l2i, 1) := dk_136 (dk_at dksJ3_toIntExact_0 19 rfl rfl)
theorem dJ3_toIntExact_20 : decode cJ3_toIntExact 20 = .ok (.ireturn, 1) := dk_172 (dk_at dksJ3_toIntExact_0 20 rfl rfl)
theorem q114 : (Jvm.Cond.initialized "java/lang/Math") ∈ lw_all := lw_g (lw_at lw_m1 13 rfl) rfl
theorem q506 : (Jvm.Cond.static ({ cls := "java/lang/Math", name := "addExact", desc := "(JJ)J" } : Jvm.MethodName)) ∈ lw_all := lw_g (lw_at lw_m2 165 rfl) rfl
theorem q507 : (Jvm.Cond.code ({ cls := "java/lang/Math", name := "addExact", desc := "(JJ)J" } : Jvm.MethodName) prog_32_method_25_code (6 : Nat) (Option.some Jvm.ClassFile.FieldType.long)) ∈ lw_all := lw_g (lw_at lw_m2 166 rfl) rfl
theorem q508 : (Jvm.Cond.classLink "java/lang/Math" (109 : Nat) "java/lang/ArithmeticException") ∈ lw_all := lw_g (lw_at lw_m2 167 rfl) rfl
theorem q517 : (Jvm.Cond.stringRef "java/lang/Math" (116 : Nat) "long overflow") ∈ lw_tbl := lw_at lw_m2 176 rfl
theorem q518 : (Jvm.Cond.methodLink "java/lang/Math" (113 : Nat) ({ cls := "java/lang/ArithmeticException", name := "<init>", desc := "(Ljava/lang/String;)V" } : Jvm.MethodName)) ∈ lw_all := lw_g (lw_at lw_m2 177 rfl) rfl
theorem q706 : (Jvm.Cond.static ({ cls := "java/lang/Math", name := "negateExact", desc := "(J)J" } : Jvm.MethodName)) ∈ lw_all := lw_g (lw_at lw_m3 125 rfl) rfl
theorem q707 : (Jvm.Cond.code ({ cls := "java/lang/Math", name := "negateExact", desc := "(J)J" } : Jvm.MethodName) prog_32_method_42_code (2 : Nat) (Option.some Jvm.ClassFile.FieldType.long)) ∈ lw_all := lw_g (lw_at lw_m3 126 rfl) rfl
theorem q708 : (Jvm.Cond.constantLong "java/lang/Math" (128 : Nat) (-9223372036854775808 : Int64)) ∈ lw_all := lw_g (lw_at lw_m3 127 rfl) rfl
theorem q940 : (Jvm.Cond.static ({ cls := "java/lang/Math", name := "abs", desc := "(I)I" } : Jvm.MethodName)) ∈ lw_all := lw_g (lw_at lw_m4 119 rfl) rfl
theorem q941 : (Jvm.Cond.code ({ cls := "java/lang/Math", name := "abs", desc := "(I)I" } : Jvm.MethodName) prog_32_method_59_code (1 : Nat) (Option.some Jvm.ClassFile.FieldType.int)) ∈ lw_all := lw_g (lw_at lw_m4 120 rfl) rfl
theorem q984 : (Jvm.Cond.static ({ cls := "java/lang/Math", name := "multiplyExact", desc := "(JJ)J" } : Jvm.MethodName)) ∈ lw_all := lw_g (lw_at lw_m4 163 rfl) rfl
theorem q985 : (Jvm.Cond.code ({ cls := "java/lang/Math", name := "multiplyExact", desc := "(JJ)J" } : Jvm.MethodName) prog_32_method_30_code (10 : Nat) (Option.some Jvm.ClassFile.FieldType.long)) ∈ lw_all := lw_g (lw_at lw_m4 164 rfl) rfl
theorem q986 : (Jvm.Cond.methodLink "java/lang/Math" (122 : Nat) ({ cls := "java/lang/Math", name := "abs", desc := "(J)J" } : Jvm.MethodName)) ∈ lw_all := lw_g (lw_at lw_m4 165 rfl) rfl
theorem q987 : (Jvm.Cond.static ({ cls := "java/lang/Math", name := "abs", desc := "(J)J" } : Jvm.MethodName)) ∈ lw_all := lw_g (lw_at lw_m4 166 rfl) rfl
theorem q988 : (Jvm.Cond.code ({ cls := "java/lang/Math", name := "abs", desc := "(J)J" } : Jvm.MethodName) prog_32_method_61_code (2 : Nat) (Option.some Jvm.ClassFile.FieldType.long)) ∈ lw_all := lw_g (lw_at lw_m4 167 rfl) rfl
theorem q989 : (Jvm.Cond.constantLong "java/lang/Math" (130 : Nat) (-1 : Int64)) ∈ lw_all := lw_g (lw_at lw_m4 168 rfl) rfl
theorem q991 : (Jvm.Cond.static ({ cls := "java/lang/Math", name := "subtractExact", desc := "(JJ)J" } : Jvm.MethodName)) ∈ lw_all := lw_g (lw_at lw_m4 170 rfl) rfl
theorem q992 : (Jvm.Cond.code ({ cls := "java/lang/Math", name := "subtractExact", desc := "(JJ)J" } : Jvm.MethodName) prog_32_method_27_code (6 : Nat) (Option.some Jvm.ClassFile.FieldType.long)) ∈ lw_all := lw_g (lw_at lw_m4 171 rfl) rfl
theorem q1123 : (Jvm.Cond.static ({ cls := "java/lang/Math", name := "toIntExact", desc := "(J)I" } : Jvm.MethodName)) ∈ lw_all := lw_g (lw_at lw_m5 62 rfl) rfl
theorem q1124 : (Jvm.Cond.code ({ cls := "java/lang/Math", name := "toIntExact", desc := "(J)I" } : Jvm.MethodName) prog_32_method_43_code (2 : Nat) (Option.some Jvm.ClassFile.FieldType.int)) ∈ lw_all := lw_g (lw_at lw_m5 63 rfl) rfl
theorem q1125 : (Jvm.Cond.stringRef "java/lang/Math" (111 : Nat) "integer overflow") ∈ lw_tbl := lw_at lw_m5 64 rfl
/-! java/lang/ArithmeticException -/
set_option maxRecDepth 100000
def RJ4 : String := "java/lang/ArithmeticException"
def TJ4 : u_T := fun k => match k with
  | 0 => ("java/lang/Throwable", "cause", "Ljava/lang/Throwable;", false)
  | 1 => ("java/lang/Throwable", "stackTrace", "[Ljava/lang/StackTraceElement;", false)
  | 2 => ("java/lang/Throwable", "suppressedExceptions", "Ljava/util/List;", false)
  | 3 => ("java/lang/Throwable", "detailMessage", "Ljava/lang/String;", false)
  | 4 => ("java/lang/Throwable", "backtrace", "Ljava/lang/Object;", false)
  | _ => ("java/lang/Throwable", "depth", "I", false)
def tyJ4 : Nat → FieldType := fun k => match k with
  | 0 => .object "java/lang/Throwable"
  | 1 => .array (.object "java/lang/StackTraceElement")
  | 2 => .object "java/util/List"
  | 3 => .object "java/lang/String"
  | 4 => .object "java/lang/Object"
  | _ => .int
abbrev wsJ40 : List Cond := u_ws RJ4 TJ4 6
theorem nmJ4 : ∀ a, a < 6 → ∀ b, b < 6 → a ≠ b → (TJ4 a).2.1 ≠ (TJ4 b).2.1 := by decide +kernel
theorem tyJ4_ok : ∀ k, k < 6 → parseFieldDescriptor (TJ4 k).2.2.1 = some (tyJ4 k) := by decide +kernel
abbrev cJ4_init : ByteArray := prog_25_method_2_code
def yJ4_init : MethodName := ⟨RJ4, "<init>", "(Ljava/lang/String;)V"⟩
def dkwJ4_init_0 : List UInt8 := [42, 43, 183, 0, 7, 177]
abbrev dktJ4_init_0 : List UInt8 := dkwJ4_init_0 ++ []
theorem dksJ4_init_0 : cJ4_init.data.toList.drop 0 = dktJ4_init_0 := by decide +kernel
theorem dJ4_init_0 : decode cJ4_init 0 = .ok (.aload_n 0, 1) := dk_42 (dk_at dksJ4_init_0 0 rfl rfl)
theorem dJ4_init_1 : decode cJ4_init 1 = .ok (.aload_n 1, 1) := dk_43 (dk_at dksJ4_init_0 1 rfl rfl)
theorem dJ4_init_2 : decode cJ4_init 2 = .ok (.invokespecial 7, 3) := dk_183 0 7 (dk_at dksJ4_init_0 2 rfl rfl)
theorem dJ4_init_5 : decode cJ4_init 5 = .ok (.return_, 1) := dk_177 (dk_at dksJ4_init_0 5 rfl rfl)
theorem q115 : (Jvm.Cond.initialized "java/lang/ArithmeticException") ∈ lw_all := lw_g (lw_at lw_m1 14 rfl) rfl
theorem q181 : (Jvm.Cond.selects "java/lang/ArithmeticException" ({ cls := "java/lang/Throwable", name := "fillInStackTrace", desc := "()Ljava/lang/Throwable;" } : Jvm.MethodName) ({ cls := "java/lang/Throwable", name := "fillInStackTrace", desc := "()Ljava/lang/Throwable;" } : Jvm.MethodName)) ∈ lw_all := lw_g (lw_at lw_m1 80 rfl) rfl
theorem q509 : (Jvm.Cond.instantiable "java/lang/ArithmeticException" (6 : Nat)) ∈ lw_all := lw_g (lw_at lw_m2 168 rfl) rfl
theorem q510 : (Jvm.Cond.castable "java/lang/ArithmeticException" "java/lang/ArithmeticException") ∈ lw_tbl := lw_at lw_m2 169 rfl
theorem q511 : (Jvm.Cond.selects "java/lang/ArithmeticException" ({ cls := "java/lang/Throwable", name := "fillInStackTrace", desc := "(I)Ljava/lang/Throwable;" } : Jvm.MethodName) ({ cls := "java/lang/Throwable", name := "fillInStackTrace", desc := "(I)Ljava/lang/Throwable;" } : Jvm.MethodName)) ∈ lw_all := lw_g (lw_at lw_m2 170 rfl) rfl
theorem q512 : (Jvm.Cond.lays "java/lang/ArithmeticException" "java/lang/Throwable" "cause" "Ljava/lang/Throwable;") ∈ lw_all := lw_g (lw_at lw_m2 171 rfl) rfl
theorem q513 : (Jvm.Cond.lays "java/lang/ArithmeticException" "java/lang/Throwable" "stackTrace" "[Ljava/lang/StackTraceElement;") ∈ lw_all := lw_g (lw_at lw_m2 172 rfl) rfl
theorem q514 : (Jvm.Cond.lays "java/lang/ArithmeticException" "java/lang/Throwable" "suppressedExceptions" "Ljava/util/List;") ∈ lw_all := lw_g (lw_at lw_m2 173 rfl) rfl
theorem q515 : (Jvm.Cond.lays "java/lang/ArithmeticException" "java/lang/Throwable" "detailMessage" "Ljava/lang/String;") ∈ lw_all := lw_g (lw_at lw_m2 174 rfl) rfl
theorem q516 : (Jvm.Cond.lays "java/lang/ArithmeticException" "java/lang/Throwable" "backtrace" "Ljava/lang/Object;") ∈ lw_all := lw_g (lw_at lw_m2 175 rfl) rfl
theorem q519 : (Jvm.Cond.instanceMethod ({ cls := "java/lang/ArithmeticException", name := "<init>", desc := "(Ljava/lang/String;)V" } : Jvm.MethodName)) ∈ lw_all := lw_g (lw_at lw_m2 178 rfl) rfl
theorem q520 : (Jvm.Cond.code ({ cls := "java/lang/ArithmeticException", name := "<init>", desc := "(Ljava/lang/String;)V" } : Jvm.MethodName) prog_25_method_2_code (2 : Nat) (Option.none : Option Jvm.ClassFile.FieldType)) ∈ lw_all := lw_g (lw_at lw_m2 179 rfl) rfl
theorem q521 : (Jvm.Cond.methodLink "java/lang/ArithmeticException" (7 : Nat) ({ cls := "java/lang/RuntimeException", name := "<init>", desc := "(Ljava/lang/String;)V" } : Jvm.MethodName)) ∈ lw_all := lw_g (lw_at lw_m2 180 rfl) rfl
theorem q530 : (Jvm.Cond.lays "java/lang/ArithmeticException" "java/lang/Throwable" "depth" "I") ∈ lw_all := lw_g (lw_at lw_m2 189 rfl) rfl
theorem q531 : (Jvm.Cond.superclass "java/lang/ArithmeticException" "java/lang/RuntimeException") ∈ lw_all := lw_g (lw_at lw_m2 190 rfl) rfl
theorem in_J4 : ∀ w ∈ wsJ40, w ∈ lw_all := lw_in wsJ40 [512, 513, 514, 515, 516, 530] (by decide +kernel) (by decide +kernel)
/-! java/lang/String -/
set_option maxRecDepth 100000
def RJ5 : String := "java/lang/String"
def TJ5 : u_T := fun k => match k with
  | 0 => ("java/lang/String", "value", "[B", true)
  | _ => ("java/lang/String", "coder", "B", true)
def tyJ5 : Nat → FieldType := fun k => match k with
  | 0 => .array .byte
  | _ => .byte
abbrev wsJ50 : List Cond := u_ws RJ5 TJ5 2
theorem nmJ5 : ∀ a, a < 2 → ∀ b, b < 2 → a ≠ b → (TJ5 a).2.1 ≠ (TJ5 b).2.1 := by decide +kernel
theorem tyJ5_ok : ∀ k, k < 2 → parseFieldDescriptor (TJ5 k).2.2.1 = some (tyJ5 k) := by decide +kernel
abbrev cJ5_length : ByteArray := prog_36_method_54_code
def yJ5_length : MethodName := ⟨RJ5, "length", "()I"⟩
def dkwJ5_length_0 : List UInt8 := [42, 180, 0, 9, 190, 42, 182, 1, 79, 122, 172]
abbrev dktJ5_length_0 : List UInt8 := dkwJ5_length_0 ++ []
theorem dksJ5_length_0 : cJ5_length.data.toList.drop 0 = dktJ5_length_0 := by decide +kernel
theorem dJ5_length_0 : decode cJ5_length 0 = .ok (.aload_n 0, 1) := dk_42 (dk_at dksJ5_length_0 0 rfl rfl)
theorem dJ5_length_1 : decode cJ5_length 1 = .ok (.getfield 9, 3) := dk_180 0 9 (dk_at dksJ5_length_0 1 rfl rfl)
theorem dJ5_length_4 : decode cJ5_length 4 = .ok (.arraylength, 1) := dk_190 (dk_at dksJ5_length_0 4 rfl rfl)
theorem dJ5_length_5 : decode cJ5_length 5 = .ok (.aload_n 0, 1) := dk_42 (dk_at dksJ5_length_0 5 rfl rfl)
theorem dJ5_length_6 : decode cJ5_length 6 = .ok (.invokevirtual 335, 3) := dk_182 1 79 (dk_at dksJ5_length_0 6 rfl rfl)
theorem dJ5_length_9 : decode cJ5_length 9 = .ok (.ishr, 1) := dk_122 (dk_at dksJ5_length_0 9 rfl rfl)
theorem dJ5_length_10 : decode cJ5_length 10 = .ok (.ireturn, 1) := dk_172 (dk_at dksJ5_length_0 10 rfl rfl)
abbrev cJ5_coder : ByteArray := prog_36_method_152_code
def yJ5_coder : MethodName := ⟨RJ5, "coder", "()B"⟩
def dkwJ5_coder_0 : List UInt8 := [178, 0, 38, 153, 0, 10, 42, 180, 0, 15, 167, 0, 4, 4, 172]
abbrev dktJ5_coder_0 : List UInt8 := dkwJ5_coder_0 ++ []
theorem dksJ5_coder_0 : cJ5_coder.data.toList.drop 0 = dktJ5_coder_0 := by decide +kernel
theorem dJ5_coder_0 : decode cJ5_coder 0 = .ok (.getstatic 38, 3) := dk_178 0 38 (dk_at dksJ5_coder_0 0 rfl rfl)
theorem dJ5_coder_3 : decode cJ5_coder 3 = .ok (.ifCond .eq 10, 3) := dk_153 0 10 (dk_at dksJ5_coder_0 3 rfl rfl)
theorem dJ5_coder_6 : decode cJ5_coder 6 = .ok (.aload_n 0, 1) := dk_42 (dk_at dksJ5_coder_0 6 rfl rfl)
theorem dJ5_coder_7 : decode cJ5_coder 7 = .ok (.getfield 15, 3) := dk_180 0 15 (dk_at dksJ5_coder_0 7 rfl rfl)
theorem dJ5_coder_10 : decode cJ5_coder 10 = .ok (.goto 4, 3) := dk_167 0 4 (dk_at dksJ5_coder_0 10 rfl rfl)
theorem dJ5_coder_13 : decode cJ5_coder 13 = .ok (.iconst 1, 1) := dk_4 (dk_at dksJ5_coder_0 13 rfl rfl)
theorem dJ5_coder_14 : decode cJ5_coder 14 = .ok (.ireturn, 1) := dk_172 (dk_at dksJ5_coder_0 14 rfl rfl)
abbrev cJ5_charAt : ByteArray := prog_36_method_56_code
def yJ5_charAt : MethodName := ⟨RJ5, "charAt", "(I)C"⟩
def dkwJ5_charAt_1 : List UInt8 := [172]
abbrev dktJ5_charAt_1 : List UInt8 := dkwJ5_charAt_1 ++ []
def dkwJ5_charAt_0 : List UInt8 := [42, 182, 1, 236, 153, 0, 12, 42, 180, 0, 9, 27, 184, 1, 239, 172, 42, 180, 0, 9, 27, 184, 1, 242]
abbrev dktJ5_charAt_0 : List UInt8 := dkwJ5_charAt_0 ++ dktJ5_charAt_1
theorem dksJ5_charAt_0 : cJ5_charAt.data.toList.drop 0 = dktJ5_charAt_0 := by decide +kernel
theorem dksJ5_charAt_1 : cJ5_charAt.data.toList.drop 24 = dktJ5_charAt_1 := dk_seg dksJ5_charAt_0 24 rfl rfl
theorem dJ5_charAt_0 : decode cJ5_charAt 0 = .ok (.aload_n 0, 1) := dk_42 (dk_at dksJ5_charAt_0 0 rfl rfl)
theorem dJ5_charAt_1 : decode cJ5_charAt 1 = .ok (.invokevirtual 492, 3) := dk_182 1 236 (dk_at dksJ5_charAt_0 1 rfl rfl)
theorem dJ5_charAt_4 : decode cJ5_charAt 4 = .ok (.ifCond .eq 12, 3) := dk_153 0 12 (dk_at dksJ5_charAt_0 4 rfl rfl)
theorem dJ5_charAt_7 : decode cJ5_charAt 7 = .ok (.aload_n 0, 1) := dk_42 (dk_at dksJ5_charAt_0 7 rfl rfl)
theorem dJ5_charAt_8 : decode cJ5_charAt 8 = .ok (.getfield 9, 3) := dk_180 0 9 (dk_at dksJ5_charAt_0 8 rfl rfl)
theorem dJ5_charAt_11 : decode cJ5_charAt 11 = .ok (.iload_n 1, 1) := dk_27 (dk_at dksJ5_charAt_0 11 rfl rfl)
theorem dJ5_charAt_12 : decode cJ5_charAt 12 = .ok (.invokestatic 495, 3) := dk_184 1 239 (dk_at dksJ5_charAt_0 12 rfl rfl)
theorem dJ5_charAt_15 : decode cJ5_charAt 15 = .ok (.ireturn, 1) := dk_172 (dk_at dksJ5_charAt_0 15 rfl rfl)
theorem dJ5_charAt_16 : decode cJ5_charAt 16 = .ok (.aload_n 0, 1) := dk_42 (dk_at dksJ5_charAt_0 16 rfl rfl)
theorem dJ5_charAt_17 : decode cJ5_charAt 17 = .ok (.getfield 9, 3) := dk_180 0 9 (dk_at dksJ5_charAt_0 17 rfl rfl)
theorem dJ5_charAt_20 : decode cJ5_charAt 20 = .ok (.iload_n 1, 1) := dk_27 (dk_at dksJ5_charAt_0 20 rfl rfl)
theorem dJ5_charAt_21 : decode cJ5_charAt 21 = .ok (.invokestatic 498, 3) := dk_184 1 242 (dk_at dksJ5_charAt_0 21 rfl rfl)
theorem dJ5_charAt_24 : decode cJ5_charAt 24 = .ok (.ireturn, 1) := dk_172 (dk_at dksJ5_charAt_1 0 rfl rfl)
abbrev cJ5_isLatin1 : ByteArray := prog_36_method_154_code
def yJ5_isLatin1 : MethodName := ⟨RJ5, "isLatin1", "()Z"⟩
def dkwJ5_isLatin1_0 : List UInt8 := [178, 0, 38, 153, 0, 14, 42, 180, 0, 15, 154, 0, 7, 4, 167, 0, 4, 3, 172]
abbrev dktJ5_isLatin1_0 : List UInt8 := dkwJ5_isLatin1_0 ++ []
theorem dksJ5_isLatin1_0 : cJ5_isLatin1.data.toList.drop 0 = dktJ5_isLatin1_0 := by decide +kernel
theorem dJ5_isLatin1_0 : decode cJ5_isLatin1 0 = .ok (.getstatic 38, 3) := dk_178 0 38 (dk_at dksJ5_isLatin1_0 0 rfl rfl)
theorem dJ5_isLatin1_3 : decode cJ5_isLatin1 3 = .ok (.ifCond .eq 14, 3) := dk_153 0 14 (dk_at dksJ5_isLatin1_0 3 rfl rfl)
theorem dJ5_isLatin1_6 : decode cJ5_isLatin1 6 = .ok (.aload_n 0, 1) := dk_42 (dk_at dksJ5_isLatin1_0 6 rfl rfl)
theorem dJ5_isLatin1_7 : decode cJ5_isLatin1 7 = .ok (.getfield 15, 3) := dk_180 0 15 (dk_at dksJ5_isLatin1_0 7 rfl rfl)
theorem dJ5_isLatin1_10 : decode cJ5_isLatin1 10 = .ok (.ifCond .ne 7, 3) := dk_154 0 7 (dk_at dksJ5_isLatin1_0 10 rfl rfl)
theorem dJ5_isLatin1_13 : decode cJ5_isLatin1 13 = .ok (.iconst 1, 1) := dk_4 (dk_at dksJ5_isLatin1_0 13 rfl rfl)
theorem dJ5_isLatin1_14 : decode cJ5_isLatin1 14 = .ok (.goto 4, 3) := dk_167 0 4 (dk_at dksJ5_isLatin1_0 14 rfl rfl)
theorem dJ5_isLatin1_17 : decode cJ5_isLatin1 17 = .ok (.iconst 0, 1) := dk_3 (dk_at dksJ5_isLatin1_0 17 rfl rfl)
theorem dJ5_isLatin1_18 : decode cJ5_isLatin1 18 = .ok (.ireturn, 1) := dk_172 (dk_at dksJ5_isLatin1_0 18 rfl rfl)
abbrev cJ5_checkIndex : ByteArray := prog_36_method_155_code
def yJ5_checkIndex : MethodName := ⟨RJ5, "checkIndex", "(II)V"⟩
def dkwJ5_checkIndex_0 : List UInt8 := [26, 27, 178, 4, 29, 184, 4, 35, 87, 177]
abbrev dktJ5_checkIndex_0 : List UInt8 := dkwJ5_checkIndex_0 ++ []
theorem dksJ5_checkIndex_0 : cJ5_checkIndex.data.toList.drop 0 = dktJ5_checkIndex_0 := by decide +kernel
theorem dJ5_checkIndex_0 : decode cJ5_checkIndex 0 = .ok (.iload_n 0, 1) := dk_26 (dk_at dksJ5_checkIndex_0 0 rfl rfl)
theorem dJ5_checkIndex_1 : decode cJ5_checkIndex 1 = .ok (.iload_n 1, 1) := dk_27 (dk_at dksJ5_checkIndex_0 1 rfl rfl)
theorem dJ5_checkIndex_2 : decode cJ5_checkIndex 2 = .ok (.getstatic 1053, 3) := dk_178 4 29 (dk_at dksJ5_checkIndex_0 2 rfl rfl)
theorem dJ5_checkIndex_5 : decode cJ5_checkIndex 5 = .ok (.invokestatic 1059, 3) := dk_184 4 35 (dk_at dksJ5_checkIndex_0 5 rfl rfl)
theorem dJ5_checkIndex_8 : decode cJ5_checkIndex 8 = .ok (.pop, 1) := dk_87 (dk_at dksJ5_checkIndex_0 8 rfl rfl)
theorem dJ5_checkIndex_9 : decode cJ5_checkIndex 9 = .ok (.return_, 1) := dk_177 (dk_at dksJ5_checkIndex_0 9 rfl rfl)
theorem q117 : (Jvm.Cond.initialized "java/lang/String") ∈ lw_all := lw_g (lw_at lw_m1 16 rfl) rfl
theorem q606 : (Jvm.Cond.instanceMethod ({ cls := "java/lang/String", name := "length", desc := "()I" } : Jvm.MethodName)) ∈ lw_all := lw_g (lw_at lw_m3 25 rfl) rfl
theorem q607 : (Jvm.Cond.selects "java/lang/String" ({ cls := "java/lang/String", name := "length", desc := "()I" } : Jvm.MethodName) ({ cls := "java/lang/String", name := "length", desc := "()I" } : Jvm.MethodName)) ∈ lw_all := lw_g (lw_at lw_m3 26 rfl) rfl
theorem q608 : (Jvm.Cond.code ({ cls := "java/lang/String", name := "length", desc := "()I" } : Jvm.MethodName) prog_36_method_54_code (1 : Nat) (Option.some Jvm.ClassFile.FieldType.int)) ∈ lw_all := lw_g (lw_at lw_m3 27 rfl) rfl
theorem q609 : (Jvm.Cond.methodLink "java/lang/String" (335 : Nat) ({ cls := "java/lang/String", name := "coder", desc := "()B" } : Jvm.MethodName)) ∈ lw_all := lw_g (lw_at lw_m3 28 rfl) rfl
theorem q610 : (Jvm.Cond.instanceMethod ({ cls := "java/lang/String", name := "coder", desc := "()B" } : Jvm.MethodName)) ∈ lw_all := lw_g (lw_at lw_m3 29 rfl) rfl
theorem q611 : (Jvm.Cond.selects "java/lang/String" ({ cls := "java/lang/String", name := "coder", desc := "()B" } : Jvm.MethodName) ({ cls := "java/lang/String", name := "coder", desc := "()B" } : Jvm.MethodName)) ∈ lw_all := lw_g (lw_at lw_m3 30 rfl) rfl
theorem q612 : (Jvm.Cond.code ({ cls := "java/lang/String", name := "coder", desc := "()B" } : Jvm.MethodName) prog_36_method_152_code (1 : Nat) (Option.some Jvm.ClassFile.FieldType.byte)) ∈ lw_all := lw_g (lw_at lw_m3 31 rfl) rfl
theorem q613 : (Jvm.Cond.fieldLink "java/lang/String" (38 : Nat) "java/lang/String" "COMPACT_STRINGS" "Z") ∈ lw_all := lw_g (lw_at lw_m3 32 rfl) rfl
theorem q614 : (Jvm.Cond.laysStatic "java/lang/String" "COMPACT_STRINGS" "Z") ∈ lw_tbl := lw_at lw_m3 33 rfl
theorem q616 : (Jvm.Cond.instanceMethod ({ cls := "java/lang/String", name := "charAt", desc := "(I)C" } : Jvm.MethodName)) ∈ lw_all := lw_g (lw_at lw_m3 35 rfl) rfl
theorem q617 : (Jvm.Cond.selects "java/lang/String" ({ cls := "java/lang/String", name := "charAt", desc := "(I)C" } : Jvm.MethodName) ({ cls := "java/lang/String", name := "charAt", desc := "(I)C" } : Jvm.MethodName)) ∈ lw_all := lw_g (lw_at lw_m3 36 rfl) rfl
theorem q618 : (Jvm.Cond.code ({ cls := "java/lang/String", name := "charAt", desc := "(I)C" } : Jvm.MethodName) prog_36_method_56_code (2 : Nat) (Option.some Jvm.ClassFile.FieldType.char)) ∈ lw_all := lw_g (lw_at lw_m3 37 rfl) rfl
theorem q619 : (Jvm.Cond.methodLink "java/lang/String" (492 : Nat) ({ cls := "java/lang/String", name := "isLatin1", desc := "()Z" } : Jvm.MethodName)) ∈ lw_all := lw_g (lw_at lw_m3 38 rfl) rfl
theorem q620 : (Jvm.Cond.instanceMethod ({ cls := "java/lang/String", name := "isLatin1", desc := "()Z" } : Jvm.MethodName)) ∈ lw_all := lw_g (lw_at lw_m3 39 rfl) rfl
theorem q621 : (Jvm.Cond.selects "java/lang/String" ({ cls := "java/lang/String", name := "isLatin1", desc := "()Z" } : Jvm.MethodName) ({ cls := "java/lang/String", name := "isLatin1", desc := "()Z" } : Jvm.MethodName)) ∈ lw_all := lw_g (lw_at lw_m3 40 rfl) rfl
theorem q622 : (Jvm.Cond.code ({ cls := "java/lang/String", name := "isLatin1", desc := "()Z" } : Jvm.MethodName) prog_36_method_154_code (1 : Nat) (Option.some Jvm.ClassFile.FieldType.boolean)) ∈ lw_all := lw_g (lw_at lw_m3 41 rfl) rfl
theorem q623 : (Jvm.Cond.methodLink "java/lang/String" (495 : Nat) ({ cls := "java/lang/StringLatin1", name := "charAt", desc := "([BI)C" } : Jvm.MethodName)) ∈ lw_all := lw_g (lw_at lw_m3 42 rfl) rfl
theorem q627 : (Jvm.Cond.static ({ cls := "java/lang/String", name := "checkIndex", desc := "(II)V" } : Jvm.MethodName)) ∈ lw_all := lw_g (lw_at lw_m3 46 rfl) rfl
theorem q628 : (Jvm.Cond.code ({ cls := "java/lang/String", name := "checkIndex", desc := "(II)V" } : Jvm.MethodName) prog_36_method_155_code (2 : Nat) (Option.none : Option Jvm.ClassFile.FieldType)) ∈ lw_all := lw_g (lw_at lw_m3 47 rfl) rfl
theorem q629 : (Jvm.Cond.fieldLink "java/lang/String" (1053 : Nat) "jdk/internal/util/Preconditions" "SIOOBE_FORMATTER" "Ljava/util/function/BiFunction;") ∈ lw_all := lw_g (lw_at lw_m3 48 rfl) rfl
theorem q631 : (Jvm.Cond.methodLink "java/lang/String" (1059 : Nat) ({ cls := "jdk/internal/util/Preconditions", name := "checkIndex", desc := "(IILjava/util/function/BiFunction;)I" } : Jvm.MethodName)) ∈ lw_all := lw_g (lw_at lw_m3 50 rfl) rfl
theorem q634 : (Jvm.Cond.methodLink "java/lang/String" (498 : Nat) ({ cls := "java/lang/StringUTF16", name := "charAt", desc := "([BI)C" } : Jvm.MethodName)) ∈ lw_all := lw_g (lw_at lw_m3 53 rfl) rfl
theorem q683 : (Jvm.Cond.instantiable "java/lang/String" (4 : Nat)) ∈ lw_all := lw_g (lw_at lw_m3 102 rfl) rfl
theorem q684 : (Jvm.Cond.laysFinal "java/lang/String" "java/lang/String" "value" "[B") ∈ lw_all := lw_g (lw_at lw_m3 103 rfl) rfl
theorem q685 : (Jvm.Cond.soleField "java/lang/String" "value") ∈ lw_all := lw_g (lw_at lw_m3 104 rfl) rfl
theorem q686 : (Jvm.Cond.laysFinal "java/lang/String" "java/lang/String" "coder" "B") ∈ lw_all := lw_g (lw_at lw_m3 105 rfl) rfl
theorem q687 : (Jvm.Cond.soleField "java/lang/String" "coder") ∈ lw_all := lw_g (lw_at lw_m3 106 rfl) rfl
theorem q2189 : (Jvm.Cond.fieldLink "java/lang/String" (9 : Nat) "java/lang/String" "value" "[B") ∈ lw_all := lw_g (lw_at lw_m9 168 rfl) rfl
theorem q2190 : (Jvm.Cond.fieldLink "java/lang/String" (15 : Nat) "java/lang/String" "coder" "B") ∈ lw_all := lw_g (lw_at lw_m9 169 rfl) rfl
theorem in_J5 : ∀ w ∈ wsJ50, w ∈ lw_all := lw_in wsJ50 [684, 686] (by decide +kernel) (by decide +kernel)
/-! java/lang/StringLatin1 -/
set_option maxRecDepth 100000
def RJ6 : String := "java/lang/StringLatin1"
abbrev cJ6_charAt : ByteArray := prog_37_method_2_code
def yJ6_charAt : MethodName := ⟨RJ6, "charAt", "([BI)C"⟩
def dkwJ6_charAt_0 : List UInt8 := [27, 42, 190, 184, 0, 9, 42, 27, 51, 17, 0, 255, 126, 146, 172]
abbrev dktJ6_charAt_0 : List UInt8 := dkwJ6_charAt_0 ++ []
theorem dksJ6_charAt_0 : cJ6_charAt.data.toList.drop 0 = dktJ6_charAt_0 := by decide +kernel
theorem dJ6_charAt_0 : decode cJ6_charAt 0 = .ok (.iload_n 1, 1) := dk_27 (dk_at dksJ6_charAt_0 0 rfl rfl)
theorem dJ6_charAt_1 : decode cJ6_charAt 1 = .ok (.aload_n 0, 1) := dk_42 (dk_at dksJ6_charAt_0 1 rfl rfl)
theorem dJ6_charAt_2 : decode cJ6_charAt 2 = .ok (.arraylength, 1) := dk_190 (dk_at dksJ6_charAt_0 2 rfl rfl)
theorem dJ6_charAt_3 : decode cJ6_charAt 3 = .ok (.invokestatic 9, 3) := dk_184 0 9 (dk_at dksJ6_charAt_0 3 rfl rfl)
theorem dJ6_charAt_6 : decode cJ6_charAt 6 = .ok (.aload_n 0, 1) := dk_42 (dk_at dksJ6_charAt_0 6 rfl rfl)
theorem dJ6_charAt_7 : decode cJ6_charAt 7 = .ok (.iload_n 1, 1) := dk_27 (dk_at dksJ6_charAt_0 7 rfl rfl)
theorem dJ6_charAt_8 : decode cJ6_charAt 8 = .ok (.baload, 1) := dk_51 (dk_at dksJ6_charAt_0 8 rfl rfl)
theorem dJ6_charAt_9 : decode cJ6_charAt 9 = .ok (.sipush 255, 3) := dk_17 0 255 (dk_at dksJ6_charAt_0 9 rfl rfl)
theorem dJ6_charAt_12 : decode cJ6_charAt 12 = .ok (.iand, 1) := dk_126 (dk_at dksJ6_charAt_0 12 rfl rfl)
theorem dJ6_charAt_13 : decode cJ6_charAt 13 = .ok (.i2c, 1) := dk_146 (dk_at dksJ6_charAt_0 13 rfl rfl)
theorem dJ6_charAt_14 : decode cJ6_charAt 14 = .ok (.ireturn, 1) := dk_172 (dk_at dksJ6_charAt_0 14 rfl rfl)
theorem q118 : (Jvm.Cond.initialized "java/lang/StringLatin1") ∈ lw_all := lw_g (lw_at lw_m1 17 rfl) rfl
theorem q624 : (Jvm.Cond.static ({ cls := "java/lang/StringLatin1", name := "charAt", desc := "([BI)C" } : Jvm.MethodName)) ∈ lw_all := lw_g (lw_at lw_m3 43 rfl) rfl
theorem q625 : (Jvm.Cond.code ({ cls := "java/lang/StringLatin1", name := "charAt", desc := "([BI)C" } : Jvm.MethodName) prog_37_method_2_code (2 : Nat) (Option.some Jvm.ClassFile.FieldType.char)) ∈ lw_all := lw_g (lw_at lw_m3 44 rfl) rfl
theorem q626 : (Jvm.Cond.methodLink "java/lang/StringLatin1" (9 : Nat) ({ cls := "java/lang/String", name := "checkIndex", desc := "(II)V" } : Jvm.MethodName)) ∈ lw_all := lw_g (lw_at lw_m3 45 rfl) rfl
/-! jdk/internal/util/Preconditions -/
set_option maxRecDepth 100000
def RJ7 : String := "jdk/internal/util/Preconditions"
abbrev cJ7_checkIndex : ByteArray := prog_41_method_11_code
def yJ7_checkIndex : MethodName := ⟨RJ7, "checkIndex", "(IILjava/util/function/BiFunction;)I"⟩
def dkwJ7_checkIndex_0 : List UInt8 := [26, 155, 0, 8, 26, 27, 161, 0, 10, 44, 26, 27, 184, 0, 95, 191, 26, 172]
abbrev dktJ7_checkIndex_0 : List UInt8 := dkwJ7_checkIndex_0 ++ []
theorem dksJ7_checkIndex_0 : cJ7_checkIndex.data.toList.drop 0 = dktJ7_checkIndex_0 := by decide +kernel
theorem dJ7_checkIndex_0 : decode cJ7_checkIndex 0 = .ok (.iload_n 0, 1) := dk_26 (dk_at dksJ7_checkIndex_0 0 rfl rfl)
theorem dJ7_checkIndex_1 : decode cJ7_checkIndex 1 = .ok (.ifCond .lt 8, 3) := dk_155 0 8 (dk_at dksJ7_checkIndex_0 1 rfl rfl)
theorem dJ7_checkIndex_4 : decode cJ7_checkIndex 4 = .ok (.iload_n 0, 1) := dk_26 (dk_at dksJ7_checkIndex_0 4 rfl rfl)
theorem dJ7_checkIndex_5 : decode cJ7_checkIndex 5 = .ok (.iload_n 1, 1) := dk_27 (dk_at dksJ7_checkIndex_0 5 rfl rfl)
theorem dJ7_checkIndex_6 : decode cJ7_checkIndex 6 = .ok (.if_icmp .lt 10, 3) := dk_161 0 10 (dk_at dksJ7_checkIndex_0 6 rfl rfl)
theorem dJ7_checkIndex_9 : decode cJ7_checkIndex 9 = .ok (.aload_n 2, 1) := dk_44 (dk_at dksJ7_checkIndex_0 9 rfl rfl)
theorem dJ7_checkIndex_10 : decode cJ7_checkIndex 10 = .ok (.iload_n 0, 1) := dk_26 (dk_at dksJ7_checkIndex_0 10 rfl rfl)
theorem dJ7_checkIndex_11 : decode cJ7_checkIndex 11 = .ok (.iload_n 1, 1) := dk_27 (dk_at dksJ7_checkIndex_0 11 rfl rfl)
theorem dJ7_checkIndex_12 : decode cJ7_checkIndex 12 = .ok (.invokestatic 95, 3) := dk_184 0 95 (dk_at dksJ7_checkIndex_0 12 rfl rfl)
theorem dJ7_checkIndex_15 : decode cJ7_checkIndex 15 = .ok (.athrow, 1) := dk_191 (dk_at dksJ7_checkIndex_0 15 rfl rfl)
theorem dJ7_checkIndex_16 : decode cJ7_checkIndex 16 = .ok (.iload_n 0, 1) := dk_26 (dk_at dksJ7_checkIndex_0 16 rfl rfl)
theorem dJ7_checkIndex_17 : decode cJ7_checkIndex 17 = .ok (.ireturn, 1) := dk_172 (dk_at dksJ7_checkIndex_0 17 rfl rfl)
theorem q119 : (Jvm.Cond.initialized "jdk/internal/util/Preconditions") ∈ lw_all := lw_g (lw_at lw_m1 18 rfl) rfl
theorem q630 : (Jvm.Cond.laysStatic "jdk/internal/util/Preconditions" "SIOOBE_FORMATTER" "Ljava/util/function/BiFunction;") ∈ lw_tbl := lw_at lw_m3 49 rfl
theorem q632 : (Jvm.Cond.static ({ cls := "jdk/internal/util/Preconditions", name := "checkIndex", desc := "(IILjava/util/function/BiFunction;)I" } : Jvm.MethodName)) ∈ lw_all := lw_g (lw_at lw_m3 51 rfl) rfl
theorem q633 : (Jvm.Cond.code ({ cls := "jdk/internal/util/Preconditions", name := "checkIndex", desc := "(IILjava/util/function/BiFunction;)I" } : Jvm.MethodName) prog_41_method_11_code (3 : Nat) (Option.some Jvm.ClassFile.FieldType.int)) ∈ lw_all := lw_g (lw_at lw_m3 52 rfl) rfl
/-! java/lang/StringUTF16 -/
set_option maxRecDepth 100000
def RJ8 : String := "java/lang/StringUTF16"
abbrev cJ8_charAt : ByteArray := prog_38_method_83_code
def yJ8_charAt : MethodName := ⟨RJ8, "charAt", "([BI)C"⟩
def dkwJ8_charAt_0 : List UInt8 := [27, 42, 184, 0, 67, 42, 27, 184, 0, 71, 172]
abbrev dktJ8_charAt_0 : List UInt8 := dkwJ8_charAt_0 ++ []
theorem dksJ8_charAt_0 : cJ8_charAt.data.toList.drop 0 = dktJ8_charAt_0 := by decide +kernel
theorem dJ8_charAt_0 : decode cJ8_charAt 0 = .ok (.iload_n 1, 1) := dk_27 (dk_at dksJ8_charAt_0 0 rfl rfl)
theorem dJ8_charAt_1 : decode cJ8_charAt 1 = .ok (.aload_n 0, 1) := dk_42 (dk_at dksJ8_charAt_0 1 rfl rfl)
theorem dJ8_charAt_2 : decode cJ8_charAt 2 = .ok (.invokestatic 67, 3) := dk_184 0 67 (dk_at dksJ8_charAt_0 2 rfl rfl)
theorem dJ8_charAt_5 : decode cJ8_charAt 5 = .ok (.aload_n 0, 1) := dk_42 (dk_at dksJ8_charAt_0 5 rfl rfl)
theorem dJ8_charAt_6 : decode cJ8_charAt 6 = .ok (.iload_n 1, 1) := dk_27 (dk_at dksJ8_charAt_0 6 rfl rfl)
theorem dJ8_charAt_7 : decode cJ8_charAt 7 = .ok (.invokestatic 71, 3) := dk_184 0 71 (dk_at dksJ8_charAt_0 7 rfl rfl)
theorem dJ8_charAt_10 : decode cJ8_charAt 10 = .ok (.ireturn, 1) := dk_172 (dk_at dksJ8_charAt_0 10 rfl rfl)
abbrev cJ8_checkIndex : ByteArray := prog_38_method_91_code
def yJ8_checkIndex : MethodName := ⟨RJ8, "checkIndex", "(I[B)V"⟩
def dkwJ8_checkIndex_0 : List UInt8 := [26, 43, 184, 0, 48, 184, 1, 158, 177]
abbrev dktJ8_checkIndex_0 : List UInt8 := dkwJ8_checkIndex_0 ++ []
theorem dksJ8_checkIndex_0 : cJ8_checkIndex.data.toList.drop 0 = dktJ8_checkIndex_0 := by decide +kernel
theorem dJ8_checkIndex_0 : decode cJ8_checkIndex 0 = .ok (.iload_n 0, 1) := dk_26 (dk_at dksJ8_checkIndex_0 0 rfl rfl)
theorem dJ8_checkIndex_1 : decode cJ8_checkIndex 1 = .ok (.aload_n 1, 1) := dk_43 (dk_at dksJ8_checkIndex_0 1 rfl rfl)
theorem dJ8_checkIndex_2 : decode cJ8_checkIndex 2 = .ok (.invokestatic 48, 3) := dk_184 0 48 (dk_at dksJ8_checkIndex_0 2 rfl rfl)
theorem dJ8_checkIndex_5 : decode cJ8_checkIndex 5 = .ok (.invokestatic 414, 3) := dk_184 1 158 (dk_at dksJ8_checkIndex_0 5 rfl rfl)
theorem dJ8_checkIndex_8 : decode cJ8_checkIndex 8 = .ok (.return_, 1) := dk_177 (dk_at dksJ8_checkIndex_0 8 rfl rfl)
abbrev cJ8_length : ByteArray := prog_38_method_6_code
def yJ8_length : MethodName := ⟨RJ8, "length", "([B)I"⟩
def dkwJ8_length_0 : List UInt8 := [42, 190, 4, 122, 172]
abbrev dktJ8_length_0 : List UInt8 := dkwJ8_length_0 ++ []
theorem dksJ8_length_0 : cJ8_length.data.toList.drop 0 = dktJ8_length_0 := by decide +kernel
theorem dJ8_length_0 : decode cJ8_length 0 = .ok (.aload_n 0, 1) := dk_42 (dk_at dksJ8_length_0 0 rfl rfl)
theorem dJ8_length_1 : decode cJ8_length 1 = .ok (.arraylength, 1) := dk_190 (dk_at dksJ8_length_0 1 rfl rfl)
theorem dJ8_length_2 : decode cJ8_length 2 = .ok (.iconst 1, 1) := dk_4 (dk_at dksJ8_length_0 2 rfl rfl)
theorem dJ8_length_3 : decode cJ8_length 3 = .ok (.ishr, 1) := dk_122 (dk_at dksJ8_length_0 3 rfl rfl)
theorem dJ8_length_4 : decode cJ8_length 4 = .ok (.ireturn, 1) := dk_172 (dk_at dksJ8_length_0 4 rfl rfl)
abbrev cJ8_getChar : ByteArray := prog_38_method_5_code
def yJ8_getChar : MethodName := ⟨RJ8, "getChar", "([BI)C"⟩
def dkwJ8_getChar_2 : List UInt8 := [51, 17, 0, 255, 126, 178, 0, 63, 120, 128, 146, 172]
abbrev dktJ8_getChar_2 : List UInt8 := dkwJ8_getChar_2 ++ []
def dkwJ8_getChar_1 : List UInt8 := [183, 0, 56, 191, 27, 4, 120, 60, 42, 27, 132, 1, 1, 51, 17, 0, 255, 126, 178, 0, 59, 120, 42, 27]
abbrev dktJ8_getChar_1 : List UInt8 := dkwJ8_getChar_1 ++ dktJ8_getChar_2
def dkwJ8_getChar_0 : List UInt8 := [178, 0, 44, 154, 0, 25, 27, 155, 0, 11, 27, 42, 184, 0, 48, 161, 0, 13, 187, 0, 52, 89, 18, 54]
abbrev dktJ8_getChar_0 : List UInt8 := dkwJ8_getChar_0 ++ dktJ8_getChar_1
theorem dksJ8_getChar_0 : cJ8_getChar.data.toList.drop 0 = dktJ8_getChar_0 := by decide +kernel
theorem dksJ8_getChar_1 : cJ8_getChar.data.toList.drop 24 = dktJ8_getChar_1 := dk_seg dksJ8_getChar_0 24 rfl rfl
theorem dksJ8_getChar_2 : cJ8_getChar.data.toList.drop 48 = dktJ8_getChar_2 := dk_seg dksJ8_getChar_1 24 rfl rfl
theorem dJ8_getChar_0 : decode cJ8_getChar 0 = .ok (.getstatic 44, 3) := dk_178 0 44 (dk_at dksJ8_getChar_0 0 rfl rfl)
theorem dJ8_getChar_3 : decode cJ8_getChar 3 = .ok (.ifCond .ne 25, 3) := dk_154 0 25 (dk_at dksJ8_getChar_0 3 rfl rfl)
theorem dJ8_getChar_6 : decode cJ8_getChar 6 = .ok (.iload_n 1, 1) := dk_27 (dk_at dksJ8_getChar_0 6 rfl rfl)
theorem dJ8_getChar_7 : decode cJ8_getChar 7 = .ok (.ifCond .lt 11, 3) := dk_155 0 11 (dk_at dksJ8_getChar_0 7 rfl rfl)
theorem dJ8_getChar_10 : decode cJ8_getChar 10 = .ok (.iload_n 1, 1) := dk_27 (dk_at dksJ8_getChar_0 10 rfl rfl)
theorem dJ8_getChar_11 : decode cJ8_getChar 11 = .ok (.aload_n 0, 1) := dk_42 (dk_at dksJ8_getChar_0 11 rfl rfl)
theorem dJ8_getChar_12 : decode cJ8_getChar 12 = .ok (.invokestatic 48, 3) := dk_184 0 48 (dk_at dksJ8_getChar_0 12 rfl rfl)
theorem dJ8_getChar_15 : decode cJ8_getChar 15 = .ok (.if_icmp .lt 13, 3) := dk_161 0 13 (dk_at dksJ8_getChar_0 15 rfl rfl)
theorem dJ8_getChar_18 : decode cJ8_getChar 18 = .ok (.new 52, 3) := dk_187 0 52 (dk_at dksJ8_getChar_0 18 rfl rfl)
theorem dJ8_getChar_21 : decode cJ8_getChar 21 = .ok (.dup, 1) := dk_89 (dk_at dksJ8_getChar_0 21 rfl rfl)
theorem dJ8_getChar_22 : decode cJ8_getChar 22 = .ok (.ldc 54, 2) := dk_18 54 (dk_at dksJ8_getChar_0 22 rfl rfl)
theorem dJ8_getChar_24 : decode cJ8_getChar 24 = .ok (.invokespecial 56, 3) := dk_183 0 56 (dk_at dksJ8_getChar_1 0 rfl rfl)
theorem dJ8_getChar_27 : decode cJ8_getChar 27 = .ok (.athrow, 1) := dk_191 (dk_at dksJ8_getChar_1 3 rfl rfl)
theorem dJ8_getChar_28 : decode cJ8_getChar 28 = .ok (.iload_n 1, 1) := dk_27 (dk_at dksJ8_getChar_1 4 rfl rfl)
theorem dJ8_getChar_29 : decode cJ8_getChar 29 = .ok (.iconst 1, 1) := dk_4 (dk_at dksJ8_getChar_1 5 rfl rfl)
theorem dJ8_getChar_30 : decode cJ8_getChar 30 = .ok (.ishl, 1) := dk_120 (dk_at dksJ8_getChar_1 6 rfl rfl)
theorem dJ8_getChar_31 : decode cJ8_getChar 31 = .ok (.istore_n 1, 1) := dk_60 (dk_at dksJ8_getChar_1 7 rfl rfl)
theorem dJ8_getChar_32 : decode cJ8_getChar 32 = .ok (.aload_n 0, 1) := dk_42 (dk_at dksJ8_getChar_1 8 rfl rfl)
theorem dJ8_getChar_33 : decode cJ8_getChar 33 = .ok (.iload_n 1, 1) := dk_27 (dk_at dksJ8_getChar_1 9 rfl rfl)
theorem dJ8_getChar_34 : decode cJ8_getChar 34 = .ok (.iinc 1 1, 3) := dk_132 1 1 (dk_at dksJ8_getChar_1 10 rfl rfl)
theorem dJ8_getChar_37 : decode cJ8_getChar 37 = .ok (.baload, 1) := dk_51 (dk_at dksJ8_getChar_1 13 rfl rfl)
theorem dJ8_getChar_38 : decode cJ8_getChar 38 = .ok (.sipush 255, 3) := dk_17 0 255 (dk_at dksJ8_getChar_1 14 rfl rfl)
theorem dJ8_getChar_41 : decode cJ8_getChar 41 = .ok (.iand, 1) := dk_126 (dk_at dksJ8_getChar_1 17 rfl rfl)
theorem dJ8_getChar_42 : decode cJ8_getChar 42 = .ok (.getstatic 59, 3) := dk_178 0 59 (dk_at dksJ8_getChar_1 18 rfl rfl)
theorem dJ8_getChar_45 : decode cJ8_getChar 45 = .ok (.ishl, 1) := dk_120 (dk_at dksJ8_getChar_1 21 rfl rfl)
theorem dJ8_getChar_46 : decode cJ8_getChar 46 = .ok (.aload_n 0, 1) := dk_42 (dk_at dksJ8_getChar_1 22 rfl rfl)
theorem dJ8_getChar_47 : decode cJ8_getChar 47 = .ok (.iload_n 1, 1) := dk_27 (dk_at dksJ8_getChar_1 23 rfl rfl)
theorem dJ8_getChar_48 : decode cJ8_getChar 48 = .ok (.baload, 1) := dk_51 (dk_at dksJ8_getChar_2 0 rfl rfl)
theorem dJ8_getChar_49 : decode cJ8_getChar 49 = .ok (.sipush 255, 3) := dk_17 0 255 (dk_at dksJ8_getChar_2 1 rfl rfl)
theorem dJ8_getChar_52 : decode cJ8_getChar 52 = .ok (.iand, 1) := dk_126 (dk_at dksJ8_getChar_2 4 rfl rfl)
theorem dJ8_getChar_53 : decode cJ8_getChar 53 = .ok (.getstatic 63, 3) := dk_178 0 63 (dk_at dksJ8_getChar_2 5 rfl rfl)
theorem dJ8_getChar_56 : decode cJ8_getChar 56 = .ok (.ishl, 1) := dk_120 (dk_at dksJ8_getChar_2 8 rfl rfl)
theorem dJ8_getChar_57 : decode cJ8_getChar 57 = .ok (.ior, 1) := dk_128 (dk_at dksJ8_getChar_2 9 rfl rfl)
theorem dJ8_getChar_58 : decode cJ8_getChar 58 = .ok (.i2c, 1) := dk_146 (dk_at dksJ8_getChar_2 10 rfl rfl)
theorem dJ8_getChar_59 : decode cJ8_getChar 59 = .ok (.ireturn, 1) := dk_172 (dk_at dksJ8_getChar_2 11 rfl rfl)
theorem q120 : (Jvm.Cond.initialized "java/lang/StringUTF16") ∈ lw_all := lw_g (lw_at lw_m1 19 rfl) rfl
theorem q635 : (Jvm.Cond.static ({ cls := "java/lang/StringUTF16", name := "charAt", desc := "([BI)C" } : Jvm.MethodName)) ∈ lw_all := lw_g (lw_at lw_m3 54 rfl) rfl
theorem q636 : (Jvm.Cond.code ({ cls := "java/lang/StringUTF16", name := "charAt", desc := "([BI)C" } : Jvm.MethodName) prog_38_method_83_code (2 : Nat) (Option.some Jvm.ClassFile.FieldType.char)) ∈ lw_all := lw_g (lw_at lw_m3 55 rfl) rfl
theorem q637 : (Jvm.Cond.methodLink "java/lang/StringUTF16" (67 : Nat) ({ cls := "java/lang/StringUTF16", name := "checkIndex", desc := "(I[B)V" } : Jvm.MethodName)) ∈ lw_all := lw_g (lw_at lw_m3 56 rfl) rfl
theorem q638 : (Jvm.Cond.static ({ cls := "java/lang/StringUTF16", name := "checkIndex", desc := "(I[B)V" } : Jvm.MethodName)) ∈ lw_all := lw_g (lw_at lw_m3 57 rfl) rfl
theorem q639 : (Jvm.Cond.code ({ cls := "java/lang/StringUTF16", name := "checkIndex", desc := "(I[B)V" } : Jvm.MethodName) prog_38_method_91_code (2 : Nat) (Option.none : Option Jvm.ClassFile.FieldType)) ∈ lw_all := lw_g (lw_at lw_m3 58 rfl) rfl
theorem q640 : (Jvm.Cond.methodLink "java/lang/StringUTF16" (48 : Nat) ({ cls := "java/lang/StringUTF16", name := "length", desc := "([B)I" } : Jvm.MethodName)) ∈ lw_all := lw_g (lw_at lw_m3 59 rfl) rfl
theorem q641 : (Jvm.Cond.static ({ cls := "java/lang/StringUTF16", name := "length", desc := "([B)I" } : Jvm.MethodName)) ∈ lw_all := lw_g (lw_at lw_m3 60 rfl) rfl
theorem q642 : (Jvm.Cond.code ({ cls := "java/lang/StringUTF16", name := "length", desc := "([B)I" } : Jvm.MethodName) prog_38_method_6_code (1 : Nat) (Option.some Jvm.ClassFile.FieldType.int)) ∈ lw_all := lw_g (lw_at lw_m3 61 rfl) rfl
theorem q643 : (Jvm.Cond.methodLink "java/lang/StringUTF16" (414 : Nat) ({ cls := "java/lang/String", name := "checkIndex", desc := "(II)V" } : Jvm.MethodName)) ∈ lw_all := lw_g (lw_at lw_m3 62 rfl) rfl
theorem q644 : (Jvm.Cond.methodLink "java/lang/StringUTF16" (71 : Nat) ({ cls := "java/lang/StringUTF16", name := "getChar", desc := "([BI)C" } : Jvm.MethodName)) ∈ lw_all := lw_g (lw_at lw_m3 63 rfl) rfl
theorem q645 : (Jvm.Cond.static ({ cls := "java/lang/StringUTF16", name := "getChar", desc := "([BI)C" } : Jvm.MethodName)) ∈ lw_all := lw_g (lw_at lw_m3 64 rfl) rfl
theorem q646 : (Jvm.Cond.code ({ cls := "java/lang/StringUTF16", name := "getChar", desc := "([BI)C" } : Jvm.MethodName) prog_38_method_5_code (2 : Nat) (Option.some Jvm.ClassFile.FieldType.char)) ∈ lw_all := lw_g (lw_at lw_m3 65 rfl) rfl
theorem q647 : (Jvm.Cond.fieldLink "java/lang/StringUTF16" (44 : Nat) "java/lang/StringUTF16" "$assertionsDisabled" "Z") ∈ lw_all := lw_g (lw_at lw_m3 66 rfl) rfl
theorem q648 : (Jvm.Cond.laysStatic "java/lang/StringUTF16" "$assertionsDisabled" "Z") ∈ lw_tbl := lw_at lw_m3 67 rfl
theorem q649 : (Jvm.Cond.fieldLink "java/lang/StringUTF16" (59 : Nat) "java/lang/StringUTF16" "HI_BYTE_SHIFT" "I") ∈ lw_all := lw_g (lw_at lw_m3 68 rfl) rfl
theorem q650 : (Jvm.Cond.laysStatic "java/lang/StringUTF16" "HI_BYTE_SHIFT" "I") ∈ lw_tbl := lw_at lw_m3 69 rfl
theorem q651 : (Jvm.Cond.fieldLink "java/lang/StringUTF16" (63 : Nat) "java/lang/StringUTF16" "LO_BYTE_SHIFT" "I") ∈ lw_all := lw_g (lw_at lw_m3 70 rfl) rfl
theorem q652 : (Jvm.Cond.laysStatic "java/lang/StringUTF16" "LO_BYTE_SHIFT" "I") ∈ lw_tbl := lw_at lw_m3 71 rfl
/-! TwoSidedTables$Plain -/
set_option maxRecDepth 100000
def RX9 : String := "TwoSidedTables$Plain"
def TX9 : u_T := fun k => match k with
  | 0 => ("TwoSidedTables$Plain", "number", "I", true)
  | _ => ("TwoSidedTables$Plain", "shift", "I", true)
def tyX9 : Nat → FieldType := fun k => match k with
  | 0 => .int
  | _ => .int
abbrev wsX90 : List Cond := u_ws RX9 TX9 2
theorem nmX9 : ∀ a, a < 2 → ∀ b, b < 2 → a ≠ b → (TX9 a).2.1 ≠ (TX9 b).2.1 := by decide +kernel
theorem tyX9_ok : ∀ k, k < 2 → parseFieldDescriptor (TX9 k).2.2.1 = some (tyX9 k) := by decide +kernel
abbrev cX9_init : ByteArray := prog_12_method_1_code
def yX9_init : MethodName := ⟨RX9, "<init>", "(II)V"⟩
def dkwX9_init_0 : List UInt8 := [42, 183, 0, 1, 42, 27, 181, 0, 7, 42, 28, 181, 0, 13, 177]
abbrev dktX9_init_0 : List UInt8 := dkwX9_init_0 ++ []
theorem dksX9_init_0 : cX9_init.data.toList.drop 0 = dktX9_init_0 := by decide +kernel
theorem dX9_init_0 : decode cX9_init 0 = .ok (.aload_n 0, 1) := dk_42 (dk_at dksX9_init_0 0 rfl rfl)
theorem dX9_init_1 : decode cX9_init 1 = .ok (.invokespecial 1, 3) := dk_183 0 1 (dk_at dksX9_init_0 1 rfl rfl)
theorem dX9_init_4 : decode cX9_init 4 = .ok (.aload_n 0, 1) := dk_42 (dk_at dksX9_init_0 4 rfl rfl)
theorem dX9_init_5 : decode cX9_init 5 = .ok (.iload_n 1, 1) := dk_27 (dk_at dksX9_init_0 5 rfl rfl)
theorem dX9_init_6 : decode cX9_init 6 = .ok (.putfield 7, 3) := dk_181 0 7 (dk_at dksX9_init_0 6 rfl rfl)
theorem dX9_init_9 : decode cX9_init 9 = .ok (.aload_n 0, 1) := dk_42 (dk_at dksX9_init_0 9 rfl rfl)
theorem dX9_init_10 : decode cX9_init 10 = .ok (.iload_n 2, 1) := dk_28 (dk_at dksX9_init_0 10 rfl rfl)
theorem dX9_init_11 : decode cX9_init 11 = .ok (.putfield 13, 3) := dk_181 0 13 (dk_at dksX9_init_0 11 rfl rfl)
theorem dX9_init_14 : decode cX9_init 14 = .ok (.return_, 1) := dk_177 (dk_at dksX9_init_0 14 rfl rfl)
abbrev cX9_needsSquare : ByteArray := prog_12_method_5_code
def yX9_needsSquare : MethodName := ⟨RX9, "needsSquare", "()Z"⟩
theorem dX9_needsSquare_0 : decode cX9_needsSquare 0 = .ok (.iconst 0, 1) := by decide +kernel
theorem dX9_needsSquare_1 : decode cX9_needsSquare 1 = .ok (.ireturn, 1) := by decide +kernel
abbrev cX9_unknowns : ByteArray := prog_12_method_7_code
def yX9_unknowns : MethodName := ⟨RX9, "unknowns", "(II)I"⟩
def dkwX9_unknowns_0 : List UInt8 := [27, 28, 104, 172]
abbrev dktX9_unknowns_0 : List UInt8 := dkwX9_unknowns_0 ++ []
theorem dksX9_unknowns_0 : cX9_unknowns.data.toList.drop 0 = dktX9_unknowns_0 := by decide +kernel
theorem dX9_unknowns_0 : decode cX9_unknowns 0 = .ok (.iload_n 1, 1) := dk_27 (dk_at dksX9_unknowns_0 0 rfl rfl)
theorem dX9_unknowns_1 : decode cX9_unknowns 1 = .ok (.iload_n 2, 1) := dk_28 (dk_at dksX9_unknowns_0 1 rfl rfl)
theorem dX9_unknowns_2 : decode cX9_unknowns 2 = .ok (.imul, 1) := dk_104 (dk_at dksX9_unknowns_0 2 rfl rfl)
theorem dX9_unknowns_3 : decode cX9_unknowns 3 = .ok (.ireturn, 1) := dk_172 (dk_at dksX9_unknowns_0 3 rfl rfl)
abbrev cX9_kind : ByteArray := prog_12_method_4_code
def yX9_kind : MethodName := ⟨RX9, "kind", "()I"⟩
theorem dX9_kind_0 : decode cX9_kind 0 = .ok (.iconst 0, 1) := by decide +kernel
theorem dX9_kind_1 : decode cX9_kind 1 = .ok (.ireturn, 1) := by decide +kernel
abbrev cX9_shift : ByteArray := prog_12_method_3_code
def yX9_shift : MethodName := ⟨RX9, "shift", "()I"⟩
theorem dX9_shift_0 : decode cX9_shift 0 = .ok (.aload_n 0, 1) := by decide +kernel
theorem dX9_shift_1 : decode cX9_shift 1 = .ok (.getfield 13, 3) := by decide +kernel
theorem dX9_shift_4 : decode cX9_shift 4 = .ok (.ireturn, 1) := by decide +kernel
abbrev cX9_codeAt : ByteArray := prog_12_method_8_code
def yX9_codeAt : MethodName := ⟨RX9, "codeAt", "(III)I"⟩
def dkwX9_codeAt_0 : List UInt8 := [4, 29, 27, 104, 96, 28, 96, 172]
abbrev dktX9_codeAt_0 : List UInt8 := dkwX9_codeAt_0 ++ []
theorem dksX9_codeAt_0 : cX9_codeAt.data.toList.drop 0 = dktX9_codeAt_0 := by decide +kernel
theorem dX9_codeAt_0 : decode cX9_codeAt 0 = .ok (.iconst 1, 1) := dk_4 (dk_at dksX9_codeAt_0 0 rfl rfl)
theorem dX9_codeAt_1 : decode cX9_codeAt 1 = .ok (.iload_n 3, 1) := dk_29 (dk_at dksX9_codeAt_0 1 rfl rfl)
theorem dX9_codeAt_2 : decode cX9_codeAt 2 = .ok (.iload_n 1, 1) := dk_27 (dk_at dksX9_codeAt_0 2 rfl rfl)
theorem dX9_codeAt_3 : decode cX9_codeAt 3 = .ok (.imul, 1) := dk_104 (dk_at dksX9_codeAt_0 3 rfl rfl)
theorem dX9_codeAt_4 : decode cX9_codeAt 4 = .ok (.iadd, 1) := dk_96 (dk_at dksX9_codeAt_0 4 rfl rfl)
theorem dX9_codeAt_5 : decode cX9_codeAt 5 = .ok (.iload_n 2, 1) := dk_28 (dk_at dksX9_codeAt_0 5 rfl rfl)
theorem dX9_codeAt_6 : decode cX9_codeAt 6 = .ok (.iadd, 1) := dk_96 (dk_at dksX9_codeAt_0 6 rfl rfl)
theorem dX9_codeAt_7 : decode cX9_codeAt 7 = .ok (.ireturn, 1) := dk_172 (dk_at dksX9_codeAt_0 7 rfl rfl)
abbrev cX9_right : ByteArray := prog_12_method_6_code
def yX9_right : MethodName := ⟨RX9, "right", "(LTwoSidedTables$Tables;II)J"⟩
def dkwX9_right_0 : List UInt8 := [43, 180, 0, 16, 28, 29, 182, 0, 22, 173]
abbrev dktX9_right_0 : List UInt8 := dkwX9_right_0 ++ []
theorem dksX9_right_0 : cX9_right.data.toList.drop 0 = dktX9_right_0 := by decide +kernel
theorem dX9_right_0 : decode cX9_right 0 = .ok (.aload_n 1, 1) := dk_43 (dk_at dksX9_right_0 0 rfl rfl)
theorem dX9_right_1 : decode cX9_right 1 = .ok (.getfield 16, 3) := dk_180 0 16 (dk_at dksX9_right_0 1 rfl rfl)
theorem dX9_right_4 : decode cX9_right 4 = .ok (.iload_n 2, 1) := dk_28 (dk_at dksX9_right_0 4 rfl rfl)
theorem dX9_right_5 : decode cX9_right 5 = .ok (.iload_n 3, 1) := dk_29 (dk_at dksX9_right_0 5 rfl rfl)
theorem dX9_right_6 : decode cX9_right 6 = .ok (.invokevirtual 22, 3) := dk_182 0 22 (dk_at dksX9_right_0 6 rfl rfl)
theorem dX9_right_9 : decode cX9_right 9 = .ok (.lreturn, 1) := dk_173 (dk_at dksX9_right_0 9 rfl rfl)
abbrev cX9_number : ByteArray := prog_12_method_2_code
def yX9_number : MethodName := ⟨RX9, "number", "()I"⟩
theorem dX9_number_0 : decode cX9_number 0 = .ok (.aload_n 0, 1) := by decide +kernel
theorem dX9_number_1 : decode cX9_number 1 = .ok (.getfield 7, 3) := by decide +kernel
theorem dX9_number_4 : decode cX9_number 4 = .ok (.ireturn, 1) := by decide +kernel
theorem q121 : (Jvm.Cond.initialized "TwoSidedTables$Plain") ∈ lw_all := lw_g (lw_at lw_m1 20 rfl) rfl
theorem q315 : (Jvm.Cond.fieldLinkNest "TwoSidedTables$Plain" (16 : Nat) "TwoSidedTables$Tables" "b" "LTwoSidedTables$Table;" "TwoSidedTables") ∈ lw_tbl := lw_at lw_m1 214 rfl
theorem q728 : (Jvm.Cond.instanceMethod ({ cls := "TwoSidedTables$Plain", name := "<init>", desc := "(II)V" } : Jvm.MethodName)) ∈ lw_all := lw_g (lw_at lw_m3 147 rfl) rfl
theorem q729 : (Jvm.Cond.code ({ cls := "TwoSidedTables$Plain", name := "<init>", desc := "(II)V" } : Jvm.MethodName) prog_12_method_1_code (3 : Nat) (Option.none : Option Jvm.ClassFile.FieldType)) ∈ lw_all := lw_g (lw_at lw_m3 148 rfl) rfl
theorem q730 : (Jvm.Cond.methodLink "TwoSidedTables$Plain" (1 : Nat) ({ cls := "java/lang/Object", name := "<init>", desc := "()V" } : Jvm.MethodName)) ∈ lw_all := lw_g (lw_at lw_m3 149 rfl) rfl
theorem q731 : (Jvm.Cond.fieldLink "TwoSidedTables$Plain" (7 : Nat) "TwoSidedTables$Plain" "number" "I") ∈ lw_all := lw_g (lw_at lw_m3 150 rfl) rfl
theorem q732 : (Jvm.Cond.fieldLink "TwoSidedTables$Plain" (13 : Nat) "TwoSidedTables$Plain" "shift" "I") ∈ lw_all := lw_g (lw_at lw_m3 151 rfl) rfl
theorem q734 : (Jvm.Cond.soleField "TwoSidedTables$Plain" "number") ∈ lw_all := lw_g (lw_at lw_m3 153 rfl) rfl
theorem q736 : (Jvm.Cond.soleField "TwoSidedTables$Plain" "shift") ∈ lw_all := lw_g (lw_at lw_m3 155 rfl) rfl
theorem q783 : (Jvm.Cond.instantiable "TwoSidedTables$Plain" (2 : Nat)) ∈ lw_all := lw_g (lw_at lw_m3 202 rfl) rfl
theorem q785 : (Jvm.Cond.laysFinal "TwoSidedTables$Plain" "TwoSidedTables$Plain" "number" "I") ∈ lw_all := lw_g (lw_at lw_m3 204 rfl) rfl
theorem q786 : (Jvm.Cond.laysFinal "TwoSidedTables$Plain" "TwoSidedTables$Plain" "shift" "I") ∈ lw_all := lw_g (lw_at lw_m3 205 rfl) rfl
theorem q787 : (Jvm.Cond.superclass "TwoSidedTables$Plain" "java/lang/Object") ∈ lw_all := lw_g (lw_at lw_m3 206 rfl) rfl
theorem q801 : (Jvm.Cond.instanceMethod ({ cls := "TwoSidedTables$Plain", name := "needsSquare", desc := "()Z" } : Jvm.MethodName)) ∈ lw_all := lw_g (lw_at lw_m3 220 rfl) rfl
theorem q802 : (Jvm.Cond.selects "TwoSidedTables$Plain" ({ cls := "TwoSidedTables$Plain", name := "needsSquare", desc := "()Z" } : Jvm.MethodName) ({ cls := "TwoSidedTables$Plain", name := "needsSquare", desc := "()Z" } : Jvm.MethodName)) ∈ lw_all := lw_g (lw_at lw_m3 221 rfl) rfl
theorem q803 : (Jvm.Cond.sameMethod "TwoSidedTables$Plain" "TwoSidedTables$Plain" "needsSquare" "()Z") ∈ lw_all := lw_g (lw_at lw_m3 222 rfl) rfl
theorem q816 : (Jvm.Cond.code ({ cls := "TwoSidedTables$Plain", name := "needsSquare", desc := "()Z" } : Jvm.MethodName) prog_12_method_5_code (1 : Nat) (Option.some Jvm.ClassFile.FieldType.boolean)) ∈ lw_all := lw_g (lw_at lw_m3 235 rfl) rfl
theorem q822 : (Jvm.Cond.instanceMethod ({ cls := "TwoSidedTables$Plain", name := "unknowns", desc := "(II)I" } : Jvm.MethodName)) ∈ lw_all := lw_g (lw_at lw_m4 1 rfl) rfl
theorem q823 : (Jvm.Cond.selects "TwoSidedTables$Plain" ({ cls := "TwoSidedTables$Plain", name := "unknowns", desc := "(II)I" } : Jvm.MethodName) ({ cls := "TwoSidedTables$Plain", name := "unknowns", desc := "(II)I" } : Jvm.MethodName)) ∈ lw_all := lw_g (lw_at lw_m4 2 rfl) rfl
theorem q824 : (Jvm.Cond.sameMethod "TwoSidedTables$Plain" "TwoSidedTables$Plain" "unknowns" "(II)I") ∈ lw_all := lw_g (lw_at lw_m4 3 rfl) rfl
theorem q839 : (Jvm.Cond.declares ({ cls := "TwoSidedTables$Plain", name := "unknowns", desc := "(II)I" } : Jvm.MethodName)) ∈ lw_tbl := lw_at lw_m4 18 rfl
theorem q842 : (Jvm.Cond.code ({ cls := "TwoSidedTables$Plain", name := "unknowns", desc := "(II)I" } : Jvm.MethodName) prog_12_method_7_code (3 : Nat) (Option.some Jvm.ClassFile.FieldType.int)) ∈ lw_all := lw_g (lw_at lw_m4 21 rfl) rfl
theorem q849 : (Jvm.Cond.instanceMethod ({ cls := "TwoSidedTables$Plain", name := "kind", desc := "()I" } : Jvm.MethodName)) ∈ lw_all := lw_g (lw_at lw_m4 28 rfl) rfl
theorem q850 : (Jvm.Cond.selects "TwoSidedTables$Plain" ({ cls := "TwoSidedTables$Plain", name := "kind", desc := "()I" } : Jvm.MethodName) ({ cls := "TwoSidedTables$Plain", name := "kind", desc := "()I" } : Jvm.MethodName)) ∈ lw_all := lw_g (lw_at lw_m4 29 rfl) rfl
theorem q851 : (Jvm.Cond.sameMethod "TwoSidedTables$Plain" "TwoSidedTables$Plain" "kind" "()I") ∈ lw_all := lw_g (lw_at lw_m4 30 rfl) rfl
theorem q872 : (Jvm.Cond.code ({ cls := "TwoSidedTables$Plain", name := "kind", desc := "()I" } : Jvm.MethodName) prog_12_method_4_code (1 : Nat) (Option.some Jvm.ClassFile.FieldType.int)) ∈ lw_all := lw_g (lw_at lw_m4 51 rfl) rfl
theorem q874 : (Jvm.Cond.instanceMethod ({ cls := "TwoSidedTables$Plain", name := "shift", desc := "()I" } : Jvm.MethodName)) ∈ lw_all := lw_g (lw_at lw_m4 53 rfl) rfl
theorem q875 : (Jvm.Cond.selects "TwoSidedTables$Plain" ({ cls := "TwoSidedTables$Plain", name := "shift", desc := "()I" } : Jvm.MethodName) ({ cls := "TwoSidedTables$Plain", name := "shift", desc := "()I" } : Jvm.MethodName)) ∈ lw_all := lw_g (lw_at lw_m4 54 rfl) rfl
theorem q876 : (Jvm.Cond.sameMethod "TwoSidedTables$Plain" "TwoSidedTables$Plain" "shift" "()I") ∈ lw_all := lw_g (lw_at lw_m4 55 rfl) rfl
theorem q885 : (Jvm.Cond.code ({ cls := "TwoSidedTables$Plain", name := "shift", desc := "()I" } : Jvm.MethodName) prog_12_method_3_code (1 : Nat) (Option.some Jvm.ClassFile.FieldType.int)) ∈ lw_all := lw_g (lw_at lw_m4 64 rfl) rfl
theorem q907 : (Jvm.Cond.instanceMethod ({ cls := "TwoSidedTables$Plain", name := "codeAt", desc := "(III)I" } : Jvm.MethodName)) ∈ lw_all := lw_g (lw_at lw_m4 86 rfl) rfl
theorem q908 : (Jvm.Cond.selects "TwoSidedTables$Plain" ({ cls := "TwoSidedTables$Plain", name := "codeAt", desc := "(III)I" } : Jvm.MethodName) ({ cls := "TwoSidedTables$Plain", name := "codeAt", desc := "(III)I" } : Jvm.MethodName)) ∈ lw_all := lw_g (lw_at lw_m4 87 rfl) rfl
theorem q909 : (Jvm.Cond.sameMethod "TwoSidedTables$Plain" "TwoSidedTables$Plain" "codeAt" "(III)I") ∈ lw_all := lw_g (lw_at lw_m4 88 rfl) rfl
theorem q921 : (Jvm.Cond.declares ({ cls := "TwoSidedTables$Plain", name := "codeAt", desc := "(III)I" } : Jvm.MethodName)) ∈ lw_tbl := lw_at lw_m4 100 rfl
theorem q922 : (Jvm.Cond.code ({ cls := "TwoSidedTables$Plain", name := "codeAt", desc := "(III)I" } : Jvm.MethodName) prog_12_method_8_code (4 : Nat) (Option.some Jvm.ClassFile.FieldType.int)) ∈ lw_all := lw_g (lw_at lw_m4 101 rfl) rfl
theorem q943 : (Jvm.Cond.instanceMethod ({ cls := "TwoSidedTables$Plain", name := "right", desc := "(LTwoSidedTables$Tables;II)J" } : Jvm.MethodName)) ∈ lw_all := lw_g (lw_at lw_m4 122 rfl) rfl
theorem q944 : (Jvm.Cond.selects "TwoSidedTables$Plain" ({ cls := "TwoSidedTables$Plain", name := "right", desc := "(LTwoSidedTables$Tables;II)J" } : Jvm.MethodName) ({ cls := "TwoSidedTables$Plain", name := "right", desc := "(LTwoSidedTables$Tables;II)J" } : Jvm.MethodName)) ∈ lw_all := lw_g (lw_at lw_m4 123 rfl) rfl
theorem q945 : (Jvm.Cond.sameMethod "TwoSidedTables$Plain" "TwoSidedTables$Plain" "right" "(LTwoSidedTables$Tables;II)J") ∈ lw_all := lw_g (lw_at lw_m4 124 rfl) rfl
theorem q965 : (Jvm.Cond.code ({ cls := "TwoSidedTables$Plain", name := "right", desc := "(LTwoSidedTables$Tables;II)J" } : Jvm.MethodName) prog_12_method_6_code (4 : Nat) (Option.some Jvm.ClassFile.FieldType.long)) ∈ lw_all := lw_g (lw_at lw_m4 144 rfl) rfl
theorem q966 : (Jvm.Cond.methodLink "TwoSidedTables$Plain" (22 : Nat) ({ cls := "TwoSidedTables$Table", name := "at", desc := "(II)J" } : Jvm.MethodName)) ∈ lw_all := lw_g (lw_at lw_m4 145 rfl) rfl
theorem q1053 : (Jvm.Cond.instanceMethod ({ cls := "TwoSidedTables$Plain", name := "number", desc := "()I" } : Jvm.MethodName)) ∈ lw_all := lw_g (lw_at lw_m4 232 rfl) rfl
theorem q1054 : (Jvm.Cond.selects "TwoSidedTables$Plain" ({ cls := "TwoSidedTables$Plain", name := "number", desc := "()I" } : Jvm.MethodName) ({ cls := "TwoSidedTables$Plain", name := "number", desc := "()I" } : Jvm.MethodName)) ∈ lw_all := lw_g (lw_at lw_m4 233 rfl) rfl
theorem q1055 : (Jvm.Cond.sameMethod "TwoSidedTables$Plain" "TwoSidedTables$Plain" "number" "()I") ∈ lw_all := lw_g (lw_at lw_m4 234 rfl) rfl
theorem q1064 : (Jvm.Cond.code ({ cls := "TwoSidedTables$Plain", name := "number", desc := "()I" } : Jvm.MethodName) prog_12_method_2_code (1 : Nat) (Option.some Jvm.ClassFile.FieldType.int)) ∈ lw_all := lw_g (lw_at lw_m5 3 rfl) rfl
theorem q1365 : (Jvm.Cond.publicMethod ({ cls := "TwoSidedTables$Plain", name := "number", desc := "()I" } : Jvm.MethodName)) ∈ lw_tbl := lw_at lw_m6 64 rfl
theorem q1384 : (Jvm.Cond.castable "TwoSidedTables$Plain" "TwoSidedTables$Weighs") ∈ lw_tbl := lw_at lw_m6 83 rfl
theorem q1385 : (Jvm.Cond.selects "TwoSidedTables$Plain" ({ cls := "TwoSidedTables$Weighs", name := "number", desc := "()I" } : Jvm.MethodName) ({ cls := "TwoSidedTables$Plain", name := "number", desc := "()I" } : Jvm.MethodName)) ∈ lw_all := lw_g (lw_at lw_m6 84 rfl) rfl
theorem q1386 : (Jvm.Cond.unhidden "TwoSidedTables$Plain" "number" "()I") ∈ lw_tbl := lw_at lw_m6 85 rfl
theorem q1422 : (Jvm.Cond.declares ({ cls := "TwoSidedTables$Plain", name := "shift", desc := "()I" } : Jvm.MethodName)) ∈ lw_tbl := lw_at lw_m6 121 rfl
theorem q1424 : (Jvm.Cond.castable "TwoSidedTables$Plain" "TwoSidedTables$Closes") ∈ lw_tbl := lw_at lw_m6 123 rfl
theorem q1425 : (Jvm.Cond.unhidden "TwoSidedTables$Plain" "weighs" "(ILTwoSidedTables$Trace;)I") ∈ lw_tbl := lw_at lw_m6 124 rfl
theorem q1449 : (Jvm.Cond.castable "TwoSidedTables$Plain" "TwoSidedTables$Turns") ∈ lw_tbl := lw_at lw_m6 148 rfl
theorem q1456 : (Jvm.Cond.publicMethod ({ cls := "TwoSidedTables$Plain", name := "shift", desc := "()I" } : Jvm.MethodName)) ∈ lw_tbl := lw_at lw_m6 155 rfl
theorem q1469 : (Jvm.Cond.selects "TwoSidedTables$Plain" ({ cls := "TwoSidedTables$Weighs", name := "shift", desc := "()I" } : Jvm.MethodName) ({ cls := "TwoSidedTables$Plain", name := "shift", desc := "()I" } : Jvm.MethodName)) ∈ lw_all := lw_g (lw_at lw_m6 168 rfl) rfl
theorem q1470 : (Jvm.Cond.unhidden "TwoSidedTables$Plain" "shift" "()I") ∈ lw_tbl := lw_at lw_m6 169 rfl
theorem q1488 : (Jvm.Cond.unhidden "TwoSidedTables$Plain" "turns" "(ILTwoSidedTables$Trace;)I") ∈ lw_tbl := lw_at lw_m6 187 rfl
theorem q1506 : (Jvm.Cond.castable "TwoSidedTables$Plain" "TwoSidedTables$Parts") ∈ lw_tbl := lw_at lw_m6 205 rfl
theorem q1516 : (Jvm.Cond.declares ({ cls := "TwoSidedTables$Plain", name := "number", desc := "()I" } : Jvm.MethodName)) ∈ lw_tbl := lw_at lw_m6 215 rfl
theorem q1527 : (Jvm.Cond.unhidden "TwoSidedTables$Plain" "parts" "(ILTwoSidedTables$Trace;)I") ∈ lw_tbl := lw_at lw_m6 226 rfl
theorem q1557 : (Jvm.Cond.unhidden "TwoSidedTables$Plain" "closes" "(ILTwoSidedTables$Trace;)I") ∈ lw_tbl := lw_at lw_m7 16 rfl
theorem in_X9 : ∀ w ∈ wsX90, w ∈ lw_all := lw_in wsX90 [785, 786] (by decide +kernel) (by decide +kernel)
/-! TwoSidedTables$Left -/
set_option maxRecDepth 100000
def RX10 : String := "TwoSidedTables$Left"
def TX10 : u_T := fun k => match k with
  | 0 => ("TwoSidedTables$Plain", "number", "I", true)
  | _ => ("TwoSidedTables$Plain", "shift", "I", true)
def tyX10 : Nat → FieldType := fun k => match k with
  | 0 => .int
  | _ => .int
abbrev wsX100 : List Cond := u_ws RX10 TX10 2
theorem nmX10 : ∀ a, a < 2 → ∀ b, b < 2 → a ≠ b → (TX10 a).2.1 ≠ (TX10 b).2.1 := by decide +kernel
theorem tyX10_ok : ∀ k, k < 2 → parseFieldDescriptor (TX10 k).2.2.1 = some (tyX10 k) := by decide +kernel
abbrev cX10_init : ByteArray := prog_6_method_1_code
def yX10_init : MethodName := ⟨RX10, "<init>", "(II)V"⟩
def dkwX10_init_0 : List UInt8 := [42, 27, 28, 183, 0, 3, 177]
abbrev dktX10_init_0 : List UInt8 := dkwX10_init_0 ++ []
theorem dksX10_init_0 : cX10_init.data.toList.drop 0 = dktX10_init_0 := by decide +kernel
theorem dX10_init_0 : decode cX10_init 0 = .ok (.aload_n 0, 1) := dk_42 (dk_at dksX10_init_0 0 rfl rfl)
theorem dX10_init_1 : decode cX10_init 1 = .ok (.iload_n 1, 1) := dk_27 (dk_at dksX10_init_0 1 rfl rfl)
theorem dX10_init_2 : decode cX10_init 2 = .ok (.iload_n 2, 1) := dk_28 (dk_at dksX10_init_0 2 rfl rfl)
theorem dX10_init_3 : decode cX10_init 3 = .ok (.invokespecial 3, 3) := dk_183 0 3 (dk_at dksX10_init_0 3 rfl rfl)
theorem dX10_init_6 : decode cX10_init 6 = .ok (.return_, 1) := dk_177 (dk_at dksX10_init_0 6 rfl rfl)
abbrev cX10_kind : ByteArray := prog_6_method_2_code
def yX10_kind : MethodName := ⟨RX10, "kind", "()I"⟩
theorem dX10_kind_0 : decode cX10_kind 0 = .ok (.iconst 1, 1) := by decide +kernel
theorem dX10_kind_1 : decode cX10_kind 1 = .ok (.ireturn, 1) := by decide +kernel
abbrev cX10_right : ByteArray := prog_6_method_3_code
def yX10_right : MethodName := ⟨RX10, "right", "(LTwoSidedTables$Tables;II)J"⟩
theorem dX10_right_0 : decode cX10_right 0 = .ok (.lconst 0, 1) := by decide +kernel
theorem dX10_right_1 : decode cX10_right 1 = .ok (.lreturn, 1) := by decide +kernel
abbrev cX10_weighs : ByteArray := prog_6_method_4_code
def yX10_weighs : MethodName := ⟨RX10, "weighs", "(ILTwoSidedTables$Trace;)I"⟩
def dkwX10_weighs_0 : List UInt8 := [44, 16, 20, 182, 0, 9, 42, 27, 44, 183, 0, 15, 7, 96, 172]
abbrev dktX10_weighs_0 : List UInt8 := dkwX10_weighs_0 ++ []
theorem dksX10_weighs_0 : cX10_weighs.data.toList.drop 0 = dktX10_weighs_0 := by decide +kernel
theorem dX10_weighs_0 : decode cX10_weighs 0 = .ok (.aload_n 2, 1) := dk_44 (dk_at dksX10_weighs_0 0 rfl rfl)
theorem dX10_weighs_1 : decode cX10_weighs 1 = .ok (.bipush 20, 2) := dk_16 20 (dk_at dksX10_weighs_0 1 rfl rfl)
theorem dX10_weighs_3 : decode cX10_weighs 3 = .ok (.invokevirtual 9, 3) := dk_182 0 9 (dk_at dksX10_weighs_0 3 rfl rfl)
theorem dX10_weighs_6 : decode cX10_weighs 6 = .ok (.aload_n 0, 1) := dk_42 (dk_at dksX10_weighs_0 6 rfl rfl)
theorem dX10_weighs_7 : decode cX10_weighs 7 = .ok (.iload_n 1, 1) := dk_27 (dk_at dksX10_weighs_0 7 rfl rfl)
theorem dX10_weighs_8 : decode cX10_weighs 8 = .ok (.aload_n 2, 1) := dk_44 (dk_at dksX10_weighs_0 8 rfl rfl)
theorem dX10_weighs_9 : decode cX10_weighs 9 = .ok (.invokespecial 15, 3) := dk_183 0 15 (dk_at dksX10_weighs_0 9 rfl rfl)
theorem dX10_weighs_12 : decode cX10_weighs 12 = .ok (.iconst 4, 1) := dk_7 (dk_at dksX10_weighs_0 12 rfl rfl)
theorem dX10_weighs_13 : decode cX10_weighs 13 = .ok (.iadd, 1) := dk_96 (dk_at dksX10_weighs_0 13 rfl rfl)
theorem dX10_weighs_14 : decode cX10_weighs 14 = .ok (.ireturn, 1) := dk_172 (dk_at dksX10_weighs_0 14 rfl rfl)
theorem q122 : (Jvm.Cond.initialized "TwoSidedTables$Left") ∈ lw_all := lw_g (lw_at lw_m1 21 rfl) rfl
theorem q723 : (Jvm.Cond.instantiable "TwoSidedTables$Left" (2 : Nat)) ∈ lw_all := lw_g (lw_at lw_m3 142 rfl) rfl
theorem q725 : (Jvm.Cond.instanceMethod ({ cls := "TwoSidedTables$Left", name := "<init>", desc := "(II)V" } : Jvm.MethodName)) ∈ lw_all := lw_g (lw_at lw_m3 144 rfl) rfl
theorem q726 : (Jvm.Cond.code ({ cls := "TwoSidedTables$Left", name := "<init>", desc := "(II)V" } : Jvm.MethodName) prog_6_method_1_code (3 : Nat) (Option.none : Option Jvm.ClassFile.FieldType)) ∈ lw_all := lw_g (lw_at lw_m3 145 rfl) rfl
theorem q727 : (Jvm.Cond.methodLink "TwoSidedTables$Left" (3 : Nat) ({ cls := "TwoSidedTables$Plain", name := "<init>", desc := "(II)V" } : Jvm.MethodName)) ∈ lw_all := lw_g (lw_at lw_m3 146 rfl) rfl
theorem q733 : (Jvm.Cond.laysFinal "TwoSidedTables$Left" "TwoSidedTables$Plain" "number" "I") ∈ lw_all := lw_g (lw_at lw_m3 152 rfl) rfl
theorem q735 : (Jvm.Cond.laysFinal "TwoSidedTables$Left" "TwoSidedTables$Plain" "shift" "I") ∈ lw_all := lw_g (lw_at lw_m3 154 rfl) rfl
theorem q737 : (Jvm.Cond.superclass "TwoSidedTables$Left" "TwoSidedTables$Plain") ∈ lw_all := lw_g (lw_at lw_m3 156 rfl) rfl
theorem q810 : (Jvm.Cond.selects "TwoSidedTables$Left" ({ cls := "TwoSidedTables$Plain", name := "needsSquare", desc := "()Z" } : Jvm.MethodName) ({ cls := "TwoSidedTables$Plain", name := "needsSquare", desc := "()Z" } : Jvm.MethodName)) ∈ lw_all := lw_g (lw_at lw_m3 229 rfl) rfl
theorem q829 : (Jvm.Cond.selects "TwoSidedTables$Left" ({ cls := "TwoSidedTables$Plain", name := "unknowns", desc := "(II)I" } : Jvm.MethodName) ({ cls := "TwoSidedTables$Plain", name := "unknowns", desc := "(II)I" } : Jvm.MethodName)) ∈ lw_all := lw_g (lw_at lw_m4 8 rfl) rfl
theorem q858 : (Jvm.Cond.selects "TwoSidedTables$Left" ({ cls := "TwoSidedTables$Plain", name := "kind", desc := "()I" } : Jvm.MethodName) ({ cls := "TwoSidedTables$Left", name := "kind", desc := "()I" } : Jvm.MethodName)) ∈ lw_all := lw_g (lw_at lw_m4 37 rfl) rfl
theorem q859 : (Jvm.Cond.instanceMethod ({ cls := "TwoSidedTables$Left", name := "kind", desc := "()I" } : Jvm.MethodName)) ∈ lw_all := lw_g (lw_at lw_m4 38 rfl) rfl
theorem q860 : (Jvm.Cond.code ({ cls := "TwoSidedTables$Left", name := "kind", desc := "()I" } : Jvm.MethodName) prog_6_method_2_code (1 : Nat) (Option.some Jvm.ClassFile.FieldType.int)) ∈ lw_all := lw_g (lw_at lw_m4 39 rfl) rfl
theorem q879 : (Jvm.Cond.selects "TwoSidedTables$Left" ({ cls := "TwoSidedTables$Plain", name := "shift", desc := "()I" } : Jvm.MethodName) ({ cls := "TwoSidedTables$Plain", name := "shift", desc := "()I" } : Jvm.MethodName)) ∈ lw_all := lw_g (lw_at lw_m4 58 rfl) rfl
theorem q923 : (Jvm.Cond.selects "TwoSidedTables$Left" ({ cls := "TwoSidedTables$Plain", name := "codeAt", desc := "(III)I" } : Jvm.MethodName) ({ cls := "TwoSidedTables$Plain", name := "codeAt", desc := "(III)I" } : Jvm.MethodName)) ∈ lw_all := lw_g (lw_at lw_m4 102 rfl) rfl
theorem q954 : (Jvm.Cond.selects "TwoSidedTables$Left" ({ cls := "TwoSidedTables$Plain", name := "right", desc := "(LTwoSidedTables$Tables;II)J" } : Jvm.MethodName) ({ cls := "TwoSidedTables$Left", name := "right", desc := "(LTwoSidedTables$Tables;II)J" } : Jvm.MethodName)) ∈ lw_all := lw_g (lw_at lw_m4 133 rfl) rfl
theorem q955 : (Jvm.Cond.instanceMethod ({ cls := "TwoSidedTables$Left", name := "right", desc := "(LTwoSidedTables$Tables;II)J" } : Jvm.MethodName)) ∈ lw_all := lw_g (lw_at lw_m4 134 rfl) rfl
theorem q956 : (Jvm.Cond.code ({ cls := "TwoSidedTables$Left", name := "right", desc := "(LTwoSidedTables$Tables;II)J" } : Jvm.MethodName) prog_6_method_3_code (4 : Nat) (Option.some Jvm.ClassFile.FieldType.long)) ∈ lw_all := lw_g (lw_at lw_m4 135 rfl) rfl
theorem q1058 : (Jvm.Cond.selects "TwoSidedTables$Left" ({ cls := "TwoSidedTables$Plain", name := "number", desc := "()I" } : Jvm.MethodName) ({ cls := "TwoSidedTables$Plain", name := "number", desc := "()I" } : Jvm.MethodName)) ∈ lw_all := lw_g (lw_at lw_m4 237 rfl) rfl
theorem q1369 : (Jvm.Cond.castable "TwoSidedTables$Left" "TwoSidedTables$Weighs") ∈ lw_tbl := lw_at lw_m6 68 rfl
theorem q1370 : (Jvm.Cond.selects "TwoSidedTables$Left" ({ cls := "TwoSidedTables$Weighs", name := "number", desc := "()I" } : Jvm.MethodName) ({ cls := "TwoSidedTables$Plain", name := "number", desc := "()I" } : Jvm.MethodName)) ∈ lw_all := lw_g (lw_at lw_m6 69 rfl) rfl
theorem q1371 : (Jvm.Cond.unhidden "TwoSidedTables$Left" "number" "()I") ∈ lw_tbl := lw_at lw_m6 70 rfl
theorem q1397 : (Jvm.Cond.castable "TwoSidedTables$Left" "TwoSidedTables$Closes") ∈ lw_tbl := lw_at lw_m6 96 rfl
theorem q1398 : (Jvm.Cond.selects "TwoSidedTables$Left" ({ cls := "TwoSidedTables$Weighs", name := "weighs", desc := "(ILTwoSidedTables$Trace;)I" } : Jvm.MethodName) ({ cls := "TwoSidedTables$Left", name := "weighs", desc := "(ILTwoSidedTables$Trace;)I" } : Jvm.MethodName)) ∈ lw_all := lw_g (lw_at lw_m6 97 rfl) rfl
theorem q1399 : (Jvm.Cond.unhidden "TwoSidedTables$Left" "weighs" "(ILTwoSidedTables$Trace;)I") ∈ lw_tbl := lw_at lw_m6 98 rfl
theorem q1400 : (Jvm.Cond.instanceMethod ({ cls := "TwoSidedTables$Left", name := "weighs", desc := "(ILTwoSidedTables$Trace;)I" } : Jvm.MethodName)) ∈ lw_all := lw_g (lw_at lw_m6 99 rfl) rfl
theorem q1401 : (Jvm.Cond.publicMethod ({ cls := "TwoSidedTables$Left", name := "weighs", desc := "(ILTwoSidedTables$Trace;)I" } : Jvm.MethodName)) ∈ lw_tbl := lw_at lw_m6 100 rfl
theorem q1402 : (Jvm.Cond.code ({ cls := "TwoSidedTables$Left", name := "weighs", desc := "(ILTwoSidedTables$Trace;)I" } : Jvm.MethodName) prog_6_method_4_code (3 : Nat) (Option.some Jvm.ClassFile.FieldType.int)) ∈ lw_all := lw_g (lw_at lw_m6 101 rfl) rfl
theorem q1403 : (Jvm.Cond.methodLink "TwoSidedTables$Left" (9 : Nat) ({ cls := "TwoSidedTables$Trace", name := "ran", desc := "(I)V" } : Jvm.MethodName)) ∈ lw_all := lw_g (lw_at lw_m6 102 rfl) rfl
theorem q1444 : (Jvm.Cond.castable "TwoSidedTables$Left" "TwoSidedTables$Turns") ∈ lw_tbl := lw_at lw_m6 143 rfl
theorem q1459 : (Jvm.Cond.selects "TwoSidedTables$Left" ({ cls := "TwoSidedTables$Weighs", name := "shift", desc := "()I" } : Jvm.MethodName) ({ cls := "TwoSidedTables$Plain", name := "shift", desc := "()I" } : Jvm.MethodName)) ∈ lw_all := lw_g (lw_at lw_m6 158 rfl) rfl
theorem q1460 : (Jvm.Cond.unhidden "TwoSidedTables$Left" "shift" "()I") ∈ lw_tbl := lw_at lw_m6 159 rfl
theorem q1474 : (Jvm.Cond.unhidden "TwoSidedTables$Left" "turns" "(ILTwoSidedTables$Trace;)I") ∈ lw_tbl := lw_at lw_m6 173 rfl
theorem q1501 : (Jvm.Cond.castable "TwoSidedTables$Left" "TwoSidedTables$Parts") ∈ lw_tbl := lw_at lw_m6 200 rfl
theorem q1521 : (Jvm.Cond.unhidden "TwoSidedTables$Left" "parts" "(ILTwoSidedTables$Trace;)I") ∈ lw_tbl := lw_at lw_m6 220 rfl
theorem q1547 : (Jvm.Cond.unhidden "TwoSidedTables$Left" "closes" "(ILTwoSidedTables$Trace;)I") ∈ lw_tbl := lw_at lw_m7 6 rfl
theorem q2179 : (Jvm.Cond.castable "TwoSidedTables$Left" "TwoSidedTables$Plain") ∈ lw_tbl := lw_at lw_m9 158 rfl
theorem in_X10 : ∀ w ∈ wsX100, w ∈ lw_all := lw_in wsX100 [733, 735] (by decide +kernel) (by decide +kernel)
/-! TwoSidedTables$Alike -/
set_option maxRecDepth 100000
def RX11 : String := "TwoSidedTables$Alike"
def TX11 : u_T := fun k => match k with
  | 0 => ("TwoSidedTables$Plain", "number", "I", true)
  | _ => ("TwoSidedTables$Plain", "shift", "I", true)
def tyX11 : Nat → FieldType := fun k => match k with
  | 0 => .int
  | _ => .int
abbrev wsX110 : List Cond := u_ws RX11 TX11 2
theorem nmX11 : ∀ a, a < 2 → ∀ b, b < 2 → a ≠ b → (TX11 a).2.1 ≠ (TX11 b).2.1 := by decide +kernel
theorem tyX11_ok : ∀ k, k < 2 → parseFieldDescriptor (TX11 k).2.2.1 = some (tyX11 k) := by decide +kernel
abbrev cX11_init : ByteArray := prog_2_method_1_code
def yX11_init : MethodName := ⟨RX11, "<init>", "(II)V"⟩
def dkwX11_init_0 : List UInt8 := [42, 27, 28, 183, 0, 3, 177]
abbrev dktX11_init_0 : List UInt8 := dkwX11_init_0 ++ []
theorem dksX11_init_0 : cX11_init.data.toList.drop 0 = dktX11_init_0 := by decide +kernel
theorem dX11_init_0 : decode cX11_init 0 = .ok (.aload_n 0, 1) := dk_42 (dk_at dksX11_init_0 0 rfl rfl)
theorem dX11_init_1 : decode cX11_init 1 = .ok (.iload_n 1, 1) := dk_27 (dk_at dksX11_init_0 1 rfl rfl)
theorem dX11_init_2 : decode cX11_init 2 = .ok (.iload_n 2, 1) := dk_28 (dk_at dksX11_init_0 2 rfl rfl)
theorem dX11_init_3 : decode cX11_init 3 = .ok (.invokespecial 3, 3) := dk_183 0 3 (dk_at dksX11_init_0 3 rfl rfl)
theorem dX11_init_6 : decode cX11_init 6 = .ok (.return_, 1) := dk_177 (dk_at dksX11_init_0 6 rfl rfl)
abbrev cX11_needsSquare : ByteArray := prog_2_method_3_code
def yX11_needsSquare : MethodName := ⟨RX11, "needsSquare", "()Z"⟩
theorem dX11_needsSquare_0 : decode cX11_needsSquare 0 = .ok (.iconst 1, 1) := by decide +kernel
theorem dX11_needsSquare_1 : decode cX11_needsSquare 1 = .ok (.ireturn, 1) := by decide +kernel
abbrev cX11_kind : ByteArray := prog_2_method_2_code
def yX11_kind : MethodName := ⟨RX11, "kind", "()I"⟩
theorem dX11_kind_0 : decode cX11_kind 0 = .ok (.iconst 2, 1) := by decide +kernel
theorem dX11_kind_1 : decode cX11_kind 1 = .ok (.ireturn, 1) := by decide +kernel
abbrev cX11_right : ByteArray := prog_2_method_4_code
def yX11_right : MethodName := ⟨RX11, "right", "(LTwoSidedTables$Tables;II)J"⟩
def dkwX11_right_0 : List UInt8 := [43, 180, 0, 9, 28, 29, 182, 0, 15, 117, 173]
abbrev dktX11_right_0 : List UInt8 := dkwX11_right_0 ++ []
theorem dksX11_right_0 : cX11_right.data.toList.drop 0 = dktX11_right_0 := by decide +kernel
theorem dX11_right_0 : decode cX11_right 0 = .ok (.aload_n 1, 1) := dk_43 (dk_at dksX11_right_0 0 rfl rfl)
theorem dX11_right_1 : decode cX11_right 1 = .ok (.getfield 9, 3) := dk_180 0 9 (dk_at dksX11_right_0 1 rfl rfl)
theorem dX11_right_4 : decode cX11_right 4 = .ok (.iload_n 2, 1) := dk_28 (dk_at dksX11_right_0 4 rfl rfl)
theorem dX11_right_5 : decode cX11_right 5 = .ok (.iload_n 3, 1) := dk_29 (dk_at dksX11_right_0 5 rfl rfl)
theorem dX11_right_6 : decode cX11_right 6 = .ok (.invokevirtual 15, 3) := dk_182 0 15 (dk_at dksX11_right_0 6 rfl rfl)
theorem dX11_right_9 : decode cX11_right 9 = .ok (.lneg, 1) := dk_117 (dk_at dksX11_right_0 9 rfl rfl)
theorem dX11_right_10 : decode cX11_right 10 = .ok (.lreturn, 1) := dk_173 (dk_at dksX11_right_0 10 rfl rfl)
abbrev cX11_turns : ByteArray := prog_2_method_5_code
def yX11_turns : MethodName := ⟨RX11, "turns", "(ILTwoSidedTables$Trace;)I"⟩
def dkwX11_turns_0 : List UInt8 := [44, 16, 30, 182, 0, 21, 3, 42, 27, 44, 183, 0, 27, 100, 172]
abbrev dktX11_turns_0 : List UInt8 := dkwX11_turns_0 ++ []
theorem dksX11_turns_0 : cX11_turns.data.toList.drop 0 = dktX11_turns_0 := by decide +kernel
theorem dX11_turns_0 : decode cX11_turns 0 = .ok (.aload_n 2, 1) := dk_44 (dk_at dksX11_turns_0 0 rfl rfl)
theorem dX11_turns_1 : decode cX11_turns 1 = .ok (.bipush 30, 2) := dk_16 30 (dk_at dksX11_turns_0 1 rfl rfl)
theorem dX11_turns_3 : decode cX11_turns 3 = .ok (.invokevirtual 21, 3) := dk_182 0 21 (dk_at dksX11_turns_0 3 rfl rfl)
theorem dX11_turns_6 : decode cX11_turns 6 = .ok (.iconst 0, 1) := dk_3 (dk_at dksX11_turns_0 6 rfl rfl)
theorem dX11_turns_7 : decode cX11_turns 7 = .ok (.aload_n 0, 1) := dk_42 (dk_at dksX11_turns_0 7 rfl rfl)
theorem dX11_turns_8 : decode cX11_turns 8 = .ok (.iload_n 1, 1) := dk_27 (dk_at dksX11_turns_0 8 rfl rfl)
theorem dX11_turns_9 : decode cX11_turns 9 = .ok (.aload_n 2, 1) := dk_44 (dk_at dksX11_turns_0 9 rfl rfl)
theorem dX11_turns_10 : decode cX11_turns 10 = .ok (.invokespecial 27, 3) := dk_183 0 27 (dk_at dksX11_turns_0 10 rfl rfl)
theorem dX11_turns_13 : decode cX11_turns 13 = .ok (.isub, 1) := dk_100 (dk_at dksX11_turns_0 13 rfl rfl)
theorem dX11_turns_14 : decode cX11_turns 14 = .ok (.ireturn, 1) := dk_172 (dk_at dksX11_turns_0 14 rfl rfl)
theorem q123 : (Jvm.Cond.initialized "TwoSidedTables$Alike") ∈ lw_all := lw_g (lw_at lw_m1 22 rfl) rfl
theorem q311 : (Jvm.Cond.fieldLinkNest "TwoSidedTables$Alike" (9 : Nat) "TwoSidedTables$Tables" "a" "LTwoSidedTables$Table;" "TwoSidedTables") ∈ lw_tbl := lw_at lw_m1 210 rfl
theorem q739 : (Jvm.Cond.instantiable "TwoSidedTables$Alike" (2 : Nat)) ∈ lw_all := lw_g (lw_at lw_m3 158 rfl) rfl
theorem q741 : (Jvm.Cond.instanceMethod ({ cls := "TwoSidedTables$Alike", name := "<init>", desc := "(II)V" } : Jvm.MethodName)) ∈ lw_all := lw_g (lw_at lw_m3 160 rfl) rfl
theorem q742 : (Jvm.Cond.code ({ cls := "TwoSidedTables$Alike", name := "<init>", desc := "(II)V" } : Jvm.MethodName) prog_2_method_1_code (3 : Nat) (Option.none : Option Jvm.ClassFile.FieldType)) ∈ lw_all := lw_g (lw_at lw_m3 161 rfl) rfl
theorem q743 : (Jvm.Cond.methodLink "TwoSidedTables$Alike" (3 : Nat) ({ cls := "TwoSidedTables$Plain", name := "<init>", desc := "(II)V" } : Jvm.MethodName)) ∈ lw_all := lw_g (lw_at lw_m3 162 rfl) rfl
theorem q744 : (Jvm.Cond.laysFinal "TwoSidedTables$Alike" "TwoSidedTables$Plain" "number" "I") ∈ lw_all := lw_g (lw_at lw_m3 163 rfl) rfl
theorem q745 : (Jvm.Cond.laysFinal "TwoSidedTables$Alike" "TwoSidedTables$Plain" "shift" "I") ∈ lw_all := lw_g (lw_at lw_m3 164 rfl) rfl
theorem q746 : (Jvm.Cond.superclass "TwoSidedTables$Alike" "TwoSidedTables$Plain") ∈ lw_all := lw_g (lw_at lw_m3 165 rfl) rfl
theorem q804 : (Jvm.Cond.selects "TwoSidedTables$Alike" ({ cls := "TwoSidedTables$Plain", name := "needsSquare", desc := "()Z" } : Jvm.MethodName) ({ cls := "TwoSidedTables$Alike", name := "needsSquare", desc := "()Z" } : Jvm.MethodName)) ∈ lw_all := lw_g (lw_at lw_m3 223 rfl) rfl
theorem q805 : (Jvm.Cond.instanceMethod ({ cls := "TwoSidedTables$Alike", name := "needsSquare", desc := "()Z" } : Jvm.MethodName)) ∈ lw_all := lw_g (lw_at lw_m3 224 rfl) rfl
theorem q806 : (Jvm.Cond.code ({ cls := "TwoSidedTables$Alike", name := "needsSquare", desc := "()Z" } : Jvm.MethodName) prog_2_method_3_code (1 : Nat) (Option.some Jvm.ClassFile.FieldType.boolean)) ∈ lw_all := lw_g (lw_at lw_m3 225 rfl) rfl
theorem q825 : (Jvm.Cond.selects "TwoSidedTables$Alike" ({ cls := "TwoSidedTables$Plain", name := "unknowns", desc := "(II)I" } : Jvm.MethodName) ({ cls := "TwoSidedTables$Plain", name := "unknowns", desc := "(II)I" } : Jvm.MethodName)) ∈ lw_all := lw_g (lw_at lw_m4 4 rfl) rfl
theorem q852 : (Jvm.Cond.selects "TwoSidedTables$Alike" ({ cls := "TwoSidedTables$Plain", name := "kind", desc := "()I" } : Jvm.MethodName) ({ cls := "TwoSidedTables$Alike", name := "kind", desc := "()I" } : Jvm.MethodName)) ∈ lw_all := lw_g (lw_at lw_m4 31 rfl) rfl
theorem q853 : (Jvm.Cond.instanceMethod ({ cls := "TwoSidedTables$Alike", name := "kind", desc := "()I" } : Jvm.MethodName)) ∈ lw_all := lw_g (lw_at lw_m4 32 rfl) rfl
theorem q854 : (Jvm.Cond.code ({ cls := "TwoSidedTables$Alike", name := "kind", desc := "()I" } : Jvm.MethodName) prog_2_method_2_code (1 : Nat) (Option.some Jvm.ClassFile.FieldType.int)) ∈ lw_all := lw_g (lw_at lw_m4 33 rfl) rfl
theorem q877 : (Jvm.Cond.selects "TwoSidedTables$Alike" ({ cls := "TwoSidedTables$Plain", name := "shift", desc := "()I" } : Jvm.MethodName) ({ cls := "TwoSidedTables$Plain", name := "shift", desc := "()I" } : Jvm.MethodName)) ∈ lw_all := lw_g (lw_at lw_m4 56 rfl) rfl
theorem q910 : (Jvm.Cond.selects "TwoSidedTables$Alike" ({ cls := "TwoSidedTables$Plain", name := "codeAt", desc := "(III)I" } : Jvm.MethodName) ({ cls := "TwoSidedTables$Plain", name := "codeAt", desc := "(III)I" } : Jvm.MethodName)) ∈ lw_all := lw_g (lw_at lw_m4 89 rfl) rfl
theorem q946 : (Jvm.Cond.selects "TwoSidedTables$Alike" ({ cls := "TwoSidedTables$Plain", name := "right", desc := "(LTwoSidedTables$Tables;II)J" } : Jvm.MethodName) ({ cls := "TwoSidedTables$Alike", name := "right", desc := "(LTwoSidedTables$Tables;II)J" } : Jvm.MethodName)) ∈ lw_all := lw_g (lw_at lw_m4 125 rfl) rfl
theorem q947 : (Jvm.Cond.instanceMethod ({ cls := "TwoSidedTables$Alike", name := "right", desc := "(LTwoSidedTables$Tables;II)J" } : Jvm.MethodName)) ∈ lw_all := lw_g (lw_at lw_m4 126 rfl) rfl
theorem q948 : (Jvm.Cond.code ({ cls := "TwoSidedTables$Alike", name := "right", desc := "(LTwoSidedTables$Tables;II)J" } : Jvm.MethodName) prog_2_method_4_code (4 : Nat) (Option.some Jvm.ClassFile.FieldType.long)) ∈ lw_all := lw_g (lw_at lw_m4 127 rfl) rfl
theorem q949 : (Jvm.Cond.methodLink "TwoSidedTables$Alike" (15 : Nat) ({ cls := "TwoSidedTables$Table", name := "at", desc := "(II)J" } : Jvm.MethodName)) ∈ lw_all := lw_g (lw_at lw_m4 128 rfl) rfl
theorem q1056 : (Jvm.Cond.selects "TwoSidedTables$Alike" ({ cls := "TwoSidedTables$Plain", name := "number", desc := "()I" } : Jvm.MethodName) ({ cls := "TwoSidedTables$Plain", name := "number", desc := "()I" } : Jvm.MethodName)) ∈ lw_all := lw_g (lw_at lw_m4 235 rfl) rfl
theorem q1350 : (Jvm.Cond.castable "TwoSidedTables$Alike" "TwoSidedTables$Closes") ∈ lw_tbl := lw_at lw_m6 49 rfl
theorem q1351 : (Jvm.Cond.unhidden "TwoSidedTables$Alike" "weighs" "(ILTwoSidedTables$Trace;)I") ∈ lw_tbl := lw_at lw_m6 50 rfl
theorem q1362 : (Jvm.Cond.castable "TwoSidedTables$Alike" "TwoSidedTables$Weighs") ∈ lw_tbl := lw_at lw_m6 61 rfl
theorem q1363 : (Jvm.Cond.selects "TwoSidedTables$Alike" ({ cls := "TwoSidedTables$Weighs", name := "number", desc := "()I" } : Jvm.MethodName) ({ cls := "TwoSidedTables$Plain", name := "number", desc := "()I" } : Jvm.MethodName)) ∈ lw_all := lw_g (lw_at lw_m6 62 rfl) rfl
theorem q1364 : (Jvm.Cond.unhidden "TwoSidedTables$Alike" "number" "()I") ∈ lw_tbl := lw_at lw_m6 63 rfl
theorem q1432 : (Jvm.Cond.selects "TwoSidedTables$Alike" ({ cls := "TwoSidedTables$Turns", name := "turns", desc := "(ILTwoSidedTables$Trace;)I" } : Jvm.MethodName) ({ cls := "TwoSidedTables$Alike", name := "turns", desc := "(ILTwoSidedTables$Trace;)I" } : Jvm.MethodName)) ∈ lw_all := lw_g (lw_at lw_m6 131 rfl) rfl
theorem q1433 : (Jvm.Cond.unhidden "TwoSidedTables$Alike" "turns" "(ILTwoSidedTables$Trace;)I") ∈ lw_tbl := lw_at lw_m6 132 rfl
theorem q1434 : (Jvm.Cond.instanceMethod ({ cls := "TwoSidedTables$Alike", name := "turns", desc := "(ILTwoSidedTables$Trace;)I" } : Jvm.MethodName)) ∈ lw_all := lw_g (lw_at lw_m6 133 rfl) rfl
theorem q1435 : (Jvm.Cond.publicMethod ({ cls := "TwoSidedTables$Alike", name := "turns", desc := "(ILTwoSidedTables$Trace;)I" } : Jvm.MethodName)) ∈ lw_tbl := lw_at lw_m6 134 rfl
theorem q1436 : (Jvm.Cond.code ({ cls := "TwoSidedTables$Alike", name := "turns", desc := "(ILTwoSidedTables$Trace;)I" } : Jvm.MethodName) prog_2_method_5_code (3 : Nat) (Option.some Jvm.ClassFile.FieldType.int)) ∈ lw_all := lw_g (lw_at lw_m6 135 rfl) rfl
theorem q1437 : (Jvm.Cond.methodLink "TwoSidedTables$Alike" (21 : Nat) ({ cls := "TwoSidedTables$Trace", name := "ran", desc := "(I)V" } : Jvm.MethodName)) ∈ lw_all := lw_g (lw_at lw_m6 136 rfl) rfl
theorem q1442 : (Jvm.Cond.castable "TwoSidedTables$Alike" "TwoSidedTables$Turns") ∈ lw_tbl := lw_at lw_m6 141 rfl
theorem q1454 : (Jvm.Cond.selects "TwoSidedTables$Alike" ({ cls := "TwoSidedTables$Weighs", name := "shift", desc := "()I" } : Jvm.MethodName) ({ cls := "TwoSidedTables$Plain", name := "shift", desc := "()I" } : Jvm.MethodName)) ∈ lw_all := lw_g (lw_at lw_m6 153 rfl) rfl
theorem q1455 : (Jvm.Cond.unhidden "TwoSidedTables$Alike" "shift" "()I") ∈ lw_tbl := lw_at lw_m6 154 rfl
theorem q1493 : (Jvm.Cond.unhidden "TwoSidedTables$Alike" "parts" "(ILTwoSidedTables$Trace;)I") ∈ lw_tbl := lw_at lw_m6 192 rfl
theorem q1499 : (Jvm.Cond.castable "TwoSidedTables$Alike" "TwoSidedTables$Parts") ∈ lw_tbl := lw_at lw_m6 198 rfl
theorem q1534 : (Jvm.Cond.unhidden "TwoSidedTables$Alike" "closes" "(ILTwoSidedTables$Trace;)I") ∈ lw_tbl := lw_at lw_m6 233 rfl
theorem q2164 : (Jvm.Cond.sameMethod "TwoSidedTables$Alike" "TwoSidedTables$Alike" "turns" "(ILTwoSidedTables$Trace;)I") ∈ lw_all := lw_g (lw_at lw_m9 143 rfl) rfl
theorem q2177 : (Jvm.Cond.castable "TwoSidedTables$Alike" "TwoSidedTables$Plain") ∈ lw_tbl := lw_at lw_m9 156 rfl
theorem in_X11 : ∀ w ∈ wsX110, w ∈ lw_all := lw_in wsX110 [744, 745] (by decide +kernel) (by decide +kernel)
/-! TwoSidedTables$Turned -/
set_option maxRecDepth 100000
def RX12 : String := "TwoSidedTables$Turned"
def TX12 : u_T := fun k => match k with
  | 0 => ("TwoSidedTables$Plain", "number", "I", true)
  | _ => ("TwoSidedTables$Plain", "shift", "I", true)
def tyX12 : Nat → FieldType := fun k => match k with
  | 0 => .int
  | _ => .int
abbrev wsX120 : List Cond := u_ws RX12 TX12 2
theorem nmX12 : ∀ a, a < 2 → ∀ b, b < 2 → a ≠ b → (TX12 a).2.1 ≠ (TX12 b).2.1 := by decide +kernel
theorem tyX12_ok : ∀ k, k < 2 → parseFieldDescriptor (TX12 k).2.2.1 = some (tyX12 k) := by decide +kernel
abbrev cX12_init : ByteArray := prog_19_method_1_code
def yX12_init : MethodName := ⟨RX12, "<init>", "(II)V"⟩
def dkwX12_init_0 : List UInt8 := [42, 27, 28, 183, 0, 3, 177]
abbrev dktX12_init_0 : List UInt8 := dkwX12_init_0 ++ []
theorem dksX12_init_0 : cX12_init.data.toList.drop 0 = dktX12_init_0 := by decide +kernel
theorem dX12_init_0 : decode cX12_init 0 = .ok (.aload_n 0, 1) := dk_42 (dk_at dksX12_init_0 0 rfl rfl)
theorem dX12_init_1 : decode cX12_init 1 = .ok (.iload_n 1, 1) := dk_27 (dk_at dksX12_init_0 1 rfl rfl)
theorem dX12_init_2 : decode cX12_init 2 = .ok (.iload_n 2, 1) := dk_28 (dk_at dksX12_init_0 2 rfl rfl)
theorem dX12_init_3 : decode cX12_init 3 = .ok (.invokespecial 3, 3) := dk_183 0 3 (dk_at dksX12_init_0 3 rfl rfl)
theorem dX12_init_6 : decode cX12_init 6 = .ok (.return_, 1) := dk_177 (dk_at dksX12_init_0 6 rfl rfl)
abbrev cX12_needsSquare : ByteArray := prog_19_method_3_code
def yX12_needsSquare : MethodName := ⟨RX12, "needsSquare", "()Z"⟩
theorem dX12_needsSquare_0 : decode cX12_needsSquare 0 = .ok (.iconst 1, 1) := by decide +kernel
theorem dX12_needsSquare_1 : decode cX12_needsSquare 1 = .ok (.ireturn, 1) := by decide +kernel
abbrev cX12_kind : ByteArray := prog_19_method_2_code
def yX12_kind : MethodName := ⟨RX12, "kind", "()I"⟩
theorem dX12_kind_0 : decode cX12_kind 0 = .ok (.iconst 3, 1) := by decide +kernel
theorem dX12_kind_1 : decode cX12_kind 1 = .ok (.ireturn, 1) := by decide +kernel
abbrev cX12_right : ByteArray := prog_19_method_4_code
def yX12_right : MethodName := ⟨RX12, "right", "(LTwoSidedTables$Tables;II)J"⟩
def dkwX12_right_0 : List UInt8 := [43, 180, 0, 9, 29, 28, 182, 0, 15, 173]
abbrev dktX12_right_0 : List UInt8 := dkwX12_right_0 ++ []
theorem dksX12_right_0 : cX12_right.data.toList.drop 0 = dktX12_right_0 := by decide +kernel
theorem dX12_right_0 : decode cX12_right 0 = .ok (.aload_n 1, 1) := dk_43 (dk_at dksX12_right_0 0 rfl rfl)
theorem dX12_right_1 : decode cX12_right 1 = .ok (.getfield 9, 3) := dk_180 0 9 (dk_at dksX12_right_0 1 rfl rfl)
theorem dX12_right_4 : decode cX12_right 4 = .ok (.iload_n 3, 1) := dk_29 (dk_at dksX12_right_0 4 rfl rfl)
theorem dX12_right_5 : decode cX12_right 5 = .ok (.iload_n 2, 1) := dk_28 (dk_at dksX12_right_0 5 rfl rfl)
theorem dX12_right_6 : decode cX12_right 6 = .ok (.invokevirtual 15, 3) := dk_182 0 15 (dk_at dksX12_right_0 6 rfl rfl)
theorem dX12_right_9 : decode cX12_right 9 = .ok (.lreturn, 1) := dk_173 (dk_at dksX12_right_0 9 rfl rfl)
abbrev cX12_weighs : ByteArray := prog_19_method_5_code
def yX12_weighs : MethodName := ⟨RX12, "weighs", "(ILTwoSidedTables$Trace;)I"⟩
def dkwX12_weighs_0 : List UInt8 := [44, 16, 40, 182, 0, 21, 42, 27, 4, 100, 44, 183, 0, 27, 5, 104, 172]
abbrev dktX12_weighs_0 : List UInt8 := dkwX12_weighs_0 ++ []
theorem dksX12_weighs_0 : cX12_weighs.data.toList.drop 0 = dktX12_weighs_0 := by decide +kernel
theorem dX12_weighs_0 : decode cX12_weighs 0 = .ok (.aload_n 2, 1) := dk_44 (dk_at dksX12_weighs_0 0 rfl rfl)
theorem dX12_weighs_1 : decode cX12_weighs 1 = .ok (.bipush 40, 2) := dk_16 40 (dk_at dksX12_weighs_0 1 rfl rfl)
theorem dX12_weighs_3 : decode cX12_weighs 3 = .ok (.invokevirtual 21, 3) := dk_182 0 21 (dk_at dksX12_weighs_0 3 rfl rfl)
theorem dX12_weighs_6 : decode cX12_weighs 6 = .ok (.aload_n 0, 1) := dk_42 (dk_at dksX12_weighs_0 6 rfl rfl)
theorem dX12_weighs_7 : decode cX12_weighs 7 = .ok (.iload_n 1, 1) := dk_27 (dk_at dksX12_weighs_0 7 rfl rfl)
theorem dX12_weighs_8 : decode cX12_weighs 8 = .ok (.iconst 1, 1) := dk_4 (dk_at dksX12_weighs_0 8 rfl rfl)
theorem dX12_weighs_9 : decode cX12_weighs 9 = .ok (.isub, 1) := dk_100 (dk_at dksX12_weighs_0 9 rfl rfl)
theorem dX12_weighs_10 : decode cX12_weighs 10 = .ok (.aload_n 2, 1) := dk_44 (dk_at dksX12_weighs_0 10 rfl rfl)
theorem dX12_weighs_11 : decode cX12_weighs 11 = .ok (.invokespecial 27, 3) := dk_183 0 27 (dk_at dksX12_weighs_0 11 rfl rfl)
theorem dX12_weighs_14 : decode cX12_weighs 14 = .ok (.iconst 2, 1) := dk_5 (dk_at dksX12_weighs_0 14 rfl rfl)
theorem dX12_weighs_15 : decode cX12_weighs 15 = .ok (.imul, 1) := dk_104 (dk_at dksX12_weighs_0 15 rfl rfl)
theorem dX12_weighs_16 : decode cX12_weighs 16 = .ok (.ireturn, 1) := dk_172 (dk_at dksX12_weighs_0 16 rfl rfl)
abbrev cX12_parts : ByteArray := prog_19_method_6_code
def yX12_parts : MethodName := ⟨RX12, "parts", "(ILTwoSidedTables$Trace;)I"⟩
def dkwX12_parts_1 : List UInt8 := [172]
abbrev dktX12_parts_1 : List UInt8 := dkwX12_parts_1 ++ []
def dkwX12_parts_0 : List UInt8 := [44, 16, 41, 182, 0, 21, 42, 27, 44, 183, 0, 31, 62, 29, 42, 42, 182, 0, 34, 44, 182, 0, 40, 100]
abbrev dktX12_parts_0 : List UInt8 := dkwX12_parts_0 ++ dktX12_parts_1
theorem dksX12_parts_0 : cX12_parts.data.toList.drop 0 = dktX12_parts_0 := by decide +kernel
theorem dksX12_parts_1 : cX12_parts.data.toList.drop 24 = dktX12_parts_1 := dk_seg dksX12_parts_0 24 rfl rfl
theorem dX12_parts_0 : decode cX12_parts 0 = .ok (.aload_n 2, 1) := dk_44 (dk_at dksX12_parts_0 0 rfl rfl)
theorem dX12_parts_1 : decode cX12_parts 1 = .ok (.bipush 41, 2) := dk_16 41 (dk_at dksX12_parts_0 1 rfl rfl)
theorem dX12_parts_3 : decode cX12_parts 3 = .ok (.invokevirtual 21, 3) := dk_182 0 21 (dk_at dksX12_parts_0 3 rfl rfl)
theorem dX12_parts_6 : decode cX12_parts 6 = .ok (.aload_n 0, 1) := dk_42 (dk_at dksX12_parts_0 6 rfl rfl)
theorem dX12_parts_7 : decode cX12_parts 7 = .ok (.iload_n 1, 1) := dk_27 (dk_at dksX12_parts_0 7 rfl rfl)
theorem dX12_parts_8 : decode cX12_parts 8 = .ok (.aload_n 2, 1) := dk_44 (dk_at dksX12_parts_0 8 rfl rfl)
theorem dX12_parts_9 : decode cX12_parts 9 = .ok (.invokespecial 31, 3) := dk_183 0 31 (dk_at dksX12_parts_0 9 rfl rfl)
theorem dX12_parts_12 : decode cX12_parts 12 = .ok (.istore_n 3, 1) := dk_62 (dk_at dksX12_parts_0 12 rfl rfl)
theorem dX12_parts_13 : decode cX12_parts 13 = .ok (.iload_n 3, 1) := dk_29 (dk_at dksX12_parts_0 13 rfl rfl)
theorem dX12_parts_14 : decode cX12_parts 14 = .ok (.aload_n 0, 1) := dk_42 (dk_at dksX12_parts_0 14 rfl rfl)
theorem dX12_parts_15 : decode cX12_parts 15 = .ok (.aload_n 0, 1) := dk_42 (dk_at dksX12_parts_0 15 rfl rfl)
theorem dX12_parts_16 : decode cX12_parts 16 = .ok (.invokevirtual 34, 3) := dk_182 0 34 (dk_at dksX12_parts_0 16 rfl rfl)
theorem dX12_parts_19 : decode cX12_parts 19 = .ok (.aload_n 2, 1) := dk_44 (dk_at dksX12_parts_0 19 rfl rfl)
theorem dX12_parts_20 : decode cX12_parts 20 = .ok (.invokevirtual 40, 3) := dk_182 0 40 (dk_at dksX12_parts_0 20 rfl rfl)
theorem dX12_parts_23 : decode cX12_parts 23 = .ok (.isub, 1) := dk_100 (dk_at dksX12_parts_0 23 rfl rfl)
theorem dX12_parts_24 : decode cX12_parts 24 = .ok (.ireturn, 1) := dk_172 (dk_at dksX12_parts_1 0 rfl rfl)
theorem q124 : (Jvm.Cond.initialized "TwoSidedTables$Turned") ∈ lw_all := lw_g (lw_at lw_m1 23 rfl) rfl
theorem q312 : (Jvm.Cond.fieldLinkNest "TwoSidedTables$Turned" (9 : Nat) "TwoSidedTables$Tables" "a" "LTwoSidedTables$Table;" "TwoSidedTables") ∈ lw_tbl := lw_at lw_m1 211 rfl
theorem q748 : (Jvm.Cond.instantiable "TwoSidedTables$Turned" (2 : Nat)) ∈ lw_all := lw_g (lw_at lw_m3 167 rfl) rfl
theorem q750 : (Jvm.Cond.instanceMethod ({ cls := "TwoSidedTables$Turned", name := "<init>", desc := "(II)V" } : Jvm.MethodName)) ∈ lw_all := lw_g (lw_at lw_m3 169 rfl) rfl
theorem q751 : (Jvm.Cond.code ({ cls := "TwoSidedTables$Turned", name := "<init>", desc := "(II)V" } : Jvm.MethodName) prog_19_method_1_code (3 : Nat) (Option.none : Option Jvm.ClassFile.FieldType)) ∈ lw_all := lw_g (lw_at lw_m3 170 rfl) rfl
theorem q752 : (Jvm.Cond.methodLink "TwoSidedTables$Turned" (3 : Nat) ({ cls := "TwoSidedTables$Plain", name := "<init>", desc := "(II)V" } : Jvm.MethodName)) ∈ lw_all := lw_g (lw_at lw_m3 171 rfl) rfl
theorem q753 : (Jvm.Cond.laysFinal "TwoSidedTables$Turned" "TwoSidedTables$Plain" "number" "I") ∈ lw_all := lw_g (lw_at lw_m3 172 rfl) rfl
theorem q754 : (Jvm.Cond.laysFinal "TwoSidedTables$Turned" "TwoSidedTables$Plain" "shift" "I") ∈ lw_all := lw_g (lw_at lw_m3 173 rfl) rfl
theorem q755 : (Jvm.Cond.superclass "TwoSidedTables$Turned" "TwoSidedTables$Plain") ∈ lw_all := lw_g (lw_at lw_m3 174 rfl) rfl
theorem q808 : (Jvm.Cond.instanceMethod ({ cls := "TwoSidedTables$Turned", name := "needsSquare", desc := "()Z" } : Jvm.MethodName)) ∈ lw_all := lw_g (lw_at lw_m3 227 rfl) rfl
theorem q809 : (Jvm.Cond.code ({ cls := "TwoSidedTables$Turned", name := "needsSquare", desc := "()Z" } : Jvm.MethodName) prog_19_method_3_code (1 : Nat) (Option.some Jvm.ClassFile.FieldType.boolean)) ∈ lw_all := lw_g (lw_at lw_m3 228 rfl) rfl
theorem q815 : (Jvm.Cond.selects "TwoSidedTables$Turned" ({ cls := "TwoSidedTables$Plain", name := "needsSquare", desc := "()Z" } : Jvm.MethodName) ({ cls := "TwoSidedTables$Turned", name := "needsSquare", desc := "()Z" } : Jvm.MethodName)) ∈ lw_all := lw_g (lw_at lw_m3 234 rfl) rfl
theorem q847 : (Jvm.Cond.selects "TwoSidedTables$Turned" ({ cls := "TwoSidedTables$Plain", name := "unknowns", desc := "(II)I" } : Jvm.MethodName) ({ cls := "TwoSidedTables$Plain", name := "unknowns", desc := "(II)I" } : Jvm.MethodName)) ∈ lw_all := lw_g (lw_at lw_m4 26 rfl) rfl
theorem q869 : (Jvm.Cond.selects "TwoSidedTables$Turned" ({ cls := "TwoSidedTables$Plain", name := "kind", desc := "()I" } : Jvm.MethodName) ({ cls := "TwoSidedTables$Turned", name := "kind", desc := "()I" } : Jvm.MethodName)) ∈ lw_all := lw_g (lw_at lw_m4 48 rfl) rfl
theorem q870 : (Jvm.Cond.instanceMethod ({ cls := "TwoSidedTables$Turned", name := "kind", desc := "()I" } : Jvm.MethodName)) ∈ lw_all := lw_g (lw_at lw_m4 49 rfl) rfl
theorem q871 : (Jvm.Cond.code ({ cls := "TwoSidedTables$Turned", name := "kind", desc := "()I" } : Jvm.MethodName) prog_19_method_2_code (1 : Nat) (Option.some Jvm.ClassFile.FieldType.int)) ∈ lw_all := lw_g (lw_at lw_m4 50 rfl) rfl
theorem q884 : (Jvm.Cond.selects "TwoSidedTables$Turned" ({ cls := "TwoSidedTables$Plain", name := "shift", desc := "()I" } : Jvm.MethodName) ({ cls := "TwoSidedTables$Plain", name := "shift", desc := "()I" } : Jvm.MethodName)) ∈ lw_all := lw_g (lw_at lw_m4 63 rfl) rfl
theorem q920 : (Jvm.Cond.sameMethod "TwoSidedTables$Turned" "TwoSidedTables$Plain" "codeAt" "(III)I") ∈ lw_all := lw_g (lw_at lw_m4 99 rfl) rfl
theorem q934 : (Jvm.Cond.selects "TwoSidedTables$Turned" ({ cls := "TwoSidedTables$Plain", name := "codeAt", desc := "(III)I" } : Jvm.MethodName) ({ cls := "TwoSidedTables$Plain", name := "codeAt", desc := "(III)I" } : Jvm.MethodName)) ∈ lw_all := lw_g (lw_at lw_m4 113 rfl) rfl
theorem q951 : (Jvm.Cond.instanceMethod ({ cls := "TwoSidedTables$Turned", name := "right", desc := "(LTwoSidedTables$Tables;II)J" } : Jvm.MethodName)) ∈ lw_all := lw_g (lw_at lw_m4 130 rfl) rfl
theorem q952 : (Jvm.Cond.code ({ cls := "TwoSidedTables$Turned", name := "right", desc := "(LTwoSidedTables$Tables;II)J" } : Jvm.MethodName) prog_19_method_4_code (4 : Nat) (Option.some Jvm.ClassFile.FieldType.long)) ∈ lw_all := lw_g (lw_at lw_m4 131 rfl) rfl
theorem q953 : (Jvm.Cond.methodLink "TwoSidedTables$Turned" (15 : Nat) ({ cls := "TwoSidedTables$Table", name := "at", desc := "(II)J" } : Jvm.MethodName)) ∈ lw_all := lw_g (lw_at lw_m4 132 rfl) rfl
theorem q964 : (Jvm.Cond.selects "TwoSidedTables$Turned" ({ cls := "TwoSidedTables$Plain", name := "right", desc := "(LTwoSidedTables$Tables;II)J" } : Jvm.MethodName) ({ cls := "TwoSidedTables$Turned", name := "right", desc := "(LTwoSidedTables$Tables;II)J" } : Jvm.MethodName)) ∈ lw_all := lw_g (lw_at lw_m4 143 rfl) rfl
theorem q1063 : (Jvm.Cond.selects "TwoSidedTables$Turned" ({ cls := "TwoSidedTables$Plain", name := "number", desc := "()I" } : Jvm.MethodName) ({ cls := "TwoSidedTables$Plain", name := "number", desc := "()I" } : Jvm.MethodName)) ∈ lw_all := lw_g (lw_at lw_m5 2 rfl) rfl
theorem q1387 : (Jvm.Cond.castable "TwoSidedTables$Turned" "TwoSidedTables$Weighs") ∈ lw_tbl := lw_at lw_m6 86 rfl
theorem q1388 : (Jvm.Cond.selects "TwoSidedTables$Turned" ({ cls := "TwoSidedTables$Weighs", name := "number", desc := "()I" } : Jvm.MethodName) ({ cls := "TwoSidedTables$Plain", name := "number", desc := "()I" } : Jvm.MethodName)) ∈ lw_all := lw_g (lw_at lw_m6 87 rfl) rfl
theorem q1389 : (Jvm.Cond.unhidden "TwoSidedTables$Turned" "number" "()I") ∈ lw_tbl := lw_at lw_m6 88 rfl
theorem q1393 : (Jvm.Cond.instanceMethod ({ cls := "TwoSidedTables$Turned", name := "weighs", desc := "(ILTwoSidedTables$Trace;)I" } : Jvm.MethodName)) ∈ lw_all := lw_g (lw_at lw_m6 92 rfl) rfl
theorem q1394 : (Jvm.Cond.publicMethod ({ cls := "TwoSidedTables$Turned", name := "weighs", desc := "(ILTwoSidedTables$Trace;)I" } : Jvm.MethodName)) ∈ lw_tbl := lw_at lw_m6 93 rfl
theorem q1395 : (Jvm.Cond.code ({ cls := "TwoSidedTables$Turned", name := "weighs", desc := "(ILTwoSidedTables$Trace;)I" } : Jvm.MethodName) prog_19_method_5_code (3 : Nat) (Option.some Jvm.ClassFile.FieldType.int)) ∈ lw_all := lw_g (lw_at lw_m6 94 rfl) rfl
theorem q1396 : (Jvm.Cond.methodLink "TwoSidedTables$Turned" (21 : Nat) ({ cls := "TwoSidedTables$Trace", name := "ran", desc := "(I)V" } : Jvm.MethodName)) ∈ lw_all := lw_g (lw_at lw_m6 95 rfl) rfl
theorem q1419 : (Jvm.Cond.declares ({ cls := "TwoSidedTables$Turned", name := "weighs", desc := "(ILTwoSidedTables$Trace;)I" } : Jvm.MethodName)) ∈ lw_tbl := lw_at lw_m6 118 rfl
theorem q1426 : (Jvm.Cond.castable "TwoSidedTables$Turned" "TwoSidedTables$Closes") ∈ lw_tbl := lw_at lw_m6 125 rfl
theorem q1427 : (Jvm.Cond.selects "TwoSidedTables$Turned" ({ cls := "TwoSidedTables$Weighs", name := "weighs", desc := "(ILTwoSidedTables$Trace;)I" } : Jvm.MethodName) ({ cls := "TwoSidedTables$Turned", name := "weighs", desc := "(ILTwoSidedTables$Trace;)I" } : Jvm.MethodName)) ∈ lw_all := lw_g (lw_at lw_m6 126 rfl) rfl
theorem q1428 : (Jvm.Cond.unhidden "TwoSidedTables$Turned" "weighs" "(ILTwoSidedTables$Trace;)I") ∈ lw_tbl := lw_at lw_m6 127 rfl
theorem q1450 : (Jvm.Cond.castable "TwoSidedTables$Turned" "TwoSidedTables$Turns") ∈ lw_tbl := lw_at lw_m6 149 rfl
theorem q1471 : (Jvm.Cond.selects "TwoSidedTables$Turned" ({ cls := "TwoSidedTables$Weighs", name := "shift", desc := "()I" } : Jvm.MethodName) ({ cls := "TwoSidedTables$Plain", name := "shift", desc := "()I" } : Jvm.MethodName)) ∈ lw_all := lw_g (lw_at lw_m6 170 rfl) rfl
theorem q1472 : (Jvm.Cond.unhidden "TwoSidedTables$Turned" "shift" "()I") ∈ lw_tbl := lw_at lw_m6 171 rfl
theorem q1489 : (Jvm.Cond.unhidden "TwoSidedTables$Turned" "turns" "(ILTwoSidedTables$Trace;)I") ∈ lw_tbl := lw_at lw_m6 188 rfl
theorem q1507 : (Jvm.Cond.castable "TwoSidedTables$Turned" "TwoSidedTables$Parts") ∈ lw_tbl := lw_at lw_m6 206 rfl
theorem q1511 : (Jvm.Cond.instanceMethod ({ cls := "TwoSidedTables$Turned", name := "parts", desc := "(ILTwoSidedTables$Trace;)I" } : Jvm.MethodName)) ∈ lw_all := lw_g (lw_at lw_m6 210 rfl) rfl
theorem q1512 : (Jvm.Cond.publicMethod ({ cls := "TwoSidedTables$Turned", name := "parts", desc := "(ILTwoSidedTables$Trace;)I" } : Jvm.MethodName)) ∈ lw_tbl := lw_at lw_m6 211 rfl
theorem q1513 : (Jvm.Cond.code ({ cls := "TwoSidedTables$Turned", name := "parts", desc := "(ILTwoSidedTables$Trace;)I" } : Jvm.MethodName) prog_19_method_6_code (4 : Nat) (Option.some Jvm.ClassFile.FieldType.int)) ∈ lw_all := lw_g (lw_at lw_m6 212 rfl) rfl
theorem q1514 : (Jvm.Cond.methodLink "TwoSidedTables$Turned" (34 : Nat) ({ cls := "TwoSidedTables$Turned", name := "number", desc := "()I" } : Jvm.MethodName)) ∈ lw_all := lw_g (lw_at lw_m6 213 rfl) rfl
theorem q1515 : (Jvm.Cond.sameMethod "TwoSidedTables$Turned" "TwoSidedTables$Plain" "number" "()I") ∈ lw_all := lw_g (lw_at lw_m6 214 rfl) rfl
theorem q1519 : (Jvm.Cond.selects "TwoSidedTables$Turned" ({ cls := "TwoSidedTables$Turned", name := "number", desc := "()I" } : Jvm.MethodName) ({ cls := "TwoSidedTables$Plain", name := "number", desc := "()I" } : Jvm.MethodName)) ∈ lw_all := lw_g (lw_at lw_m6 218 rfl) rfl
theorem q1520 : (Jvm.Cond.methodLink "TwoSidedTables$Turned" (40 : Nat) ({ cls := "TwoSidedTables$Turned", name := "weighs", desc := "(ILTwoSidedTables$Trace;)I" } : Jvm.MethodName)) ∈ lw_all := lw_g (lw_at lw_m6 219 rfl) rfl
theorem q1528 : (Jvm.Cond.selects "TwoSidedTables$Turned" ({ cls := "TwoSidedTables$Parts", name := "parts", desc := "(ILTwoSidedTables$Trace;)I" } : Jvm.MethodName) ({ cls := "TwoSidedTables$Turned", name := "parts", desc := "(ILTwoSidedTables$Trace;)I" } : Jvm.MethodName)) ∈ lw_all := lw_g (lw_at lw_m6 227 rfl) rfl
theorem q1529 : (Jvm.Cond.unhidden "TwoSidedTables$Turned" "parts" "(ILTwoSidedTables$Trace;)I") ∈ lw_tbl := lw_at lw_m6 228 rfl
theorem q1558 : (Jvm.Cond.unhidden "TwoSidedTables$Turned" "closes" "(ILTwoSidedTables$Trace;)I") ∈ lw_tbl := lw_at lw_m7 17 rfl
theorem q2165 : (Jvm.Cond.sameMethod "TwoSidedTables$Turned" "TwoSidedTables$Turned" "weighs" "(ILTwoSidedTables$Trace;)I") ∈ lw_all := lw_g (lw_at lw_m9 144 rfl) rfl
theorem q2168 : (Jvm.Cond.selects "TwoSidedTables$Turned" ({ cls := "TwoSidedTables$Turned", name := "weighs", desc := "(ILTwoSidedTables$Trace;)I" } : Jvm.MethodName) ({ cls := "TwoSidedTables$Turned", name := "weighs", desc := "(ILTwoSidedTables$Trace;)I" } : Jvm.MethodName)) ∈ lw_all := lw_g (lw_at lw_m9 147 rfl) rfl
theorem q2184 : (Jvm.Cond.castable "TwoSidedTables$Turned" "TwoSidedTables$Plain") ∈ lw_tbl := lw_at lw_m9 163 rfl
theorem in_X12 : ∀ w ∈ wsX120, w ∈ lw_all := lw_in wsX120 [753, 754] (by decide +kernel) (by decide +kernel)
/-! TwoSidedTables$Level -/
set_option maxRecDepth 100000
def RX13 : String := "TwoSidedTables$Level"
def TX13 : u_T := fun k => match k with
  | 0 => ("TwoSidedTables$Plain", "number", "I", true)
  | _ => ("TwoSidedTables$Plain", "shift", "I", true)
def tyX13 : Nat → FieldType := fun k => match k with
  | 0 => .int
  | _ => .int
abbrev wsX130 : List Cond := u_ws RX13 TX13 2
theorem nmX13 : ∀ a, a < 2 → ∀ b, b < 2 → a ≠ b → (TX13 a).2.1 ≠ (TX13 b).2.1 := by decide +kernel
theorem tyX13_ok : ∀ k, k < 2 → parseFieldDescriptor (TX13 k).2.2.1 = some (tyX13 k) := by decide +kernel
abbrev cX13_init : ByteArray := prog_7_method_1_code
def yX13_init : MethodName := ⟨RX13, "<init>", "(II)V"⟩
def dkwX13_init_0 : List UInt8 := [42, 27, 28, 183, 0, 3, 177]
abbrev dktX13_init_0 : List UInt8 := dkwX13_init_0 ++ []
theorem dksX13_init_0 : cX13_init.data.toList.drop 0 = dktX13_init_0 := by decide +kernel
theorem dX13_init_0 : decode cX13_init 0 = .ok (.aload_n 0, 1) := dk_42 (dk_at dksX13_init_0 0 rfl rfl)
theorem dX13_init_1 : decode cX13_init 1 = .ok (.iload_n 1, 1) := dk_27 (dk_at dksX13_init_0 1 rfl rfl)
theorem dX13_init_2 : decode cX13_init 2 = .ok (.iload_n 2, 1) := dk_28 (dk_at dksX13_init_0 2 rfl rfl)
theorem dX13_init_3 : decode cX13_init 3 = .ok (.invokespecial 3, 3) := dk_183 0 3 (dk_at dksX13_init_0 3 rfl rfl)
theorem dX13_init_6 : decode cX13_init 6 = .ok (.return_, 1) := dk_177 (dk_at dksX13_init_0 6 rfl rfl)
abbrev cX13_unknowns : ByteArray := prog_7_method_3_code
def yX13_unknowns : MethodName := ⟨RX13, "unknowns", "(II)I"⟩
theorem dX13_unknowns_0 : decode cX13_unknowns 0 = .ok (.iload_n 1, 1) := by decide +kernel
theorem dX13_unknowns_1 : decode cX13_unknowns 1 = .ok (.ireturn, 1) := by decide +kernel
abbrev cX13_kind : ByteArray := prog_7_method_2_code
def yX13_kind : MethodName := ⟨RX13, "kind", "()I"⟩
theorem dX13_kind_0 : decode cX13_kind 0 = .ok (.iconst 4, 1) := by decide +kernel
theorem dX13_kind_1 : decode cX13_kind 1 = .ok (.ireturn, 1) := by decide +kernel
abbrev cX13_codeAt : ByteArray := prog_7_method_4_code
def yX13_codeAt : MethodName := ⟨RX13, "codeAt", "(III)I"⟩
def dkwX13_codeAt_0 : List UInt8 := [27, 28, 160, 0, 9, 4, 27, 96, 167, 0, 4, 3, 172]
abbrev dktX13_codeAt_0 : List UInt8 := dkwX13_codeAt_0 ++ []
theorem dksX13_codeAt_0 : cX13_codeAt.data.toList.drop 0 = dktX13_codeAt_0 := by decide +kernel
theorem dX13_codeAt_0 : decode cX13_codeAt 0 = .ok (.iload_n 1, 1) := dk_27 (dk_at dksX13_codeAt_0 0 rfl rfl)
theorem dX13_codeAt_1 : decode cX13_codeAt 1 = .ok (.iload_n 2, 1) := dk_28 (dk_at dksX13_codeAt_0 1 rfl rfl)
theorem dX13_codeAt_2 : decode cX13_codeAt 2 = .ok (.if_icmp .ne 9, 3) := dk_160 0 9 (dk_at dksX13_codeAt_0 2 rfl rfl)
theorem dX13_codeAt_5 : decode cX13_codeAt 5 = .ok (.iconst 1, 1) := dk_4 (dk_at dksX13_codeAt_0 5 rfl rfl)
theorem dX13_codeAt_6 : decode cX13_codeAt 6 = .ok (.iload_n 1, 1) := dk_27 (dk_at dksX13_codeAt_0 6 rfl rfl)
theorem dX13_codeAt_7 : decode cX13_codeAt 7 = .ok (.iadd, 1) := dk_96 (dk_at dksX13_codeAt_0 7 rfl rfl)
theorem dX13_codeAt_8 : decode cX13_codeAt 8 = .ok (.goto 4, 3) := dk_167 0 4 (dk_at dksX13_codeAt_0 8 rfl rfl)
theorem dX13_codeAt_11 : decode cX13_codeAt 11 = .ok (.iconst 0, 1) := dk_3 (dk_at dksX13_codeAt_0 11 rfl rfl)
theorem dX13_codeAt_12 : decode cX13_codeAt 12 = .ok (.ireturn, 1) := dk_172 (dk_at dksX13_codeAt_0 12 rfl rfl)
abbrev cX13_turns : ByteArray := prog_7_method_5_code
def yX13_turns : MethodName := ⟨RX13, "turns", "(ILTwoSidedTables$Trace;)I"⟩
def dkwX13_turns_0 : List UInt8 := [44, 16, 50, 182, 0, 9, 42, 27, 42, 182, 0, 15, 96, 44, 183, 0, 21, 6, 130, 172]
abbrev dktX13_turns_0 : List UInt8 := dkwX13_turns_0 ++ []
theorem dksX13_turns_0 : cX13_turns.data.toList.drop 0 = dktX13_turns_0 := by decide +kernel
theorem dX13_turns_0 : decode cX13_turns 0 = .ok (.aload_n 2, 1) := dk_44 (dk_at dksX13_turns_0 0 rfl rfl)
theorem dX13_turns_1 : decode cX13_turns 1 = .ok (.bipush 50, 2) := dk_16 50 (dk_at dksX13_turns_0 1 rfl rfl)
theorem dX13_turns_3 : decode cX13_turns 3 = .ok (.invokevirtual 9, 3) := dk_182 0 9 (dk_at dksX13_turns_0 3 rfl rfl)
theorem dX13_turns_6 : decode cX13_turns 6 = .ok (.aload_n 0, 1) := dk_42 (dk_at dksX13_turns_0 6 rfl rfl)
theorem dX13_turns_7 : decode cX13_turns 7 = .ok (.iload_n 1, 1) := dk_27 (dk_at dksX13_turns_0 7 rfl rfl)
theorem dX13_turns_8 : decode cX13_turns 8 = .ok (.aload_n 0, 1) := dk_42 (dk_at dksX13_turns_0 8 rfl rfl)
theorem dX13_turns_9 : decode cX13_turns 9 = .ok (.invokevirtual 15, 3) := dk_182 0 15 (dk_at dksX13_turns_0 9 rfl rfl)
theorem dX13_turns_12 : decode cX13_turns 12 = .ok (.iadd, 1) := dk_96 (dk_at dksX13_turns_0 12 rfl rfl)
theorem dX13_turns_13 : decode cX13_turns 13 = .ok (.aload_n 2, 1) := dk_44 (dk_at dksX13_turns_0 13 rfl rfl)
theorem dX13_turns_14 : decode cX13_turns 14 = .ok (.invokespecial 21, 3) := dk_183 0 21 (dk_at dksX13_turns_0 14 rfl rfl)
theorem dX13_turns_17 : decode cX13_turns 17 = .ok (.iconst 3, 1) := dk_6 (dk_at dksX13_turns_0 17 rfl rfl)
theorem dX13_turns_18 : decode cX13_turns 18 = .ok (.ixor, 1) := dk_130 (dk_at dksX13_turns_0 18 rfl rfl)
theorem dX13_turns_19 : decode cX13_turns 19 = .ok (.ireturn, 1) := dk_172 (dk_at dksX13_turns_0 19 rfl rfl)
theorem q125 : (Jvm.Cond.initialized "TwoSidedTables$Level") ∈ lw_all := lw_g (lw_at lw_m1 24 rfl) rfl
theorem q757 : (Jvm.Cond.instantiable "TwoSidedTables$Level" (2 : Nat)) ∈ lw_all := lw_g (lw_at lw_m3 176 rfl) rfl
theorem q759 : (Jvm.Cond.instanceMethod ({ cls := "TwoSidedTables$Level", name := "<init>", desc := "(II)V" } : Jvm.MethodName)) ∈ lw_all := lw_g (lw_at lw_m3 178 rfl) rfl
theorem q760 : (Jvm.Cond.code ({ cls := "TwoSidedTables$Level", name := "<init>", desc := "(II)V" } : Jvm.MethodName) prog_7_method_1_code (3 : Nat) (Option.none : Option Jvm.ClassFile.FieldType)) ∈ lw_all := lw_g (lw_at lw_m3 179 rfl) rfl
theorem q761 : (Jvm.Cond.methodLink "TwoSidedTables$Level" (3 : Nat) ({ cls := "TwoSidedTables$Alike", name := "<init>", desc := "(II)V" } : Jvm.MethodName)) ∈ lw_all := lw_g (lw_at lw_m3 180 rfl) rfl
theorem q762 : (Jvm.Cond.laysFinal "TwoSidedTables$Level" "TwoSidedTables$Plain" "number" "I") ∈ lw_all := lw_g (lw_at lw_m3 181 rfl) rfl
theorem q763 : (Jvm.Cond.laysFinal "TwoSidedTables$Level" "TwoSidedTables$Plain" "shift" "I") ∈ lw_all := lw_g (lw_at lw_m3 182 rfl) rfl
theorem q764 : (Jvm.Cond.superclass "TwoSidedTables$Level" "TwoSidedTables$Alike") ∈ lw_all := lw_g (lw_at lw_m3 183 rfl) rfl
theorem q811 : (Jvm.Cond.selects "TwoSidedTables$Level" ({ cls := "TwoSidedTables$Plain", name := "needsSquare", desc := "()Z" } : Jvm.MethodName) ({ cls := "TwoSidedTables$Alike", name := "needsSquare", desc := "()Z" } : Jvm.MethodName)) ∈ lw_all := lw_g (lw_at lw_m3 230 rfl) rfl
theorem q830 : (Jvm.Cond.selects "TwoSidedTables$Level" ({ cls := "TwoSidedTables$Plain", name := "unknowns", desc := "(II)I" } : Jvm.MethodName) ({ cls := "TwoSidedTables$Level", name := "unknowns", desc := "(II)I" } : Jvm.MethodName)) ∈ lw_all := lw_g (lw_at lw_m4 9 rfl) rfl
theorem q831 : (Jvm.Cond.instanceMethod ({ cls := "TwoSidedTables$Level", name := "unknowns", desc := "(II)I" } : Jvm.MethodName)) ∈ lw_all := lw_g (lw_at lw_m4 10 rfl) rfl
theorem q832 : (Jvm.Cond.code ({ cls := "TwoSidedTables$Level", name := "unknowns", desc := "(II)I" } : Jvm.MethodName) prog_7_method_3_code (3 : Nat) (Option.some Jvm.ClassFile.FieldType.int)) ∈ lw_all := lw_g (lw_at lw_m4 11 rfl) rfl
theorem q861 : (Jvm.Cond.selects "TwoSidedTables$Level" ({ cls := "TwoSidedTables$Plain", name := "kind", desc := "()I" } : Jvm.MethodName) ({ cls := "TwoSidedTables$Level", name := "kind", desc := "()I" } : Jvm.MethodName)) ∈ lw_all := lw_g (lw_at lw_m4 40 rfl) rfl
theorem q862 : (Jvm.Cond.instanceMethod ({ cls := "TwoSidedTables$Level", name := "kind", desc := "()I" } : Jvm.MethodName)) ∈ lw_all := lw_g (lw_at lw_m4 41 rfl) rfl
theorem q863 : (Jvm.Cond.code ({ cls := "TwoSidedTables$Level", name := "kind", desc := "()I" } : Jvm.MethodName) prog_7_method_2_code (1 : Nat) (Option.some Jvm.ClassFile.FieldType.int)) ∈ lw_all := lw_g (lw_at lw_m4 42 rfl) rfl
theorem q880 : (Jvm.Cond.selects "TwoSidedTables$Level" ({ cls := "TwoSidedTables$Plain", name := "shift", desc := "()I" } : Jvm.MethodName) ({ cls := "TwoSidedTables$Plain", name := "shift", desc := "()I" } : Jvm.MethodName)) ∈ lw_all := lw_g (lw_at lw_m4 59 rfl) rfl
theorem q924 : (Jvm.Cond.selects "TwoSidedTables$Level" ({ cls := "TwoSidedTables$Plain", name := "codeAt", desc := "(III)I" } : Jvm.MethodName) ({ cls := "TwoSidedTables$Level", name := "codeAt", desc := "(III)I" } : Jvm.MethodName)) ∈ lw_all := lw_g (lw_at lw_m4 103 rfl) rfl
theorem q925 : (Jvm.Cond.instanceMethod ({ cls := "TwoSidedTables$Level", name := "codeAt", desc := "(III)I" } : Jvm.MethodName)) ∈ lw_all := lw_g (lw_at lw_m4 104 rfl) rfl
theorem q926 : (Jvm.Cond.code ({ cls := "TwoSidedTables$Level", name := "codeAt", desc := "(III)I" } : Jvm.MethodName) prog_7_method_4_code (4 : Nat) (Option.some Jvm.ClassFile.FieldType.int)) ∈ lw_all := lw_g (lw_at lw_m4 105 rfl) rfl
theorem q957 : (Jvm.Cond.selects "TwoSidedTables$Level" ({ cls := "TwoSidedTables$Plain", name := "right", desc := "(LTwoSidedTables$Tables;II)J" } : Jvm.MethodName) ({ cls := "TwoSidedTables$Alike", name := "right", desc := "(LTwoSidedTables$Tables;II)J" } : Jvm.MethodName)) ∈ lw_all := lw_g (lw_at lw_m4 136 rfl) rfl
theorem q1059 : (Jvm.Cond.selects "TwoSidedTables$Level" ({ cls := "TwoSidedTables$Plain", name := "number", desc := "()I" } : Jvm.MethodName) ({ cls := "TwoSidedTables$Plain", name := "number", desc := "()I" } : Jvm.MethodName)) ∈ lw_all := lw_g (lw_at lw_m4 238 rfl) rfl
theorem q1372 : (Jvm.Cond.castable "TwoSidedTables$Level" "TwoSidedTables$Weighs") ∈ lw_tbl := lw_at lw_m6 71 rfl
theorem q1373 : (Jvm.Cond.selects "TwoSidedTables$Level" ({ cls := "TwoSidedTables$Weighs", name := "number", desc := "()I" } : Jvm.MethodName) ({ cls := "TwoSidedTables$Plain", name := "number", desc := "()I" } : Jvm.MethodName)) ∈ lw_all := lw_g (lw_at lw_m6 72 rfl) rfl
theorem q1374 : (Jvm.Cond.unhidden "TwoSidedTables$Level" "number" "()I") ∈ lw_tbl := lw_at lw_m6 73 rfl
theorem q1404 : (Jvm.Cond.castable "TwoSidedTables$Level" "TwoSidedTables$Closes") ∈ lw_tbl := lw_at lw_m6 103 rfl
theorem q1405 : (Jvm.Cond.unhidden "TwoSidedTables$Level" "weighs" "(ILTwoSidedTables$Trace;)I") ∈ lw_tbl := lw_at lw_m6 104 rfl
theorem q1445 : (Jvm.Cond.castable "TwoSidedTables$Level" "TwoSidedTables$Turns") ∈ lw_tbl := lw_at lw_m6 144 rfl
theorem q1461 : (Jvm.Cond.selects "TwoSidedTables$Level" ({ cls := "TwoSidedTables$Weighs", name := "shift", desc := "()I" } : Jvm.MethodName) ({ cls := "TwoSidedTables$Plain", name := "shift", desc := "()I" } : Jvm.MethodName)) ∈ lw_all := lw_g (lw_at lw_m6 160 rfl) rfl
theorem q1462 : (Jvm.Cond.unhidden "TwoSidedTables$Level" "shift" "()I") ∈ lw_tbl := lw_at lw_m6 161 rfl
theorem q1475 : (Jvm.Cond.selects "TwoSidedTables$Level" ({ cls := "TwoSidedTables$Turns", name := "turns", desc := "(ILTwoSidedTables$Trace;)I" } : Jvm.MethodName) ({ cls := "TwoSidedTables$Level", name := "turns", desc := "(ILTwoSidedTables$Trace;)I" } : Jvm.MethodName)) ∈ lw_all := lw_g (lw_at lw_m6 174 rfl) rfl
theorem q1476 : (Jvm.Cond.unhidden "TwoSidedTables$Level" "turns" "(ILTwoSidedTables$Trace;)I") ∈ lw_tbl := lw_at lw_m6 175 rfl
theorem q1477 : (Jvm.Cond.instanceMethod ({ cls := "TwoSidedTables$Level", name := "turns", desc := "(ILTwoSidedTables$Trace;)I" } : Jvm.MethodName)) ∈ lw_all := lw_g (lw_at lw_m6 176 rfl) rfl
theorem q1478 : (Jvm.Cond.publicMethod ({ cls := "TwoSidedTables$Level", name := "turns", desc := "(ILTwoSidedTables$Trace;)I" } : Jvm.MethodName)) ∈ lw_tbl := lw_at lw_m6 177 rfl
theorem q1479 : (Jvm.Cond.code ({ cls := "TwoSidedTables$Level", name := "turns", desc := "(ILTwoSidedTables$Trace;)I" } : Jvm.MethodName) prog_7_method_5_code (3 : Nat) (Option.some Jvm.ClassFile.FieldType.int)) ∈ lw_all := lw_g (lw_at lw_m6 178 rfl) rfl
theorem q1480 : (Jvm.Cond.methodLink "TwoSidedTables$Level" (9 : Nat) ({ cls := "TwoSidedTables$Trace", name := "ran", desc := "(I)V" } : Jvm.MethodName)) ∈ lw_all := lw_g (lw_at lw_m6 179 rfl) rfl
theorem q1481 : (Jvm.Cond.methodLink "TwoSidedTables$Level" (15 : Nat) ({ cls := "TwoSidedTables$Level", name := "shift", desc := "()I" } : Jvm.MethodName)) ∈ lw_all := lw_g (lw_at lw_m6 180 rfl) rfl
theorem q1482 : (Jvm.Cond.sameMethod "TwoSidedTables$Level" "TwoSidedTables$Plain" "shift" "()I") ∈ lw_all := lw_g (lw_at lw_m6 181 rfl) rfl
theorem q1483 : (Jvm.Cond.selects "TwoSidedTables$Level" ({ cls := "TwoSidedTables$Level", name := "shift", desc := "()I" } : Jvm.MethodName) ({ cls := "TwoSidedTables$Plain", name := "shift", desc := "()I" } : Jvm.MethodName)) ∈ lw_all := lw_g (lw_at lw_m6 182 rfl) rfl
theorem q1484 : (Jvm.Cond.methodLink "TwoSidedTables$Level" (21 : Nat) ({ cls := "TwoSidedTables$Alike", name := "turns", desc := "(ILTwoSidedTables$Trace;)I" } : Jvm.MethodName)) ∈ lw_all := lw_g (lw_at lw_m6 183 rfl) rfl
theorem q1502 : (Jvm.Cond.castable "TwoSidedTables$Level" "TwoSidedTables$Parts") ∈ lw_tbl := lw_at lw_m6 201 rfl
theorem q1522 : (Jvm.Cond.unhidden "TwoSidedTables$Level" "parts" "(ILTwoSidedTables$Trace;)I") ∈ lw_tbl := lw_at lw_m6 221 rfl
theorem q1548 : (Jvm.Cond.unhidden "TwoSidedTables$Level" "closes" "(ILTwoSidedTables$Trace;)I") ∈ lw_tbl := lw_at lw_m7 7 rfl
theorem q2180 : (Jvm.Cond.castable "TwoSidedTables$Level" "TwoSidedTables$Plain") ∈ lw_tbl := lw_at lw_m9 159 rfl
theorem q2185 : (Jvm.Cond.castable "TwoSidedTables$Level" "TwoSidedTables$Alike") ∈ lw_tbl := lw_at lw_m9 164 rfl
theorem in_X13 : ∀ w ∈ wsX130, w ∈ lw_all := lw_in wsX130 [762, 763] (by decide +kernel) (by decide +kernel)
/-! TwoSidedTables$Even -/
set_option maxRecDepth 100000
def RX14 : String := "TwoSidedTables$Even"
def TX14 : u_T := fun k => match k with
  | 0 => ("TwoSidedTables$Plain", "number", "I", true)
  | _ => ("TwoSidedTables$Plain", "shift", "I", true)
def tyX14 : Nat → FieldType := fun k => match k with
  | 0 => .int
  | _ => .int
abbrev wsX140 : List Cond := u_ws RX14 TX14 2
theorem nmX14 : ∀ a, a < 2 → ∀ b, b < 2 → a ≠ b → (TX14 a).2.1 ≠ (TX14 b).2.1 := by decide +kernel
theorem tyX14_ok : ∀ k, k < 2 → parseFieldDescriptor (TX14 k).2.2.1 = some (tyX14 k) := by decide +kernel
abbrev cX14_init : ByteArray := prog_4_method_1_code
def yX14_init : MethodName := ⟨RX14, "<init>", "(II)V"⟩
def dkwX14_init_0 : List UInt8 := [42, 27, 28, 183, 0, 3, 177]
abbrev dktX14_init_0 : List UInt8 := dkwX14_init_0 ++ []
theorem dksX14_init_0 : cX14_init.data.toList.drop 0 = dktX14_init_0 := by decide +kernel
theorem dX14_init_0 : decode cX14_init 0 = .ok (.aload_n 0, 1) := dk_42 (dk_at dksX14_init_0 0 rfl rfl)
theorem dX14_init_1 : decode cX14_init 1 = .ok (.iload_n 1, 1) := dk_27 (dk_at dksX14_init_0 1 rfl rfl)
theorem dX14_init_2 : decode cX14_init 2 = .ok (.iload_n 2, 1) := dk_28 (dk_at dksX14_init_0 2 rfl rfl)
theorem dX14_init_3 : decode cX14_init 3 = .ok (.invokespecial 3, 3) := dk_183 0 3 (dk_at dksX14_init_0 3 rfl rfl)
theorem dX14_init_6 : decode cX14_init 6 = .ok (.return_, 1) := dk_177 (dk_at dksX14_init_0 6 rfl rfl)
abbrev cX14_unknowns : ByteArray := prog_4_method_3_code
def yX14_unknowns : MethodName := ⟨RX14, "unknowns", "(II)I"⟩
def dkwX14_unknowns_0 : List UInt8 := [27, 27, 4, 96, 104, 5, 108, 172]
abbrev dktX14_unknowns_0 : List UInt8 := dkwX14_unknowns_0 ++ []
theorem dksX14_unknowns_0 : cX14_unknowns.data.toList.drop 0 = dktX14_unknowns_0 := by decide +kernel
theorem dX14_unknowns_0 : decode cX14_unknowns 0 = .ok (.iload_n 1, 1) := dk_27 (dk_at dksX14_unknowns_0 0 rfl rfl)
theorem dX14_unknowns_1 : decode cX14_unknowns 1 = .ok (.iload_n 1, 1) := dk_27 (dk_at dksX14_unknowns_0 1 rfl rfl)
theorem dX14_unknowns_2 : decode cX14_unknowns 2 = .ok (.iconst 1, 1) := dk_4 (dk_at dksX14_unknowns_0 2 rfl rfl)
theorem dX14_unknowns_3 : decode cX14_unknowns 3 = .ok (.iadd, 1) := dk_96 (dk_at dksX14_unknowns_0 3 rfl rfl)
theorem dX14_unknowns_4 : decode cX14_unknowns 4 = .ok (.imul, 1) := dk_104 (dk_at dksX14_unknowns_0 4 rfl rfl)
theorem dX14_unknowns_5 : decode cX14_unknowns 5 = .ok (.iconst 2, 1) := dk_5 (dk_at dksX14_unknowns_0 5 rfl rfl)
theorem dX14_unknowns_6 : decode cX14_unknowns 6 = .ok (.idiv, 1) := dk_108 (dk_at dksX14_unknowns_0 6 rfl rfl)
theorem dX14_unknowns_7 : decode cX14_unknowns 7 = .ok (.ireturn, 1) := dk_172 (dk_at dksX14_unknowns_0 7 rfl rfl)
abbrev cX14_kind : ByteArray := prog_4_method_2_code
def yX14_kind : MethodName := ⟨RX14, "kind", "()I"⟩
theorem dX14_kind_0 : decode cX14_kind 0 = .ok (.iconst 5, 1) := by decide +kernel
theorem dX14_kind_1 : decode cX14_kind 1 = .ok (.ireturn, 1) := by decide +kernel
abbrev cX14_codeAt : ByteArray := prog_4_method_4_code
def yX14_codeAt : MethodName := ⟨RX14, "codeAt", "(III)I"⟩
def dkwX14_codeAt_1 : List UInt8 := [4, 96, 104, 5, 108, 100, 172]
abbrev dktX14_codeAt_1 : List UInt8 := dkwX14_codeAt_1 ++ []
def dkwX14_codeAt_0 : List UInt8 := [28, 27, 162, 0, 13, 42, 28, 27, 29, 182, 0, 9, 167, 0, 18, 42, 27, 28, 29, 183, 0, 15, 27, 27]
abbrev dktX14_codeAt_0 : List UInt8 := dkwX14_codeAt_0 ++ dktX14_codeAt_1
theorem dksX14_codeAt_0 : cX14_codeAt.data.toList.drop 0 = dktX14_codeAt_0 := by decide +kernel
theorem dksX14_codeAt_1 : cX14_codeAt.data.toList.drop 24 = dktX14_codeAt_1 := dk_seg dksX14_codeAt_0 24 rfl rfl
theorem dX14_codeAt_0 : decode cX14_codeAt 0 = .ok (.iload_n 2, 1) := dk_28 (dk_at dksX14_codeAt_0 0 rfl rfl)
theorem dX14_codeAt_1 : decode cX14_codeAt 1 = .ok (.iload_n 1, 1) := dk_27 (dk_at dksX14_codeAt_0 1 rfl rfl)
theorem dX14_codeAt_2 : decode cX14_codeAt 2 = .ok (.if_icmp .ge 13, 3) := dk_162 0 13 (dk_at dksX14_codeAt_0 2 rfl rfl)
theorem dX14_codeAt_5 : decode cX14_codeAt 5 = .ok (.aload_n 0, 1) := dk_42 (dk_at dksX14_codeAt_0 5 rfl rfl)
theorem dX14_codeAt_6 : decode cX14_codeAt 6 = .ok (.iload_n 2, 1) := dk_28 (dk_at dksX14_codeAt_0 6 rfl rfl)
theorem dX14_codeAt_7 : decode cX14_codeAt 7 = .ok (.iload_n 1, 1) := dk_27 (dk_at dksX14_codeAt_0 7 rfl rfl)
theorem dX14_codeAt_8 : decode cX14_codeAt 8 = .ok (.iload_n 3, 1) := dk_29 (dk_at dksX14_codeAt_0 8 rfl rfl)
theorem dX14_codeAt_9 : decode cX14_codeAt 9 = .ok (.invokevirtual 9, 3) := dk_182 0 9 (dk_at dksX14_codeAt_0 9 rfl rfl)
theorem dX14_codeAt_12 : decode cX14_codeAt 12 = .ok (.goto 18, 3) := dk_167 0 18 (dk_at dksX14_codeAt_0 12 rfl rfl)
theorem dX14_codeAt_15 : decode cX14_codeAt 15 = .ok (.aload_n 0, 1) := dk_42 (dk_at dksX14_codeAt_0 15 rfl rfl)
theorem dX14_codeAt_16 : decode cX14_codeAt 16 = .ok (.iload_n 1, 1) := dk_27 (dk_at dksX14_codeAt_0 16 rfl rfl)
theorem dX14_codeAt_17 : decode cX14_codeAt 17 = .ok (.iload_n 2, 1) := dk_28 (dk_at dksX14_codeAt_0 17 rfl rfl)
theorem dX14_codeAt_18 : decode cX14_codeAt 18 = .ok (.iload_n 3, 1) := dk_29 (dk_at dksX14_codeAt_0 18 rfl rfl)
theorem dX14_codeAt_19 : decode cX14_codeAt 19 = .ok (.invokespecial 15, 3) := dk_183 0 15 (dk_at dksX14_codeAt_0 19 rfl rfl)
theorem dX14_codeAt_22 : decode cX14_codeAt 22 = .ok (.iload_n 1, 1) := dk_27 (dk_at dksX14_codeAt_0 22 rfl rfl)
theorem dX14_codeAt_23 : decode cX14_codeAt 23 = .ok (.iload_n 1, 1) := dk_27 (dk_at dksX14_codeAt_0 23 rfl rfl)
theorem dX14_codeAt_24 : decode cX14_codeAt 24 = .ok (.iconst 1, 1) := dk_4 (dk_at dksX14_codeAt_1 0 rfl rfl)
theorem dX14_codeAt_25 : decode cX14_codeAt 25 = .ok (.iadd, 1) := dk_96 (dk_at dksX14_codeAt_1 1 rfl rfl)
theorem dX14_codeAt_26 : decode cX14_codeAt 26 = .ok (.imul, 1) := dk_104 (dk_at dksX14_codeAt_1 2 rfl rfl)
theorem dX14_codeAt_27 : decode cX14_codeAt 27 = .ok (.iconst 2, 1) := dk_5 (dk_at dksX14_codeAt_1 3 rfl rfl)
theorem dX14_codeAt_28 : decode cX14_codeAt 28 = .ok (.idiv, 1) := dk_108 (dk_at dksX14_codeAt_1 4 rfl rfl)
theorem dX14_codeAt_29 : decode cX14_codeAt 29 = .ok (.isub, 1) := dk_100 (dk_at dksX14_codeAt_1 5 rfl rfl)
theorem dX14_codeAt_30 : decode cX14_codeAt 30 = .ok (.ireturn, 1) := dk_172 (dk_at dksX14_codeAt_1 6 rfl rfl)
abbrev cX14_closes : ByteArray := prog_4_method_5_code
def yX14_closes : MethodName := ⟨RX14, "closes", "(ILTwoSidedTables$Trace;)I"⟩
def dkwX14_closes_0 : List UInt8 := [44, 16, 60, 182, 0, 16, 42, 27, 44, 183, 0, 22, 62, 29, 42, 4, 44, 182, 0, 26, 96, 172]
abbrev dktX14_closes_0 : List UInt8 := dkwX14_closes_0 ++ []
theorem dksX14_closes_0 : cX14_closes.data.toList.drop 0 = dktX14_closes_0 := by decide +kernel
theorem dX14_closes_0 : decode cX14_closes 0 = .ok (.aload_n 2, 1) := dk_44 (dk_at dksX14_closes_0 0 rfl rfl)
theorem dX14_closes_1 : decode cX14_closes 1 = .ok (.bipush 60, 2) := dk_16 60 (dk_at dksX14_closes_0 1 rfl rfl)
theorem dX14_closes_3 : decode cX14_closes 3 = .ok (.invokevirtual 16, 3) := dk_182 0 16 (dk_at dksX14_closes_0 3 rfl rfl)
theorem dX14_closes_6 : decode cX14_closes 6 = .ok (.aload_n 0, 1) := dk_42 (dk_at dksX14_closes_0 6 rfl rfl)
theorem dX14_closes_7 : decode cX14_closes 7 = .ok (.iload_n 1, 1) := dk_27 (dk_at dksX14_closes_0 7 rfl rfl)
theorem dX14_closes_8 : decode cX14_closes 8 = .ok (.aload_n 2, 1) := dk_44 (dk_at dksX14_closes_0 8 rfl rfl)
theorem dX14_closes_9 : decode cX14_closes 9 = .ok (.invokespecial 22, 3) := dk_183 0 22 (dk_at dksX14_closes_0 9 rfl rfl)
theorem dX14_closes_12 : decode cX14_closes 12 = .ok (.istore_n 3, 1) := dk_62 (dk_at dksX14_closes_0 12 rfl rfl)
theorem dX14_closes_13 : decode cX14_closes 13 = .ok (.iload_n 3, 1) := dk_29 (dk_at dksX14_closes_0 13 rfl rfl)
theorem dX14_closes_14 : decode cX14_closes 14 = .ok (.aload_n 0, 1) := dk_42 (dk_at dksX14_closes_0 14 rfl rfl)
theorem dX14_closes_15 : decode cX14_closes 15 = .ok (.iconst 1, 1) := dk_4 (dk_at dksX14_closes_0 15 rfl rfl)
theorem dX14_closes_16 : decode cX14_closes 16 = .ok (.aload_n 2, 1) := dk_44 (dk_at dksX14_closes_0 16 rfl rfl)
theorem dX14_closes_17 : decode cX14_closes 17 = .ok (.invokevirtual 26, 3) := dk_182 0 26 (dk_at dksX14_closes_0 17 rfl rfl)
theorem dX14_closes_20 : decode cX14_closes 20 = .ok (.iadd, 1) := dk_96 (dk_at dksX14_closes_0 20 rfl rfl)
theorem dX14_closes_21 : decode cX14_closes 21 = .ok (.ireturn, 1) := dk_172 (dk_at dksX14_closes_0 21 rfl rfl)
theorem q126 : (Jvm.Cond.initialized "TwoSidedTables$Even") ∈ lw_all := lw_g (lw_at lw_m1 25 rfl) rfl
theorem q766 : (Jvm.Cond.instantiable "TwoSidedTables$Even" (2 : Nat)) ∈ lw_all := lw_g (lw_at lw_m3 185 rfl) rfl
theorem q768 : (Jvm.Cond.instanceMethod ({ cls := "TwoSidedTables$Even", name := "<init>", desc := "(II)V" } : Jvm.MethodName)) ∈ lw_all := lw_g (lw_at lw_m3 187 rfl) rfl
theorem q769 : (Jvm.Cond.code ({ cls := "TwoSidedTables$Even", name := "<init>", desc := "(II)V" } : Jvm.MethodName) prog_4_method_1_code (3 : Nat) (Option.none : Option Jvm.ClassFile.FieldType)) ∈ lw_all := lw_g (lw_at lw_m3 188 rfl) rfl
theorem q770 : (Jvm.Cond.methodLink "TwoSidedTables$Even" (3 : Nat) ({ cls := "TwoSidedTables$Turned", name := "<init>", desc := "(II)V" } : Jvm.MethodName)) ∈ lw_all := lw_g (lw_at lw_m3 189 rfl) rfl
theorem q771 : (Jvm.Cond.laysFinal "TwoSidedTables$Even" "TwoSidedTables$Plain" "number" "I") ∈ lw_all := lw_g (lw_at lw_m3 190 rfl) rfl
theorem q772 : (Jvm.Cond.laysFinal "TwoSidedTables$Even" "TwoSidedTables$Plain" "shift" "I") ∈ lw_all := lw_g (lw_at lw_m3 191 rfl) rfl
theorem q773 : (Jvm.Cond.superclass "TwoSidedTables$Even" "TwoSidedTables$Turned") ∈ lw_all := lw_g (lw_at lw_m3 192 rfl) rfl
theorem q807 : (Jvm.Cond.selects "TwoSidedTables$Even" ({ cls := "TwoSidedTables$Plain", name := "needsSquare", desc := "()Z" } : Jvm.MethodName) ({ cls := "TwoSidedTables$Turned", name := "needsSquare", desc := "()Z" } : Jvm.MethodName)) ∈ lw_all := lw_g (lw_at lw_m3 226 rfl) rfl
theorem q826 : (Jvm.Cond.selects "TwoSidedTables$Even" ({ cls := "TwoSidedTables$Plain", name := "unknowns", desc := "(II)I" } : Jvm.MethodName) ({ cls := "TwoSidedTables$Even", name := "unknowns", desc := "(II)I" } : Jvm.MethodName)) ∈ lw_all := lw_g (lw_at lw_m4 5 rfl) rfl
theorem q827 : (Jvm.Cond.instanceMethod ({ cls := "TwoSidedTables$Even", name := "unknowns", desc := "(II)I" } : Jvm.MethodName)) ∈ lw_all := lw_g (lw_at lw_m4 6 rfl) rfl
theorem q828 : (Jvm.Cond.code ({ cls := "TwoSidedTables$Even", name := "unknowns", desc := "(II)I" } : Jvm.MethodName) prog_4_method_3_code (3 : Nat) (Option.some Jvm.ClassFile.FieldType.int)) ∈ lw_all := lw_g (lw_at lw_m4 7 rfl) rfl
theorem q855 : (Jvm.Cond.selects "TwoSidedTables$Even" ({ cls := "TwoSidedTables$Plain", name := "kind", desc := "()I" } : Jvm.MethodName) ({ cls := "TwoSidedTables$Even", name := "kind", desc := "()I" } : Jvm.MethodName)) ∈ lw_all := lw_g (lw_at lw_m4 34 rfl) rfl
theorem q856 : (Jvm.Cond.instanceMethod ({ cls := "TwoSidedTables$Even", name := "kind", desc := "()I" } : Jvm.MethodName)) ∈ lw_all := lw_g (lw_at lw_m4 35 rfl) rfl
theorem q857 : (Jvm.Cond.code ({ cls := "TwoSidedTables$Even", name := "kind", desc := "()I" } : Jvm.MethodName) prog_4_method_2_code (1 : Nat) (Option.some Jvm.ClassFile.FieldType.int)) ∈ lw_all := lw_g (lw_at lw_m4 36 rfl) rfl
theorem q878 : (Jvm.Cond.selects "TwoSidedTables$Even" ({ cls := "TwoSidedTables$Plain", name := "shift", desc := "()I" } : Jvm.MethodName) ({ cls := "TwoSidedTables$Plain", name := "shift", desc := "()I" } : Jvm.MethodName)) ∈ lw_all := lw_g (lw_at lw_m4 57 rfl) rfl
theorem q911 : (Jvm.Cond.selects "TwoSidedTables$Even" ({ cls := "TwoSidedTables$Plain", name := "codeAt", desc := "(III)I" } : Jvm.MethodName) ({ cls := "TwoSidedTables$Even", name := "codeAt", desc := "(III)I" } : Jvm.MethodName)) ∈ lw_all := lw_g (lw_at lw_m4 90 rfl) rfl
theorem q912 : (Jvm.Cond.instanceMethod ({ cls := "TwoSidedTables$Even", name := "codeAt", desc := "(III)I" } : Jvm.MethodName)) ∈ lw_all := lw_g (lw_at lw_m4 91 rfl) rfl
theorem q913 : (Jvm.Cond.code ({ cls := "TwoSidedTables$Even", name := "codeAt", desc := "(III)I" } : Jvm.MethodName) prog_4_method_4_code (4 : Nat) (Option.some Jvm.ClassFile.FieldType.int)) ∈ lw_all := lw_g (lw_at lw_m4 92 rfl) rfl
theorem q914 : (Jvm.Cond.methodLink "TwoSidedTables$Even" (9 : Nat) ({ cls := "TwoSidedTables$Even", name := "codeAt", desc := "(III)I" } : Jvm.MethodName)) ∈ lw_all := lw_g (lw_at lw_m4 93 rfl) rfl
theorem q919 : (Jvm.Cond.methodLink "TwoSidedTables$Even" (15 : Nat) ({ cls := "TwoSidedTables$Turned", name := "codeAt", desc := "(III)I" } : Jvm.MethodName)) ∈ lw_all := lw_g (lw_at lw_m4 98 rfl) rfl
theorem q950 : (Jvm.Cond.selects "TwoSidedTables$Even" ({ cls := "TwoSidedTables$Plain", name := "right", desc := "(LTwoSidedTables$Tables;II)J" } : Jvm.MethodName) ({ cls := "TwoSidedTables$Turned", name := "right", desc := "(LTwoSidedTables$Tables;II)J" } : Jvm.MethodName)) ∈ lw_all := lw_g (lw_at lw_m4 129 rfl) rfl
theorem q1057 : (Jvm.Cond.selects "TwoSidedTables$Even" ({ cls := "TwoSidedTables$Plain", name := "number", desc := "()I" } : Jvm.MethodName) ({ cls := "TwoSidedTables$Plain", name := "number", desc := "()I" } : Jvm.MethodName)) ∈ lw_all := lw_g (lw_at lw_m4 236 rfl) rfl
theorem q1366 : (Jvm.Cond.castable "TwoSidedTables$Even" "TwoSidedTables$Weighs") ∈ lw_tbl := lw_at lw_m6 65 rfl
theorem q1367 : (Jvm.Cond.selects "TwoSidedTables$Even" ({ cls := "TwoSidedTables$Weighs", name := "number", desc := "()I" } : Jvm.MethodName) ({ cls := "TwoSidedTables$Plain", name := "number", desc := "()I" } : Jvm.MethodName)) ∈ lw_all := lw_g (lw_at lw_m6 66 rfl) rfl
theorem q1368 : (Jvm.Cond.unhidden "TwoSidedTables$Even" "number" "()I") ∈ lw_tbl := lw_at lw_m6 67 rfl
theorem q1390 : (Jvm.Cond.castable "TwoSidedTables$Even" "TwoSidedTables$Closes") ∈ lw_tbl := lw_at lw_m6 89 rfl
theorem q1391 : (Jvm.Cond.selects "TwoSidedTables$Even" ({ cls := "TwoSidedTables$Weighs", name := "weighs", desc := "(ILTwoSidedTables$Trace;)I" } : Jvm.MethodName) ({ cls := "TwoSidedTables$Turned", name := "weighs", desc := "(ILTwoSidedTables$Trace;)I" } : Jvm.MethodName)) ∈ lw_all := lw_g (lw_at lw_m6 90 rfl) rfl
theorem q1392 : (Jvm.Cond.unhidden "TwoSidedTables$Even" "weighs" "(ILTwoSidedTables$Trace;)I") ∈ lw_tbl := lw_at lw_m6 91 rfl
theorem q1418 : (Jvm.Cond.sameMethod "TwoSidedTables$Even" "TwoSidedTables$Turned" "weighs" "(ILTwoSidedTables$Trace;)I") ∈ lw_all := lw_g (lw_at lw_m6 117 rfl) rfl
theorem q1443 : (Jvm.Cond.castable "TwoSidedTables$Even" "TwoSidedTables$Turns") ∈ lw_tbl := lw_at lw_m6 142 rfl
theorem q1457 : (Jvm.Cond.selects "TwoSidedTables$Even" ({ cls := "TwoSidedTables$Weighs", name := "shift", desc := "()I" } : Jvm.MethodName) ({ cls := "TwoSidedTables$Plain", name := "shift", desc := "()I" } : Jvm.MethodName)) ∈ lw_all := lw_g (lw_at lw_m6 156 rfl) rfl
theorem q1458 : (Jvm.Cond.unhidden "TwoSidedTables$Even" "shift" "()I") ∈ lw_tbl := lw_at lw_m6 157 rfl
theorem q1473 : (Jvm.Cond.unhidden "TwoSidedTables$Even" "turns" "(ILTwoSidedTables$Trace;)I") ∈ lw_tbl := lw_at lw_m6 172 rfl
theorem q1500 : (Jvm.Cond.castable "TwoSidedTables$Even" "TwoSidedTables$Parts") ∈ lw_tbl := lw_at lw_m6 199 rfl
theorem q1509 : (Jvm.Cond.selects "TwoSidedTables$Even" ({ cls := "TwoSidedTables$Parts", name := "parts", desc := "(ILTwoSidedTables$Trace;)I" } : Jvm.MethodName) ({ cls := "TwoSidedTables$Turned", name := "parts", desc := "(ILTwoSidedTables$Trace;)I" } : Jvm.MethodName)) ∈ lw_all := lw_g (lw_at lw_m6 208 rfl) rfl
theorem q1510 : (Jvm.Cond.unhidden "TwoSidedTables$Even" "parts" "(ILTwoSidedTables$Trace;)I") ∈ lw_tbl := lw_at lw_m6 209 rfl
theorem q1517 : (Jvm.Cond.selects "TwoSidedTables$Even" ({ cls := "TwoSidedTables$Turned", name := "number", desc := "()I" } : Jvm.MethodName) ({ cls := "TwoSidedTables$Plain", name := "number", desc := "()I" } : Jvm.MethodName)) ∈ lw_all := lw_g (lw_at lw_m6 216 rfl) rfl
theorem q1541 : (Jvm.Cond.selects "TwoSidedTables$Even" ({ cls := "TwoSidedTables$Closes", name := "closes", desc := "(ILTwoSidedTables$Trace;)I" } : Jvm.MethodName) ({ cls := "TwoSidedTables$Even", name := "closes", desc := "(ILTwoSidedTables$Trace;)I" } : Jvm.MethodName)) ∈ lw_all := lw_g (lw_at lw_m7 0 rfl) rfl
theorem q1542 : (Jvm.Cond.unhidden "TwoSidedTables$Even" "closes" "(ILTwoSidedTables$Trace;)I") ∈ lw_tbl := lw_at lw_m7 1 rfl
theorem q1543 : (Jvm.Cond.instanceMethod ({ cls := "TwoSidedTables$Even", name := "closes", desc := "(ILTwoSidedTables$Trace;)I" } : Jvm.MethodName)) ∈ lw_all := lw_g (lw_at lw_m7 2 rfl) rfl
theorem q1544 : (Jvm.Cond.publicMethod ({ cls := "TwoSidedTables$Even", name := "closes", desc := "(ILTwoSidedTables$Trace;)I" } : Jvm.MethodName)) ∈ lw_tbl := lw_at lw_m7 3 rfl
theorem q1545 : (Jvm.Cond.code ({ cls := "TwoSidedTables$Even", name := "closes", desc := "(ILTwoSidedTables$Trace;)I" } : Jvm.MethodName) prog_4_method_5_code (4 : Nat) (Option.some Jvm.ClassFile.FieldType.int)) ∈ lw_all := lw_g (lw_at lw_m7 4 rfl) rfl
theorem q1546 : (Jvm.Cond.methodLink "TwoSidedTables$Even" (16 : Nat) ({ cls := "TwoSidedTables$Trace", name := "ran", desc := "(I)V" } : Jvm.MethodName)) ∈ lw_all := lw_g (lw_at lw_m7 5 rfl) rfl
theorem q2155 : (Jvm.Cond.sameMethod "TwoSidedTables$Even" "TwoSidedTables$Even" "unknowns" "(II)I") ∈ lw_all := lw_g (lw_at lw_m9 134 rfl) rfl
theorem q2156 : (Jvm.Cond.sameMethod "TwoSidedTables$Even" "TwoSidedTables$Even" "codeAt" "(III)I") ∈ lw_all := lw_g (lw_at lw_m9 135 rfl) rfl
theorem q2157 : (Jvm.Cond.selects "TwoSidedTables$Even" ({ cls := "TwoSidedTables$Even", name := "codeAt", desc := "(III)I" } : Jvm.MethodName) ({ cls := "TwoSidedTables$Even", name := "codeAt", desc := "(III)I" } : Jvm.MethodName)) ∈ lw_all := lw_g (lw_at lw_m9 136 rfl) rfl
theorem q2166 : (Jvm.Cond.selects "TwoSidedTables$Even" ({ cls := "TwoSidedTables$Turned", name := "weighs", desc := "(ILTwoSidedTables$Trace;)I" } : Jvm.MethodName) ({ cls := "TwoSidedTables$Turned", name := "weighs", desc := "(ILTwoSidedTables$Trace;)I" } : Jvm.MethodName)) ∈ lw_all := lw_g (lw_at lw_m9 145 rfl) rfl
theorem q2169 : (Jvm.Cond.sameMethod "TwoSidedTables$Even" "TwoSidedTables$Even" "closes" "(ILTwoSidedTables$Trace;)I") ∈ lw_all := lw_g (lw_at lw_m9 148 rfl) rfl
theorem q2178 : (Jvm.Cond.castable "TwoSidedTables$Even" "TwoSidedTables$Plain") ∈ lw_tbl := lw_at lw_m9 157 rfl
theorem q2186 : (Jvm.Cond.castable "TwoSidedTables$Even" "TwoSidedTables$Turned") ∈ lw_tbl := lw_at lw_m9 165 rfl
theorem in_X14 : ∀ w ∈ wsX140, w ∈ lw_all := lw_in wsX140 [771, 772] (by decide +kernel) (by decide +kernel)
/-! TwoSidedTables$Odd -/
set_option maxRecDepth 100000
def RX15 : String := "TwoSidedTables$Odd"
def TX15 : u_T := fun k => match k with
  | 0 => ("TwoSidedTables$Plain", "number", "I", true)
  | _ => ("TwoSidedTables$Plain", "shift", "I", true)
def tyX15 : Nat → FieldType := fun k => match k with
  | 0 => .int
  | _ => .int
abbrev wsX150 : List Cond := u_ws RX15 TX15 2
theorem nmX15 : ∀ a, a < 2 → ∀ b, b < 2 → a ≠ b → (TX15 a).2.1 ≠ (TX15 b).2.1 := by decide +kernel
theorem tyX15_ok : ∀ k, k < 2 → parseFieldDescriptor (TX15 k).2.2.1 = some (tyX15 k) := by decide +kernel
abbrev cX15_init : ByteArray := prog_10_method_1_code
def yX15_init : MethodName := ⟨RX15, "<init>", "(II)V"⟩
def dkwX15_init_0 : List UInt8 := [42, 27, 28, 183, 0, 3, 177]
abbrev dktX15_init_0 : List UInt8 := dkwX15_init_0 ++ []
theorem dksX15_init_0 : cX15_init.data.toList.drop 0 = dktX15_init_0 := by decide +kernel
theorem dX15_init_0 : decode cX15_init 0 = .ok (.aload_n 0, 1) := dk_42 (dk_at dksX15_init_0 0 rfl rfl)
theorem dX15_init_1 : decode cX15_init 1 = .ok (.iload_n 1, 1) := dk_27 (dk_at dksX15_init_0 1 rfl rfl)
theorem dX15_init_2 : decode cX15_init 2 = .ok (.iload_n 2, 1) := dk_28 (dk_at dksX15_init_0 2 rfl rfl)
theorem dX15_init_3 : decode cX15_init 3 = .ok (.invokespecial 3, 3) := dk_183 0 3 (dk_at dksX15_init_0 3 rfl rfl)
theorem dX15_init_6 : decode cX15_init 6 = .ok (.return_, 1) := dk_177 (dk_at dksX15_init_0 6 rfl rfl)
abbrev cX15_unknowns : ByteArray := prog_10_method_3_code
def yX15_unknowns : MethodName := ⟨RX15, "unknowns", "(II)I"⟩
def dkwX15_unknowns_0 : List UInt8 := [42, 27, 28, 183, 0, 9, 27, 100, 172]
abbrev dktX15_unknowns_0 : List UInt8 := dkwX15_unknowns_0 ++ []
theorem dksX15_unknowns_0 : cX15_unknowns.data.toList.drop 0 = dktX15_unknowns_0 := by decide +kernel
theorem dX15_unknowns_0 : decode cX15_unknowns 0 = .ok (.aload_n 0, 1) := dk_42 (dk_at dksX15_unknowns_0 0 rfl rfl)
theorem dX15_unknowns_1 : decode cX15_unknowns 1 = .ok (.iload_n 1, 1) := dk_27 (dk_at dksX15_unknowns_0 1 rfl rfl)
theorem dX15_unknowns_2 : decode cX15_unknowns 2 = .ok (.iload_n 2, 1) := dk_28 (dk_at dksX15_unknowns_0 2 rfl rfl)
theorem dX15_unknowns_3 : decode cX15_unknowns 3 = .ok (.invokespecial 9, 3) := dk_183 0 9 (dk_at dksX15_unknowns_0 3 rfl rfl)
theorem dX15_unknowns_6 : decode cX15_unknowns 6 = .ok (.iload_n 1, 1) := dk_27 (dk_at dksX15_unknowns_0 6 rfl rfl)
theorem dX15_unknowns_7 : decode cX15_unknowns 7 = .ok (.isub, 1) := dk_100 (dk_at dksX15_unknowns_0 7 rfl rfl)
theorem dX15_unknowns_8 : decode cX15_unknowns 8 = .ok (.ireturn, 1) := dk_172 (dk_at dksX15_unknowns_0 8 rfl rfl)
abbrev cX15_kind : ByteArray := prog_10_method_2_code
def yX15_kind : MethodName := ⟨RX15, "kind", "()I"⟩
theorem dX15_kind_0 : decode cX15_kind 0 = .ok (.bipush 6, 2) := by decide +kernel
theorem dX15_kind_2 : decode cX15_kind 2 = .ok (.ireturn, 1) := by decide +kernel
abbrev cX15_codeAt : ByteArray := prog_10_method_4_code
def yX15_codeAt : MethodName := ⟨RX15, "codeAt", "(III)I"⟩
def dkwX15_codeAt_1 : List UInt8 := [42, 27, 28, 29, 183, 0, 19, 27, 100, 4, 100, 172]
abbrev dktX15_codeAt_1 : List UInt8 := dkwX15_codeAt_1 ++ []
def dkwX15_codeAt_0 : List UInt8 := [27, 28, 160, 0, 5, 3, 172, 28, 27, 162, 0, 15, 3, 42, 28, 27, 29, 182, 0, 13, 100, 167, 0, 14]
abbrev dktX15_codeAt_0 : List UInt8 := dkwX15_codeAt_0 ++ dktX15_codeAt_1
theorem dksX15_codeAt_0 : cX15_codeAt.data.toList.drop 0 = dktX15_codeAt_0 := by decide +kernel
theorem dksX15_codeAt_1 : cX15_codeAt.data.toList.drop 24 = dktX15_codeAt_1 := dk_seg dksX15_codeAt_0 24 rfl rfl
theorem dX15_codeAt_0 : decode cX15_codeAt 0 = .ok (.iload_n 1, 1) := dk_27 (dk_at dksX15_codeAt_0 0 rfl rfl)
theorem dX15_codeAt_1 : decode cX15_codeAt 1 = .ok (.iload_n 2, 1) := dk_28 (dk_at dksX15_codeAt_0 1 rfl rfl)
theorem dX15_codeAt_2 : decode cX15_codeAt 2 = .ok (.if_icmp .ne 5, 3) := dk_160 0 5 (dk_at dksX15_codeAt_0 2 rfl rfl)
theorem dX15_codeAt_5 : decode cX15_codeAt 5 = .ok (.iconst 0, 1) := dk_3 (dk_at dksX15_codeAt_0 5 rfl rfl)
theorem dX15_codeAt_6 : decode cX15_codeAt 6 = .ok (.ireturn, 1) := dk_172 (dk_at dksX15_codeAt_0 6 rfl rfl)
theorem dX15_codeAt_7 : decode cX15_codeAt 7 = .ok (.iload_n 2, 1) := dk_28 (dk_at dksX15_codeAt_0 7 rfl rfl)
theorem dX15_codeAt_8 : decode cX15_codeAt 8 = .ok (.iload_n 1, 1) := dk_27 (dk_at dksX15_codeAt_0 8 rfl rfl)
theorem dX15_codeAt_9 : decode cX15_codeAt 9 = .ok (.if_icmp .ge 15, 3) := dk_162 0 15 (dk_at dksX15_codeAt_0 9 rfl rfl)
theorem dX15_codeAt_12 : decode cX15_codeAt 12 = .ok (.iconst 0, 1) := dk_3 (dk_at dksX15_codeAt_0 12 rfl rfl)
theorem dX15_codeAt_13 : decode cX15_codeAt 13 = .ok (.aload_n 0, 1) := dk_42 (dk_at dksX15_codeAt_0 13 rfl rfl)
theorem dX15_codeAt_14 : decode cX15_codeAt 14 = .ok (.iload_n 2, 1) := dk_28 (dk_at dksX15_codeAt_0 14 rfl rfl)
theorem dX15_codeAt_15 : decode cX15_codeAt 15 = .ok (.iload_n 1, 1) := dk_27 (dk_at dksX15_codeAt_0 15 rfl rfl)
theorem dX15_codeAt_16 : decode cX15_codeAt 16 = .ok (.iload_n 3, 1) := dk_29 (dk_at dksX15_codeAt_0 16 rfl rfl)
theorem dX15_codeAt_17 : decode cX15_codeAt 17 = .ok (.invokevirtual 13, 3) := dk_182 0 13 (dk_at dksX15_codeAt_0 17 rfl rfl)
theorem dX15_codeAt_20 : decode cX15_codeAt 20 = .ok (.isub, 1) := dk_100 (dk_at dksX15_codeAt_0 20 rfl rfl)
theorem dX15_codeAt_21 : decode cX15_codeAt 21 = .ok (.goto 14, 3) := dk_167 0 14 (dk_at dksX15_codeAt_0 21 rfl rfl)
theorem dX15_codeAt_24 : decode cX15_codeAt 24 = .ok (.aload_n 0, 1) := dk_42 (dk_at dksX15_codeAt_1 0 rfl rfl)
theorem dX15_codeAt_25 : decode cX15_codeAt 25 = .ok (.iload_n 1, 1) := dk_27 (dk_at dksX15_codeAt_1 1 rfl rfl)
theorem dX15_codeAt_26 : decode cX15_codeAt 26 = .ok (.iload_n 2, 1) := dk_28 (dk_at dksX15_codeAt_1 2 rfl rfl)
theorem dX15_codeAt_27 : decode cX15_codeAt 27 = .ok (.iload_n 3, 1) := dk_29 (dk_at dksX15_codeAt_1 3 rfl rfl)
theorem dX15_codeAt_28 : decode cX15_codeAt 28 = .ok (.invokespecial 19, 3) := dk_183 0 19 (dk_at dksX15_codeAt_1 4 rfl rfl)
theorem dX15_codeAt_31 : decode cX15_codeAt 31 = .ok (.iload_n 1, 1) := dk_27 (dk_at dksX15_codeAt_1 7 rfl rfl)
theorem dX15_codeAt_32 : decode cX15_codeAt 32 = .ok (.isub, 1) := dk_100 (dk_at dksX15_codeAt_1 8 rfl rfl)
theorem dX15_codeAt_33 : decode cX15_codeAt 33 = .ok (.iconst 1, 1) := dk_4 (dk_at dksX15_codeAt_1 9 rfl rfl)
theorem dX15_codeAt_34 : decode cX15_codeAt 34 = .ok (.isub, 1) := dk_100 (dk_at dksX15_codeAt_1 10 rfl rfl)
theorem dX15_codeAt_35 : decode cX15_codeAt 35 = .ok (.ireturn, 1) := dk_172 (dk_at dksX15_codeAt_1 11 rfl rfl)
abbrev cX15_weighs : ByteArray := prog_10_method_5_code
def yX15_weighs : MethodName := ⟨RX15, "weighs", "(ILTwoSidedTables$Trace;)I"⟩
def dkwX15_weighs_0 : List UInt8 := [44, 16, 70, 182, 0, 20, 42, 27, 44, 183, 0, 26, 42, 182, 0, 30, 130, 172]
abbrev dktX15_weighs_0 : List UInt8 := dkwX15_weighs_0 ++ []
theorem dksX15_weighs_0 : cX15_weighs.data.toList.drop 0 = dktX15_weighs_0 := by decide +kernel
theorem dX15_weighs_0 : decode cX15_weighs 0 = .ok (.aload_n 2, 1) := dk_44 (dk_at dksX15_weighs_0 0 rfl rfl)
theorem dX15_weighs_1 : decode cX15_weighs 1 = .ok (.bipush 70, 2) := dk_16 70 (dk_at dksX15_weighs_0 1 rfl rfl)
theorem dX15_weighs_3 : decode cX15_weighs 3 = .ok (.invokevirtual 20, 3) := dk_182 0 20 (dk_at dksX15_weighs_0 3 rfl rfl)
theorem dX15_weighs_6 : decode cX15_weighs 6 = .ok (.aload_n 0, 1) := dk_42 (dk_at dksX15_weighs_0 6 rfl rfl)
theorem dX15_weighs_7 : decode cX15_weighs 7 = .ok (.iload_n 1, 1) := dk_27 (dk_at dksX15_weighs_0 7 rfl rfl)
theorem dX15_weighs_8 : decode cX15_weighs 8 = .ok (.aload_n 2, 1) := dk_44 (dk_at dksX15_weighs_0 8 rfl rfl)
theorem dX15_weighs_9 : decode cX15_weighs 9 = .ok (.invokespecial 26, 3) := dk_183 0 26 (dk_at dksX15_weighs_0 9 rfl rfl)
theorem dX15_weighs_12 : decode cX15_weighs 12 = .ok (.aload_n 0, 1) := dk_42 (dk_at dksX15_weighs_0 12 rfl rfl)
theorem dX15_weighs_13 : decode cX15_weighs 13 = .ok (.invokevirtual 30, 3) := dk_182 0 30 (dk_at dksX15_weighs_0 13 rfl rfl)
theorem dX15_weighs_16 : decode cX15_weighs 16 = .ok (.ixor, 1) := dk_130 (dk_at dksX15_weighs_0 16 rfl rfl)
theorem dX15_weighs_17 : decode cX15_weighs 17 = .ok (.ireturn, 1) := dk_172 (dk_at dksX15_weighs_0 17 rfl rfl)
abbrev cX15_closes : ByteArray := prog_10_method_6_code
def yX15_closes : MethodName := ⟨RX15, "closes", "(ILTwoSidedTables$Trace;)I"⟩
def dkwX15_closes_0 : List UInt8 := [44, 16, 71, 182, 0, 20, 42, 27, 5, 104, 44, 183, 0, 34, 8, 100, 172]
abbrev dktX15_closes_0 : List UInt8 := dkwX15_closes_0 ++ []
theorem dksX15_closes_0 : cX15_closes.data.toList.drop 0 = dktX15_closes_0 := by decide +kernel
theorem dX15_closes_0 : decode cX15_closes 0 = .ok (.aload_n 2, 1) := dk_44 (dk_at dksX15_closes_0 0 rfl rfl)
theorem dX15_closes_1 : decode cX15_closes 1 = .ok (.bipush 71, 2) := dk_16 71 (dk_at dksX15_closes_0 1 rfl rfl)
theorem dX15_closes_3 : decode cX15_closes 3 = .ok (.invokevirtual 20, 3) := dk_182 0 20 (dk_at dksX15_closes_0 3 rfl rfl)
theorem dX15_closes_6 : decode cX15_closes 6 = .ok (.aload_n 0, 1) := dk_42 (dk_at dksX15_closes_0 6 rfl rfl)
theorem dX15_closes_7 : decode cX15_closes 7 = .ok (.iload_n 1, 1) := dk_27 (dk_at dksX15_closes_0 7 rfl rfl)
theorem dX15_closes_8 : decode cX15_closes 8 = .ok (.iconst 2, 1) := dk_5 (dk_at dksX15_closes_0 8 rfl rfl)
theorem dX15_closes_9 : decode cX15_closes 9 = .ok (.imul, 1) := dk_104 (dk_at dksX15_closes_0 9 rfl rfl)
theorem dX15_closes_10 : decode cX15_closes 10 = .ok (.aload_n 2, 1) := dk_44 (dk_at dksX15_closes_0 10 rfl rfl)
theorem dX15_closes_11 : decode cX15_closes 11 = .ok (.invokespecial 34, 3) := dk_183 0 34 (dk_at dksX15_closes_0 11 rfl rfl)
theorem dX15_closes_14 : decode cX15_closes 14 = .ok (.iconst 5, 1) := dk_8 (dk_at dksX15_closes_0 14 rfl rfl)
theorem dX15_closes_15 : decode cX15_closes 15 = .ok (.isub, 1) := dk_100 (dk_at dksX15_closes_0 15 rfl rfl)
theorem dX15_closes_16 : decode cX15_closes 16 = .ok (.ireturn, 1) := dk_172 (dk_at dksX15_closes_0 16 rfl rfl)
theorem q127 : (Jvm.Cond.initialized "TwoSidedTables$Odd") ∈ lw_all := lw_g (lw_at lw_m1 26 rfl) rfl
theorem q775 : (Jvm.Cond.instantiable "TwoSidedTables$Odd" (2 : Nat)) ∈ lw_all := lw_g (lw_at lw_m3 194 rfl) rfl
theorem q777 : (Jvm.Cond.instanceMethod ({ cls := "TwoSidedTables$Odd", name := "<init>", desc := "(II)V" } : Jvm.MethodName)) ∈ lw_all := lw_g (lw_at lw_m3 196 rfl) rfl
theorem q778 : (Jvm.Cond.code ({ cls := "TwoSidedTables$Odd", name := "<init>", desc := "(II)V" } : Jvm.MethodName) prog_10_method_1_code (3 : Nat) (Option.none : Option Jvm.ClassFile.FieldType)) ∈ lw_all := lw_g (lw_at lw_m3 197 rfl) rfl
theorem q779 : (Jvm.Cond.methodLink "TwoSidedTables$Odd" (3 : Nat) ({ cls := "TwoSidedTables$Even", name := "<init>", desc := "(II)V" } : Jvm.MethodName)) ∈ lw_all := lw_g (lw_at lw_m3 198 rfl) rfl
theorem q780 : (Jvm.Cond.laysFinal "TwoSidedTables$Odd" "TwoSidedTables$Plain" "number" "I") ∈ lw_all := lw_g (lw_at lw_m3 199 rfl) rfl
theorem q781 : (Jvm.Cond.laysFinal "TwoSidedTables$Odd" "TwoSidedTables$Plain" "shift" "I") ∈ lw_all := lw_g (lw_at lw_m3 200 rfl) rfl
theorem q782 : (Jvm.Cond.superclass "TwoSidedTables$Odd" "TwoSidedTables$Even") ∈ lw_all := lw_g (lw_at lw_m3 201 rfl) rfl
theorem q814 : (Jvm.Cond.selects "TwoSidedTables$Odd" ({ cls := "TwoSidedTables$Plain", name := "needsSquare", desc := "()Z" } : Jvm.MethodName) ({ cls := "TwoSidedTables$Turned", name := "needsSquare", desc := "()Z" } : Jvm.MethodName)) ∈ lw_all := lw_g (lw_at lw_m3 233 rfl) rfl
theorem q843 : (Jvm.Cond.selects "TwoSidedTables$Odd" ({ cls := "TwoSidedTables$Plain", name := "unknowns", desc := "(II)I" } : Jvm.MethodName) ({ cls := "TwoSidedTables$Odd", name := "unknowns", desc := "(II)I" } : Jvm.MethodName)) ∈ lw_all := lw_g (lw_at lw_m4 22 rfl) rfl
theorem q844 : (Jvm.Cond.instanceMethod ({ cls := "TwoSidedTables$Odd", name := "unknowns", desc := "(II)I" } : Jvm.MethodName)) ∈ lw_all := lw_g (lw_at lw_m4 23 rfl) rfl
theorem q845 : (Jvm.Cond.code ({ cls := "TwoSidedTables$Odd", name := "unknowns", desc := "(II)I" } : Jvm.MethodName) prog_10_method_3_code (3 : Nat) (Option.some Jvm.ClassFile.FieldType.int)) ∈ lw_all := lw_g (lw_at lw_m4 24 rfl) rfl
theorem q846 : (Jvm.Cond.methodLink "TwoSidedTables$Odd" (9 : Nat) ({ cls := "TwoSidedTables$Even", name := "unknowns", desc := "(II)I" } : Jvm.MethodName)) ∈ lw_all := lw_g (lw_at lw_m4 25 rfl) rfl
theorem q866 : (Jvm.Cond.selects "TwoSidedTables$Odd" ({ cls := "TwoSidedTables$Plain", name := "kind", desc := "()I" } : Jvm.MethodName) ({ cls := "TwoSidedTables$Odd", name := "kind", desc := "()I" } : Jvm.MethodName)) ∈ lw_all := lw_g (lw_at lw_m4 45 rfl) rfl
theorem q867 : (Jvm.Cond.instanceMethod ({ cls := "TwoSidedTables$Odd", name := "kind", desc := "()I" } : Jvm.MethodName)) ∈ lw_all := lw_g (lw_at lw_m4 46 rfl) rfl
theorem q868 : (Jvm.Cond.code ({ cls := "TwoSidedTables$Odd", name := "kind", desc := "()I" } : Jvm.MethodName) prog_10_method_2_code (1 : Nat) (Option.some Jvm.ClassFile.FieldType.int)) ∈ lw_all := lw_g (lw_at lw_m4 47 rfl) rfl
theorem q883 : (Jvm.Cond.selects "TwoSidedTables$Odd" ({ cls := "TwoSidedTables$Plain", name := "shift", desc := "()I" } : Jvm.MethodName) ({ cls := "TwoSidedTables$Plain", name := "shift", desc := "()I" } : Jvm.MethodName)) ∈ lw_all := lw_g (lw_at lw_m4 62 rfl) rfl
theorem q915 : (Jvm.Cond.instanceMethod ({ cls := "TwoSidedTables$Odd", name := "codeAt", desc := "(III)I" } : Jvm.MethodName)) ∈ lw_all := lw_g (lw_at lw_m4 94 rfl) rfl
theorem q916 : (Jvm.Cond.code ({ cls := "TwoSidedTables$Odd", name := "codeAt", desc := "(III)I" } : Jvm.MethodName) prog_10_method_4_code (4 : Nat) (Option.some Jvm.ClassFile.FieldType.int)) ∈ lw_all := lw_g (lw_at lw_m4 95 rfl) rfl
theorem q917 : (Jvm.Cond.methodLink "TwoSidedTables$Odd" (13 : Nat) ({ cls := "TwoSidedTables$Odd", name := "codeAt", desc := "(III)I" } : Jvm.MethodName)) ∈ lw_all := lw_g (lw_at lw_m4 96 rfl) rfl
theorem q918 : (Jvm.Cond.methodLink "TwoSidedTables$Odd" (19 : Nat) ({ cls := "TwoSidedTables$Even", name := "codeAt", desc := "(III)I" } : Jvm.MethodName)) ∈ lw_all := lw_g (lw_at lw_m4 97 rfl) rfl
theorem q933 : (Jvm.Cond.selects "TwoSidedTables$Odd" ({ cls := "TwoSidedTables$Plain", name := "codeAt", desc := "(III)I" } : Jvm.MethodName) ({ cls := "TwoSidedTables$Odd", name := "codeAt", desc := "(III)I" } : Jvm.MethodName)) ∈ lw_all := lw_g (lw_at lw_m4 112 rfl) rfl
theorem q963 : (Jvm.Cond.selects "TwoSidedTables$Odd" ({ cls := "TwoSidedTables$Plain", name := "right", desc := "(LTwoSidedTables$Tables;II)J" } : Jvm.MethodName) ({ cls := "TwoSidedTables$Turned", name := "right", desc := "(LTwoSidedTables$Tables;II)J" } : Jvm.MethodName)) ∈ lw_all := lw_g (lw_at lw_m4 142 rfl) rfl
theorem q1062 : (Jvm.Cond.selects "TwoSidedTables$Odd" ({ cls := "TwoSidedTables$Plain", name := "number", desc := "()I" } : Jvm.MethodName) ({ cls := "TwoSidedTables$Plain", name := "number", desc := "()I" } : Jvm.MethodName)) ∈ lw_all := lw_g (lw_at lw_m5 1 rfl) rfl
theorem q1381 : (Jvm.Cond.castable "TwoSidedTables$Odd" "TwoSidedTables$Weighs") ∈ lw_tbl := lw_at lw_m6 80 rfl
theorem q1382 : (Jvm.Cond.selects "TwoSidedTables$Odd" ({ cls := "TwoSidedTables$Weighs", name := "number", desc := "()I" } : Jvm.MethodName) ({ cls := "TwoSidedTables$Plain", name := "number", desc := "()I" } : Jvm.MethodName)) ∈ lw_all := lw_g (lw_at lw_m6 81 rfl) rfl
theorem q1383 : (Jvm.Cond.unhidden "TwoSidedTables$Odd" "number" "()I") ∈ lw_tbl := lw_at lw_m6 82 rfl
theorem q1410 : (Jvm.Cond.castable "TwoSidedTables$Odd" "TwoSidedTables$Closes") ∈ lw_tbl := lw_at lw_m6 109 rfl
theorem q1411 : (Jvm.Cond.selects "TwoSidedTables$Odd" ({ cls := "TwoSidedTables$Weighs", name := "weighs", desc := "(ILTwoSidedTables$Trace;)I" } : Jvm.MethodName) ({ cls := "TwoSidedTables$Odd", name := "weighs", desc := "(ILTwoSidedTables$Trace;)I" } : Jvm.MethodName)) ∈ lw_all := lw_g (lw_at lw_m6 110 rfl) rfl
theorem q1412 : (Jvm.Cond.unhidden "TwoSidedTables$Odd" "weighs" "(ILTwoSidedTables$Trace;)I") ∈ lw_tbl := lw_at lw_m6 111 rfl
theorem q1413 : (Jvm.Cond.instanceMethod ({ cls := "TwoSidedTables$Odd", name := "weighs", desc := "(ILTwoSidedTables$Trace;)I" } : Jvm.MethodName)) ∈ lw_all := lw_g (lw_at lw_m6 112 rfl) rfl
theorem q1414 : (Jvm.Cond.publicMethod ({ cls := "TwoSidedTables$Odd", name := "weighs", desc := "(ILTwoSidedTables$Trace;)I" } : Jvm.MethodName)) ∈ lw_tbl := lw_at lw_m6 113 rfl
theorem q1415 : (Jvm.Cond.code ({ cls := "TwoSidedTables$Odd", name := "weighs", desc := "(ILTwoSidedTables$Trace;)I" } : Jvm.MethodName) prog_10_method_5_code (3 : Nat) (Option.some Jvm.ClassFile.FieldType.int)) ∈ lw_all := lw_g (lw_at lw_m6 114 rfl) rfl
theorem q1416 : (Jvm.Cond.methodLink "TwoSidedTables$Odd" (20 : Nat) ({ cls := "TwoSidedTables$Trace", name := "ran", desc := "(I)V" } : Jvm.MethodName)) ∈ lw_all := lw_g (lw_at lw_m6 115 rfl) rfl
theorem q1417 : (Jvm.Cond.methodLink "TwoSidedTables$Odd" (26 : Nat) ({ cls := "TwoSidedTables$Even", name := "weighs", desc := "(ILTwoSidedTables$Trace;)I" } : Jvm.MethodName)) ∈ lw_all := lw_g (lw_at lw_m6 116 rfl) rfl
theorem q1420 : (Jvm.Cond.methodLink "TwoSidedTables$Odd" (30 : Nat) ({ cls := "TwoSidedTables$Odd", name := "shift", desc := "()I" } : Jvm.MethodName)) ∈ lw_all := lw_g (lw_at lw_m6 119 rfl) rfl
theorem q1421 : (Jvm.Cond.sameMethod "TwoSidedTables$Odd" "TwoSidedTables$Plain" "shift" "()I") ∈ lw_all := lw_g (lw_at lw_m6 120 rfl) rfl
theorem q1423 : (Jvm.Cond.selects "TwoSidedTables$Odd" ({ cls := "TwoSidedTables$Odd", name := "shift", desc := "()I" } : Jvm.MethodName) ({ cls := "TwoSidedTables$Plain", name := "shift", desc := "()I" } : Jvm.MethodName)) ∈ lw_all := lw_g (lw_at lw_m6 122 rfl) rfl
theorem q1448 : (Jvm.Cond.castable "TwoSidedTables$Odd" "TwoSidedTables$Turns") ∈ lw_tbl := lw_at lw_m6 147 rfl
theorem q1467 : (Jvm.Cond.selects "TwoSidedTables$Odd" ({ cls := "TwoSidedTables$Weighs", name := "shift", desc := "()I" } : Jvm.MethodName) ({ cls := "TwoSidedTables$Plain", name := "shift", desc := "()I" } : Jvm.MethodName)) ∈ lw_all := lw_g (lw_at lw_m6 166 rfl) rfl
theorem q1468 : (Jvm.Cond.unhidden "TwoSidedTables$Odd" "shift" "()I") ∈ lw_tbl := lw_at lw_m6 167 rfl
theorem q1487 : (Jvm.Cond.unhidden "TwoSidedTables$Odd" "turns" "(ILTwoSidedTables$Trace;)I") ∈ lw_tbl := lw_at lw_m6 186 rfl
theorem q1505 : (Jvm.Cond.castable "TwoSidedTables$Odd" "TwoSidedTables$Parts") ∈ lw_tbl := lw_at lw_m6 204 rfl
theorem q1518 : (Jvm.Cond.selects "TwoSidedTables$Odd" ({ cls := "TwoSidedTables$Turned", name := "number", desc := "()I" } : Jvm.MethodName) ({ cls := "TwoSidedTables$Plain", name := "number", desc := "()I" } : Jvm.MethodName)) ∈ lw_all := lw_g (lw_at lw_m6 217 rfl) rfl
theorem q1525 : (Jvm.Cond.selects "TwoSidedTables$Odd" ({ cls := "TwoSidedTables$Parts", name := "parts", desc := "(ILTwoSidedTables$Trace;)I" } : Jvm.MethodName) ({ cls := "TwoSidedTables$Turned", name := "parts", desc := "(ILTwoSidedTables$Trace;)I" } : Jvm.MethodName)) ∈ lw_all := lw_g (lw_at lw_m6 224 rfl) rfl
theorem q1526 : (Jvm.Cond.unhidden "TwoSidedTables$Odd" "parts" "(ILTwoSidedTables$Trace;)I") ∈ lw_tbl := lw_at lw_m6 225 rfl
theorem q1551 : (Jvm.Cond.selects "TwoSidedTables$Odd" ({ cls := "TwoSidedTables$Closes", name := "closes", desc := "(ILTwoSidedTables$Trace;)I" } : Jvm.MethodName) ({ cls := "TwoSidedTables$Odd", name := "closes", desc := "(ILTwoSidedTables$Trace;)I" } : Jvm.MethodName)) ∈ lw_all := lw_g (lw_at lw_m7 10 rfl) rfl
theorem q1552 : (Jvm.Cond.unhidden "TwoSidedTables$Odd" "closes" "(ILTwoSidedTables$Trace;)I") ∈ lw_tbl := lw_at lw_m7 11 rfl
theorem q1553 : (Jvm.Cond.instanceMethod ({ cls := "TwoSidedTables$Odd", name := "closes", desc := "(ILTwoSidedTables$Trace;)I" } : Jvm.MethodName)) ∈ lw_all := lw_g (lw_at lw_m7 12 rfl) rfl
theorem q1554 : (Jvm.Cond.publicMethod ({ cls := "TwoSidedTables$Odd", name := "closes", desc := "(ILTwoSidedTables$Trace;)I" } : Jvm.MethodName)) ∈ lw_tbl := lw_at lw_m7 13 rfl
theorem q1555 : (Jvm.Cond.code ({ cls := "TwoSidedTables$Odd", name := "closes", desc := "(ILTwoSidedTables$Trace;)I" } : Jvm.MethodName) prog_10_method_6_code (3 : Nat) (Option.some Jvm.ClassFile.FieldType.int)) ∈ lw_all := lw_g (lw_at lw_m7 14 rfl) rfl
theorem q1556 : (Jvm.Cond.methodLink "TwoSidedTables$Odd" (34 : Nat) ({ cls := "TwoSidedTables$Even", name := "closes", desc := "(ILTwoSidedTables$Trace;)I" } : Jvm.MethodName)) ∈ lw_all := lw_g (lw_at lw_m7 15 rfl) rfl
theorem q2158 : (Jvm.Cond.selects "TwoSidedTables$Odd" ({ cls := "TwoSidedTables$Even", name := "codeAt", desc := "(III)I" } : Jvm.MethodName) ({ cls := "TwoSidedTables$Odd", name := "codeAt", desc := "(III)I" } : Jvm.MethodName)) ∈ lw_all := lw_g (lw_at lw_m9 137 rfl) rfl
theorem q2159 : (Jvm.Cond.selects "TwoSidedTables$Odd" ({ cls := "TwoSidedTables$Odd", name := "codeAt", desc := "(III)I" } : Jvm.MethodName) ({ cls := "TwoSidedTables$Odd", name := "codeAt", desc := "(III)I" } : Jvm.MethodName)) ∈ lw_all := lw_g (lw_at lw_m9 138 rfl) rfl
theorem q2167 : (Jvm.Cond.selects "TwoSidedTables$Odd" ({ cls := "TwoSidedTables$Turned", name := "weighs", desc := "(ILTwoSidedTables$Trace;)I" } : Jvm.MethodName) ({ cls := "TwoSidedTables$Odd", name := "weighs", desc := "(ILTwoSidedTables$Trace;)I" } : Jvm.MethodName)) ∈ lw_all := lw_g (lw_at lw_m9 146 rfl) rfl
theorem q2183 : (Jvm.Cond.castable "TwoSidedTables$Odd" "TwoSidedTables$Plain") ∈ lw_tbl := lw_at lw_m9 162 rfl
theorem q2187 : (Jvm.Cond.castable "TwoSidedTables$Odd" "TwoSidedTables$Turned") ∈ lw_tbl := lw_at lw_m9 166 rfl
theorem q2188 : (Jvm.Cond.castable "TwoSidedTables$Odd" "TwoSidedTables$Even") ∈ lw_tbl := lw_at lw_m9 167 rfl
theorem in_X15 : ∀ w ∈ wsX150, w ∈ lw_all := lw_in wsX150 [780, 781] (by decide +kernel) (by decide +kernel)
/-! java/lang/Integer -/
set_option maxRecDepth 100000
def RJ9 : String := "java/lang/Integer"
abbrev cJ9_bitCount : ByteArray := prog_31_method_49_code
def yJ9_bitCount : MethodName := ⟨RJ9, "bitCount", "(I)I"⟩
def dkwJ9_bitCount_2 : List UInt8 := [26, 16, 63, 126, 172]
abbrev dktJ9_bitCount_2 : List UInt8 := dkwJ9_bitCount_2 ++ []
def dkwJ9_bitCount_1 : List UInt8 := [26, 26, 7, 124, 96, 19, 1, 11, 126, 59, 26, 26, 16, 8, 124, 96, 59, 26, 26, 16, 16, 124, 96, 59]
abbrev dktJ9_bitCount_1 : List UInt8 := dkwJ9_bitCount_1 ++ dktJ9_bitCount_2
def dkwJ9_bitCount_0 : List UInt8 := [26, 26, 4, 124, 19, 1, 9, 126, 100, 59, 26, 19, 1, 10, 126, 26, 5, 124, 19, 1, 10, 126, 96, 59]
abbrev dktJ9_bitCount_0 : List UInt8 := dkwJ9_bitCount_0 ++ dktJ9_bitCount_1
theorem dksJ9_bitCount_0 : cJ9_bitCount.data.toList.drop 0 = dktJ9_bitCount_0 := by decide +kernel
theorem dksJ9_bitCount_1 : cJ9_bitCount.data.toList.drop 24 = dktJ9_bitCount_1 := dk_seg dksJ9_bitCount_0 24 rfl rfl
theorem dksJ9_bitCount_2 : cJ9_bitCount.data.toList.drop 48 = dktJ9_bitCount_2 := dk_seg dksJ9_bitCount_1 24 rfl rfl
theorem dJ9_bitCount_0 : decode cJ9_bitCount 0 = .ok (.iload_n 0, 1) := dk_26 (dk_at dksJ9_bitCount_0 0 rfl rfl)
theorem dJ9_bitCount_1 : decode cJ9_bitCount 1 = .ok (.iload_n 0, 1) := dk_26 (dk_at dksJ9_bitCount_0 1 rfl rfl)
theorem dJ9_bitCount_2 : decode cJ9_bitCount 2 = .ok (.iconst 1, 1) := dk_4 (dk_at dksJ9_bitCount_0 2 rfl rfl)
theorem dJ9_bitCount_3 : decode cJ9_bitCount 3 = .ok (.iushr, 1) := dk_124 (dk_at dksJ9_bitCount_0 3 rfl rfl)
theorem dJ9_bitCount_4 : decode cJ9_bitCount 4 = .ok (.ldc_w 265, 3) := dk_19 1 9 (dk_at dksJ9_bitCount_0 4 rfl rfl)
theorem dJ9_bitCount_7 : decode cJ9_bitCount 7 = .ok (.iand, 1) := dk_126 (dk_at dksJ9_bitCount_0 7 rfl rfl)
theorem dJ9_bitCount_8 : decode cJ9_bitCount 8 = .ok (.isub, 1) := dk_100 (dk_at dksJ9_bitCount_0 8 rfl rfl)
theorem dJ9_bitCount_9 : decode cJ9_bitCount 9 = .ok (.istore_n 0, 1) := dk_59 (dk_at dksJ9_bitCount_0 9 rfl rfl)
theorem dJ9_bitCount_10 : decode cJ9_bitCount 10 = .ok (.iload_n 0, 1) := dk_26 (dk_at dksJ9_bitCount_0 10 rfl rfl)
theorem dJ9_bitCount_11 : decode cJ9_bitCount 11 = .ok (.ldc_w 266, 3) := dk_19 1 10 (dk_at dksJ9_bitCount_0 11 rfl rfl)
theorem dJ9_bitCount_14 : decode cJ9_bitCount 14 = .ok (.iand, 1) := dk_126 (dk_at dksJ9_bitCount_0 14 rfl rfl)
theorem dJ9_bitCount_15 : decode cJ9_bitCount 15 = .ok (.iload_n 0, 1) := dk_26 (dk_at dksJ9_bitCount_0 15 rfl rfl)
theorem dJ9_bitCount_16 : decode cJ9_bitCount 16 = .ok (.iconst 2, 1) := dk_5 (dk_at dksJ9_bitCount_0 16 rfl rfl)
theorem dJ9_bitCount_17 : decode cJ9_bitCount 17 = .ok (.iushr, 1) := dk_124 (dk_at dksJ9_bitCount_0 17 rfl rfl)
theorem dJ9_bitCount_18 : decode cJ9_bitCount 18 = .ok (.ldc_w 266, 3) := dk_19 1 10 (dk_at dksJ9_bitCount_0 18 rfl rfl)
theorem dJ9_bitCount_21 : decode cJ9_bitCount 21 = .ok (.iand, 1) := dk_126 (dk_at dksJ9_bitCount_0 21 rfl rfl)
theorem dJ9_bitCount_22 : decode cJ9_bitCount 22 = .ok (.iadd, 1) := dk_96 (dk_at dksJ9_bitCount_0 22 rfl rfl)
theorem dJ9_bitCount_23 : decode cJ9_bitCount 23 = .ok (.istore_n 0, 1) := dk_59 (dk_at dksJ9_bitCount_0 23 rfl rfl)
theorem dJ9_bitCount_24 : decode cJ9_bitCount 24 = .ok (.iload_n 0, 1) := dk_26 (dk_at dksJ9_bitCount_1 0 rfl rfl)
theorem dJ9_bitCount_25 : decode cJ9_bitCount 25 = .ok (.iload_n 0, 1) := dk_26 (dk_at dksJ9_bitCount_1 1 rfl rfl)
theorem dJ9_bitCount_26 : decode cJ9_bitCount 26 = .ok (.iconst 4, 1) := dk_7 (dk_at dksJ9_bitCount_1 2 rfl rfl)
theorem dJ9_bitCount_27 : decode cJ9_bitCount 27 = .ok (.iushr, 1) := dk_124 (dk_at dksJ9_bitCount_1 3 rfl rfl)
theorem dJ9_bitCount_28 : decode cJ9_bitCount 28 = .ok (.iadd, 1) := dk_96 (dk_at dksJ9_bitCount_1 4 rfl rfl)
theorem dJ9_bitCount_29 : decode cJ9_bitCount 29 = .ok (.ldc_w 267, 3) := dk_19 1 11 (dk_at dksJ9_bitCount_1 5 rfl rfl)
theorem dJ9_bitCount_32 : decode cJ9_bitCount 32 = .ok (.iand, 1) := dk_126 (dk_at dksJ9_bitCount_1 8 rfl rfl)
theorem dJ9_bitCount_33 : decode cJ9_bitCount 33 = .ok (.istore_n 0, 1) := dk_59 (dk_at dksJ9_bitCount_1 9 rfl rfl)
theorem dJ9_bitCount_34 : decode cJ9_bitCount 34 = .ok (.iload_n 0, 1) := dk_26 (dk_at dksJ9_bitCount_1 10 rfl rfl)
theorem dJ9_bitCount_35 : decode cJ9_bitCount 35 = .ok (.iload_n 0, 1) := dk_26 (dk_at dksJ9_bitCount_1 11 rfl rfl)
theorem dJ9_bitCount_36 : decode cJ9_bitCount 36 = .ok (.bipush 8, 2) := dk_16 8 (dk_at dksJ9_bitCount_1 12 rfl rfl)
theorem dJ9_bitCount_38 : decode cJ9_bitCount 38 = .ok (.iushr, 1) := dk_124 (dk_at dksJ9_bitCount_1 14 rfl rfl)
theorem dJ9_bitCount_39 : decode cJ9_bitCount 39 = .ok (.iadd, 1) := dk_96 (dk_at dksJ9_bitCount_1 15 rfl rfl)
theorem dJ9_bitCount_40 : decode cJ9_bitCount 40 = .ok (.istore_n 0, 1) := dk_59 (dk_at dksJ9_bitCount_1 16 rfl rfl)
theorem dJ9_bitCount_41 : decode cJ9_bitCount 41 = .ok (.iload_n 0, 1) := dk_26 (dk_at dksJ9_bitCount_1 17 rfl rfl)
theorem dJ9_bitCount_42 : decode cJ9_bitCount 42 = .ok (.iload_n 0, 1) := dk_26 (dk_at dksJ9_bitCount_1 18 rfl rfl)
theorem dJ9_bitCount_43 : decode cJ9_bitCount 43 = .ok (.bipush 16, 2) := dk_16 16 (dk_at dksJ9_bitCount_1 19 rfl rfl)
theorem dJ9_bitCount_45 : decode cJ9_bitCount 45 = .ok (.iushr, 1) := dk_124 (dk_at dksJ9_bitCount_1 21 rfl rfl)
theorem dJ9_bitCount_46 : decode cJ9_bitCount 46 = .ok (.iadd, 1) := dk_96 (dk_at dksJ9_bitCount_1 22 rfl rfl)
theorem dJ9_bitCount_47 : decode cJ9_bitCount 47 = .ok (.istore_n 0, 1) := dk_59 (dk_at dksJ9_bitCount_1 23 rfl rfl)
theorem dJ9_bitCount_48 : decode cJ9_bitCount 48 = .ok (.iload_n 0, 1) := dk_26 (dk_at dksJ9_bitCount_2 0 rfl rfl)
theorem dJ9_bitCount_49 : decode cJ9_bitCount 49 = .ok (.bipush 63, 2) := dk_16 63 (dk_at dksJ9_bitCount_2 1 rfl rfl)
theorem dJ9_bitCount_51 : decode cJ9_bitCount 51 = .ok (.iand, 1) := dk_126 (dk_at dksJ9_bitCount_2 3 rfl rfl)
theorem dJ9_bitCount_52 : decode cJ9_bitCount 52 = .ok (.ireturn, 1) := dk_172 (dk_at dksJ9_bitCount_2 4 rfl rfl)
theorem q128 : (Jvm.Cond.initialized "java/lang/Integer") ∈ lw_all := lw_g (lw_at lw_m1 27 rfl) rfl
theorem q994 : (Jvm.Cond.static ({ cls := "java/lang/Integer", name := "bitCount", desc := "(I)I" } : Jvm.MethodName)) ∈ lw_all := lw_g (lw_at lw_m4 173 rfl) rfl
theorem q995 : (Jvm.Cond.code ({ cls := "java/lang/Integer", name := "bitCount", desc := "(I)I" } : Jvm.MethodName) prog_31_method_49_code (1 : Nat) (Option.some Jvm.ClassFile.FieldType.int)) ∈ lw_all := lw_g (lw_at lw_m4 174 rfl) rfl
theorem q996 : (Jvm.Cond.constant "java/lang/Integer" (265 : Nat) (1431655765 : Int32)) ∈ lw_all := lw_g (lw_at lw_m4 175 rfl) rfl
theorem q997 : (Jvm.Cond.constant "java/lang/Integer" (266 : Nat) (858993459 : Int32)) ∈ lw_all := lw_g (lw_at lw_m4 176 rfl) rfl
theorem q998 : (Jvm.Cond.constant "java/lang/Integer" (267 : Nat) (252645135 : Int32)) ∈ lw_all := lw_g (lw_at lw_m4 177 rfl) rfl
/-! TwoSidedTables$Loose -/
set_option maxRecDepth 100000
def RX16 : String := "TwoSidedTables$Loose"
def TX16 : u_T := fun k => match k with
  | 0 => ("TwoSidedTables$Plain", "number", "I", true)
  | 1 => ("TwoSidedTables$Plain", "shift", "I", true)
  | _ => ("TwoSidedTables$Loose", "of", "LTwoSidedTables$Plain;", true)
def tyX16 : Nat → FieldType := fun k => match k with
  | 0 => .int
  | 1 => .int
  | _ => .object "TwoSidedTables$Plain"
abbrev wsX160 : List Cond := u_ws RX16 TX16 3
theorem nmX16 : ∀ a, a < 3 → ∀ b, b < 3 → a ≠ b → (TX16 a).2.1 ≠ (TX16 b).2.1 := by decide +kernel
theorem tyX16_ok : ∀ k, k < 3 → parseFieldDescriptor (TX16 k).2.2.1 = some (tyX16 k) := by decide +kernel
abbrev cX16_right : ByteArray := prog_8_method_2_code
def yX16_right : MethodName := ⟨RX16, "right", "(LTwoSidedTables$Tables;II)J"⟩
def dkwX16_right_0 : List UInt8 := [42, 180, 0, 14, 43, 28, 29, 182, 0, 20, 173]
abbrev dktX16_right_0 : List UInt8 := dkwX16_right_0 ++ []
theorem dksX16_right_0 : cX16_right.data.toList.drop 0 = dktX16_right_0 := by decide +kernel
theorem dX16_right_0 : decode cX16_right 0 = .ok (.aload_n 0, 1) := dk_42 (dk_at dksX16_right_0 0 rfl rfl)
theorem dX16_right_1 : decode cX16_right 1 = .ok (.getfield 14, 3) := dk_180 0 14 (dk_at dksX16_right_0 1 rfl rfl)
theorem dX16_right_4 : decode cX16_right 4 = .ok (.aload_n 1, 1) := dk_43 (dk_at dksX16_right_0 4 rfl rfl)
theorem dX16_right_5 : decode cX16_right 5 = .ok (.iload_n 2, 1) := dk_28 (dk_at dksX16_right_0 5 rfl rfl)
theorem dX16_right_6 : decode cX16_right 6 = .ok (.iload_n 3, 1) := dk_29 (dk_at dksX16_right_0 6 rfl rfl)
theorem dX16_right_7 : decode cX16_right 7 = .ok (.invokevirtual 20, 3) := dk_182 0 20 (dk_at dksX16_right_0 7 rfl rfl)
theorem dX16_right_10 : decode cX16_right 10 = .ok (.lreturn, 1) := dk_173 (dk_at dksX16_right_0 10 rfl rfl)
abbrev cX16_init : ByteArray := prog_8_method_1_code
def yX16_init : MethodName := ⟨RX16, "<init>", "(LTwoSidedTables$Plain;)V"⟩
def dkwX16_init_0 : List UInt8 := [42, 43, 182, 0, 1, 43, 182, 0, 7, 183, 0, 10, 42, 43, 181, 0, 14, 177]
abbrev dktX16_init_0 : List UInt8 := dkwX16_init_0 ++ []
theorem dksX16_init_0 : cX16_init.data.toList.drop 0 = dktX16_init_0 := by decide +kernel
theorem dX16_init_0 : decode cX16_init 0 = .ok (.aload_n 0, 1) := dk_42 (dk_at dksX16_init_0 0 rfl rfl)
theorem dX16_init_1 : decode cX16_init 1 = .ok (.aload_n 1, 1) := dk_43 (dk_at dksX16_init_0 1 rfl rfl)
theorem dX16_init_2 : decode cX16_init 2 = .ok (.invokevirtual 1, 3) := dk_182 0 1 (dk_at dksX16_init_0 2 rfl rfl)
theorem dX16_init_5 : decode cX16_init 5 = .ok (.aload_n 1, 1) := dk_43 (dk_at dksX16_init_0 5 rfl rfl)
theorem dX16_init_6 : decode cX16_init 6 = .ok (.invokevirtual 7, 3) := dk_182 0 7 (dk_at dksX16_init_0 6 rfl rfl)
theorem dX16_init_9 : decode cX16_init 9 = .ok (.invokespecial 10, 3) := dk_183 0 10 (dk_at dksX16_init_0 9 rfl rfl)
theorem dX16_init_12 : decode cX16_init 12 = .ok (.aload_n 0, 1) := dk_42 (dk_at dksX16_init_0 12 rfl rfl)
theorem dX16_init_13 : decode cX16_init 13 = .ok (.aload_n 1, 1) := dk_43 (dk_at dksX16_init_0 13 rfl rfl)
theorem dX16_init_14 : decode cX16_init 14 = .ok (.putfield 14, 3) := dk_181 0 14 (dk_at dksX16_init_0 14 rfl rfl)
theorem dX16_init_17 : decode cX16_init 17 = .ok (.return_, 1) := dk_177 (dk_at dksX16_init_0 17 rfl rfl)
theorem q129 : (Jvm.Cond.initialized "TwoSidedTables$Loose") ∈ lw_all := lw_g (lw_at lw_m1 28 rfl) rfl
theorem q812 : (Jvm.Cond.selects "TwoSidedTables$Loose" ({ cls := "TwoSidedTables$Plain", name := "needsSquare", desc := "()Z" } : Jvm.MethodName) ({ cls := "TwoSidedTables$Plain", name := "needsSquare", desc := "()Z" } : Jvm.MethodName)) ∈ lw_all := lw_g (lw_at lw_m3 231 rfl) rfl
theorem q833 : (Jvm.Cond.selects "TwoSidedTables$Loose" ({ cls := "TwoSidedTables$Plain", name := "unknowns", desc := "(II)I" } : Jvm.MethodName) ({ cls := "TwoSidedTables$Plain", name := "unknowns", desc := "(II)I" } : Jvm.MethodName)) ∈ lw_all := lw_g (lw_at lw_m4 12 rfl) rfl
theorem q838 : (Jvm.Cond.sameMethod "TwoSidedTables$Loose" "TwoSidedTables$Plain" "unknowns" "(II)I") ∈ lw_all := lw_g (lw_at lw_m4 17 rfl) rfl
theorem q841 : (Jvm.Cond.superclass "TwoSidedTables$Loose" "TwoSidedTables$Plain") ∈ lw_all := lw_g (lw_at lw_m4 20 rfl) rfl
theorem q864 : (Jvm.Cond.selects "TwoSidedTables$Loose" ({ cls := "TwoSidedTables$Plain", name := "kind", desc := "()I" } : Jvm.MethodName) ({ cls := "TwoSidedTables$Plain", name := "kind", desc := "()I" } : Jvm.MethodName)) ∈ lw_all := lw_g (lw_at lw_m4 43 rfl) rfl
theorem q881 : (Jvm.Cond.selects "TwoSidedTables$Loose" ({ cls := "TwoSidedTables$Plain", name := "shift", desc := "()I" } : Jvm.MethodName) ({ cls := "TwoSidedTables$Plain", name := "shift", desc := "()I" } : Jvm.MethodName)) ∈ lw_all := lw_g (lw_at lw_m4 60 rfl) rfl
theorem q927 : (Jvm.Cond.selects "TwoSidedTables$Loose" ({ cls := "TwoSidedTables$Plain", name := "codeAt", desc := "(III)I" } : Jvm.MethodName) ({ cls := "TwoSidedTables$Plain", name := "codeAt", desc := "(III)I" } : Jvm.MethodName)) ∈ lw_all := lw_g (lw_at lw_m4 106 rfl) rfl
theorem q932 : (Jvm.Cond.sameMethod "TwoSidedTables$Loose" "TwoSidedTables$Plain" "codeAt" "(III)I") ∈ lw_all := lw_g (lw_at lw_m4 111 rfl) rfl
theorem q958 : (Jvm.Cond.selects "TwoSidedTables$Loose" ({ cls := "TwoSidedTables$Plain", name := "right", desc := "(LTwoSidedTables$Tables;II)J" } : Jvm.MethodName) ({ cls := "TwoSidedTables$Loose", name := "right", desc := "(LTwoSidedTables$Tables;II)J" } : Jvm.MethodName)) ∈ lw_all := lw_g (lw_at lw_m4 137 rfl) rfl
theorem q959 : (Jvm.Cond.instanceMethod ({ cls := "TwoSidedTables$Loose", name := "right", desc := "(LTwoSidedTables$Tables;II)J" } : Jvm.MethodName)) ∈ lw_all := lw_g (lw_at lw_m4 138 rfl) rfl
theorem q960 : (Jvm.Cond.code ({ cls := "TwoSidedTables$Loose", name := "right", desc := "(LTwoSidedTables$Tables;II)J" } : Jvm.MethodName) prog_8_method_2_code (4 : Nat) (Option.some Jvm.ClassFile.FieldType.long)) ∈ lw_all := lw_g (lw_at lw_m4 139 rfl) rfl
theorem q961 : (Jvm.Cond.methodLink "TwoSidedTables$Loose" (20 : Nat) ({ cls := "TwoSidedTables$Plain", name := "right", desc := "(LTwoSidedTables$Tables;II)J" } : Jvm.MethodName)) ∈ lw_all := lw_g (lw_at lw_m4 140 rfl) rfl
theorem q1048 : (Jvm.Cond.instantiable "TwoSidedTables$Loose" (3 : Nat)) ∈ lw_all := lw_g (lw_at lw_m4 227 rfl) rfl
theorem q1050 : (Jvm.Cond.instanceMethod ({ cls := "TwoSidedTables$Loose", name := "<init>", desc := "(LTwoSidedTables$Plain;)V" } : Jvm.MethodName)) ∈ lw_all := lw_g (lw_at lw_m4 229 rfl) rfl
theorem q1051 : (Jvm.Cond.code ({ cls := "TwoSidedTables$Loose", name := "<init>", desc := "(LTwoSidedTables$Plain;)V" } : Jvm.MethodName) prog_8_method_1_code (2 : Nat) (Option.none : Option Jvm.ClassFile.FieldType)) ∈ lw_all := lw_g (lw_at lw_m4 230 rfl) rfl
theorem q1052 : (Jvm.Cond.methodLink "TwoSidedTables$Loose" (1 : Nat) ({ cls := "TwoSidedTables$Plain", name := "number", desc := "()I" } : Jvm.MethodName)) ∈ lw_all := lw_g (lw_at lw_m4 231 rfl) rfl
theorem q1060 : (Jvm.Cond.selects "TwoSidedTables$Loose" ({ cls := "TwoSidedTables$Plain", name := "number", desc := "()I" } : Jvm.MethodName) ({ cls := "TwoSidedTables$Plain", name := "number", desc := "()I" } : Jvm.MethodName)) ∈ lw_all := lw_g (lw_at lw_m4 239 rfl) rfl
theorem q1065 : (Jvm.Cond.methodLink "TwoSidedTables$Loose" (7 : Nat) ({ cls := "TwoSidedTables$Plain", name := "shift", desc := "()I" } : Jvm.MethodName)) ∈ lw_all := lw_g (lw_at lw_m5 4 rfl) rfl
theorem q1066 : (Jvm.Cond.methodLink "TwoSidedTables$Loose" (10 : Nat) ({ cls := "TwoSidedTables$Plain", name := "<init>", desc := "(II)V" } : Jvm.MethodName)) ∈ lw_all := lw_g (lw_at lw_m5 5 rfl) rfl
theorem q1067 : (Jvm.Cond.fieldLink "TwoSidedTables$Loose" (14 : Nat) "TwoSidedTables$Loose" "of" "LTwoSidedTables$Plain;") ∈ lw_all := lw_g (lw_at lw_m5 6 rfl) rfl
theorem q1068 : (Jvm.Cond.laysFinal "TwoSidedTables$Loose" "TwoSidedTables$Loose" "of" "LTwoSidedTables$Plain;") ∈ lw_all := lw_g (lw_at lw_m5 7 rfl) rfl
theorem q1069 : (Jvm.Cond.soleField "TwoSidedTables$Loose" "of") ∈ lw_all := lw_g (lw_at lw_m5 8 rfl) rfl
theorem q1070 : (Jvm.Cond.laysFinal "TwoSidedTables$Loose" "TwoSidedTables$Plain" "number" "I") ∈ lw_all := lw_g (lw_at lw_m5 9 rfl) rfl
theorem q1071 : (Jvm.Cond.laysFinal "TwoSidedTables$Loose" "TwoSidedTables$Plain" "shift" "I") ∈ lw_all := lw_g (lw_at lw_m5 10 rfl) rfl
theorem q1375 : (Jvm.Cond.castable "TwoSidedTables$Loose" "TwoSidedTables$Weighs") ∈ lw_tbl := lw_at lw_m6 74 rfl
theorem q1376 : (Jvm.Cond.selects "TwoSidedTables$Loose" ({ cls := "TwoSidedTables$Weighs", name := "number", desc := "()I" } : Jvm.MethodName) ({ cls := "TwoSidedTables$Plain", name := "number", desc := "()I" } : Jvm.MethodName)) ∈ lw_all := lw_g (lw_at lw_m6 75 rfl) rfl
theorem q1377 : (Jvm.Cond.unhidden "TwoSidedTables$Loose" "number" "()I") ∈ lw_tbl := lw_at lw_m6 76 rfl
theorem q1406 : (Jvm.Cond.castable "TwoSidedTables$Loose" "TwoSidedTables$Closes") ∈ lw_tbl := lw_at lw_m6 105 rfl
theorem q1407 : (Jvm.Cond.unhidden "TwoSidedTables$Loose" "weighs" "(ILTwoSidedTables$Trace;)I") ∈ lw_tbl := lw_at lw_m6 106 rfl
theorem q1446 : (Jvm.Cond.castable "TwoSidedTables$Loose" "TwoSidedTables$Turns") ∈ lw_tbl := lw_at lw_m6 145 rfl
theorem q1463 : (Jvm.Cond.selects "TwoSidedTables$Loose" ({ cls := "TwoSidedTables$Weighs", name := "shift", desc := "()I" } : Jvm.MethodName) ({ cls := "TwoSidedTables$Plain", name := "shift", desc := "()I" } : Jvm.MethodName)) ∈ lw_all := lw_g (lw_at lw_m6 162 rfl) rfl
theorem q1464 : (Jvm.Cond.unhidden "TwoSidedTables$Loose" "shift" "()I") ∈ lw_tbl := lw_at lw_m6 163 rfl
theorem q1485 : (Jvm.Cond.unhidden "TwoSidedTables$Loose" "turns" "(ILTwoSidedTables$Trace;)I") ∈ lw_tbl := lw_at lw_m6 184 rfl
theorem q1503 : (Jvm.Cond.castable "TwoSidedTables$Loose" "TwoSidedTables$Parts") ∈ lw_tbl := lw_at lw_m6 202 rfl
theorem q1523 : (Jvm.Cond.unhidden "TwoSidedTables$Loose" "parts" "(ILTwoSidedTables$Trace;)I") ∈ lw_tbl := lw_at lw_m6 222 rfl
theorem q1549 : (Jvm.Cond.unhidden "TwoSidedTables$Loose" "closes" "(ILTwoSidedTables$Trace;)I") ∈ lw_tbl := lw_at lw_m7 8 rfl
theorem q2181 : (Jvm.Cond.castable "TwoSidedTables$Loose" "TwoSidedTables$Plain") ∈ lw_tbl := lw_at lw_m9 160 rfl
theorem in_X16 : ∀ w ∈ wsX160, w ∈ lw_all := lw_in wsX160 [1070, 1071, 1068] (by decide +kernel) (by decide +kernel)
/-! TwoSidedTables$Lower -/
set_option maxRecDepth 100000
def RX17 : String := "TwoSidedTables$Lower"
def TX17 : u_T := fun k => match k with
  | 0 => ("TwoSidedTables$Plain", "number", "I", true)
  | 1 => ("TwoSidedTables$Plain", "shift", "I", true)
  | 2 => ("TwoSidedTables$Loose", "of", "LTwoSidedTables$Plain;", true)
  | _ => ("TwoSidedTables$Lower", "from", "I", true)
def tyX17 : Nat → FieldType := fun k => match k with
  | 0 => .int
  | 1 => .int
  | 2 => .object "TwoSidedTables$Plain"
  | _ => .int
abbrev wsX170 : List Cond := u_ws RX17 TX17 4
theorem nmX17 : ∀ a, a < 4 → ∀ b, b < 4 → a ≠ b → (TX17 a).2.1 ≠ (TX17 b).2.1 := by decide +kernel
theorem tyX17_ok : ∀ k, k < 4 → parseFieldDescriptor (TX17 k).2.2.1 = some (tyX17 k) := by decide +kernel
abbrev cX17_unknowns : ByteArray := prog_9_method_2_code
def yX17_unknowns : MethodName := ⟨RX17, "unknowns", "(II)I"⟩
def dkwX17_unknowns_0 : List UInt8 := [42, 27, 42, 180, 0, 7, 100, 28, 183, 0, 13, 172]
abbrev dktX17_unknowns_0 : List UInt8 := dkwX17_unknowns_0 ++ []
theorem dksX17_unknowns_0 : cX17_unknowns.data.toList.drop 0 = dktX17_unknowns_0 := by decide +kernel
theorem dX17_unknowns_0 : decode cX17_unknowns 0 = .ok (.aload_n 0, 1) := dk_42 (dk_at dksX17_unknowns_0 0 rfl rfl)
theorem dX17_unknowns_1 : decode cX17_unknowns 1 = .ok (.iload_n 1, 1) := dk_27 (dk_at dksX17_unknowns_0 1 rfl rfl)
theorem dX17_unknowns_2 : decode cX17_unknowns 2 = .ok (.aload_n 0, 1) := dk_42 (dk_at dksX17_unknowns_0 2 rfl rfl)
theorem dX17_unknowns_3 : decode cX17_unknowns 3 = .ok (.getfield 7, 3) := dk_180 0 7 (dk_at dksX17_unknowns_0 3 rfl rfl)
theorem dX17_unknowns_6 : decode cX17_unknowns 6 = .ok (.isub, 1) := dk_100 (dk_at dksX17_unknowns_0 6 rfl rfl)
theorem dX17_unknowns_7 : decode cX17_unknowns 7 = .ok (.iload_n 2, 1) := dk_28 (dk_at dksX17_unknowns_0 7 rfl rfl)
theorem dX17_unknowns_8 : decode cX17_unknowns 8 = .ok (.invokespecial 13, 3) := dk_183 0 13 (dk_at dksX17_unknowns_0 8 rfl rfl)
theorem dX17_unknowns_11 : decode cX17_unknowns 11 = .ok (.ireturn, 1) := dk_172 (dk_at dksX17_unknowns_0 11 rfl rfl)
abbrev cX17_codeAt : ByteArray := prog_9_method_3_code
def yX17_codeAt : MethodName := ⟨RX17, "codeAt", "(III)I"⟩
def dkwX17_codeAt_1 : List UInt8 := [172]
abbrev dktX17_codeAt_1 : List UInt8 := dkwX17_codeAt_1 ++ []
def dkwX17_codeAt_0 : List UInt8 := [27, 42, 180, 0, 7, 162, 0, 7, 3, 167, 0, 15, 42, 27, 42, 180, 0, 7, 100, 28, 29, 183, 0, 17]
abbrev dktX17_codeAt_0 : List UInt8 := dkwX17_codeAt_0 ++ dktX17_codeAt_1
theorem dksX17_codeAt_0 : cX17_codeAt.data.toList.drop 0 = dktX17_codeAt_0 := by decide +kernel
theorem dksX17_codeAt_1 : cX17_codeAt.data.toList.drop 24 = dktX17_codeAt_1 := dk_seg dksX17_codeAt_0 24 rfl rfl
theorem dX17_codeAt_0 : decode cX17_codeAt 0 = .ok (.iload_n 1, 1) := dk_27 (dk_at dksX17_codeAt_0 0 rfl rfl)
theorem dX17_codeAt_1 : decode cX17_codeAt 1 = .ok (.aload_n 0, 1) := dk_42 (dk_at dksX17_codeAt_0 1 rfl rfl)
theorem dX17_codeAt_2 : decode cX17_codeAt 2 = .ok (.getfield 7, 3) := dk_180 0 7 (dk_at dksX17_codeAt_0 2 rfl rfl)
theorem dX17_codeAt_5 : decode cX17_codeAt 5 = .ok (.if_icmp .ge 7, 3) := dk_162 0 7 (dk_at dksX17_codeAt_0 5 rfl rfl)
theorem dX17_codeAt_8 : decode cX17_codeAt 8 = .ok (.iconst 0, 1) := dk_3 (dk_at dksX17_codeAt_0 8 rfl rfl)
theorem dX17_codeAt_9 : decode cX17_codeAt 9 = .ok (.goto 15, 3) := dk_167 0 15 (dk_at dksX17_codeAt_0 9 rfl rfl)
theorem dX17_codeAt_12 : decode cX17_codeAt 12 = .ok (.aload_n 0, 1) := dk_42 (dk_at dksX17_codeAt_0 12 rfl rfl)
theorem dX17_codeAt_13 : decode cX17_codeAt 13 = .ok (.iload_n 1, 1) := dk_27 (dk_at dksX17_codeAt_0 13 rfl rfl)
theorem dX17_codeAt_14 : decode cX17_codeAt 14 = .ok (.aload_n 0, 1) := dk_42 (dk_at dksX17_codeAt_0 14 rfl rfl)
theorem dX17_codeAt_15 : decode cX17_codeAt 15 = .ok (.getfield 7, 3) := dk_180 0 7 (dk_at dksX17_codeAt_0 15 rfl rfl)
theorem dX17_codeAt_18 : decode cX17_codeAt 18 = .ok (.isub, 1) := dk_100 (dk_at dksX17_codeAt_0 18 rfl rfl)
theorem dX17_codeAt_19 : decode cX17_codeAt 19 = .ok (.iload_n 2, 1) := dk_28 (dk_at dksX17_codeAt_0 19 rfl rfl)
theorem dX17_codeAt_20 : decode cX17_codeAt 20 = .ok (.iload_n 3, 1) := dk_29 (dk_at dksX17_codeAt_0 20 rfl rfl)
theorem dX17_codeAt_21 : decode cX17_codeAt 21 = .ok (.invokespecial 17, 3) := dk_183 0 17 (dk_at dksX17_codeAt_0 21 rfl rfl)
theorem dX17_codeAt_24 : decode cX17_codeAt 24 = .ok (.ireturn, 1) := dk_172 (dk_at dksX17_codeAt_1 0 rfl rfl)
abbrev cX17_init : ByteArray := prog_9_method_1_code
def yX17_init : MethodName := ⟨RX17, "<init>", "(LTwoSidedTables$Plain;I)V"⟩
def dkwX17_init_0 : List UInt8 := [42, 43, 183, 0, 1, 42, 28, 181, 0, 7, 177]
abbrev dktX17_init_0 : List UInt8 := dkwX17_init_0 ++ []
theorem dksX17_init_0 : cX17_init.data.toList.drop 0 = dktX17_init_0 := by decide +kernel
theorem dX17_init_0 : decode cX17_init 0 = .ok (.aload_n 0, 1) := dk_42 (dk_at dksX17_init_0 0 rfl rfl)
theorem dX17_init_1 : decode cX17_init 1 = .ok (.aload_n 1, 1) := dk_43 (dk_at dksX17_init_0 1 rfl rfl)
theorem dX17_init_2 : decode cX17_init 2 = .ok (.invokespecial 1, 3) := dk_183 0 1 (dk_at dksX17_init_0 2 rfl rfl)
theorem dX17_init_5 : decode cX17_init 5 = .ok (.aload_n 0, 1) := dk_42 (dk_at dksX17_init_0 5 rfl rfl)
theorem dX17_init_6 : decode cX17_init 6 = .ok (.iload_n 2, 1) := dk_28 (dk_at dksX17_init_0 6 rfl rfl)
theorem dX17_init_7 : decode cX17_init 7 = .ok (.putfield 7, 3) := dk_181 0 7 (dk_at dksX17_init_0 7 rfl rfl)
theorem dX17_init_10 : decode cX17_init 10 = .ok (.return_, 1) := dk_177 (dk_at dksX17_init_0 10 rfl rfl)
theorem q130 : (Jvm.Cond.initialized "TwoSidedTables$Lower") ∈ lw_all := lw_g (lw_at lw_m1 29 rfl) rfl
theorem q813 : (Jvm.Cond.selects "TwoSidedTables$Lower" ({ cls := "TwoSidedTables$Plain", name := "needsSquare", desc := "()Z" } : Jvm.MethodName) ({ cls := "TwoSidedTables$Plain", name := "needsSquare", desc := "()Z" } : Jvm.MethodName)) ∈ lw_all := lw_g (lw_at lw_m3 232 rfl) rfl
theorem q834 : (Jvm.Cond.selects "TwoSidedTables$Lower" ({ cls := "TwoSidedTables$Plain", name := "unknowns", desc := "(II)I" } : Jvm.MethodName) ({ cls := "TwoSidedTables$Lower", name := "unknowns", desc := "(II)I" } : Jvm.MethodName)) ∈ lw_all := lw_g (lw_at lw_m4 13 rfl) rfl
theorem q835 : (Jvm.Cond.instanceMethod ({ cls := "TwoSidedTables$Lower", name := "unknowns", desc := "(II)I" } : Jvm.MethodName)) ∈ lw_all := lw_g (lw_at lw_m4 14 rfl) rfl
theorem q836 : (Jvm.Cond.code ({ cls := "TwoSidedTables$Lower", name := "unknowns", desc := "(II)I" } : Jvm.MethodName) prog_9_method_2_code (3 : Nat) (Option.some Jvm.ClassFile.FieldType.int)) ∈ lw_all := lw_g (lw_at lw_m4 15 rfl) rfl
theorem q837 : (Jvm.Cond.methodLink "TwoSidedTables$Lower" (13 : Nat) ({ cls := "TwoSidedTables$Loose", name := "unknowns", desc := "(II)I" } : Jvm.MethodName)) ∈ lw_all := lw_g (lw_at lw_m4 16 rfl) rfl
theorem q840 : (Jvm.Cond.superclass "TwoSidedTables$Lower" "TwoSidedTables$Loose") ∈ lw_all := lw_g (lw_at lw_m4 19 rfl) rfl
theorem q865 : (Jvm.Cond.selects "TwoSidedTables$Lower" ({ cls := "TwoSidedTables$Plain", name := "kind", desc := "()I" } : Jvm.MethodName) ({ cls := "TwoSidedTables$Plain", name := "kind", desc := "()I" } : Jvm.MethodName)) ∈ lw_all := lw_g (lw_at lw_m4 44 rfl) rfl
theorem q882 : (Jvm.Cond.selects "TwoSidedTables$Lower" ({ cls := "TwoSidedTables$Plain", name := "shift", desc := "()I" } : Jvm.MethodName) ({ cls := "TwoSidedTables$Plain", name := "shift", desc := "()I" } : Jvm.MethodName)) ∈ lw_all := lw_g (lw_at lw_m4 61 rfl) rfl
theorem q928 : (Jvm.Cond.selects "TwoSidedTables$Lower" ({ cls := "TwoSidedTables$Plain", name := "codeAt", desc := "(III)I" } : Jvm.MethodName) ({ cls := "TwoSidedTables$Lower", name := "codeAt", desc := "(III)I" } : Jvm.MethodName)) ∈ lw_all := lw_g (lw_at lw_m4 107 rfl) rfl
theorem q929 : (Jvm.Cond.instanceMethod ({ cls := "TwoSidedTables$Lower", name := "codeAt", desc := "(III)I" } : Jvm.MethodName)) ∈ lw_all := lw_g (lw_at lw_m4 108 rfl) rfl
theorem q930 : (Jvm.Cond.code ({ cls := "TwoSidedTables$Lower", name := "codeAt", desc := "(III)I" } : Jvm.MethodName) prog_9_method_3_code (4 : Nat) (Option.some Jvm.ClassFile.FieldType.int)) ∈ lw_all := lw_g (lw_at lw_m4 109 rfl) rfl
theorem q931 : (Jvm.Cond.methodLink "TwoSidedTables$Lower" (17 : Nat) ({ cls := "TwoSidedTables$Loose", name := "codeAt", desc := "(III)I" } : Jvm.MethodName)) ∈ lw_all := lw_g (lw_at lw_m4 110 rfl) rfl
theorem q962 : (Jvm.Cond.selects "TwoSidedTables$Lower" ({ cls := "TwoSidedTables$Plain", name := "right", desc := "(LTwoSidedTables$Tables;II)J" } : Jvm.MethodName) ({ cls := "TwoSidedTables$Loose", name := "right", desc := "(LTwoSidedTables$Tables;II)J" } : Jvm.MethodName)) ∈ lw_all := lw_g (lw_at lw_m4 141 rfl) rfl
theorem q1061 : (Jvm.Cond.selects "TwoSidedTables$Lower" ({ cls := "TwoSidedTables$Plain", name := "number", desc := "()I" } : Jvm.MethodName) ({ cls := "TwoSidedTables$Plain", name := "number", desc := "()I" } : Jvm.MethodName)) ∈ lw_all := lw_g (lw_at lw_m5 0 rfl) rfl
theorem q1085 : (Jvm.Cond.instantiable "TwoSidedTables$Lower" (4 : Nat)) ∈ lw_all := lw_g (lw_at lw_m5 24 rfl) rfl
theorem q1087 : (Jvm.Cond.instanceMethod ({ cls := "TwoSidedTables$Lower", name := "<init>", desc := "(LTwoSidedTables$Plain;I)V" } : Jvm.MethodName)) ∈ lw_all := lw_g (lw_at lw_m5 26 rfl) rfl
theorem q1088 : (Jvm.Cond.code ({ cls := "TwoSidedTables$Lower", name := "<init>", desc := "(LTwoSidedTables$Plain;I)V" } : Jvm.MethodName) prog_9_method_1_code (3 : Nat) (Option.none : Option Jvm.ClassFile.FieldType)) ∈ lw_all := lw_g (lw_at lw_m5 27 rfl) rfl
theorem q1089 : (Jvm.Cond.methodLink "TwoSidedTables$Lower" (1 : Nat) ({ cls := "TwoSidedTables$Loose", name := "<init>", desc := "(LTwoSidedTables$Plain;)V" } : Jvm.MethodName)) ∈ lw_all := lw_g (lw_at lw_m5 28 rfl) rfl
theorem q1090 : (Jvm.Cond.fieldLink "TwoSidedTables$Lower" (7 : Nat) "TwoSidedTables$Lower" "from" "I") ∈ lw_all := lw_g (lw_at lw_m5 29 rfl) rfl
theorem q1091 : (Jvm.Cond.laysFinal "TwoSidedTables$Lower" "TwoSidedTables$Lower" "from" "I") ∈ lw_all := lw_g (lw_at lw_m5 30 rfl) rfl
theorem q1092 : (Jvm.Cond.soleField "TwoSidedTables$Lower" "from") ∈ lw_all := lw_g (lw_at lw_m5 31 rfl) rfl
theorem q1093 : (Jvm.Cond.laysFinal "TwoSidedTables$Lower" "TwoSidedTables$Loose" "of" "LTwoSidedTables$Plain;") ∈ lw_all := lw_g (lw_at lw_m5 32 rfl) rfl
theorem q1094 : (Jvm.Cond.laysFinal "TwoSidedTables$Lower" "TwoSidedTables$Plain" "number" "I") ∈ lw_all := lw_g (lw_at lw_m5 33 rfl) rfl
theorem q1095 : (Jvm.Cond.laysFinal "TwoSidedTables$Lower" "TwoSidedTables$Plain" "shift" "I") ∈ lw_all := lw_g (lw_at lw_m5 34 rfl) rfl
theorem q1378 : (Jvm.Cond.castable "TwoSidedTables$Lower" "TwoSidedTables$Weighs") ∈ lw_tbl := lw_at lw_m6 77 rfl
theorem q1379 : (Jvm.Cond.selects "TwoSidedTables$Lower" ({ cls := "TwoSidedTables$Weighs", name := "number", desc := "()I" } : Jvm.MethodName) ({ cls := "TwoSidedTables$Plain", name := "number", desc := "()I" } : Jvm.MethodName)) ∈ lw_all := lw_g (lw_at lw_m6 78 rfl) rfl
theorem q1380 : (Jvm.Cond.unhidden "TwoSidedTables$Lower" "number" "()I") ∈ lw_tbl := lw_at lw_m6 79 rfl
theorem q1408 : (Jvm.Cond.castable "TwoSidedTables$Lower" "TwoSidedTables$Closes") ∈ lw_tbl := lw_at lw_m6 107 rfl
theorem q1409 : (Jvm.Cond.unhidden "TwoSidedTables$Lower" "weighs" "(ILTwoSidedTables$Trace;)I") ∈ lw_tbl := lw_at lw_m6 108 rfl
theorem q1447 : (Jvm.Cond.castable "TwoSidedTables$Lower" "TwoSidedTables$Turns") ∈ lw_tbl := lw_at lw_m6 146 rfl
theorem q1465 : (Jvm.Cond.selects "TwoSidedTables$Lower" ({ cls := "TwoSidedTables$Weighs", name := "shift", desc := "()I" } : Jvm.MethodName) ({ cls := "TwoSidedTables$Plain", name := "shift", desc := "()I" } : Jvm.MethodName)) ∈ lw_all := lw_g (lw_at lw_m6 164 rfl) rfl
theorem q1466 : (Jvm.Cond.unhidden "TwoSidedTables$Lower" "shift" "()I") ∈ lw_tbl := lw_at lw_m6 165 rfl
theorem q1486 : (Jvm.Cond.unhidden "TwoSidedTables$Lower" "turns" "(ILTwoSidedTables$Trace;)I") ∈ lw_tbl := lw_at lw_m6 185 rfl
theorem q1504 : (Jvm.Cond.castable "TwoSidedTables$Lower" "TwoSidedTables$Parts") ∈ lw_tbl := lw_at lw_m6 203 rfl
theorem q1524 : (Jvm.Cond.unhidden "TwoSidedTables$Lower" "parts" "(ILTwoSidedTables$Trace;)I") ∈ lw_tbl := lw_at lw_m6 223 rfl
theorem q1550 : (Jvm.Cond.unhidden "TwoSidedTables$Lower" "closes" "(ILTwoSidedTables$Trace;)I") ∈ lw_tbl := lw_at lw_m7 9 rfl
theorem q2182 : (Jvm.Cond.castable "TwoSidedTables$Lower" "TwoSidedTables$Plain") ∈ lw_tbl := lw_at lw_m9 161 rfl
theorem in_X17 : ∀ w ∈ wsX170, w ∈ lw_all := lw_in wsX170 [1094, 1095, 1093, 1091] (by decide +kernel) (by decide +kernel)
/-! java/lang/ClassCastException -/
set_option maxRecDepth 100000
def RJ10 : String := "java/lang/ClassCastException"
def TJ10 : u_T := fun k => match k with
  | 0 => ("java/lang/Throwable", "backtrace", "Ljava/lang/Object;", false)
  | 1 => ("java/lang/Throwable", "detailMessage", "Ljava/lang/String;", false)
  | 2 => ("java/lang/Throwable", "cause", "Ljava/lang/Throwable;", false)
  | 3 => ("java/lang/Throwable", "stackTrace", "[Ljava/lang/StackTraceElement;", false)
  | 4 => ("java/lang/Throwable", "depth", "I", false)
  | _ => ("java/lang/Throwable", "suppressedExceptions", "Ljava/util/List;", false)
def tyJ10 : Nat → FieldType := fun k => match k with
  | 0 => .object "java/lang/Object"
  | 1 => .object "java/lang/String"
  | 2 => .object "java/lang/Throwable"
  | 3 => .array (.object "java/lang/StackTraceElement")
  | 4 => .int
  | _ => .object "java/util/List"
abbrev wsJ100 : List Cond := u_ws RJ10 TJ10 6
theorem nmJ10 : ∀ a, a < 6 → ∀ b, b < 6 → a ≠ b → (TJ10 a).2.1 ≠ (TJ10 b).2.1 := by decide +kernel
theorem tyJ10_ok : ∀ k, k < 6 → parseFieldDescriptor (TJ10 k).2.2.1 = some (tyJ10 k) := by decide +kernel
abbrev cJ10_init : ByteArray := prog_28_method_2_code
def yJ10_init : MethodName := ⟨RJ10, "<init>", "(Ljava/lang/String;)V"⟩
def dkwJ10_init_0 : List UInt8 := [42, 43, 183, 0, 7, 177]
abbrev dktJ10_init_0 : List UInt8 := dkwJ10_init_0 ++ []
theorem dksJ10_init_0 : cJ10_init.data.toList.drop 0 = dktJ10_init_0 := by decide +kernel
theorem dJ10_init_0 : decode cJ10_init 0 = .ok (.aload_n 0, 1) := dk_42 (dk_at dksJ10_init_0 0 rfl rfl)
theorem dJ10_init_1 : decode cJ10_init 1 = .ok (.aload_n 1, 1) := dk_43 (dk_at dksJ10_init_0 1 rfl rfl)
theorem dJ10_init_2 : decode cJ10_init 2 = .ok (.invokespecial 7, 3) := dk_183 0 7 (dk_at dksJ10_init_0 2 rfl rfl)
theorem dJ10_init_5 : decode cJ10_init 5 = .ok (.return_, 1) := dk_177 (dk_at dksJ10_init_0 5 rfl rfl)
theorem q131 : (Jvm.Cond.initialized "java/lang/ClassCastException") ∈ lw_all := lw_g (lw_at lw_m1 30 rfl) rfl
theorem q184 : (Jvm.Cond.selects "java/lang/ClassCastException" ({ cls := "java/lang/Throwable", name := "fillInStackTrace", desc := "()Ljava/lang/Throwable;" } : Jvm.MethodName) ({ cls := "java/lang/Throwable", name := "fillInStackTrace", desc := "()Ljava/lang/Throwable;" } : Jvm.MethodName)) ∈ lw_all := lw_g (lw_at lw_m1 83 rfl) rfl
theorem q1135 : (Jvm.Cond.instantiable "java/lang/ClassCastException" (6 : Nat)) ∈ lw_all := lw_g (lw_at lw_m5 74 rfl) rfl
theorem q1136 : (Jvm.Cond.instanceMethod ({ cls := "java/lang/ClassCastException", name := "<init>", desc := "(Ljava/lang/String;)V" } : Jvm.MethodName)) ∈ lw_all := lw_g (lw_at lw_m5 75 rfl) rfl
theorem q1137 : (Jvm.Cond.code ({ cls := "java/lang/ClassCastException", name := "<init>", desc := "(Ljava/lang/String;)V" } : Jvm.MethodName) prog_28_method_2_code (2 : Nat) (Option.none : Option Jvm.ClassFile.FieldType)) ∈ lw_all := lw_g (lw_at lw_m5 76 rfl) rfl
theorem q1138 : (Jvm.Cond.methodLink "java/lang/ClassCastException" (7 : Nat) ({ cls := "java/lang/RuntimeException", name := "<init>", desc := "(Ljava/lang/String;)V" } : Jvm.MethodName)) ∈ lw_all := lw_g (lw_at lw_m5 77 rfl) rfl
theorem q1139 : (Jvm.Cond.lays "java/lang/ClassCastException" "java/lang/Throwable" "backtrace" "Ljava/lang/Object;") ∈ lw_all := lw_g (lw_at lw_m5 78 rfl) rfl
theorem q1140 : (Jvm.Cond.lays "java/lang/ClassCastException" "java/lang/Throwable" "detailMessage" "Ljava/lang/String;") ∈ lw_all := lw_g (lw_at lw_m5 79 rfl) rfl
theorem q1141 : (Jvm.Cond.lays "java/lang/ClassCastException" "java/lang/Throwable" "cause" "Ljava/lang/Throwable;") ∈ lw_all := lw_g (lw_at lw_m5 80 rfl) rfl
theorem q1142 : (Jvm.Cond.lays "java/lang/ClassCastException" "java/lang/Throwable" "stackTrace" "[Ljava/lang/StackTraceElement;") ∈ lw_all := lw_g (lw_at lw_m5 81 rfl) rfl
theorem q1143 : (Jvm.Cond.lays "java/lang/ClassCastException" "java/lang/Throwable" "depth" "I") ∈ lw_all := lw_g (lw_at lw_m5 82 rfl) rfl
theorem q1144 : (Jvm.Cond.lays "java/lang/ClassCastException" "java/lang/Throwable" "suppressedExceptions" "Ljava/util/List;") ∈ lw_all := lw_g (lw_at lw_m5 83 rfl) rfl
theorem q1145 : (Jvm.Cond.superclass "java/lang/ClassCastException" "java/lang/RuntimeException") ∈ lw_all := lw_g (lw_at lw_m5 84 rfl) rfl
theorem q1146 : (Jvm.Cond.castable "java/lang/ClassCastException" "java/lang/ClassCastException") ∈ lw_tbl := lw_at lw_m5 85 rfl
theorem q1147 : (Jvm.Cond.selects "java/lang/ClassCastException" ({ cls := "java/lang/Throwable", name := "fillInStackTrace", desc := "(I)Ljava/lang/Throwable;" } : Jvm.MethodName) ({ cls := "java/lang/Throwable", name := "fillInStackTrace", desc := "(I)Ljava/lang/Throwable;" } : Jvm.MethodName)) ∈ lw_all := lw_g (lw_at lw_m5 86 rfl) rfl
theorem in_J10 : ∀ w ∈ wsJ100, w ∈ lw_all := lw_in wsJ100 [1139, 1140, 1141, 1142, 1143, 1144] (by decide +kernel) (by decide +kernel)
/-! java/lang/NegativeArraySizeException -/
set_option maxRecDepth 100000
def RJ11 : String := "java/lang/NegativeArraySizeException"
def TJ11 : u_T := fun k => match k with
  | 0 => ("java/lang/Throwable", "backtrace", "Ljava/lang/Object;", false)
  | 1 => ("java/lang/Throwable", "detailMessage", "Ljava/lang/String;", false)
  | 2 => ("java/lang/Throwable", "cause", "Ljava/lang/Throwable;", false)
  | 3 => ("java/lang/Throwable", "stackTrace", "[Ljava/lang/StackTraceElement;", false)
  | 4 => ("java/lang/Throwable", "depth", "I", false)
  | _ => ("java/lang/Throwable", "suppressedExceptions", "Ljava/util/List;", false)
def tyJ11 : Nat → FieldType := fun k => match k with
  | 0 => .object "java/lang/Object"
  | 1 => .object "java/lang/String"
  | 2 => .object "java/lang/Throwable"
  | 3 => .array (.object "java/lang/StackTraceElement")
  | 4 => .int
  | _ => .object "java/util/List"
abbrev wsJ110 : List Cond := u_ws RJ11 TJ11 6
theorem nmJ11 : ∀ a, a < 6 → ∀ b, b < 6 → a ≠ b → (TJ11 a).2.1 ≠ (TJ11 b).2.1 := by decide +kernel
theorem tyJ11_ok : ∀ k, k < 6 → parseFieldDescriptor (TJ11 k).2.2.1 = some (tyJ11 k) := by decide +kernel
abbrev cJ11_init : ByteArray := prog_33_method_2_code
def yJ11_init : MethodName := ⟨RJ11, "<init>", "(Ljava/lang/String;)V"⟩
def dkwJ11_init_0 : List UInt8 := [42, 43, 183, 0, 7, 177]
abbrev dktJ11_init_0 : List UInt8 := dkwJ11_init_0 ++ []
theorem dksJ11_init_0 : cJ11_init.data.toList.drop 0 = dktJ11_init_0 := by decide +kernel
theorem dJ11_init_0 : decode cJ11_init 0 = .ok (.aload_n 0, 1) := dk_42 (dk_at dksJ11_init_0 0 rfl rfl)
theorem dJ11_init_1 : decode cJ11_init 1 = .ok (.aload_n 1, 1) := dk_43 (dk_at dksJ11_init_0 1 rfl rfl)
theorem dJ11_init_2 : decode cJ11_init 2 = .ok (.invokespecial 7, 3) := dk_183 0 7 (dk_at dksJ11_init_0 2 rfl rfl)
theorem dJ11_init_5 : decode cJ11_init 5 = .ok (.return_, 1) := dk_177 (dk_at dksJ11_init_0 5 rfl rfl)
theorem q132 : (Jvm.Cond.initialized "java/lang/NegativeArraySizeException") ∈ lw_all := lw_g (lw_at lw_m1 31 rfl) rfl
theorem q185 : (Jvm.Cond.selects "java/lang/NegativeArraySizeException" ({ cls := "java/lang/Throwable", name := "fillInStackTrace", desc := "()Ljava/lang/Throwable;" } : Jvm.MethodName) ({ cls := "java/lang/Throwable", name := "fillInStackTrace", desc := "()Ljava/lang/Throwable;" } : Jvm.MethodName)) ∈ lw_all := lw_g (lw_at lw_m1 84 rfl) rfl
theorem q1204 : (Jvm.Cond.instantiable "java/lang/NegativeArraySizeException" (6 : Nat)) ∈ lw_all := lw_g (lw_at lw_m5 143 rfl) rfl
theorem q1205 : (Jvm.Cond.instanceMethod ({ cls := "java/lang/NegativeArraySizeException", name := "<init>", desc := "(Ljava/lang/String;)V" } : Jvm.MethodName)) ∈ lw_all := lw_g (lw_at lw_m5 144 rfl) rfl
theorem q1206 : (Jvm.Cond.code ({ cls := "java/lang/NegativeArraySizeException", name := "<init>", desc := "(Ljava/lang/String;)V" } : Jvm.MethodName) prog_33_method_2_code (2 : Nat) (Option.none : Option Jvm.ClassFile.FieldType)) ∈ lw_all := lw_g (lw_at lw_m5 145 rfl) rfl
theorem q1207 : (Jvm.Cond.methodLink "java/lang/NegativeArraySizeException" (7 : Nat) ({ cls := "java/lang/RuntimeException", name := "<init>", desc := "(Ljava/lang/String;)V" } : Jvm.MethodName)) ∈ lw_all := lw_g (lw_at lw_m5 146 rfl) rfl
theorem q1208 : (Jvm.Cond.lays "java/lang/NegativeArraySizeException" "java/lang/Throwable" "backtrace" "Ljava/lang/Object;") ∈ lw_all := lw_g (lw_at lw_m5 147 rfl) rfl
theorem q1209 : (Jvm.Cond.lays "java/lang/NegativeArraySizeException" "java/lang/Throwable" "detailMessage" "Ljava/lang/String;") ∈ lw_all := lw_g (lw_at lw_m5 148 rfl) rfl
theorem q1210 : (Jvm.Cond.lays "java/lang/NegativeArraySizeException" "java/lang/Throwable" "cause" "Ljava/lang/Throwable;") ∈ lw_all := lw_g (lw_at lw_m5 149 rfl) rfl
theorem q1211 : (Jvm.Cond.lays "java/lang/NegativeArraySizeException" "java/lang/Throwable" "stackTrace" "[Ljava/lang/StackTraceElement;") ∈ lw_all := lw_g (lw_at lw_m5 150 rfl) rfl
theorem q1212 : (Jvm.Cond.lays "java/lang/NegativeArraySizeException" "java/lang/Throwable" "depth" "I") ∈ lw_all := lw_g (lw_at lw_m5 151 rfl) rfl
theorem q1213 : (Jvm.Cond.lays "java/lang/NegativeArraySizeException" "java/lang/Throwable" "suppressedExceptions" "Ljava/util/List;") ∈ lw_all := lw_g (lw_at lw_m5 152 rfl) rfl
theorem q1214 : (Jvm.Cond.superclass "java/lang/NegativeArraySizeException" "java/lang/RuntimeException") ∈ lw_all := lw_g (lw_at lw_m5 153 rfl) rfl
theorem q1215 : (Jvm.Cond.castable "java/lang/NegativeArraySizeException" "java/lang/NegativeArraySizeException") ∈ lw_tbl := lw_at lw_m5 154 rfl
theorem q1216 : (Jvm.Cond.selects "java/lang/NegativeArraySizeException" ({ cls := "java/lang/Throwable", name := "fillInStackTrace", desc := "(I)Ljava/lang/Throwable;" } : Jvm.MethodName) ({ cls := "java/lang/Throwable", name := "fillInStackTrace", desc := "(I)Ljava/lang/Throwable;" } : Jvm.MethodName)) ∈ lw_all := lw_g (lw_at lw_m5 155 rfl) rfl
theorem in_J11 : ∀ w ∈ wsJ110, w ∈ lw_all := lw_in wsJ110 [1208, 1209, 1210, 1211, 1212, 1213] (by decide +kernel) (by decide +kernel)
/-! java/lang/NullPointerException -/
set_option maxRecDepth 100000
def RJ12 : String := "java/lang/NullPointerException"
def TJ12 : u_T := fun k => match k with
  | 0 => ("java/lang/Throwable", "backtrace", "Ljava/lang/Object;", false)
  | 1 => ("java/lang/Throwable", "detailMessage", "Ljava/lang/String;", false)
  | 2 => ("java/lang/Throwable", "cause", "Ljava/lang/Throwable;", false)
  | 3 => ("java/lang/Throwable", "stackTrace", "[Ljava/lang/StackTraceElement;", false)
  | 4 => ("java/lang/Throwable", "depth", "I", false)
  | 5 => ("java/lang/Throwable", "suppressedExceptions", "Ljava/util/List;", false)
  | 6 => ("java/lang/NullPointerException", "extendedMessageState", "I", false)
  | _ => ("java/lang/NullPointerException", "extendedMessage", "Ljava/lang/String;", false)
def tyJ12 : Nat → FieldType := fun k => match k with
  | 0 => .object "java/lang/Object"
  | 1 => .object "java/lang/String"
  | 2 => .object "java/lang/Throwable"
  | 3 => .array (.object "java/lang/StackTraceElement")
  | 4 => .int
  | 5 => .object "java/util/List"
  | 6 => .int
  | _ => .object "java/lang/String"
abbrev wsJ120 : List Cond := u_ws RJ12 TJ12 8
theorem nmJ12 : ∀ a, a < 8 → ∀ b, b < 8 → a ≠ b → (TJ12 a).2.1 ≠ (TJ12 b).2.1 := by decide +kernel
theorem tyJ12_ok : ∀ k, k < 8 → parseFieldDescriptor (TJ12 k).2.2.1 = some (tyJ12 k) := by decide +kernel
abbrev cJ12_init : ByteArray := prog_34_method_1_code
def yJ12_init : MethodName := ⟨RJ12, "<init>", "()V"⟩
theorem dJ12_init_0 : decode cJ12_init 0 = .ok (.aload_n 0, 1) := by decide +kernel
theorem dJ12_init_1 : decode cJ12_init 1 = .ok (.invokespecial 1, 3) := by decide +kernel
theorem dJ12_init_4 : decode cJ12_init 4 = .ok (.return_, 1) := by decide +kernel
theorem q133 : (Jvm.Cond.initialized "java/lang/NullPointerException") ∈ lw_all := lw_g (lw_at lw_m1 32 rfl) rfl
theorem q186 : (Jvm.Cond.selects "java/lang/NullPointerException" ({ cls := "java/lang/Throwable", name := "fillInStackTrace", desc := "()Ljava/lang/Throwable;" } : Jvm.MethodName) ({ cls := "java/lang/NullPointerException", name := "fillInStackTrace", desc := "()Ljava/lang/Throwable;" } : Jvm.MethodName)) ∈ lw_all := lw_g (lw_at lw_m1 85 rfl) rfl
theorem q187 : (Jvm.Cond.instanceMethod ({ cls := "java/lang/NullPointerException", name := "fillInStackTrace", desc := "()Ljava/lang/Throwable;" } : Jvm.MethodName)) ∈ lw_all := lw_g (lw_at lw_m1 86 rfl) rfl
theorem q188 : (Jvm.Cond.codeSync ({ cls := "java/lang/NullPointerException", name := "fillInStackTrace", desc := "()Ljava/lang/Throwable;" } : Jvm.MethodName) prog_34_method_3_code (1 : Nat) (Option.some (Jvm.ClassFile.FieldType.object "java/lang/Throwable"))) ∈ lw_all := lw_g (lw_at lw_m1 87 rfl) rfl
theorem q189 : (Jvm.Cond.methodLink "java/lang/NullPointerException" (16 : Nat) ({ cls := "java/lang/NullPointerException", name := "getExtendedNPEMessage", desc := "()Ljava/lang/String;" } : Jvm.MethodName)) ∈ lw_all := lw_g (lw_at lw_m1 88 rfl) rfl
theorem q190 : (Jvm.Cond.privateMethod ({ cls := "java/lang/NullPointerException", name := "getExtendedNPEMessage", desc := "()Ljava/lang/String;" } : Jvm.MethodName)) ∈ lw_tbl := lw_at lw_m1 89 rfl
theorem q191 : (Jvm.Cond.instanceMethod ({ cls := "java/lang/NullPointerException", name := "getExtendedNPEMessage", desc := "()Ljava/lang/String;" } : Jvm.MethodName)) ∈ lw_all := lw_g (lw_at lw_m1 90 rfl) rfl
theorem q192 : (Jvm.Cond.instantiable "java/lang/NullPointerException" (8 : Nat)) ∈ lw_all := lw_g (lw_at lw_m1 91 rfl) rfl
theorem q193 : (Jvm.Cond.native ({ cls := "java/lang/NullPointerException", name := "getExtendedNPEMessage", desc := "()Ljava/lang/String;" } : Jvm.MethodName)) ∈ lw_all := lw_g (lw_at lw_m1 92 rfl) rfl
theorem q194 : (Jvm.Cond.methodLink "java/lang/NullPointerException" (24 : Nat) ({ cls := "java/lang/RuntimeException", name := "fillInStackTrace", desc := "()Ljava/lang/Throwable;" } : Jvm.MethodName)) ∈ lw_all := lw_g (lw_at lw_m1 93 rfl) rfl
theorem q197 : (Jvm.Cond.superclass "java/lang/NullPointerException" "java/lang/RuntimeException") ∈ lw_all := lw_g (lw_at lw_m1 96 rfl) rfl
theorem q1239 : (Jvm.Cond.instanceMethod ({ cls := "java/lang/NullPointerException", name := "<init>", desc := "()V" } : Jvm.MethodName)) ∈ lw_all := lw_g (lw_at lw_m5 178 rfl) rfl
theorem q1240 : (Jvm.Cond.code ({ cls := "java/lang/NullPointerException", name := "<init>", desc := "()V" } : Jvm.MethodName) prog_34_method_1_code (1 : Nat) (Option.none : Option Jvm.ClassFile.FieldType)) ∈ lw_all := lw_g (lw_at lw_m5 179 rfl) rfl
theorem q1241 : (Jvm.Cond.methodLink "java/lang/NullPointerException" (1 : Nat) ({ cls := "java/lang/RuntimeException", name := "<init>", desc := "()V" } : Jvm.MethodName)) ∈ lw_all := lw_g (lw_at lw_m5 180 rfl) rfl
theorem q1248 : (Jvm.Cond.fieldLink "java/lang/NullPointerException" (10 : Nat) "java/lang/NullPointerException" "extendedMessageState" "I") ∈ lw_all := lw_g (lw_at lw_m5 187 rfl) rfl
theorem q1249 : (Jvm.Cond.fieldLink "java/lang/NullPointerException" (20 : Nat) "java/lang/NullPointerException" "extendedMessage" "Ljava/lang/String;") ∈ lw_all := lw_g (lw_at lw_m5 188 rfl) rfl
theorem q1250 : (Jvm.Cond.lays "java/lang/NullPointerException" "java/lang/NullPointerException" "extendedMessageState" "I") ∈ lw_all := lw_g (lw_at lw_m5 189 rfl) rfl
theorem q1251 : (Jvm.Cond.soleField "java/lang/NullPointerException" "extendedMessageState") ∈ lw_all := lw_g (lw_at lw_m5 190 rfl) rfl
theorem q1252 : (Jvm.Cond.lays "java/lang/NullPointerException" "java/lang/NullPointerException" "extendedMessage" "Ljava/lang/String;") ∈ lw_all := lw_g (lw_at lw_m5 191 rfl) rfl
theorem q1253 : (Jvm.Cond.soleField "java/lang/NullPointerException" "extendedMessage") ∈ lw_all := lw_g (lw_at lw_m5 192 rfl) rfl
theorem q1254 : (Jvm.Cond.lays "java/lang/NullPointerException" "java/lang/Throwable" "backtrace" "Ljava/lang/Object;") ∈ lw_all := lw_g (lw_at lw_m5 193 rfl) rfl
theorem q1255 : (Jvm.Cond.lays "java/lang/NullPointerException" "java/lang/Throwable" "detailMessage" "Ljava/lang/String;") ∈ lw_all := lw_g (lw_at lw_m5 194 rfl) rfl
theorem q1256 : (Jvm.Cond.lays "java/lang/NullPointerException" "java/lang/Throwable" "cause" "Ljava/lang/Throwable;") ∈ lw_all := lw_g (lw_at lw_m5 195 rfl) rfl
theorem q1257 : (Jvm.Cond.lays "java/lang/NullPointerException" "java/lang/Throwable" "stackTrace" "[Ljava/lang/StackTraceElement;") ∈ lw_all := lw_g (lw_at lw_m5 196 rfl) rfl
theorem q1258 : (Jvm.Cond.lays "java/lang/NullPointerException" "java/lang/Throwable" "depth" "I") ∈ lw_all := lw_g (lw_at lw_m5 197 rfl) rfl
theorem q1259 : (Jvm.Cond.lays "java/lang/NullPointerException" "java/lang/Throwable" "suppressedExceptions" "Ljava/util/List;") ∈ lw_all := lw_g (lw_at lw_m5 198 rfl) rfl
theorem q1260 : (Jvm.Cond.castable "java/lang/NullPointerException" "java/lang/NullPointerException") ∈ lw_tbl := lw_at lw_m5 199 rfl
theorem q1261 : (Jvm.Cond.selects "java/lang/NullPointerException" ({ cls := "java/lang/Throwable", name := "fillInStackTrace", desc := "(I)Ljava/lang/Throwable;" } : Jvm.MethodName) ({ cls := "java/lang/Throwable", name := "fillInStackTrace", desc := "(I)Ljava/lang/Throwable;" } : Jvm.MethodName)) ∈ lw_all := lw_g (lw_at lw_m5 200 rfl) rfl
theorem in_J12 : ∀ w ∈ wsJ120, w ∈ lw_all := lw_in wsJ120 [1254, 1255, 1256, 1257, 1258, 1259, 1250, 1252] (by decide +kernel) (by decide +kernel)
/-! java/lang/ArrayStoreException -/
set_option maxRecDepth 100000
def RJ13 : String := "java/lang/ArrayStoreException"
def TJ13 : u_T := fun k => match k with
  | 0 => ("java/lang/Throwable", "backtrace", "Ljava/lang/Object;", false)
  | 1 => ("java/lang/Throwable", "detailMessage", "Ljava/lang/String;", false)
  | 2 => ("java/lang/Throwable", "cause", "Ljava/lang/Throwable;", false)
  | 3 => ("java/lang/Throwable", "stackTrace", "[Ljava/lang/StackTraceElement;", false)
  | 4 => ("java/lang/Throwable", "depth", "I", false)
  | _ => ("java/lang/Throwable", "suppressedExceptions", "Ljava/util/List;", false)
def tyJ13 : Nat → FieldType := fun k => match k with
  | 0 => .object "java/lang/Object"
  | 1 => .object "java/lang/String"
  | 2 => .object "java/lang/Throwable"
  | 3 => .array (.object "java/lang/StackTraceElement")
  | 4 => .int
  | _ => .object "java/util/List"
abbrev wsJ130 : List Cond := u_ws RJ13 TJ13 6
theorem nmJ13 : ∀ a, a < 6 → ∀ b, b < 6 → a ≠ b → (TJ13 a).2.1 ≠ (TJ13 b).2.1 := by decide +kernel
theorem tyJ13_ok : ∀ k, k < 6 → parseFieldDescriptor (TJ13 k).2.2.1 = some (tyJ13 k) := by decide +kernel
abbrev cJ13_init : ByteArray := prog_27_method_2_code
def yJ13_init : MethodName := ⟨RJ13, "<init>", "(Ljava/lang/String;)V"⟩
def dkwJ13_init_0 : List UInt8 := [42, 43, 183, 0, 7, 177]
abbrev dktJ13_init_0 : List UInt8 := dkwJ13_init_0 ++ []
theorem dksJ13_init_0 : cJ13_init.data.toList.drop 0 = dktJ13_init_0 := by decide +kernel
theorem dJ13_init_0 : decode cJ13_init 0 = .ok (.aload_n 0, 1) := dk_42 (dk_at dksJ13_init_0 0 rfl rfl)
theorem dJ13_init_1 : decode cJ13_init 1 = .ok (.aload_n 1, 1) := dk_43 (dk_at dksJ13_init_0 1 rfl rfl)
theorem dJ13_init_2 : decode cJ13_init 2 = .ok (.invokespecial 7, 3) := dk_183 0 7 (dk_at dksJ13_init_0 2 rfl rfl)
theorem dJ13_init_5 : decode cJ13_init 5 = .ok (.return_, 1) := dk_177 (dk_at dksJ13_init_0 5 rfl rfl)
theorem q134 : (Jvm.Cond.initialized "java/lang/ArrayStoreException") ∈ lw_all := lw_g (lw_at lw_m1 33 rfl) rfl
theorem q183 : (Jvm.Cond.selects "java/lang/ArrayStoreException" ({ cls := "java/lang/Throwable", name := "fillInStackTrace", desc := "()Ljava/lang/Throwable;" } : Jvm.MethodName) ({ cls := "java/lang/Throwable", name := "fillInStackTrace", desc := "()Ljava/lang/Throwable;" } : Jvm.MethodName)) ∈ lw_all := lw_g (lw_at lw_m1 82 rfl) rfl
theorem q1275 : (Jvm.Cond.instantiable "java/lang/ArrayStoreException" (6 : Nat)) ∈ lw_all := lw_g (lw_at lw_m5 214 rfl) rfl
theorem q1276 : (Jvm.Cond.instanceMethod ({ cls := "java/lang/ArrayStoreException", name := "<init>", desc := "(Ljava/lang/String;)V" } : Jvm.MethodName)) ∈ lw_all := lw_g (lw_at lw_m5 215 rfl) rfl
theorem q1277 : (Jvm.Cond.code ({ cls := "java/lang/ArrayStoreException", name := "<init>", desc := "(Ljava/lang/String;)V" } : Jvm.MethodName) prog_27_method_2_code (2 : Nat) (Option.none : Option Jvm.ClassFile.FieldType)) ∈ lw_all := lw_g (lw_at lw_m5 216 rfl) rfl
theorem q1278 : (Jvm.Cond.methodLink "java/lang/ArrayStoreException" (7 : Nat) ({ cls := "java/lang/RuntimeException", name := "<init>", desc := "(Ljava/lang/String;)V" } : Jvm.MethodName)) ∈ lw_all := lw_g (lw_at lw_m5 217 rfl) rfl
theorem q1279 : (Jvm.Cond.lays "java/lang/ArrayStoreException" "java/lang/Throwable" "backtrace" "Ljava/lang/Object;") ∈ lw_all := lw_g (lw_at lw_m5 218 rfl) rfl
theorem q1280 : (Jvm.Cond.lays "java/lang/ArrayStoreException" "java/lang/Throwable" "detailMessage" "Ljava/lang/String;") ∈ lw_all := lw_g (lw_at lw_m5 219 rfl) rfl
theorem q1281 : (Jvm.Cond.lays "java/lang/ArrayStoreException" "java/lang/Throwable" "cause" "Ljava/lang/Throwable;") ∈ lw_all := lw_g (lw_at lw_m5 220 rfl) rfl
theorem q1282 : (Jvm.Cond.lays "java/lang/ArrayStoreException" "java/lang/Throwable" "stackTrace" "[Ljava/lang/StackTraceElement;") ∈ lw_all := lw_g (lw_at lw_m5 221 rfl) rfl
theorem q1283 : (Jvm.Cond.lays "java/lang/ArrayStoreException" "java/lang/Throwable" "depth" "I") ∈ lw_all := lw_g (lw_at lw_m5 222 rfl) rfl
theorem q1284 : (Jvm.Cond.lays "java/lang/ArrayStoreException" "java/lang/Throwable" "suppressedExceptions" "Ljava/util/List;") ∈ lw_all := lw_g (lw_at lw_m5 223 rfl) rfl
theorem q1285 : (Jvm.Cond.superclass "java/lang/ArrayStoreException" "java/lang/RuntimeException") ∈ lw_all := lw_g (lw_at lw_m5 224 rfl) rfl
theorem q1286 : (Jvm.Cond.castable "java/lang/ArrayStoreException" "java/lang/ArrayStoreException") ∈ lw_tbl := lw_at lw_m5 225 rfl
theorem q1287 : (Jvm.Cond.selects "java/lang/ArrayStoreException" ({ cls := "java/lang/Throwable", name := "fillInStackTrace", desc := "(I)Ljava/lang/Throwable;" } : Jvm.MethodName) ({ cls := "java/lang/Throwable", name := "fillInStackTrace", desc := "(I)Ljava/lang/Throwable;" } : Jvm.MethodName)) ∈ lw_all := lw_g (lw_at lw_m5 226 rfl) rfl
theorem in_J13 : ∀ w ∈ wsJ130, w ∈ lw_all := lw_in wsJ130 [1279, 1280, 1281, 1282, 1283, 1284] (by decide +kernel) (by decide +kernel)
/-! java/lang/IndexOutOfBoundsException -/
set_option maxRecDepth 100000
def RJ14 : String := "java/lang/IndexOutOfBoundsException"
abbrev cJ14_init : ByteArray := prog_30_method_2_code
def yJ14_init : MethodName := ⟨RJ14, "<init>", "(Ljava/lang/String;)V"⟩
def dkwJ14_init_0 : List UInt8 := [42, 43, 183, 0, 7, 177]
abbrev dktJ14_init_0 : List UInt8 := dkwJ14_init_0 ++ []
theorem dksJ14_init_0 : cJ14_init.data.toList.drop 0 = dktJ14_init_0 := by decide +kernel
theorem dJ14_init_0 : decode cJ14_init 0 = .ok (.aload_n 0, 1) := dk_42 (dk_at dksJ14_init_0 0 rfl rfl)
theorem dJ14_init_1 : decode cJ14_init 1 = .ok (.aload_n 1, 1) := dk_43 (dk_at dksJ14_init_0 1 rfl rfl)
theorem dJ14_init_2 : decode cJ14_init 2 = .ok (.invokespecial 7, 3) := dk_183 0 7 (dk_at dksJ14_init_0 2 rfl rfl)
theorem dJ14_init_5 : decode cJ14_init 5 = .ok (.return_, 1) := dk_177 (dk_at dksJ14_init_0 5 rfl rfl)
theorem q135 : (Jvm.Cond.initialized "java/lang/IndexOutOfBoundsException") ∈ lw_all := lw_g (lw_at lw_m1 34 rfl) rfl
theorem q1293 : (Jvm.Cond.instanceMethod ({ cls := "java/lang/IndexOutOfBoundsException", name := "<init>", desc := "(Ljava/lang/String;)V" } : Jvm.MethodName)) ∈ lw_all := lw_g (lw_at lw_m5 232 rfl) rfl
theorem q1294 : (Jvm.Cond.code ({ cls := "java/lang/IndexOutOfBoundsException", name := "<init>", desc := "(Ljava/lang/String;)V" } : Jvm.MethodName) prog_30_method_2_code (2 : Nat) (Option.none : Option Jvm.ClassFile.FieldType)) ∈ lw_all := lw_g (lw_at lw_m5 233 rfl) rfl
theorem q1295 : (Jvm.Cond.methodLink "java/lang/IndexOutOfBoundsException" (7 : Nat) ({ cls := "java/lang/RuntimeException", name := "<init>", desc := "(Ljava/lang/String;)V" } : Jvm.MethodName)) ∈ lw_all := lw_g (lw_at lw_m5 234 rfl) rfl
theorem q1304 : (Jvm.Cond.declares ({ cls := "java/lang/IndexOutOfBoundsException", name := "<init>", desc := "()V" } : Jvm.MethodName)) ∈ lw_tbl := lw_at lw_m6 3 rfl
theorem q1305 : (Jvm.Cond.declares ({ cls := "java/lang/IndexOutOfBoundsException", name := "<init>", desc := "(Ljava/lang/String;)V" } : Jvm.MethodName)) ∈ lw_tbl := lw_at lw_m6 4 rfl
/-! java/lang/ArrayIndexOutOfBoundsException -/
set_option maxRecDepth 100000
def RJ15 : String := "java/lang/ArrayIndexOutOfBoundsException"
def TJ15 : u_T := fun k => match k with
  | 0 => ("java/lang/Throwable", "backtrace", "Ljava/lang/Object;", false)
  | 1 => ("java/lang/Throwable", "detailMessage", "Ljava/lang/String;", false)
  | 2 => ("java/lang/Throwable", "cause", "Ljava/lang/Throwable;", false)
  | 3 => ("java/lang/Throwable", "stackTrace", "[Ljava/lang/StackTraceElement;", false)
  | 4 => ("java/lang/Throwable", "depth", "I", false)
  | _ => ("java/lang/Throwable", "suppressedExceptions", "Ljava/util/List;", false)
def tyJ15 : Nat → FieldType := fun k => match k with
  | 0 => .object "java/lang/Object"
  | 1 => .object "java/lang/String"
  | 2 => .object "java/lang/Throwable"
  | 3 => .array (.object "java/lang/StackTraceElement")
  | 4 => .int
  | _ => .object "java/util/List"
abbrev wsJ150 : List Cond := u_ws RJ15 TJ15 6
theorem nmJ15 : ∀ a, a < 6 → ∀ b, b < 6 → a ≠ b → (TJ15 a).2.1 ≠ (TJ15 b).2.1 := by decide +kernel
theorem tyJ15_ok : ∀ k, k < 6 → parseFieldDescriptor (TJ15 k).2.2.1 = some (tyJ15 k) := by decide +kernel
abbrev cJ15_init : ByteArray := prog_26_method_2_code
def yJ15_init : MethodName := ⟨RJ15, "<init>", "(Ljava/lang/String;)V"⟩
def dkwJ15_init_0 : List UInt8 := [42, 43, 183, 0, 7, 177]
abbrev dktJ15_init_0 : List UInt8 := dkwJ15_init_0 ++ []
theorem dksJ15_init_0 : cJ15_init.data.toList.drop 0 = dktJ15_init_0 := by decide +kernel
theorem dJ15_init_0 : decode cJ15_init 0 = .ok (.aload_n 0, 1) := dk_42 (dk_at dksJ15_init_0 0 rfl rfl)
theorem dJ15_init_1 : decode cJ15_init 1 = .ok (.aload_n 1, 1) := dk_43 (dk_at dksJ15_init_0 1 rfl rfl)
theorem dJ15_init_2 : decode cJ15_init 2 = .ok (.invokespecial 7, 3) := dk_183 0 7 (dk_at dksJ15_init_0 2 rfl rfl)
theorem dJ15_init_5 : decode cJ15_init 5 = .ok (.return_, 1) := dk_177 (dk_at dksJ15_init_0 5 rfl rfl)
theorem q136 : (Jvm.Cond.initialized "java/lang/ArrayIndexOutOfBoundsException") ∈ lw_all := lw_g (lw_at lw_m1 35 rfl) rfl
theorem q182 : (Jvm.Cond.selects "java/lang/ArrayIndexOutOfBoundsException" ({ cls := "java/lang/Throwable", name := "fillInStackTrace", desc := "()Ljava/lang/Throwable;" } : Jvm.MethodName) ({ cls := "java/lang/Throwable", name := "fillInStackTrace", desc := "()Ljava/lang/Throwable;" } : Jvm.MethodName)) ∈ lw_all := lw_g (lw_at lw_m1 81 rfl) rfl
theorem q1289 : (Jvm.Cond.instantiable "java/lang/ArrayIndexOutOfBoundsException" (6 : Nat)) ∈ lw_all := lw_g (lw_at lw_m5 228 rfl) rfl
theorem q1290 : (Jvm.Cond.instanceMethod ({ cls := "java/lang/ArrayIndexOutOfBoundsException", name := "<init>", desc := "(Ljava/lang/String;)V" } : Jvm.MethodName)) ∈ lw_all := lw_g (lw_at lw_m5 229 rfl) rfl
theorem q1291 : (Jvm.Cond.code ({ cls := "java/lang/ArrayIndexOutOfBoundsException", name := "<init>", desc := "(Ljava/lang/String;)V" } : Jvm.MethodName) prog_26_method_2_code (2 : Nat) (Option.none : Option Jvm.ClassFile.FieldType)) ∈ lw_all := lw_g (lw_at lw_m5 230 rfl) rfl
theorem q1292 : (Jvm.Cond.methodLink "java/lang/ArrayIndexOutOfBoundsException" (7 : Nat) ({ cls := "java/lang/IndexOutOfBoundsException", name := "<init>", desc := "(Ljava/lang/String;)V" } : Jvm.MethodName)) ∈ lw_all := lw_g (lw_at lw_m5 231 rfl) rfl
theorem q1296 : (Jvm.Cond.lays "java/lang/ArrayIndexOutOfBoundsException" "java/lang/Throwable" "backtrace" "Ljava/lang/Object;") ∈ lw_all := lw_g (lw_at lw_m5 235 rfl) rfl
theorem q1297 : (Jvm.Cond.lays "java/lang/ArrayIndexOutOfBoundsException" "java/lang/Throwable" "detailMessage" "Ljava/lang/String;") ∈ lw_all := lw_g (lw_at lw_m5 236 rfl) rfl
theorem q1298 : (Jvm.Cond.lays "java/lang/ArrayIndexOutOfBoundsException" "java/lang/Throwable" "cause" "Ljava/lang/Throwable;") ∈ lw_all := lw_g (lw_at lw_m5 237 rfl) rfl
theorem q1299 : (Jvm.Cond.lays "java/lang/ArrayIndexOutOfBoundsException" "java/lang/Throwable" "stackTrace" "[Ljava/lang/StackTraceElement;") ∈ lw_all := lw_g (lw_at lw_m5 238 rfl) rfl
theorem q1300 : (Jvm.Cond.lays "java/lang/ArrayIndexOutOfBoundsException" "java/lang/Throwable" "depth" "I") ∈ lw_all := lw_g (lw_at lw_m5 239 rfl) rfl
theorem q1301 : (Jvm.Cond.lays "java/lang/ArrayIndexOutOfBoundsException" "java/lang/Throwable" "suppressedExceptions" "Ljava/util/List;") ∈ lw_all := lw_g (lw_at lw_m6 0 rfl) rfl
theorem q1302 : (Jvm.Cond.superclass "java/lang/ArrayIndexOutOfBoundsException" "java/lang/IndexOutOfBoundsException") ∈ lw_all := lw_g (lw_at lw_m6 1 rfl) rfl
theorem q1303 : (Jvm.Cond.castable "java/lang/ArrayIndexOutOfBoundsException" "java/lang/ArrayIndexOutOfBoundsException") ∈ lw_tbl := lw_at lw_m6 2 rfl
theorem q1306 : (Jvm.Cond.selects "java/lang/ArrayIndexOutOfBoundsException" ({ cls := "java/lang/Throwable", name := "fillInStackTrace", desc := "(I)Ljava/lang/Throwable;" } : Jvm.MethodName) ({ cls := "java/lang/Throwable", name := "fillInStackTrace", desc := "(I)Ljava/lang/Throwable;" } : Jvm.MethodName)) ∈ lw_all := lw_g (lw_at lw_m6 5 rfl) rfl
theorem q2176 : (Jvm.Cond.castable "java/lang/ArrayIndexOutOfBoundsException" "java/lang/IndexOutOfBoundsException") ∈ lw_tbl := lw_at lw_m9 155 rfl
theorem in_J15 : ∀ w ∈ wsJ150, w ∈ lw_all := lw_in wsJ150 [1296, 1297, 1298, 1299, 1300, 1301] (by decide +kernel) (by decide +kernel)
/-! TwoSidedTables$Ticket -/
set_option maxRecDepth 100000
def RX18 : String := "TwoSidedTables$Ticket"
def TX18 : u_T := fun k => match k with
  | _ => ("TwoSidedTables$Ticket", "number", "I", true)
def tyX18 : Nat → FieldType := fun k => match k with
  | _ => .int
abbrev wsX180 : List Cond := u_ws RX18 TX18 1
theorem nmX18 : ∀ a, a < 1 → ∀ b, b < 1 → a ≠ b → (TX18 a).2.1 ≠ (TX18 b).2.1 := by decide +kernel
theorem tyX18_ok : ∀ k, k < 1 → parseFieldDescriptor (TX18 k).2.2.1 = some (tyX18 k) := by decide +kernel
abbrev cX18_init : ByteArray := prog_17_method_1_code
def yX18_init : MethodName := ⟨RX18, "<init>", "(I)V"⟩
def dkwX18_init_0 : List UInt8 := [42, 183, 0, 1, 42, 27, 181, 0, 7, 177]
abbrev dktX18_init_0 : List UInt8 := dkwX18_init_0 ++ []
theorem dksX18_init_0 : cX18_init.data.toList.drop 0 = dktX18_init_0 := by decide +kernel
theorem dX18_init_0 : decode cX18_init 0 = .ok (.aload_n 0, 1) := dk_42 (dk_at dksX18_init_0 0 rfl rfl)
theorem dX18_init_1 : decode cX18_init 1 = .ok (.invokespecial 1, 3) := dk_183 0 1 (dk_at dksX18_init_0 1 rfl rfl)
theorem dX18_init_4 : decode cX18_init 4 = .ok (.aload_n 0, 1) := dk_42 (dk_at dksX18_init_0 4 rfl rfl)
theorem dX18_init_5 : decode cX18_init 5 = .ok (.iload_n 1, 1) := dk_27 (dk_at dksX18_init_0 5 rfl rfl)
theorem dX18_init_6 : decode cX18_init 6 = .ok (.putfield 7, 3) := dk_181 0 7 (dk_at dksX18_init_0 6 rfl rfl)
theorem dX18_init_9 : decode cX18_init 9 = .ok (.return_, 1) := dk_177 (dk_at dksX18_init_0 9 rfl rfl)
theorem q137 : (Jvm.Cond.initialized "TwoSidedTables$Ticket") ∈ lw_all := lw_g (lw_at lw_m1 36 rfl) rfl
theorem q1313 : (Jvm.Cond.instantiable "TwoSidedTables$Ticket" (1 : Nat)) ∈ lw_all := lw_g (lw_at lw_m6 12 rfl) rfl
theorem q1315 : (Jvm.Cond.instanceMethod ({ cls := "TwoSidedTables$Ticket", name := "<init>", desc := "(I)V" } : Jvm.MethodName)) ∈ lw_all := lw_g (lw_at lw_m6 14 rfl) rfl
theorem q1316 : (Jvm.Cond.code ({ cls := "TwoSidedTables$Ticket", name := "<init>", desc := "(I)V" } : Jvm.MethodName) prog_17_method_1_code (2 : Nat) (Option.none : Option Jvm.ClassFile.FieldType)) ∈ lw_all := lw_g (lw_at lw_m6 15 rfl) rfl
theorem q1317 : (Jvm.Cond.methodLink "TwoSidedTables$Ticket" (1 : Nat) ({ cls := "java/lang/Object", name := "<init>", desc := "()V" } : Jvm.MethodName)) ∈ lw_all := lw_g (lw_at lw_m6 16 rfl) rfl
theorem q1318 : (Jvm.Cond.fieldLink "TwoSidedTables$Ticket" (7 : Nat) "TwoSidedTables$Ticket" "number" "I") ∈ lw_all := lw_g (lw_at lw_m6 17 rfl) rfl
theorem q1320 : (Jvm.Cond.laysFinal "TwoSidedTables$Ticket" "TwoSidedTables$Ticket" "number" "I") ∈ lw_all := lw_g (lw_at lw_m6 19 rfl) rfl
theorem q1321 : (Jvm.Cond.soleField "TwoSidedTables$Ticket" "number") ∈ lw_all := lw_g (lw_at lw_m6 20 rfl) rfl
theorem q1322 : (Jvm.Cond.superclass "TwoSidedTables$Ticket" "java/lang/Object") ∈ lw_all := lw_g (lw_at lw_m6 21 rfl) rfl
theorem in_X18 : ∀ w ∈ wsX180, w ∈ lw_all := lw_in wsX180 [1320] (by decide +kernel) (by decide +kernel)
/-! java/lang/Object -/
set_option maxRecDepth 100000
def RJ16 : String := "java/lang/Object"
abbrev cJ16_init : ByteArray := object_method_1_code
def yJ16_init : MethodName := ⟨RJ16, "<init>", "()V"⟩
theorem dJ16_init_0 : decode cJ16_init 0 = .ok (.return_, 1) := by decide +kernel
theorem q144 : (Jvm.Cond.instanceMethod ({ cls := "java/lang/Object", name := "<init>", desc := "()V" } : Jvm.MethodName)) ∈ lw_all := lw_g (lw_at lw_m1 43 rfl) rfl
theorem q145 : (Jvm.Cond.code ({ cls := "java/lang/Object", name := "<init>", desc := "()V" } : Jvm.MethodName) object_method_1_code (1 : Nat) (Option.none : Option Jvm.ClassFile.FieldType)) ∈ lw_all := lw_g (lw_at lw_m1 44 rfl) rfl
/-! TwoSidedTables$Weighs -/
set_option maxRecDepth 100000
def RX19 : String := "TwoSidedTables$Weighs"
abbrev cX19_weighs : ByteArray := prog_22_method_3_code
def yX19_weighs : MethodName := ⟨RX19, "weighs", "(ILTwoSidedTables$Trace;)I"⟩
def dkwX19_weighs_0 : List UInt8 := [44, 16, 10, 182, 0, 1, 27, 16, 7, 104, 42, 185, 0, 7, 1, 0, 96, 172]
abbrev dktX19_weighs_0 : List UInt8 := dkwX19_weighs_0 ++ []
theorem dksX19_weighs_0 : cX19_weighs.data.toList.drop 0 = dktX19_weighs_0 := by decide +kernel
theorem dX19_weighs_0 : decode cX19_weighs 0 = .ok (.aload_n 2, 1) := dk_44 (dk_at dksX19_weighs_0 0 rfl rfl)
theorem dX19_weighs_1 : decode cX19_weighs 1 = .ok (.bipush 10, 2) := dk_16 10 (dk_at dksX19_weighs_0 1 rfl rfl)
theorem dX19_weighs_3 : decode cX19_weighs 3 = .ok (.invokevirtual 1, 3) := dk_182 0 1 (dk_at dksX19_weighs_0 3 rfl rfl)
theorem dX19_weighs_6 : decode cX19_weighs 6 = .ok (.iload_n 1, 1) := dk_27 (dk_at dksX19_weighs_0 6 rfl rfl)
theorem dX19_weighs_7 : decode cX19_weighs 7 = .ok (.bipush 7, 2) := dk_16 7 (dk_at dksX19_weighs_0 7 rfl rfl)
theorem dX19_weighs_9 : decode cX19_weighs 9 = .ok (.imul, 1) := dk_104 (dk_at dksX19_weighs_0 9 rfl rfl)
theorem dX19_weighs_10 : decode cX19_weighs 10 = .ok (.aload_n 0, 1) := dk_42 (dk_at dksX19_weighs_0 10 rfl rfl)
theorem dX19_weighs_11 : decode cX19_weighs 11 = .ok (.invokeinterface 7 1, 5) := by decide +kernel
theorem dX19_weighs_16 : decode cX19_weighs 16 = .ok (.iadd, 1) := dk_96 (dk_at dksX19_weighs_0 16 rfl rfl)
theorem dX19_weighs_17 : decode cX19_weighs 17 = .ok (.ireturn, 1) := dk_172 (dk_at dksX19_weighs_0 17 rfl rfl)
theorem q1348 : (Jvm.Cond.publicMethod ({ cls := "TwoSidedTables$Weighs", name := "weighs", desc := "(ILTwoSidedTables$Trace;)I" } : Jvm.MethodName)) ∈ lw_tbl := lw_at lw_m6 47 rfl
theorem q1349 : (Jvm.Cond.declares ({ cls := "TwoSidedTables$Weighs", name := "weighs", desc := "(ILTwoSidedTables$Trace;)I" } : Jvm.MethodName)) ∈ lw_tbl := lw_at lw_m6 48 rfl
theorem q1352 : (Jvm.Cond.instanceMethod ({ cls := "TwoSidedTables$Weighs", name := "weighs", desc := "(ILTwoSidedTables$Trace;)I" } : Jvm.MethodName)) ∈ lw_all := lw_g (lw_at lw_m6 51 rfl) rfl
theorem q1353 : (Jvm.Cond.code ({ cls := "TwoSidedTables$Weighs", name := "weighs", desc := "(ILTwoSidedTables$Trace;)I" } : Jvm.MethodName) prog_22_method_3_code (3 : Nat) (Option.some Jvm.ClassFile.FieldType.int)) ∈ lw_all := lw_g (lw_at lw_m6 52 rfl) rfl
theorem q1354 : (Jvm.Cond.methodLink "TwoSidedTables$Weighs" (1 : Nat) ({ cls := "TwoSidedTables$Trace", name := "ran", desc := "(I)V" } : Jvm.MethodName)) ∈ lw_all := lw_g (lw_at lw_m6 53 rfl) rfl
theorem q1358 : (Jvm.Cond.interfaceEntry "TwoSidedTables$Weighs" (7 : Nat)) ∈ lw_tbl := lw_at lw_m6 57 rfl
theorem q1359 : (Jvm.Cond.methodLink "TwoSidedTables$Weighs" (7 : Nat) ({ cls := "TwoSidedTables$Weighs", name := "number", desc := "()I" } : Jvm.MethodName)) ∈ lw_all := lw_g (lw_at lw_m6 58 rfl) rfl
theorem q1360 : (Jvm.Cond.interfaceMethod "TwoSidedTables$Weighs" "TwoSidedTables$Weighs" "number" "()I") ∈ lw_tbl := lw_at lw_m6 59 rfl
theorem q1361 : (Jvm.Cond.declares ({ cls := "TwoSidedTables$Weighs", name := "number", desc := "()I" } : Jvm.MethodName)) ∈ lw_tbl := lw_at lw_m6 60 rfl
theorem q1452 : (Jvm.Cond.publicMethod ({ cls := "TwoSidedTables$Weighs", name := "shift", desc := "()I" } : Jvm.MethodName)) ∈ lw_tbl := lw_at lw_m6 151 rfl
theorem q1453 : (Jvm.Cond.declares ({ cls := "TwoSidedTables$Weighs", name := "shift", desc := "()I" } : Jvm.MethodName)) ∈ lw_tbl := lw_at lw_m6 152 rfl
theorem q1498 : (Jvm.Cond.publicMethod ({ cls := "TwoSidedTables$Weighs", name := "number", desc := "()I" } : Jvm.MethodName)) ∈ lw_tbl := lw_at lw_m6 197 rfl
theorem q2170 : (Jvm.Cond.initialized "TwoSidedTables$Weighs") ∈ lw_all := lw_g (lw_at lw_m9 149 rfl) rfl
/-! TwoSidedTables$Turns -/
set_option maxRecDepth 100000
def RX20 : String := "TwoSidedTables$Turns"
abbrev cX20_turns : ByteArray := prog_20_method_1_code
def yX20_turns : MethodName := ⟨RX20, "turns", "(ILTwoSidedTables$Trace;)I"⟩
def dkwX20_turns_0 : List UInt8 := [44, 16, 11, 182, 0, 1, 42, 27, 44, 185, 0, 7, 3, 0, 42, 185, 0, 13, 1, 0, 100, 172]
abbrev dktX20_turns_0 : List UInt8 := dkwX20_turns_0 ++ []
theorem dksX20_turns_0 : cX20_turns.data.toList.drop 0 = dktX20_turns_0 := by decide +kernel
theorem dX20_turns_0 : decode cX20_turns 0 = .ok (.aload_n 2, 1) := dk_44 (dk_at dksX20_turns_0 0 rfl rfl)
theorem dX20_turns_1 : decode cX20_turns 1 = .ok (.bipush 11, 2) := dk_16 11 (dk_at dksX20_turns_0 1 rfl rfl)
theorem dX20_turns_3 : decode cX20_turns 3 = .ok (.invokevirtual 1, 3) := dk_182 0 1 (dk_at dksX20_turns_0 3 rfl rfl)
theorem dX20_turns_6 : decode cX20_turns 6 = .ok (.aload_n 0, 1) := dk_42 (dk_at dksX20_turns_0 6 rfl rfl)
theorem dX20_turns_7 : decode cX20_turns 7 = .ok (.iload_n 1, 1) := dk_27 (dk_at dksX20_turns_0 7 rfl rfl)
theorem dX20_turns_8 : decode cX20_turns 8 = .ok (.aload_n 2, 1) := dk_44 (dk_at dksX20_turns_0 8 rfl rfl)
theorem dX20_turns_9 : decode cX20_turns 9 = .ok (.invokeinterface 7 3, 5) := by decide +kernel
theorem dX20_turns_14 : decode cX20_turns 14 = .ok (.aload_n 0, 1) := dk_42 (dk_at dksX20_turns_0 14 rfl rfl)
theorem dX20_turns_15 : decode cX20_turns 15 = .ok (.invokeinterface 13 1, 5) := by decide +kernel
theorem dX20_turns_20 : decode cX20_turns 20 = .ok (.isub, 1) := dk_100 (dk_at dksX20_turns_0 20 rfl rfl)
theorem dX20_turns_21 : decode cX20_turns 21 = .ok (.ireturn, 1) := dk_172 (dk_at dksX20_turns_0 21 rfl rfl)
theorem q1430 : (Jvm.Cond.publicMethod ({ cls := "TwoSidedTables$Turns", name := "turns", desc := "(ILTwoSidedTables$Trace;)I" } : Jvm.MethodName)) ∈ lw_tbl := lw_at lw_m6 129 rfl
theorem q1431 : (Jvm.Cond.declares ({ cls := "TwoSidedTables$Turns", name := "turns", desc := "(ILTwoSidedTables$Trace;)I" } : Jvm.MethodName)) ∈ lw_tbl := lw_at lw_m6 130 rfl
theorem q1438 : (Jvm.Cond.instanceMethod ({ cls := "TwoSidedTables$Turns", name := "turns", desc := "(ILTwoSidedTables$Trace;)I" } : Jvm.MethodName)) ∈ lw_all := lw_g (lw_at lw_m6 137 rfl) rfl
theorem q1439 : (Jvm.Cond.code ({ cls := "TwoSidedTables$Turns", name := "turns", desc := "(ILTwoSidedTables$Trace;)I" } : Jvm.MethodName) prog_20_method_1_code (3 : Nat) (Option.some Jvm.ClassFile.FieldType.int)) ∈ lw_all := lw_g (lw_at lw_m6 138 rfl) rfl
theorem q1440 : (Jvm.Cond.methodLink "TwoSidedTables$Turns" (1 : Nat) ({ cls := "TwoSidedTables$Trace", name := "ran", desc := "(I)V" } : Jvm.MethodName)) ∈ lw_all := lw_g (lw_at lw_m6 139 rfl) rfl
theorem q1441 : (Jvm.Cond.interfaceEntry "TwoSidedTables$Turns" (7 : Nat)) ∈ lw_tbl := lw_at lw_m6 140 rfl
theorem q1451 : (Jvm.Cond.interfaceEntry "TwoSidedTables$Turns" (13 : Nat)) ∈ lw_tbl := lw_at lw_m6 150 rfl
theorem q2171 : (Jvm.Cond.initialized "TwoSidedTables$Turns") ∈ lw_all := lw_g (lw_at lw_m9 150 rfl) rfl
/-! TwoSidedTables$Parts -/
set_option maxRecDepth 100000
def RX21 : String := "TwoSidedTables$Parts"
abbrev cX21_parts : ByteArray := prog_11_method_1_code
def yX21_parts : MethodName := ⟨RX21, "parts", "(ILTwoSidedTables$Trace;)I"⟩
def dkwX21_parts_0 : List UInt8 := [44, 16, 12, 182, 0, 1, 27, 42, 185, 0, 7, 1, 0, 42, 185, 0, 13, 1, 0, 100, 108, 172]
abbrev dktX21_parts_0 : List UInt8 := dkwX21_parts_0 ++ []
theorem dksX21_parts_0 : cX21_parts.data.toList.drop 0 = dktX21_parts_0 := by decide +kernel
theorem dX21_parts_0 : decode cX21_parts 0 = .ok (.aload_n 2, 1) := dk_44 (dk_at dksX21_parts_0 0 rfl rfl)
theorem dX21_parts_1 : decode cX21_parts 1 = .ok (.bipush 12, 2) := dk_16 12 (dk_at dksX21_parts_0 1 rfl rfl)
theorem dX21_parts_3 : decode cX21_parts 3 = .ok (.invokevirtual 1, 3) := dk_182 0 1 (dk_at dksX21_parts_0 3 rfl rfl)
theorem dX21_parts_6 : decode cX21_parts 6 = .ok (.iload_n 1, 1) := dk_27 (dk_at dksX21_parts_0 6 rfl rfl)
theorem dX21_parts_7 : decode cX21_parts 7 = .ok (.aload_n 0, 1) := dk_42 (dk_at dksX21_parts_0 7 rfl rfl)
theorem dX21_parts_8 : decode cX21_parts 8 = .ok (.invokeinterface 7 1, 5) := by decide +kernel
theorem dX21_parts_13 : decode cX21_parts 13 = .ok (.aload_n 0, 1) := dk_42 (dk_at dksX21_parts_0 13 rfl rfl)
theorem dX21_parts_14 : decode cX21_parts 14 = .ok (.invokeinterface 13 1, 5) := by decide +kernel
theorem dX21_parts_19 : decode cX21_parts 19 = .ok (.isub, 1) := dk_100 (dk_at dksX21_parts_0 19 rfl rfl)
theorem dX21_parts_20 : decode cX21_parts 20 = .ok (.idiv, 1) := dk_108 (dk_at dksX21_parts_0 20 rfl rfl)
theorem dX21_parts_21 : decode cX21_parts 21 = .ok (.ireturn, 1) := dk_172 (dk_at dksX21_parts_0 21 rfl rfl)
theorem q1491 : (Jvm.Cond.publicMethod ({ cls := "TwoSidedTables$Parts", name := "parts", desc := "(ILTwoSidedTables$Trace;)I" } : Jvm.MethodName)) ∈ lw_tbl := lw_at lw_m6 190 rfl
theorem q1492 : (Jvm.Cond.declares ({ cls := "TwoSidedTables$Parts", name := "parts", desc := "(ILTwoSidedTables$Trace;)I" } : Jvm.MethodName)) ∈ lw_tbl := lw_at lw_m6 191 rfl
theorem q1494 : (Jvm.Cond.instanceMethod ({ cls := "TwoSidedTables$Parts", name := "parts", desc := "(ILTwoSidedTables$Trace;)I" } : Jvm.MethodName)) ∈ lw_all := lw_g (lw_at lw_m6 193 rfl) rfl
theorem q1495 : (Jvm.Cond.code ({ cls := "TwoSidedTables$Parts", name := "parts", desc := "(ILTwoSidedTables$Trace;)I" } : Jvm.MethodName) prog_11_method_1_code (3 : Nat) (Option.some Jvm.ClassFile.FieldType.int)) ∈ lw_all := lw_g (lw_at lw_m6 194 rfl) rfl
theorem q1496 : (Jvm.Cond.methodLink "TwoSidedTables$Parts" (1 : Nat) ({ cls := "TwoSidedTables$Trace", name := "ran", desc := "(I)V" } : Jvm.MethodName)) ∈ lw_all := lw_g (lw_at lw_m6 195 rfl) rfl
theorem q1497 : (Jvm.Cond.interfaceEntry "TwoSidedTables$Parts" (7 : Nat)) ∈ lw_tbl := lw_at lw_m6 196 rfl
theorem q1508 : (Jvm.Cond.interfaceEntry "TwoSidedTables$Parts" (13 : Nat)) ∈ lw_tbl := lw_at lw_m6 207 rfl
theorem q2172 : (Jvm.Cond.initialized "TwoSidedTables$Parts") ∈ lw_all := lw_g (lw_at lw_m9 151 rfl) rfl
/-! TwoSidedTables$Closes -/
set_option maxRecDepth 100000
def RX22 : String := "TwoSidedTables$Closes"
abbrev cX22_closes : ByteArray := prog_3_method_1_code
def yX22_closes : MethodName := ⟨RX22, "closes", "(ILTwoSidedTables$Trace;)I"⟩
def dkwX22_closes_1 : List UInt8 := [185, 0, 13, 3, 0, 130, 172]
abbrev dktX22_closes_1 : List UInt8 := dkwX22_closes_1 ++ []
def dkwX22_closes_0 : List UInt8 := [44, 16, 13, 182, 0, 1, 42, 27, 44, 185, 0, 7, 3, 0, 62, 29, 42, 27, 5, 96, 44]
abbrev dktX22_closes_0 : List UInt8 := dkwX22_closes_0 ++ dktX22_closes_1
theorem dksX22_closes_0 : cX22_closes.data.toList.drop 0 = dktX22_closes_0 := by decide +kernel
theorem dksX22_closes_1 : cX22_closes.data.toList.drop 21 = dktX22_closes_1 := dk_seg dksX22_closes_0 21 rfl rfl
theorem dX22_closes_0 : decode cX22_closes 0 = .ok (.aload_n 2, 1) := dk_44 (dk_at dksX22_closes_0 0 rfl rfl)
theorem dX22_closes_1 : decode cX22_closes 1 = .ok (.bipush 13, 2) := dk_16 13 (dk_at dksX22_closes_0 1 rfl rfl)
theorem dX22_closes_3 : decode cX22_closes 3 = .ok (.invokevirtual 1, 3) := dk_182 0 1 (dk_at dksX22_closes_0 3 rfl rfl)
theorem dX22_closes_6 : decode cX22_closes 6 = .ok (.aload_n 0, 1) := dk_42 (dk_at dksX22_closes_0 6 rfl rfl)
theorem dX22_closes_7 : decode cX22_closes 7 = .ok (.iload_n 1, 1) := dk_27 (dk_at dksX22_closes_0 7 rfl rfl)
theorem dX22_closes_8 : decode cX22_closes 8 = .ok (.aload_n 2, 1) := dk_44 (dk_at dksX22_closes_0 8 rfl rfl)
theorem dX22_closes_9 : decode cX22_closes 9 = .ok (.invokeinterface 7 3, 5) := by decide +kernel
theorem dX22_closes_14 : decode cX22_closes 14 = .ok (.istore_n 3, 1) := dk_62 (dk_at dksX22_closes_0 14 rfl rfl)
theorem dX22_closes_15 : decode cX22_closes 15 = .ok (.iload_n 3, 1) := dk_29 (dk_at dksX22_closes_0 15 rfl rfl)
theorem dX22_closes_16 : decode cX22_closes 16 = .ok (.aload_n 0, 1) := dk_42 (dk_at dksX22_closes_0 16 rfl rfl)
theorem dX22_closes_17 : decode cX22_closes 17 = .ok (.iload_n 1, 1) := dk_27 (dk_at dksX22_closes_0 17 rfl rfl)
theorem dX22_closes_18 : decode cX22_closes 18 = .ok (.iconst 2, 1) := dk_5 (dk_at dksX22_closes_0 18 rfl rfl)
theorem dX22_closes_19 : decode cX22_closes 19 = .ok (.iadd, 1) := dk_96 (dk_at dksX22_closes_0 19 rfl rfl)
theorem dX22_closes_20 : decode cX22_closes 20 = .ok (.aload_n 2, 1) := dk_44 (dk_at dksX22_closes_0 20 rfl rfl)
theorem dX22_closes_21 : decode cX22_closes 21 = .ok (.invokeinterface 13 3, 5) := by decide +kernel
theorem dX22_closes_26 : decode cX22_closes 26 = .ok (.ixor, 1) := dk_130 (dk_at dksX22_closes_1 5 rfl rfl)
theorem dX22_closes_27 : decode cX22_closes 27 = .ok (.ireturn, 1) := dk_172 (dk_at dksX22_closes_1 6 rfl rfl)
theorem q1532 : (Jvm.Cond.interfaceMethod "TwoSidedTables$Closes" "TwoSidedTables$Closes" "closes" "(ILTwoSidedTables$Trace;)I") ∈ lw_tbl := lw_at lw_m6 231 rfl
theorem q1533 : (Jvm.Cond.declares ({ cls := "TwoSidedTables$Closes", name := "closes", desc := "(ILTwoSidedTables$Trace;)I" } : Jvm.MethodName)) ∈ lw_tbl := lw_at lw_m6 232 rfl
theorem q1535 : (Jvm.Cond.instanceMethod ({ cls := "TwoSidedTables$Closes", name := "closes", desc := "(ILTwoSidedTables$Trace;)I" } : Jvm.MethodName)) ∈ lw_all := lw_g (lw_at lw_m6 234 rfl) rfl
theorem q1536 : (Jvm.Cond.publicMethod ({ cls := "TwoSidedTables$Closes", name := "closes", desc := "(ILTwoSidedTables$Trace;)I" } : Jvm.MethodName)) ∈ lw_tbl := lw_at lw_m6 235 rfl
theorem q1537 : (Jvm.Cond.code ({ cls := "TwoSidedTables$Closes", name := "closes", desc := "(ILTwoSidedTables$Trace;)I" } : Jvm.MethodName) prog_3_method_1_code (4 : Nat) (Option.some Jvm.ClassFile.FieldType.int)) ∈ lw_all := lw_g (lw_at lw_m6 236 rfl) rfl
theorem q1538 : (Jvm.Cond.methodLink "TwoSidedTables$Closes" (1 : Nat) ({ cls := "TwoSidedTables$Trace", name := "ran", desc := "(I)V" } : Jvm.MethodName)) ∈ lw_all := lw_g (lw_at lw_m6 237 rfl) rfl
theorem q1539 : (Jvm.Cond.interfaceEntry "TwoSidedTables$Closes" (7 : Nat)) ∈ lw_tbl := lw_at lw_m6 238 rfl
theorem q1540 : (Jvm.Cond.interfaceEntry "TwoSidedTables$Closes" (13 : Nat)) ∈ lw_tbl := lw_at lw_m6 239 rfl
theorem q2173 : (Jvm.Cond.initialized "TwoSidedTables$Closes") ∈ lw_all := lw_g (lw_at lw_m9 152 rfl) rfl
