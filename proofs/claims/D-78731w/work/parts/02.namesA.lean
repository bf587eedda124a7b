/-! DECODE ROWS BY BYTES: one lemma an opcode; a method's code is cut into short pieces once, and a row reads its own piece alone. -/
set_option maxRecDepth 100000
/-- the code has just these bytes from pc on -/
def DkAt (code : ByteArray) (pc : Nat) (bs : List UInt8) : Prop := ∀ (j : Nat) (b : UInt8), bs[j]? = some b → code.data.toList[pc + j]? = some b
/-- the piece W has the bytes bs from its place j on -/
def dkIn (W : List UInt8) (j : Nat) (bs : List UInt8) : Bool := decide ((W.drop j).take bs.length = bs)
theorem dk_seg {l W T : List UInt8} {o o2 : Nat} (h : l.drop o = W ++ T) (n : Nat) (hn : W.length = n) (ho : o + n = o2) : l.drop o2 = T := by
  subst ho
  rw [← List.drop_drop, h, List.drop_left' hn]
theorem dk_at {code : ByteArray} {W T bs : List UInt8} {o pc : Nat} (h : code.data.toList.drop o = W ++ T) (j : Nat) (hp : o + j = pc) (hw : dkIn W j bs = true) : DkAt code pc bs := by
  subst hp
  intro i b e
  have h1 := of_decide_eq_true hw
  have h2 : i < bs.length := (List.getElem?_eq_some_iff.mp e).1
  have h3 : W[j + i]? = some b := by
    rw [← h1, List.getElem?_take, if_pos h2, List.getElem?_drop] at e
    exact e
  have h4 : j + i < W.length := (List.getElem?_eq_some_iff.mp h3).1
  have h5 : (code.data.toList.drop o)[j + i]? = some b := by
    rw [h, List.getElem?_append_left h4]
    exact h3
  rw [List.getElem?_drop, ← Nat.add_assoc] at h5
  exact h5
theorem dk_u1 {A : ByteArray} {p : Nat} {b : UInt8} (h : A.data.toList[p]? = some b) : (Reader.u1 : Reader DecodeError Nat) A p = .ok (b.toNat, p + 1) := by
  obtain ⟨h1, h2⟩ := List.getElem?_eq_some_iff.mp h
  have h3 : p < A.size := by simpa using h1
  have h4 : A[p]'h3 = b := h2
  have e : (Reader.u1 : Reader DecodeError Nat) A p = (if h : p < A.size then .ok (A[p].toNat, p + 1) else .error (HasTruncated.truncated p)) := by
    show (do if h : p < A.size then do set (p + 1); Pure.pure A[p].toNat else MonadExcept.throw (HasTruncated.truncated p) : Reader DecodeError Nat) A p = _
    by_cases hi : p < A.size
    · rw [dif_pos hi, dif_pos hi]; rfl
    · rw [dif_neg hi, dif_neg hi]; rfl
  rw [e, dif_pos h3, h4]
theorem dk_bind {α β : Type} {r : Reader DecodeError α} {f : α → Reader DecodeError β} {A : ByteArray} {p s : Nat} {a : α} (h : r A p = .ok (a, s)) : (r >>= f) A p = f a A s := by
  show (do let (a, s) ← r A p; f a A s : Except DecodeError (β × Nat)) = _
  rw [h]
  rfl
theorem dk_map {α β : Type} {r : Reader DecodeError α} {g : α → β} {A : ByteArray} {p s : Nat} {a : α} (h : r A p = .ok (a, s)) : (g <$> r) A p = .ok (g a, s) := by
  show (do let (a, s) ← r A p; .ok (g a, s) : Except DecodeError (β × Nat)) = _
  rw [h]
  rfl
theorem dk_u2 {A : ByteArray} {p : Nat} {a b : UInt8} (h : A.data.toList[p]? = some a) (h2 : A.data.toList[p + 1]? = some b) : (Reader.u2 : Reader DecodeError Nat) A p = .ok (a.toNat * 256 + b.toNat, p + 2) := by
  show (Reader.u1 >>= fun hi => Reader.u1 >>= fun lo => Pure.pure (hi * 256 + lo) : Reader DecodeError Nat) A p = _
  rw [dk_bind (dk_u1 h), dk_bind (dk_u1 h2)]
  rfl
theorem dk_of {code : ByteArray} {pc n : Nat} {i : Instr} (h : Decoder.instr pc code pc = .ok (i, pc + n)) : decode code pc = .ok (i, n) := by
  have e : decode code pc = (match Decoder.instr pc code pc with | .error x => .error x | .ok (j, s) => .ok (j, s - pc)) := by
    show (do let (j, s) ← Decoder.instr pc code pc; Pure.pure (j, s - pc) : Except DecodeError (Instr × Nat)) = _
    cases Decoder.instr pc code pc <;> rfl
  rw [e, h]
  show Except.ok (i, pc + n - pc) = _
  rw [Nat.add_sub_cancel_left]
theorem dk_1 {code : ByteArray} {pc : Nat} (h : DkAt code pc [1]) : decode code pc = .ok (.aconst_null, 1) := dk_of ((dk_bind (dk_u1 (h 0 _ rfl))).trans rfl)
theorem dk_2 {code : ByteArray} {pc : Nat} (h : DkAt code pc [2]) : decode code pc = .ok (.iconst (-1), 1) := dk_of ((dk_bind (dk_u1 (h 0 _ rfl))).trans rfl)
theorem dk_3 {code : ByteArray} {pc : Nat} (h : DkAt code pc [3]) : decode code pc = .ok (.iconst 0, 1) := dk_of ((dk_bind (dk_u1 (h 0 _ rfl))).trans rfl)
theorem dk_4 {code : ByteArray} {pc : Nat} (h : DkAt code pc [4]) : decode code pc = .ok (.iconst 1, 1) := dk_of ((dk_bind (dk_u1 (h 0 _ rfl))).trans rfl)
theorem dk_5 {code : ByteArray} {pc : Nat} (h : DkAt code pc [5]) : decode code pc = .ok (.iconst 2, 1) := dk_of ((dk_bind (dk_u1 (h 0 _ rfl))).trans rfl)
theorem dk_6 {code : ByteArray} {pc : Nat} (h : DkAt code pc [6]) : decode code pc = .ok (.iconst 3, 1) := dk_of ((dk_bind (dk_u1 (h 0 _ rfl))).trans rfl)
theorem dk_7 {code : ByteArray} {pc : Nat} (h : DkAt code pc [7]) : decode code pc = .ok (.iconst 4, 1) := dk_of ((dk_bind (dk_u1 (h 0 _ rfl))).trans rfl)
theorem dk_8 {code : ByteArray} {pc : Nat} (h : DkAt code pc [8]) : decode code pc = .ok (.iconst 5, 1) := dk_of ((dk_bind (dk_u1 (h 0 _ rfl))).trans rfl)
theorem dk_9 {code : ByteArray} {pc : Nat} (h : DkAt code pc [9]) : decode code pc = .ok (.lconst 0, 1) := dk_of ((dk_bind (dk_u1 (h 0 _ rfl))).trans rfl)
theorem dk_10 {code : ByteArray} {pc : Nat} (h : DkAt code pc [10]) : decode code pc = .ok (.lconst 1, 1) := dk_of ((dk_bind (dk_u1 (h 0 _ rfl))).trans rfl)
theorem dk_14 {code : ByteArray} {pc : Nat} (h : DkAt code pc [14]) : decode code pc = .ok (.dconst 0, 1) := dk_of ((dk_bind (dk_u1 (h 0 _ rfl))).trans rfl)
theorem dk_15 {code : ByteArray} {pc : Nat} (h : DkAt code pc [15]) : decode code pc = .ok (.dconst 1, 1) := dk_of ((dk_bind (dk_u1 (h 0 _ rfl))).trans rfl)
theorem dk_16 {code : ByteArray} {pc : Nat} (a : UInt8) (h : DkAt code pc [16, a]) : decode code pc = .ok (.bipush (Reader.signed 8 a.toNat), 2) := dk_of ((dk_bind (dk_u1 (h 0 _ rfl))).trans ((dk_bind (dk_map (dk_u1 (h 1 _ rfl)))).trans rfl))
theorem dk_17 {code : ByteArray} {pc : Nat} (a b : UInt8) (h : DkAt code pc [17, a, b]) : decode code pc = .ok (.sipush (Reader.signed 16 (a.toNat * 256 + b.toNat)), 3) := dk_of ((dk_bind (dk_u1 (h 0 _ rfl))).trans ((dk_bind (dk_map (dk_u2 (h 1 _ rfl) (h 2 _ rfl)))).trans rfl))
theorem dk_18 {code : ByteArray} {pc : Nat} (a : UInt8) (h : DkAt code pc [18, a]) : decode code pc = .ok (.ldc a.toNat, 2) := dk_of ((dk_bind (dk_u1 (h 0 _ rfl))).trans ((dk_bind (dk_u1 (h 1 _ rfl))).trans rfl))
theorem dk_19 {code : ByteArray} {pc : Nat} (a b : UInt8) (h : DkAt code pc [19, a, b]) : decode code pc = .ok (.ldc_w (a.toNat * 256 + b.toNat), 3) := dk_of ((dk_bind (dk_u1 (h 0 _ rfl))).trans ((dk_bind (dk_u2 (h 1 _ rfl) (h 2 _ rfl))).trans rfl))
theorem dk_20 {code : ByteArray} {pc : Nat} (a b : UInt8) (h : DkAt code pc [20, a, b]) : decode code pc = .ok (.ldc2_w (a.toNat * 256 + b.toNat), 3) := dk_of ((dk_bind (dk_u1 (h 0 _ rfl))).trans ((dk_bind (dk_u2 (h 1 _ rfl) (h 2 _ rfl))).trans rfl))
theorem dk_21 {code : ByteArray} {pc : Nat} (a : UInt8) (h : DkAt code pc [21, a]) : decode code pc = .ok (.iload a.toNat, 2) := dk_of ((dk_bind (dk_u1 (h 0 _ rfl))).trans ((dk_bind (dk_u1 (h 1 _ rfl))).trans rfl))
theorem dk_22 {code : ByteArray} {pc : Nat} (a : UInt8) (h : DkAt code pc [22, a]) : decode code pc = .ok (.lload a.toNat, 2) := dk_of ((dk_bind (dk_u1 (h 0 _ rfl))).trans ((dk_bind (dk_u1 (h 1 _ rfl))).trans rfl))
theorem dk_24 {code : ByteArray} {pc : Nat} (a : UInt8) (h : DkAt code pc [24, a]) : decode code pc = .ok (.dload a.toNat, 2) := dk_of ((dk_bind (dk_u1 (h 0 _ rfl))).trans ((dk_bind (dk_u1 (h 1 _ rfl))).trans rfl))
theorem dk_25 {code : ByteArray} {pc : Nat} (a : UInt8) (h : DkAt code pc [25, a]) : decode code pc = .ok (.aload a.toNat, 2) := dk_of ((dk_bind (dk_u1 (h 0 _ rfl))).trans ((dk_bind (dk_u1 (h 1 _ rfl))).trans rfl))
theorem dk_26 {code : ByteArray} {pc : Nat} (h : DkAt code pc [26]) : decode code pc = .ok (.iload_n 0, 1) := dk_of ((dk_bind (dk_u1 (h 0 _ rfl))).trans rfl)
theorem dk_27 {code : ByteArray} {pc : Nat} (h : DkAt code pc [27]) : decode code pc = .ok (.iload_n 1, 1) := dk_of ((dk_bind (dk_u1 (h 0 _ rfl))).trans rfl)
theorem dk_28 {code : ByteArray} {pc : Nat} (h : DkAt code pc [28]) : decode code pc = .ok (.iload_n 2, 1) := dk_of ((dk_bind (dk_u1 (h 0 _ rfl))).trans rfl)
theorem dk_29 {code : ByteArray} {pc : Nat} (h : DkAt code pc [29]) : decode code pc = .ok (.iload_n 3, 1) := dk_of ((dk_bind (dk_u1 (h 0 _ rfl))).trans rfl)
theorem dk_30 {code : ByteArray} {pc : Nat} (h : DkAt code pc [30]) : decode code pc = .ok (.lload_n 0, 1) := dk_of ((dk_bind (dk_u1 (h 0 _ rfl))).trans rfl)
theorem dk_31 {code : ByteArray} {pc : Nat} (h : DkAt code pc [31]) : decode code pc = .ok (.lload_n 1, 1) := dk_of ((dk_bind (dk_u1 (h 0 _ rfl))).trans rfl)
theorem dk_32 {code : ByteArray} {pc : Nat} (h : DkAt code pc [32]) : decode code pc = .ok (.lload_n 2, 1) := dk_of ((dk_bind (dk_u1 (h 0 _ rfl))).trans rfl)
theorem dk_33 {code : ByteArray} {pc : Nat} (h : DkAt code pc [33]) : decode code pc = .ok (.lload_n 3, 1) := dk_of ((dk_bind (dk_u1 (h 0 _ rfl))).trans rfl)
theorem dk_42 {code : ByteArray} {pc : Nat} (h : DkAt code pc [42]) : decode code pc = .ok (.aload_n 0, 1) := dk_of ((dk_bind (dk_u1 (h 0 _ rfl))).trans rfl)
theorem dk_43 {code : ByteArray} {pc : Nat} (h : DkAt code pc [43]) : decode code pc = .ok (.aload_n 1, 1) := dk_of ((dk_bind (dk_u1 (h 0 _ rfl))).trans rfl)
theorem dk_44 {code : ByteArray} {pc : Nat} (h : DkAt code pc [44]) : decode code pc = .ok (.aload_n 2, 1) := dk_of ((dk_bind (dk_u1 (h 0 _ rfl))).trans rfl)
theorem dk_45 {code : ByteArray} {pc : Nat} (h : DkAt code pc [45]) : decode code pc = .ok (.aload_n 3, 1) := dk_of ((dk_bind (dk_u1 (h 0 _ rfl))).trans rfl)
theorem dk_46 {code : ByteArray} {pc : Nat} (h : DkAt code pc [46]) : decode code pc = .ok (.iaload, 1) := dk_of ((dk_bind (dk_u1 (h 0 _ rfl))).trans rfl)
theorem dk_47 {code : ByteArray} {pc : Nat} (h : DkAt code pc [47]) : decode code pc = .ok (.laload, 1) := dk_of ((dk_bind (dk_u1 (h 0 _ rfl))).trans rfl)
theorem dk_50 {code : ByteArray} {pc : Nat} (h : DkAt code pc [50]) : decode code pc = .ok (.aaload, 1) := dk_of ((dk_bind (dk_u1 (h 0 _ rfl))).trans rfl)
theorem dk_51 {code : ByteArray} {pc : Nat} (h : DkAt code pc [51]) : decode code pc = .ok (.baload, 1) := dk_of ((dk_bind (dk_u1 (h 0 _ rfl))).trans rfl)
theorem dk_54 {code : ByteArray} {pc : Nat} (a : UInt8) (h : DkAt code pc [54, a]) : decode code pc = .ok (.istore a.toNat, 2) := dk_of ((dk_bind (dk_u1 (h 0 _ rfl))).trans ((dk_bind (dk_u1 (h 1 _ rfl))).trans rfl))
theorem dk_55 {code : ByteArray} {pc : Nat} (a : UInt8) (h : DkAt code pc [55, a]) : decode code pc = .ok (.lstore a.toNat, 2) := dk_of ((dk_bind (dk_u1 (h 0 _ rfl))).trans ((dk_bind (dk_u1 (h 1 _ rfl))).trans rfl))
theorem dk_57 {code : ByteArray} {pc : Nat} (a : UInt8) (h : DkAt code pc [57, a]) : decode code pc = .ok (.dstore a.toNat, 2) := dk_of ((dk_bind (dk_u1 (h 0 _ rfl))).trans ((dk_bind (dk_u1 (h 1 _ rfl))).trans rfl))
theorem dk_58 {code : ByteArray} {pc : Nat} (a : UInt8) (h : DkAt code pc [58, a]) : decode code pc = .ok (.astore a.toNat, 2) := dk_of ((dk_bind (dk_u1 (h 0 _ rfl))).trans ((dk_bind (dk_u1 (h 1 _ rfl))).trans rfl))
theorem dk_59 {code : ByteArray} {pc : Nat} (h : DkAt code pc [59]) : decode code pc = .ok (.istore_n 0, 1) := dk_of ((dk_bind (dk_u1 (h 0 _ rfl))).trans rfl)
theorem dk_60 {code : ByteArray} {pc : Nat} (h : DkAt code pc [60]) : decode code pc = .ok (.istore_n 1, 1) := dk_of ((dk_bind (dk_u1 (h 0 _ rfl))).trans rfl)
theorem dk_61 {code : ByteArray} {pc : Nat} (h : DkAt code pc [61]) : decode code pc = .ok (.istore_n 2, 1) := dk_of ((dk_bind (dk_u1 (h 0 _ rfl))).trans rfl)
theorem dk_62 {code : ByteArray} {pc : Nat} (h : DkAt code pc [62]) : decode code pc = .ok (.istore_n 3, 1) := dk_of ((dk_bind (dk_u1 (h 0 _ rfl))).trans rfl)
theorem dk_64 {code : ByteArray} {pc : Nat} (h : DkAt code pc [64]) : decode code pc = .ok (.lstore_n 1, 1) := dk_of ((dk_bind (dk_u1 (h 0 _ rfl))).trans rfl)
theorem dk_65 {code : ByteArray} {pc : Nat} (h : DkAt code pc [65]) : decode code pc = .ok (.lstore_n 2, 1) := dk_of ((dk_bind (dk_u1 (h 0 _ rfl))).trans rfl)
theorem dk_66 {code : ByteArray} {pc : Nat} (h : DkAt code pc [66]) : decode code pc = .ok (.lstore_n 3, 1) := dk_of ((dk_bind (dk_u1 (h 0 _ rfl))).trans rfl)
theorem dk_76 {code : ByteArray} {pc : Nat} (h : DkAt code pc [76]) : decode code pc = .ok (.astore_n 1, 1) := dk_of ((dk_bind (dk_u1 (h 0 _ rfl))).trans rfl)
theorem dk_77 {code : ByteArray} {pc : Nat} (h : DkAt code pc [77]) : decode code pc = .ok (.astore_n 2, 1) := dk_of ((dk_bind (dk_u1 (h 0 _ rfl))).trans rfl)
theorem dk_78 {code : ByteArray} {pc : Nat} (h : DkAt code pc [78]) : decode code pc = .ok (.astore_n 3, 1) := dk_of ((dk_bind (dk_u1 (h 0 _ rfl))).trans rfl)
theorem dk_79 {code : ByteArray} {pc : Nat} (h : DkAt code pc [79]) : decode code pc = .ok (.iastore, 1) := dk_of ((dk_bind (dk_u1 (h 0 _ rfl))).trans rfl)
theorem dk_80 {code : ByteArray} {pc : Nat} (h : DkAt code pc [80]) : decode code pc = .ok (.lastore, 1) := dk_of ((dk_bind (dk_u1 (h 0 _ rfl))).trans rfl)
theorem dk_83 {code : ByteArray} {pc : Nat} (h : DkAt code pc [83]) : decode code pc = .ok (.aastore, 1) := dk_of ((dk_bind (dk_u1 (h 0 _ rfl))).trans rfl)
theorem dk_84 {code : ByteArray} {pc : Nat} (h : DkAt code pc [84]) : decode code pc = .ok (.bastore, 1) := dk_of ((dk_bind (dk_u1 (h 0 _ rfl))).trans rfl)
theorem dk_87 {code : ByteArray} {pc : Nat} (h : DkAt code pc [87]) : decode code pc = .ok (.pop, 1) := dk_of ((dk_bind (dk_u1 (h 0 _ rfl))).trans rfl)
theorem dk_89 {code : ByteArray} {pc : Nat} (h : DkAt code pc [89]) : decode code pc = .ok (.dup, 1) := dk_of ((dk_bind (dk_u1 (h 0 _ rfl))).trans rfl)
theorem dk_90 {code : ByteArray} {pc : Nat} (h : DkAt code pc [90]) : decode code pc = .ok (.dup_x1, 1) := dk_of ((dk_bind (dk_u1 (h 0 _ rfl))).trans rfl)
theorem dk_92 {code : ByteArray} {pc : Nat} (h : DkAt code pc [92]) : decode code pc = .ok (.dup2, 1) := dk_of ((dk_bind (dk_u1 (h 0 _ rfl))).trans rfl)
theorem dk_96 {code : ByteArray} {pc : Nat} (h : DkAt code pc [96]) : decode code pc = .ok (.iadd, 1) := dk_of ((dk_bind (dk_u1 (h 0 _ rfl))).trans rfl)
theorem dk_97 {code : ByteArray} {pc : Nat} (h : DkAt code pc [97]) : decode code pc = .ok (.ladd, 1) := dk_of ((dk_bind (dk_u1 (h 0 _ rfl))).trans rfl)
theorem dk_100 {code : ByteArray} {pc : Nat} (h : DkAt code pc [100]) : decode code pc = .ok (.isub, 1) := dk_of ((dk_bind (dk_u1 (h 0 _ rfl))).trans rfl)
theorem dk_101 {code : ByteArray} {pc : Nat} (h : DkAt code pc [101]) : decode code pc = .ok (.lsub, 1) := dk_of ((dk_bind (dk_u1 (h 0 _ rfl))).trans rfl)
theorem dk_104 {code : ByteArray} {pc : Nat} (h : DkAt code pc [104]) : decode code pc = .ok (.imul, 1) := dk_of ((dk_bind (dk_u1 (h 0 _ rfl))).trans rfl)
theorem dk_105 {code : ByteArray} {pc : Nat} (h : DkAt code pc [105]) : decode code pc = .ok (.lmul, 1) := dk_of ((dk_bind (dk_u1 (h 0 _ rfl))).trans rfl)
theorem dk_107 {code : ByteArray} {pc : Nat} (h : DkAt code pc [107]) : decode code pc = .ok (.dmul, 1) := dk_of ((dk_bind (dk_u1 (h 0 _ rfl))).trans rfl)
theorem dk_108 {code : ByteArray} {pc : Nat} (h : DkAt code pc [108]) : decode code pc = .ok (.idiv, 1) := dk_of ((dk_bind (dk_u1 (h 0 _ rfl))).trans rfl)
theorem dk_109 {code : ByteArray} {pc : Nat} (h : DkAt code pc [109]) : decode code pc = .ok (.ldiv, 1) := dk_of ((dk_bind (dk_u1 (h 0 _ rfl))).trans rfl)
theorem dk_111 {code : ByteArray} {pc : Nat} (h : DkAt code pc [111]) : decode code pc = .ok (.ddiv, 1) := dk_of ((dk_bind (dk_u1 (h 0 _ rfl))).trans rfl)
theorem dk_112 {code : ByteArray} {pc : Nat} (h : DkAt code pc [112]) : decode code pc = .ok (.irem, 1) := dk_of ((dk_bind (dk_u1 (h 0 _ rfl))).trans rfl)
theorem dk_113 {code : ByteArray} {pc : Nat} (h : DkAt code pc [113]) : decode code pc = .ok (.lrem, 1) := dk_of ((dk_bind (dk_u1 (h 0 _ rfl))).trans rfl)
theorem dk_116 {code : ByteArray} {pc : Nat} (h : DkAt code pc [116]) : decode code pc = .ok (.ineg, 1) := dk_of ((dk_bind (dk_u1 (h 0 _ rfl))).trans rfl)
theorem dk_117 {code : ByteArray} {pc : Nat} (h : DkAt code pc [117]) : decode code pc = .ok (.lneg, 1) := dk_of ((dk_bind (dk_u1 (h 0 _ rfl))).trans rfl)
theorem dk_120 {code : ByteArray} {pc : Nat} (h : DkAt code pc [120]) : decode code pc = .ok (.ishl, 1) := dk_of ((dk_bind (dk_u1 (h 0 _ rfl))).trans rfl)
theorem dk_121 {code : ByteArray} {pc : Nat} (h : DkAt code pc [121]) : decode code pc = .ok (.lshl, 1) := dk_of ((dk_bind (dk_u1 (h 0 _ rfl))).trans rfl)
theorem dk_122 {code : ByteArray} {pc : Nat} (h : DkAt code pc [122]) : decode code pc = .ok (.ishr, 1) := dk_of ((dk_bind (dk_u1 (h 0 _ rfl))).trans rfl)
theorem dk_124 {code : ByteArray} {pc : Nat} (h : DkAt code pc [124]) : decode code pc = .ok (.iushr, 1) := dk_of ((dk_bind (dk_u1 (h 0 _ rfl))).trans rfl)
theorem dk_125 {code : ByteArray} {pc : Nat} (h : DkAt code pc [125]) : decode code pc = .ok (.lushr, 1) := dk_of ((dk_bind (dk_u1 (h 0 _ rfl))).trans rfl)
theorem dk_126 {code : ByteArray} {pc : Nat} (h : DkAt code pc [126]) : decode code pc = .ok (.iand, 1) := dk_of ((dk_bind (dk_u1 (h 0 _ rfl))).trans rfl)
theorem dk_127 {code : ByteArray} {pc : Nat} (h : DkAt code pc [127]) : decode code pc = .ok (.land, 1) := dk_of ((dk_bind (dk_u1 (h 0 _ rfl))).trans rfl)
theorem dk_128 {code : ByteArray} {pc : Nat} (h : DkAt code pc [128]) : decode code pc = .ok (.ior, 1) := dk_of ((dk_bind (dk_u1 (h 0 _ rfl))).trans rfl)
theorem dk_129 {code : ByteArray} {pc : Nat} (h : DkAt code pc [129]) : decode code pc = .ok (.lor, 1) := dk_of ((dk_bind (dk_u1 (h 0 _ rfl))).trans rfl)
theorem dk_130 {code : ByteArray} {pc : Nat} (h : DkAt code pc [130]) : decode code pc = .ok (.ixor, 1) := dk_of ((dk_bind (dk_u1 (h 0 _ rfl))).trans rfl)
theorem dk_131 {code : ByteArray} {pc : Nat} (h : DkAt code pc [131]) : decode code pc = .ok (.lxor, 1) := dk_of ((dk_bind (dk_u1 (h 0 _ rfl))).trans rfl)
theorem dk_132 {code : ByteArray} {pc : Nat} (a b : UInt8) (h : DkAt code pc [132, a, b]) : decode code pc = .ok (.iinc a.toNat (Reader.signed 8 b.toNat), 3) := dk_of ((dk_bind (dk_u1 (h 0 _ rfl))).trans ((dk_bind (dk_u1 (h 1 _ rfl))).trans ((dk_bind (dk_map (dk_u1 (h 2 _ rfl)))).trans rfl)))
theorem dk_133 {code : ByteArray} {pc : Nat} (h : DkAt code pc [133]) : decode code pc = .ok (.i2l, 1) := dk_of ((dk_bind (dk_u1 (h 0 _ rfl))).trans rfl)
theorem dk_135 {code : ByteArray} {pc : Nat} (h : DkAt code pc [135]) : decode code pc = .ok (.i2d, 1) := dk_of ((dk_bind (dk_u1 (h 0 _ rfl))).trans rfl)
theorem dk_136 {code : ByteArray} {pc : Nat} (h : DkAt code pc [136]) : decode code pc = .ok (.l2i, 1) := dk_of ((dk_bind (dk_u1 (h 0 _ rfl))).trans rfl)
theorem dk_145 {code : ByteArray} {pc : Nat} (h : DkAt code pc [145]) : decode code pc = .ok (.i2b, 1) := dk_of ((dk_bind (dk_u1 (h 0 _ rfl))).trans rfl)
theorem dk_146 {code : ByteArray} {pc : Nat} (h : DkAt code pc [146]) : decode code pc = .ok (.i2c, 1) := dk_of ((dk_bind (dk_u1 (h 0 _ rfl))).trans rfl)
theorem dk_148 {code : ByteArray} {pc : Nat} (h : DkAt code pc [148]) : decode code pc = .ok (.lcmp, 1) := dk_of ((dk_bind (dk_u1 (h 0 _ rfl))).trans rfl)
theorem dk_151 {code : ByteArray} {pc : Nat} (h : DkAt code pc [151]) : decode code pc = .ok (.dcmp .l, 1) := dk_of ((dk_bind (dk_u1 (h 0 _ rfl))).trans rfl)
theorem dk_153 {code : ByteArray} {pc : Nat} (a b : UInt8) (h : DkAt code pc [153, a, b]) : decode code pc = .ok (.ifCond .eq (Reader.signed 16 (a.toNat * 256 + b.toNat)), 3) := dk_of ((dk_bind (dk_u1 (h 0 _ rfl))).trans ((dk_bind (dk_map (dk_u2 (h 1 _ rfl) (h 2 _ rfl)))).trans rfl))
theorem dk_154 {code : ByteArray} {pc : Nat} (a b : UInt8) (h : DkAt code pc [154, a, b]) : decode code pc = .ok (.ifCond .ne (Reader.signed 16 (a.toNat * 256 + b.toNat)), 3) := dk_of ((dk_bind (dk_u1 (h 0 _ rfl))).trans ((dk_bind (dk_map (dk_u2 (h 1 _ rfl) (h 2 _ rfl)))).trans rfl))
theorem dk_155 {code : ByteArray} {pc : Nat} (a b : UInt8) (h : DkAt code pc [155, a, b]) : decode code pc = .ok (.ifCond .lt (Reader.signed 16 (a.toNat * 256 + b.toNat)), 3) := dk_of ((dk_bind (dk_u1 (h 0 _ rfl))).trans ((dk_bind (dk_map (dk_u2 (h 1 _ rfl) (h 2 _ rfl)))).trans rfl))
theorem dk_156 {code : ByteArray} {pc : Nat} (a b : UInt8) (h : DkAt code pc [156, a, b]) : decode code pc = .ok (.ifCond .ge (Reader.signed 16 (a.toNat * 256 + b.toNat)), 3) := dk_of ((dk_bind (dk_u1 (h 0 _ rfl))).trans ((dk_bind (dk_map (dk_u2 (h 1 _ rfl) (h 2 _ rfl)))).trans rfl))
theorem dk_157 {code : ByteArray} {pc : Nat} (a b : UInt8) (h : DkAt code pc [157, a, b]) : decode code pc = .ok (.ifCond .gt (Reader.signed 16 (a.toNat * 256 + b.toNat)), 3) := dk_of ((dk_bind (dk_u1 (h 0 _ rfl))).trans ((dk_bind (dk_map (dk_u2 (h 1 _ rfl) (h 2 _ rfl)))).trans rfl))
theorem dk_158 {code : ByteArray} {pc : Nat} (a b : UInt8) (h : DkAt code pc [158, a, b]) : decode code pc = .ok (.ifCond .le (Reader.signed 16 (a.toNat * 256 + b.toNat)), 3) := dk_of ((dk_bind (dk_u1 (h 0 _ rfl))).trans ((dk_bind (dk_map (dk_u2 (h 1 _ rfl) (h 2 _ rfl)))).trans rfl))
theorem dk_159 {code : ByteArray} {pc : Nat} (a b : UInt8) (h : DkAt code pc [159, a, b]) : decode code pc = .ok (.if_icmp .eq (Reader.signed 16 (a.toNat * 256 + b.toNat)), 3) := dk_of ((dk_bind (dk_u1 (h 0 _ rfl))).trans ((dk_bind (dk_map (dk_u2 (h 1 _ rfl) (h 2 _ rfl)))).trans rfl))
theorem dk_160 {code : ByteArray} {pc : Nat} (a b : UInt8) (h : DkAt code pc [160, a, b]) : decode code pc = .ok (.if_icmp .ne (Reader.signed 16 (a.toNat * 256 + b.toNat)), 3) := dk_of ((dk_bind (dk_u1 (h 0 _ rfl))).trans ((dk_bind (dk_map (dk_u2 (h 1 _ rfl) (h 2 _ rfl)))).trans rfl))
theorem dk_161 {code : ByteArray} {pc : Nat} (a b : UInt8) (h : DkAt code pc [161, a, b]) : decode code pc = .ok (.if_icmp .lt (Reader.signed 16 (a.toNat * 256 + b.toNat)), 3) := dk_of ((dk_bind (dk_u1 (h 0 _ rfl))).trans ((dk_bind (dk_map (dk_u2 (h 1 _ rfl) (h 2 _ rfl)))).trans rfl))
theorem dk_162 {code : ByteArray} {pc : Nat} (a b : UInt8) (h : DkAt code pc [162, a, b]) : decode code pc = .ok (.if_icmp .ge (Reader.signed 16 (a.toNat * 256 + b.toNat)), 3) := dk_of ((dk_bind (dk_u1 (h 0 _ rfl))).trans ((dk_bind (dk_map (dk_u2 (h 1 _ rfl) (h 2 _ rfl)))).trans rfl))
theorem dk_163 {code : ByteArray} {pc : Nat} (a b : UInt8) (h : DkAt code pc [163, a, b]) : decode code pc = .ok (.if_icmp .gt (Reader.signed 16 (a.toNat * 256 + b.toNat)), 3) := dk_of ((dk_bind (dk_u1 (h 0 _ rfl))).trans ((dk_bind (dk_map (dk_u2 (h 1 _ rfl) (h 2 _ rfl)))).trans rfl))
theorem dk_164 {code : ByteArray} {pc : Nat} (a b : UInt8) (h : DkAt code pc [164, a, b]) : decode code pc = .ok (.if_icmp .le (Reader.signed 16 (a.toNat * 256 + b.toNat)), 3) := dk_of ((dk_bind (dk_u1 (h 0 _ rfl))).trans ((dk_bind (dk_map (dk_u2 (h 1 _ rfl) (h 2 _ rfl)))).trans rfl))
theorem dk_165 {code : ByteArray} {pc : Nat} (a b : UInt8) (h : DkAt code pc [165, a, b]) : decode code pc = .ok (.if_acmp .eq (Reader.signed 16 (a.toNat * 256 + b.toNat)), 3) := dk_of ((dk_bind (dk_u1 (h 0 _ rfl))).trans ((dk_bind (dk_map (dk_u2 (h 1 _ rfl) (h 2 _ rfl)))).trans rfl))
theorem dk_166 {code : ByteArray} {pc : Nat} (a b : UInt8) (h : DkAt code pc [166, a, b]) : decode code pc = .ok (.if_acmp .ne (Reader.signed 16 (a.toNat * 256 + b.toNat)), 3) := dk_of ((dk_bind (dk_u1 (h 0 _ rfl))).trans ((dk_bind (dk_map (dk_u2 (h 1 _ rfl) (h 2 _ rfl)))).trans rfl))
theorem dk_167 {code : ByteArray} {pc : Nat} (a b : UInt8) (h : DkAt code pc [167, a, b]) : decode code pc = .ok (.goto (Reader.signed 16 (a.toNat * 256 + b.toNat)), 3) := dk_of ((dk_bind (dk_u1 (h 0 _ rfl))).trans ((dk_bind (dk_map (dk_u2 (h 1 _ rfl) (h 2 _ rfl)))).trans rfl))
theorem dk_172 {code : ByteArray} {pc : Nat} (h : DkAt code pc [172]) : decode code pc = .ok (.ireturn, 1) := dk_of ((dk_bind (dk_u1 (h 0 _ rfl))).trans rfl)
theorem dk_173 {code : ByteArray} {pc : Nat} (h : DkAt code pc [173]) : decode code pc = .ok (.lreturn, 1) := dk_of ((dk_bind (dk_u1 (h 0 _ rfl))).trans rfl)
theorem dk_175 {code : ByteArray} {pc : Nat} (h : DkAt code pc [175]) : decode code pc = .ok (.dreturn, 1) := dk_of ((dk_bind (dk_u1 (h 0 _ rfl))).trans rfl)
theorem dk_176 {code : ByteArray} {pc : Nat} (h : DkAt code pc [176]) : decode code pc = .ok (.areturn, 1) := dk_of ((dk_bind (dk_u1 (h 0 _ rfl))).trans rfl)
theorem dk_177 {code : ByteArray} {pc : Nat} (h : DkAt code pc [177]) : decode code pc = .ok (.return_, 1) := dk_of ((dk_bind (dk_u1 (h 0 _ rfl))).trans rfl)
theorem dk_178 {code : ByteArray} {pc : Nat} (a b : UInt8) (h : DkAt code pc [178, a, b]) : decode code pc = .ok (.getstatic (a.toNat * 256 + b.toNat), 3) := dk_of ((dk_bind (dk_u1 (h 0 _ rfl))).trans ((dk_bind (dk_u2 (h 1 _ rfl) (h 2 _ rfl))).trans rfl))
theorem dk_180 {code : ByteArray} {pc : Nat} (a b : UInt8) (h : DkAt code pc [180, a, b]) : decode code pc = .ok (.getfield (a.toNat * 256 + b.toNat), 3) := dk_of ((dk_bind (dk_u1 (h 0 _ rfl))).trans ((dk_bind (dk_u2 (h 1 _ rfl) (h 2 _ rfl))).trans rfl))
theorem dk_181 {code : ByteArray} {pc : Nat} (a b : UInt8) (h : DkAt code pc [181, a, b]) : decode code pc = .ok (.putfield (a.toNat * 256 + b.toNat), 3) := dk_of ((dk_bind (dk_u1 (h 0 _ rfl))).trans ((dk_bind (dk_u2 (h 1 _ rfl) (h 2 _ rfl))).trans rfl))
theorem dk_182 {code : ByteArray} {pc : Nat} (a b : UInt8) (h : DkAt code pc [182, a, b]) : decode code pc = .ok (.invokevirtual (a.toNat * 256 + b.toNat), 3) := dk_of ((dk_bind (dk_u1 (h 0 _ rfl))).trans ((dk_bind (dk_u2 (h 1 _ rfl) (h 2 _ rfl))).trans rfl))
theorem dk_183 {code : ByteArray} {pc : Nat} (a b : UInt8) (h : DkAt code pc [183, a, b]) : decode code pc = .ok (.invokespecial (a.toNat * 256 + b.toNat), 3) := dk_of ((dk_bind (dk_u1 (h 0 _ rfl))).trans ((dk_bind (dk_u2 (h 1 _ rfl) (h 2 _ rfl))).trans rfl))
theorem dk_184 {code : ByteArray} {pc : Nat} (a b : UInt8) (h : DkAt code pc [184, a, b]) : decode code pc = .ok (.invokestatic (a.toNat * 256 + b.toNat), 3) := dk_of ((dk_bind (dk_u1 (h 0 _ rfl))).trans ((dk_bind (dk_u2 (h 1 _ rfl) (h 2 _ rfl))).trans rfl))
theorem dk_187 {code : ByteArray} {pc : Nat} (a b : UInt8) (h : DkAt code pc [187, a, b]) : decode code pc = .ok (.new (a.toNat * 256 + b.toNat), 3) := dk_of ((dk_bind (dk_u1 (h 0 _ rfl))).trans ((dk_bind (dk_u2 (h 1 _ rfl) (h 2 _ rfl))).trans rfl))
theorem dk_188_8 {code : ByteArray} {pc : Nat} (h : DkAt code pc [188, 8]) : decode code pc = .ok (.newarray .byte, 2) := dk_of ((dk_bind (dk_u1 (h 0 _ rfl))).trans ((dk_bind (dk_u1 (h 1 _ rfl))).trans rfl))
theorem dk_188_10 {code : ByteArray} {pc : Nat} (h : DkAt code pc [188, 10]) : decode code pc = .ok (.newarray .int, 2) := dk_of ((dk_bind (dk_u1 (h 0 _ rfl))).trans ((dk_bind (dk_u1 (h 1 _ rfl))).trans rfl))
theorem dk_188_11 {code : ByteArray} {pc : Nat} (h : DkAt code pc [188, 11]) : decode code pc = .ok (.newarray .long, 2) := dk_of ((dk_bind (dk_u1 (h 0 _ rfl))).trans ((dk_bind (dk_u1 (h 1 _ rfl))).trans rfl))
theorem dk_189 {code : ByteArray} {pc : Nat} (a b : UInt8) (h : DkAt code pc [189, a, b]) : decode code pc = .ok (.anewarray (a.toNat * 256 + b.toNat), 3) := dk_of ((dk_bind (dk_u1 (h 0 _ rfl))).trans ((dk_bind (dk_u2 (h 1 _ rfl) (h 2 _ rfl))).trans rfl))
theorem dk_190 {code : ByteArray} {pc : Nat} (h : DkAt code pc [190]) : decode code pc = .ok (.arraylength, 1) := dk_of ((dk_bind (dk_u1 (h 0 _ rfl))).trans rfl)
theorem dk_191 {code : ByteArray} {pc : Nat} (h : DkAt code pc [191]) : decode code pc = .ok (.athrow, 1) := dk_of ((dk_bind (dk_u1 (h 0 _ rfl))).trans rfl)
theorem dk_192 {code : ByteArray} {pc : Nat} (a b : UInt8) (h : DkAt code pc [192, a, b]) : decode code pc = .ok (.checkcast (a.toNat * 256 + b.toNat), 3) := dk_of ((dk_bind (dk_u1 (h 0 _ rfl))).trans ((dk_bind (dk_u2 (h 1 _ rfl) (h 2 _ rfl))).trans rfl))
theorem dk_198 {code : ByteArray} {pc : Nat} (a b : UInt8) (h : DkAt code pc [198, a, b]) : decode code pc = .ok (.ifnull (Reader.signed 16 (a.toNat * 256 + b.toNat)), 3) := dk_of ((dk_bind (dk_u1 (h 0 _ rfl))).trans ((dk_bind (dk_map (dk_u2 (h 1 _ rfl) (h 2 _ rfl)))).trans rfl))
theorem dk_199 {code : ByteArray} {pc : Nat} (a b : UInt8) (h : DkAt code pc [199, a, b]) : decode code pc = .ok (.ifnonnull (Reader.signed 16 (a.toNat * 256 + b.toNat)), 3) := dk_of ((dk_bind (dk_u1 (h 0 _ rfl))).trans ((dk_bind (dk_map (dk_u2 (h 1 _ rfl) (h 2 _ rfl)))).trans rfl))
/-! java/lang/AbstractStringBuilder -/
set_option maxRecDepth 100000
def RJ0 : String := "java/lang/AbstractStringBuilder"
abbrev cJ0_init : ByteArray := prog_12_method_2_code
def yJ0_init : MethodName := ⟨RJ0, "<init>", "(I)V"⟩
def dkwJ0_init_1 : List UInt8 := [167, 0, 16, 42, 27, 184, 0, 26, 181, 0, 15, 42, 4, 181, 0, 22, 177]
abbrev dktJ0_init_1 : List UInt8 := dkwJ0_init_1 ++ []
def dkwJ0_init_0 : List UInt8 := [42, 183, 0, 3, 178, 0, 18, 153, 0, 18, 42, 27, 188, 8, 181, 0, 15, 42, 3, 181, 0, 22]
abbrev dktJ0_init_0 : List UInt8 := dkwJ0_init_0 ++ dktJ0_init_1
theorem dksJ0_init_0 : cJ0_init.data.toList.drop 0 = dktJ0_init_0 := by decide +kernel
theorem dksJ0_init_1 : cJ0_init.data.toList.drop 22 = dktJ0_init_1 := dk_seg dksJ0_init_0 22 rfl rfl
theorem dJ0_init_0 : decode cJ0_init 0 = .ok (.aload_n 0, 1) := dk_42 (dk_at dksJ0_init_0 0 rfl rfl)
theorem dJ0_init_1 : decode cJ0_init 1 = .ok (.invokespecial 3, 3) := dk_183 0 3 (dk_at dksJ0_init_0 1 rfl rfl)
theorem dJ0_init_4 : decode cJ0_init 4 = .ok (.getstatic 18, 3) := dk_178 0 18 (dk_at dksJ0_init_0 4 rfl rfl)
theorem dJ0_init_7 : decode cJ0_init 7 = .ok (.ifCond .eq 18, 3) := dk_153 0 18 (dk_at dksJ0_init_0 7 rfl rfl)
theorem dJ0_init_10 : decode cJ0_init 10 = .ok (.aload_n 0, 1) := dk_42 (dk_at dksJ0_init_0 10 rfl rfl)
theorem dJ0_init_11 : decode cJ0_init 11 = .ok (.iload_n 1, 1) := dk_27 (dk_at dksJ0_init_0 11 rfl rfl)
theorem dJ0_init_12 : decode cJ0_init 12 = .ok (.newarray .byte, 2) := dk_188_8 (dk_at dksJ0_init_0 12 rfl rfl)
theorem dJ0_init_14 : decode cJ0_init 14 = .ok (.putfield 15, 3) := dk_181 0 15 (dk_at dksJ0_init_0 14 rfl rfl)
theorem dJ0_init_17 : decode cJ0_init 17 = .ok (.aload_n 0, 1) := dk_42 (dk_at dksJ0_init_0 17 rfl rfl)
theorem dJ0_init_18 : decode cJ0_init 18 = .ok (.iconst 0, 1) := dk_3 (dk_at dksJ0_init_0 18 rfl rfl)
theorem dJ0_init_19 : decode cJ0_init 19 = .ok (.putfield 22, 3) := dk_181 0 22 (dk_at dksJ0_init_0 19 rfl rfl)
theorem dJ0_init_22 : decode cJ0_init 22 = .ok (.goto 16, 3) := dk_167 0 16 (dk_at dksJ0_init_1 0 rfl rfl)
theorem dJ0_init_25 : decode cJ0_init 25 = .ok (.aload_n 0, 1) := dk_42 (dk_at dksJ0_init_1 3 rfl rfl)
theorem dJ0_init_26 : decode cJ0_init 26 = .ok (.iload_n 1, 1) := dk_27 (dk_at dksJ0_init_1 4 rfl rfl)
theorem dJ0_init_27 : decode cJ0_init 27 = .ok (.invokestatic 26, 3) := dk_184 0 26 (dk_at dksJ0_init_1 5 rfl rfl)
theorem dJ0_init_30 : decode cJ0_init 30 = .ok (.putfield 15, 3) := dk_181 0 15 (dk_at dksJ0_init_1 8 rfl rfl)
theorem dJ0_init_33 : decode cJ0_init 33 = .ok (.aload_n 0, 1) := dk_42 (dk_at dksJ0_init_1 11 rfl rfl)
theorem dJ0_init_34 : decode cJ0_init 34 = .ok (.iconst 1, 1) := dk_4 (dk_at dksJ0_init_1 12 rfl rfl)
theorem dJ0_init_35 : decode cJ0_init 35 = .ok (.putfield 22, 3) := dk_181 0 22 (dk_at dksJ0_init_1 13 rfl rfl)
theorem dJ0_init_38 : decode cJ0_init 38 = .ok (.return_, 1) := dk_177 (dk_at dksJ0_init_1 16 rfl rfl)
abbrev cJ0_length : ByteArray := prog_12_method_6_code
def yJ0_length : MethodName := ⟨RJ0, "length", "()I"⟩
theorem dJ0_length_0 : decode cJ0_length 0 = .ok (.aload_n 0, 1) := by decide +kernel
theorem dJ0_length_1 : decode cJ0_length 1 = .ok (.getfield 79, 3) := by decide +kernel
theorem dJ0_length_4 : decode cJ0_length 4 = .ok (.ireturn, 1) := by decide +kernel
abbrev cJ0_setLength : ByteArray := prog_12_method_13_code
def yJ0_setLength : MethodName := ⟨RJ0, "setLength", "(I)V"⟩
def dkwJ0_setLength_3 : List UInt8 := [164, 0, 8, 42, 4, 181, 0, 73, 42, 27, 181, 0, 79, 177]
abbrev dktJ0_setLength_3 : List UInt8 := dkwJ0_setLength_3 ++ []
def dkwJ0_setLength_2 : List UInt8 := [167, 0, 31, 42, 180, 0, 15, 42, 180, 0, 79, 27, 184, 0, 137, 167, 0, 16, 42, 180, 0, 79, 27]
abbrev dktJ0_setLength_2 : List UInt8 := dkwJ0_setLength_2 ++ dktJ0_setLength_3
def dkwJ0_setLength_1 : List UInt8 := [162, 0, 40, 42, 182, 0, 83, 153, 0, 18, 42, 180, 0, 15, 42, 180, 0, 79, 27, 184, 0, 133]
abbrev dktJ0_setLength_1 : List UInt8 := dkwJ0_setLength_1 ++ dktJ0_setLength_2
def dkwJ0_setLength_0 : List UInt8 := [27, 156, 0, 12, 187, 0, 129, 89, 27, 183, 0, 131, 191, 42, 27, 182, 0, 100, 42, 180, 0, 79, 27]
abbrev dktJ0_setLength_0 : List UInt8 := dkwJ0_setLength_0 ++ dktJ0_setLength_1
theorem dksJ0_setLength_0 : cJ0_setLength.data.toList.drop 0 = dktJ0_setLength_0 := by decide +kernel
theorem dksJ0_setLength_1 : cJ0_setLength.data.toList.drop 23 = dktJ0_setLength_1 := dk_seg dksJ0_setLength_0 23 rfl rfl
theorem dksJ0_setLength_2 : cJ0_setLength.data.toList.drop 45 = dktJ0_setLength_2 := dk_seg dksJ0_setLength_1 22 rfl rfl
theorem dksJ0_setLength_3 : cJ0_setLength.data.toList.drop 68 = dktJ0_setLength_3 := dk_seg dksJ0_setLength_2 23 rfl rfl
theorem dJ0_setLength_0 : decode cJ0_setLength 0 = .ok (.iload_n 1, 1) := dk_27 (dk_at dksJ0_setLength_0 0 rfl rfl)
theorem dJ0_setLength_1 : decode cJ0_setLength 1 = .ok (.ifCond .ge 12, 3) := dk_156 0 12 (dk_at dksJ0_setLength_0 1 rfl rfl)
theorem dJ0_setLength_4 : decode cJ0_setLength 4 = .ok (.new 129, 3) := dk_187 0 129 (dk_at dksJ0_setLength_0 4 rfl rfl)
theorem dJ0_setLength_7 : decode cJ0_setLength 7 = .ok (.dup, 1) := dk_89 (dk_at dksJ0_setLength_0 7 rfl rfl)
theorem dJ0_setLength_8 : decode cJ0_setLength 8 = .ok (.iload_n 1, 1) := dk_27 (dk_at dksJ0_setLength_0 8 rfl rfl)
theorem dJ0_setLength_9 : decode cJ0_setLength 9 = .ok (.invokespecial 131, 3) := dk_183 0 131 (dk_at dksJ0_setLength_0 9 rfl rfl)
theorem dJ0_setLength_12 : decode cJ0_setLength 12 = .ok (.athrow, 1) := dk_191 (dk_at dksJ0_setLength_0 12 rfl rfl)
theorem dJ0_setLength_13 : decode cJ0_setLength 13 = .ok (.aload_n 0, 1) := dk_42 (dk_at dksJ0_setLength_0 13 rfl rfl)
theorem dJ0_setLength_14 : decode cJ0_setLength 14 = .ok (.iload_n 1, 1) := dk_27 (dk_at dksJ0_setLength_0 14 rfl rfl)
theorem dJ0_setLength_15 : decode cJ0_setLength 15 = .ok (.invokevirtual 100, 3) := dk_182 0 100 (dk_at dksJ0_setLength_0 15 rfl rfl)
theorem dJ0_setLength_18 : decode cJ0_setLength 18 = .ok (.aload_n 0, 1) := dk_42 (dk_at dksJ0_setLength_0 18 rfl rfl)
theorem dJ0_setLength_19 : decode cJ0_setLength 19 = .ok (.getfield 79, 3) := dk_180 0 79 (dk_at dksJ0_setLength_0 19 rfl rfl)
theorem dJ0_setLength_22 : decode cJ0_setLength 22 = .ok (.iload_n 1, 1) := dk_27 (dk_at dksJ0_setLength_0 22 rfl rfl)
theorem dJ0_setLength_23 : decode cJ0_setLength 23 = .ok (.if_icmp .ge 40, 3) := dk_162 0 40 (dk_at dksJ0_setLength_1 0 rfl rfl)
theorem dJ0_setLength_26 : decode cJ0_setLength 26 = .ok (.aload_n 0, 1) := dk_42 (dk_at dksJ0_setLength_1 3 rfl rfl)
theorem dJ0_setLength_27 : decode cJ0_setLength 27 = .ok (.invokevirtual 83, 3) := dk_182 0 83 (dk_at dksJ0_setLength_1 4 rfl rfl)
theorem dJ0_setLength_30 : decode cJ0_setLength 30 = .ok (.ifCond .eq 18, 3) := dk_153 0 18 (dk_at dksJ0_setLength_1 7 rfl rfl)
theorem dJ0_setLength_33 : decode cJ0_setLength 33 = .ok (.aload_n 0, 1) := dk_42 (dk_at dksJ0_setLength_1 10 rfl rfl)
theorem dJ0_setLength_34 : decode cJ0_setLength 34 = .ok (.getfield 15, 3) := dk_180 0 15 (dk_at dksJ0_setLength_1 11 rfl rfl)
theorem dJ0_setLength_37 : decode cJ0_setLength 37 = .ok (.aload_n 0, 1) := dk_42 (dk_at dksJ0_setLength_1 14 rfl rfl)
theorem dJ0_setLength_38 : decode cJ0_setLength 38 = .ok (.getfield 79, 3) := dk_180 0 79 (dk_at dksJ0_setLength_1 15 rfl rfl)
theorem dJ0_setLength_41 : decode cJ0_setLength 41 = .ok (.iload_n 1, 1) := dk_27 (dk_at dksJ0_setLength_1 18 rfl rfl)
theorem dJ0_setLength_42 : decode cJ0_setLength 42 = .ok (.invokestatic 133, 3) := dk_184 0 133 (dk_at dksJ0_setLength_1 19 rfl rfl)
theorem dJ0_setLength_45 : decode cJ0_setLength 45 = .ok (.goto 31, 3) := dk_167 0 31 (dk_at dksJ0_setLength_2 0 rfl rfl)
theorem dJ0_setLength_48 : decode cJ0_setLength 48 = .ok (.aload_n 0, 1) := dk_42 (dk_at dksJ0_setLength_2 3 rfl rfl)
theorem dJ0_setLength_49 : decode cJ0_setLength 49 = .ok (.getfield 15, 3) := dk_180 0 15 (dk_at dksJ0_setLength_2 4 rfl rfl)
theorem dJ0_setLength_52 : decode cJ0_setLength 52 = .ok (.aload_n 0, 1) := dk_42 (dk_at dksJ0_setLength_2 7 rfl rfl)
theorem dJ0_setLength_53 : decode cJ0_setLength 53 = .ok (.getfield 79, 3) := dk_180 0 79 (dk_at dksJ0_setLength_2 8 rfl rfl)
theorem dJ0_setLength_56 : decode cJ0_setLength 56 = .ok (.iload_n 1, 1) := dk_27 (dk_at dksJ0_setLength_2 11 rfl rfl)
theorem dJ0_setLength_57 : decode cJ0_setLength 57 = .ok (.invokestatic 137, 3) := dk_184 0 137 (dk_at dksJ0_setLength_2 12 rfl rfl)
theorem dJ0_setLength_60 : decode cJ0_setLength 60 = .ok (.goto 16, 3) := dk_167 0 16 (dk_at dksJ0_setLength_2 15 rfl rfl)
theorem dJ0_setLength_63 : decode cJ0_setLength 63 = .ok (.aload_n 0, 1) := dk_42 (dk_at dksJ0_setLength_2 18 rfl rfl)
theorem dJ0_setLength_64 : decode cJ0_setLength 64 = .ok (.getfield 79, 3) := dk_180 0 79 (dk_at dksJ0_setLength_2 19 rfl rfl)
theorem dJ0_setLength_67 : decode cJ0_setLength 67 = .ok (.iload_n 1, 1) := dk_27 (dk_at dksJ0_setLength_2 22 rfl rfl)
theorem dJ0_setLength_68 : decode cJ0_setLength 68 = .ok (.if_icmp .le 8, 3) := dk_164 0 8 (dk_at dksJ0_setLength_3 0 rfl rfl)
theorem dJ0_setLength_71 : decode cJ0_setLength 71 = .ok (.aload_n 0, 1) := dk_42 (dk_at dksJ0_setLength_3 3 rfl rfl)
theorem dJ0_setLength_72 : decode cJ0_setLength 72 = .ok (.iconst 1, 1) := dk_4 (dk_at dksJ0_setLength_3 4 rfl rfl)
theorem dJ0_setLength_73 : decode cJ0_setLength 73 = .ok (.putfield 73, 3) := dk_181 0 73 (dk_at dksJ0_setLength_3 5 rfl rfl)
theorem dJ0_setLength_76 : decode cJ0_setLength 76 = .ok (.aload_n 0, 1) := dk_42 (dk_at dksJ0_setLength_3 8 rfl rfl)
theorem dJ0_setLength_77 : decode cJ0_setLength 77 = .ok (.iload_n 1, 1) := dk_27 (dk_at dksJ0_setLength_3 9 rfl rfl)
theorem dJ0_setLength_78 : decode cJ0_setLength 78 = .ok (.putfield 79, 3) := dk_181 0 79 (dk_at dksJ0_setLength_3 10 rfl rfl)
theorem dJ0_setLength_81 : decode cJ0_setLength 81 = .ok (.return_, 1) := dk_177 (dk_at dksJ0_setLength_3 13 rfl rfl)
abbrev cJ0_append : ByteArray := prog_12_method_22_code
def yJ0_append : MethodName := ⟨RJ0, "append", "(Ljava/lang/String;)Ljava/lang/AbstractStringBuilder;"⟩
def dkwJ0_append_1 : List UInt8 := [42, 42, 180, 0, 79, 43, 182, 0, 208, 42, 89, 180, 0, 79, 28, 96, 181, 0, 79, 42, 176]
abbrev dktJ0_append_1 : List UInt8 := dkwJ0_append_1 ++ []
def dkwJ0_append_0 : List UInt8 := [43, 199, 0, 8, 42, 182, 0, 204, 176, 43, 182, 0, 32, 61, 42, 42, 180, 0, 79, 28, 96, 182, 0, 100]
abbrev dktJ0_append_0 : List UInt8 := dkwJ0_append_0 ++ dktJ0_append_1
theorem dksJ0_append_0 : cJ0_append.data.toList.drop 0 = dktJ0_append_0 := by decide +kernel
theorem dksJ0_append_1 : cJ0_append.data.toList.drop 24 = dktJ0_append_1 := dk_seg dksJ0_append_0 24 rfl rfl
theorem dJ0_append_0 : decode cJ0_append 0 = .ok (.aload_n 1, 1) := dk_43 (dk_at dksJ0_append_0 0 rfl rfl)
theorem dJ0_append_1 : decode cJ0_append 1 = .ok (.ifnonnull 8, 3) := dk_199 0 8 (dk_at dksJ0_append_0 1 rfl rfl)
theorem dJ0_append_4 : decode cJ0_append 4 = .ok (.aload_n 0, 1) := dk_42 (dk_at dksJ0_append_0 4 rfl rfl)
theorem dJ0_append_5 : decode cJ0_append 5 = .ok (.invokevirtual 204, 3) := dk_182 0 204 (dk_at dksJ0_append_0 5 rfl rfl)
theorem dJ0_append_8 : decode cJ0_append 8 = .ok (.areturn, 1) := dk_176 (dk_at dksJ0_append_0 8 rfl rfl)
theorem dJ0_append_9 : decode cJ0_append 9 = .ok (.aload_n 1, 1) := dk_43 (dk_at dksJ0_append_0 9 rfl rfl)
theorem dJ0_append_10 : decode cJ0_append 10 = .ok (.invokevirtual 32, 3) := dk_182 0 32 (dk_at dksJ0_append_0 10 rfl rfl)
theorem dJ0_append_13 : decode cJ0_append 13 = .ok (.istore_n 2, 1) := dk_61 (dk_at dksJ0_append_0 13 rfl rfl)
theorem dJ0_append_14 : decode cJ0_append 14 = .ok (.aload_n 0, 1) := dk_42 (dk_at dksJ0_append_0 14 rfl rfl)
theorem dJ0_append_15 : decode cJ0_append 15 = .ok (.aload_n 0, 1) := dk_42 (dk_at dksJ0_append_0 15 rfl rfl)
theorem dJ0_append_16 : decode cJ0_append 16 = .ok (.getfield 79, 3) := dk_180 0 79 (dk_at dksJ0_append_0 16 rfl rfl)
theorem dJ0_append_19 : decode cJ0_append 19 = .ok (.iload_n 2, 1) := dk_28 (dk_at dksJ0_append_0 19 rfl rfl)
theorem dJ0_append_20 : decode cJ0_append 20 = .ok (.iadd, 1) := dk_96 (dk_at dksJ0_append_0 20 rfl rfl)
theorem dJ0_append_21 : decode cJ0_append 21 = .ok (.invokevirtual 100, 3) := dk_182 0 100 (dk_at dksJ0_append_0 21 rfl rfl)
theorem dJ0_append_24 : decode cJ0_append 24 = .ok (.aload_n 0, 1) := dk_42 (dk_at dksJ0_append_1 0 rfl rfl)
theorem dJ0_append_25 : decode cJ0_append 25 = .ok (.aload_n 0, 1) := dk_42 (dk_at dksJ0_append_1 1 rfl rfl)
theorem dJ0_append_26 : decode cJ0_append 26 = .ok (.getfield 79, 3) := dk_180 0 79 (dk_at dksJ0_append_1 2 rfl rfl)
theorem dJ0_append_29 : decode cJ0_append 29 = .ok (.aload_n 1, 1) := dk_43 (dk_at dksJ0_append_1 5 rfl rfl)
theorem dJ0_append_30 : decode cJ0_append 30 = .ok (.invokevirtual 208, 3) := dk_182 0 208 (dk_at dksJ0_append_1 6 rfl rfl)
theorem dJ0_append_33 : decode cJ0_append 33 = .ok (.aload_n 0, 1) := dk_42 (dk_at dksJ0_append_1 9 rfl rfl)
theorem dJ0_append_34 : decode cJ0_append 34 = .ok (.dup, 1) := dk_89 (dk_at dksJ0_append_1 10 rfl rfl)
theorem dJ0_append_35 : decode cJ0_append 35 = .ok (.getfield 79, 3) := dk_180 0 79 (dk_at dksJ0_append_1 11 rfl rfl)
theorem dJ0_append_38 : decode cJ0_append 38 = .ok (.iload_n 2, 1) := dk_28 (dk_at dksJ0_append_1 14 rfl rfl)
theorem dJ0_append_39 : decode cJ0_append 39 = .ok (.iadd, 1) := dk_96 (dk_at dksJ0_append_1 15 rfl rfl)
theorem dJ0_append_40 : decode cJ0_append 40 = .ok (.putfield 79, 3) := dk_181 0 79 (dk_at dksJ0_append_1 16 rfl rfl)
theorem dJ0_append_43 : decode cJ0_append 43 = .ok (.aload_n 0, 1) := dk_42 (dk_at dksJ0_append_1 19 rfl rfl)
theorem dJ0_append_44 : decode cJ0_append 44 = .ok (.areturn, 1) := dk_176 (dk_at dksJ0_append_1 20 rfl rfl)
abbrev cJ0_appendNull : ByteArray := prog_12_method_26_code
def yJ0_appendNull : MethodName := ⟨RJ0, "appendNull", "()Ljava/lang/AbstractStringBuilder;"⟩
def dkwJ0_appendNull_3 : List UInt8 := [184, 0, 226, 60, 42, 27, 181, 0, 79, 42, 176]
abbrev dktJ0_appendNull_3 : List UInt8 := dkwJ0_appendNull_3 ++ []
def dkwJ0_appendNull_2 : List UInt8 := [16, 108, 84, 44, 27, 132, 1, 1, 16, 108, 84, 167, 0, 17, 44, 27, 16, 110, 16, 117, 16, 108, 16, 108]
abbrev dktJ0_appendNull_2 : List UInt8 := dkwJ0_appendNull_2 ++ dktJ0_appendNull_3
def dkwJ0_appendNull_1 : List UInt8 := [153, 0, 38, 44, 27, 132, 1, 1, 16, 110, 84, 44, 27, 132, 1, 1, 16, 117, 84, 44, 27, 132, 1, 1]
abbrev dktJ0_appendNull_1 : List UInt8 := dkwJ0_appendNull_1 ++ dktJ0_appendNull_2
def dkwJ0_appendNull_0 : List UInt8 := [42, 42, 180, 0, 79, 7, 96, 182, 0, 100, 42, 180, 0, 79, 60, 42, 180, 0, 15, 77, 42, 182, 0, 83]
abbrev dktJ0_appendNull_0 : List UInt8 := dkwJ0_appendNull_0 ++ dktJ0_appendNull_1
theorem dksJ0_appendNull_0 : cJ0_appendNull.data.toList.drop 0 = dktJ0_appendNull_0 := by decide +kernel
theorem dksJ0_appendNull_1 : cJ0_appendNull.data.toList.drop 24 = dktJ0_appendNull_1 := dk_seg dksJ0_appendNull_0 24 rfl rfl
theorem dksJ0_appendNull_2 : cJ0_appendNull.data.toList.drop 48 = dktJ0_appendNull_2 := dk_seg dksJ0_appendNull_1 24 rfl rfl
theorem dksJ0_appendNull_3 : cJ0_appendNull.data.toList.drop 72 = dktJ0_appendNull_3 := dk_seg dksJ0_appendNull_2 24 rfl rfl
theorem dJ0_appendNull_0 : decode cJ0_appendNull 0 = .ok (.aload_n 0, 1) := dk_42 (dk_at dksJ0_appendNull_0 0 rfl rfl)
theorem dJ0_appendNull_1 : decode cJ0_appendNull 1 = .ok (.aload_n 0, 1) := dk_42 (dk_at dksJ0_appendNull_0 1 rfl rfl)
theorem dJ0_appendNull_2 : decode cJ0_appendNull 2 = .ok (.getfield 79, 3) := dk_180 0 79 (dk_at dksJ0_appendNull_0 2 rfl rfl)
theorem dJ0_appendNull_5 : decode cJ0_appendNull 5 = .ok (.iconst 4, 1) := dk_7 (dk_at dksJ0_appendNull_0 5 rfl rfl)
theorem dJ0_appendNull_6 : decode cJ0_appendNull 6 = .ok (.iadd, 1) := dk_96 (dk_at dksJ0_appendNull_0 6 rfl rfl)
theorem dJ0_appendNull_7 : decode cJ0_appendNull 7 = .ok (.invokevirtual 100, 3) := dk_182 0 100 (dk_at dksJ0_appendNull_0 7 rfl rfl)
theorem dJ0_appendNull_10 : decode cJ0_appendNull 10 = .ok (.aload_n 0, 1) := dk_42 (dk_at dksJ0_appendNull_0 10 rfl rfl)
theorem dJ0_appendNull_11 : decode cJ0_appendNull 11 = .ok (.getfield 79, 3) := dk_180 0 79 (dk_at dksJ0_appendNull_0 11 rfl rfl)
theorem dJ0_appendNull_14 : decode cJ0_appendNull 14 = .ok (.istore_n 1, 1) := dk_60 (dk_at dksJ0_appendNull_0 14 rfl rfl)
theorem dJ0_appendNull_15 : decode cJ0_appendNull 15 = .ok (.aload_n 0, 1) := dk_42 (dk_at dksJ0_appendNull_0 15 rfl rfl)
theorem dJ0_appendNull_16 : decode cJ0_appendNull 16 = .ok (.getfield 15, 3) := dk_180 0 15 (dk_at dksJ0_appendNull_0 16 rfl rfl)
theorem dJ0_appendNull_19 : decode cJ0_appendNull 19 = .ok (.astore_n 2, 1) := dk_77 (dk_at dksJ0_appendNull_0 19 rfl rfl)
theorem dJ0_appendNull_20 : decode cJ0_appendNull 20 = .ok (.aload_n 0, 1) := dk_42 (dk_at dksJ0_appendNull_0 20 rfl rfl)
theorem dJ0_appendNull_21 : decode cJ0_appendNull 21 = .ok (.invokevirtual 83, 3) := dk_182 0 83 (dk_at dksJ0_appendNull_0 21 rfl rfl)
theorem dJ0_appendNull_24 : decode cJ0_appendNull 24 = .ok (.ifCond .eq 38, 3) := dk_153 0 38 (dk_at dksJ0_appendNull_1 0 rfl rfl)
theorem dJ0_appendNull_27 : decode cJ0_appendNull 27 = .ok (.aload_n 2, 1) := dk_44 (dk_at dksJ0_appendNull_1 3 rfl rfl)
theorem dJ0_appendNull_28 : decode cJ0_appendNull 28 = .ok (.iload_n 1, 1) := dk_27 (dk_at dksJ0_appendNull_1 4 rfl rfl)
theorem dJ0_appendNull_29 : decode cJ0_appendNull 29 = .ok (.iinc 1 1, 3) := dk_132 1 1 (dk_at dksJ0_appendNull_1 5 rfl rfl)
theorem dJ0_appendNull_32 : decode cJ0_appendNull 32 = .ok (.bipush 110, 2) := dk_16 110 (dk_at dksJ0_appendNull_1 8 rfl rfl)
theorem dJ0_appendNull_34 : decode cJ0_appendNull 34 = .ok (.bastore, 1) := dk_84 (dk_at dksJ0_appendNull_1 10 rfl rfl)
theorem dJ0_appendNull_35 : decode cJ0_appendNull 35 = .ok (.aload_n 2, 1) := dk_44 (dk_at dksJ0_appendNull_1 11 rfl rfl)
theorem dJ0_appendNull_36 : decode cJ0_appendNull 36 = .ok (.iload_n 1, 1) := dk_27 (dk_at dksJ0_appendNull_1 12 rfl rfl)
theorem dJ0_appendNull_37 : decode cJ0_appendNull 37 = .ok (.iinc 1 1, 3) := dk_132 1 1 (dk_at dksJ0_appendNull_1 13 rfl rfl)
theorem dJ0_appendNull_40 : decode cJ0_appendNull 40 = .ok (.bipush 117, 2) := dk_16 117 (dk_at dksJ0_appendNull_1 16 rfl rfl)
theorem dJ0_appendNull_42 : decode cJ0_appendNull 42 = .ok (.bastore, 1) := dk_84 (dk_at dksJ0_appendNull_1 18 rfl rfl)
theorem dJ0_appendNull_43 : decode cJ0_appendNull 43 = .ok (.aload_n 2, 1) := dk_44 (dk_at dksJ0_appendNull_1 19 rfl rfl)
theorem dJ0_appendNull_44 : decode cJ0_appendNull 44 = .ok (.iload_n 1, 1) := dk_27 (dk_at dksJ0_appendNull_1 20 rfl rfl)
theorem dJ0_appendNull_45 : decode cJ0_appendNull 45 = .ok (.iinc 1 1, 3) := dk_132 1 1 (dk_at dksJ0_appendNull_1 21 rfl rfl)
theorem dJ0_appendNull_48 : decode cJ0_appendNull 48 = .ok (.bipush 108, 2) := dk_16 108 (dk_at dksJ0_appendNull_2 0 rfl rfl)
theorem dJ0_appendNull_50 : decode cJ0_appendNull 50 = .ok (.bastore, 1) := dk_84 (dk_at dksJ0_appendNull_2 2 rfl rfl)
theorem dJ0_appendNull_51 : decode cJ0_appendNull 51 = .ok (.aload_n 2, 1) := dk_44 (dk_at dksJ0_appendNull_2 3 rfl rfl)
theorem dJ0_appendNull_52 : decode cJ0_appendNull 52 = .ok (.iload_n 1, 1) := dk_27 (dk_at dksJ0_appendNull_2 4 rfl rfl)
theorem dJ0_appendNull_53 : decode cJ0_appendNull 53 = .ok (.iinc 1 1, 3) := dk_132 1 1 (dk_at dksJ0_appendNull_2 5 rfl rfl)
theorem dJ0_appendNull_56 : decode cJ0_appendNull 56 = .ok (.bipush 108, 2) := dk_16 108 (dk_at dksJ0_appendNull_2 8 rfl rfl)
theorem dJ0_appendNull_58 : decode cJ0_appendNull 58 = .ok (.bastore, 1) := dk_84 (dk_at dksJ0_appendNull_2 10 rfl rfl)
theorem dJ0_appendNull_59 : decode cJ0_appendNull 59 = .ok (.goto 17, 3) := dk_167 0 17 (dk_at dksJ0_appendNull_2 11 rfl rfl)
theorem dJ0_appendNull_62 : decode cJ0_appendNull 62 = .ok (.aload_n 2, 1) := dk_44 (dk_at dksJ0_appendNull_2 14 rfl rfl)
theorem dJ0_appendNull_63 : decode cJ0_appendNull 63 = .ok (.iload_n 1, 1) := dk_27 (dk_at dksJ0_appendNull_2 15 rfl rfl)
theorem dJ0_appendNull_64 : decode cJ0_appendNull 64 = .ok (.bipush 110, 2) := dk_16 110 (dk_at dksJ0_appendNull_2 16 rfl rfl)
theorem dJ0_appendNull_66 : decode cJ0_appendNull 66 = .ok (.bipush 117, 2) := dk_16 117 (dk_at dksJ0_appendNull_2 18 rfl rfl)
theorem dJ0_appendNull_68 : decode cJ0_appendNull 68 = .ok (.bipush 108, 2) := dk_16 108 (dk_at dksJ0_appendNull_2 20 rfl rfl)
theorem dJ0_appendNull_70 : decode cJ0_appendNull 70 = .ok (.bipush 108, 2) := dk_16 108 (dk_at dksJ0_appendNull_2 22 rfl rfl)
theorem dJ0_appendNull_72 : decode cJ0_appendNull 72 = .ok (.invokestatic 226, 3) := dk_184 0 226 (dk_at dksJ0_appendNull_3 0 rfl rfl)
theorem dJ0_appendNull_75 : decode cJ0_appendNull 75 = .ok (.istore_n 1, 1) := dk_60 (dk_at dksJ0_appendNull_3 3 rfl rfl)
theorem dJ0_appendNull_76 : decode cJ0_appendNull 76 = .ok (.aload_n 0, 1) := dk_42 (dk_at dksJ0_appendNull_3 4 rfl rfl)
theorem dJ0_appendNull_77 : decode cJ0_appendNull 77 = .ok (.iload_n 1, 1) := dk_27 (dk_at dksJ0_appendNull_3 5 rfl rfl)
theorem dJ0_appendNull_78 : decode cJ0_appendNull 78 = .ok (.putfield 79, 3) := dk_181 0 79 (dk_at dksJ0_appendNull_3 6 rfl rfl)
theorem dJ0_appendNull_81 : decode cJ0_appendNull 81 = .ok (.aload_n 0, 1) := dk_42 (dk_at dksJ0_appendNull_3 9 rfl rfl)
theorem dJ0_appendNull_82 : decode cJ0_appendNull 82 = .ok (.areturn, 1) := dk_176 (dk_at dksJ0_appendNull_3 10 rfl rfl)
abbrev cJ0_ensureCapacityInternal : ByteArray := prog_12_method_9_code
def yJ0_ensureCapacityInternal : MethodName := ⟨RJ0, "ensureCapacityInternal", "(I)V"⟩
def dkwJ0_ensureCapacityInternal_1 : List UInt8 := [182, 0, 104, 42, 180, 0, 22, 120, 184, 0, 108, 181, 0, 15, 177]
abbrev dktJ0_ensureCapacityInternal_1 : List UInt8 := dkwJ0_ensureCapacityInternal_1 ++ []
def dkwJ0_ensureCapacityInternal_0 : List UInt8 := [42, 180, 0, 15, 190, 42, 180, 0, 22, 122, 61, 27, 28, 100, 158, 0, 24, 42, 42, 180, 0, 15, 42, 27]
abbrev dktJ0_ensureCapacityInternal_0 : List UInt8 := dkwJ0_ensureCapacityInternal_0 ++ dktJ0_ensureCapacityInternal_1
theorem dksJ0_ensureCapacityInternal_0 : cJ0_ensureCapacityInternal.data.toList.drop 0 = dktJ0_ensureCapacityInternal_0 := by decide +kernel
theorem dksJ0_ensureCapacityInternal_1 : cJ0_ensureCapacityInternal.data.toList.drop 24 = dktJ0_ensureCapacityInternal_1 := dk_seg dksJ0_ensureCapacityInternal_0 24 rfl rfl
theorem dJ0_ensureCapacityInternal_0 : decode cJ0_ensureCapacityInternal 0 = .ok (.aload_n 0, 1) := dk_42 (dk_at dksJ0_ensureCapacityInternal_0 0 rfl rfl)
theorem dJ0_ensureCapacityInternal_1 : decode cJ0_ensureCapacityInternal 1 = .ok (.getfield 15, 3) := dk_180 0 15 (dk_at dksJ0_ensureCapacityInternal_0 1 rfl rfl)
theorem dJ0_ensureCapacityInternal_4 : decode cJ0_ensureCapacityInternal 4 = .ok (.arraylength, 1) := dk_190 (dk_at dksJ0_ensureCapacityInternal_0 4 rfl rfl)
theorem dJ0_ensureCapacityInternal_5 : decode cJ0_ensureCapacityInternal 5 = .ok (.aload_n 0, 1) := dk_42 (dk_at dksJ0_ensureCapacityInternal_0 5 rfl rfl)
theorem dJ0_ensureCapacityInternal_6 : decode cJ0_ensureCapacityInternal 6 = .ok (.getfield 22, 3) := dk_180 0 22 (dk_at dksJ0_ensureCapacityInternal_0 6 rfl rfl)
theorem dJ0_ensureCapacityInternal_9 : decode cJ0_ensureCapacityInternal 9 = .ok (.ishr, 1) := dk_122 (dk_at dksJ0_ensureCapacityInternal_0 9 rfl rfl)
theorem dJ0_ensureCapacityInternal_10 : decode cJ0_ensureCapacityInternal 10 = .ok (.istore_n 2, 1) := dk_61 (dk_at dksJ0_ensureCapacityInternal_0 10 rfl rfl)
theorem dJ0_ensureCapacityInternal_11 : decode cJ0_ensureCapacityInternal 11 = .ok (.iload_n 1, 1) := dk_27 (dk_at dksJ0_ensureCapacityInternal_0 11 rfl rfl)
theorem dJ0_ensureCapacityInternal_12 : decode cJ0_ensureCapacityInternal 12 = .ok (.iload_n 2, 1) := dk_28 (dk_at dksJ0_ensureCapacityInternal_0 12 rfl rfl)
theorem dJ0_ensureCapacityInternal_13 : decode cJ0_ensureCapacityInternal 13 = .ok (.isub, 1) := dk_100 (dk_at dksJ0_ensureCapacityInternal_0 13 rfl rfl)
theorem dJ0_ensureCapacityInternal_14 : decode cJ0_ensureCapacityInternal 14 = .ok (.ifCond .le 24, 3) := dk_158 0 24 (dk_at dksJ0_ensureCapacityInternal_0 14 rfl rfl)
theorem dJ0_ensureCapacityInternal_17 : decode cJ0_ensureCapacityInternal 17 = .ok (.aload_n 0, 1) := dk_42 (dk_at dksJ0_ensureCapacityInternal_0 17 rfl rfl)
theorem dJ0_ensureCapacityInternal_18 : decode cJ0_ensureCapacityInternal 18 = .ok (.aload_n 0, 1) := dk_42 (dk_at dksJ0_ensureCapacityInternal_0 18 rfl rfl)
theorem dJ0_ensureCapacityInternal_19 : decode cJ0_ensureCapacityInternal 19 = .ok (.getfield 15, 3) := dk_180 0 15 (dk_at dksJ0_ensureCapacityInternal_0 19 rfl rfl)
theorem dJ0_ensureCapacityInternal_22 : decode cJ0_ensureCapacityInternal 22 = .ok (.aload_n 0, 1) := dk_42 (dk_at dksJ0_ensureCapacityInternal_0 22 rfl rfl)
theorem dJ0_ensureCapacityInternal_23 : decode cJ0_ensureCapacityInternal 23 = .ok (.iload_n 1, 1) := dk_27 (dk_at dksJ0_ensureCapacityInternal_0 23 rfl rfl)
theorem dJ0_ensureCapacityInternal_24 : decode cJ0_ensureCapacityInternal 24 = .ok (.invokevirtual 104, 3) := dk_182 0 104 (dk_at dksJ0_ensureCapacityInternal_1 0 rfl rfl)
theorem dJ0_ensureCapacityInternal_27 : decode cJ0_ensureCapacityInternal 27 = .ok (.aload_n 0, 1) := dk_42 (dk_at dksJ0_ensureCapacityInternal_1 3 rfl rfl)
theorem dJ0_ensureCapacityInternal_28 : decode cJ0_ensureCapacityInternal 28 = .ok (.getfield 22, 3) := dk_180 0 22 (dk_at dksJ0_ensureCapacityInternal_1 4 rfl rfl)
theorem dJ0_ensureCapacityInternal_31 : decode cJ0_ensureCapacityInternal 31 = .ok (.ishl, 1) := dk_120 (dk_at dksJ0_ensureCapacityInternal_1 7 rfl rfl)
theorem dJ0_ensureCapacityInternal_32 : decode cJ0_ensureCapacityInternal 32 = .ok (.invokestatic 108, 3) := dk_184 0 108 (dk_at dksJ0_ensureCapacityInternal_1 8 rfl rfl)
theorem dJ0_ensureCapacityInternal_35 : decode cJ0_ensureCapacityInternal 35 = .ok (.putfield 15, 3) := dk_181 0 15 (dk_at dksJ0_ensureCapacityInternal_1 11 rfl rfl)
theorem dJ0_ensureCapacityInternal_38 : decode cJ0_ensureCapacityInternal 38 = .ok (.return_, 1) := dk_177 (dk_at dksJ0_ensureCapacityInternal_1 14 rfl rfl)
abbrev cJ0_newCapacity : ByteArray := prog_12_method_10_code
def yJ0_newCapacity : MethodName := ⟨RJ0, "newCapacity", "(I)I"⟩
def dkwJ0_newCapacity_2 : List UInt8 := [183, 0, 124, 191, 21, 5, 42, 180, 0, 22, 122, 172]
abbrev dktJ0_newCapacity_2 : List UInt8 := dkwJ0_newCapacity_2 ++ []
def dkwJ0_newCapacity_1 : List UInt8 := [180, 0, 22, 120, 96, 184, 0, 114, 54, 5, 21, 5, 18, 39, 160, 0, 13, 187, 0, 120, 89, 18, 122]
abbrev dktJ0_newCapacity_1 : List UInt8 := dkwJ0_newCapacity_1 ++ dktJ0_newCapacity_2
def dkwJ0_newCapacity_0 : List UInt8 := [42, 180, 0, 15, 190, 61, 27, 42, 180, 0, 22, 120, 62, 29, 28, 100, 54, 4, 28, 21, 4, 28, 5, 42]
abbrev dktJ0_newCapacity_0 : List UInt8 := dkwJ0_newCapacity_0 ++ dktJ0_newCapacity_1
theorem dksJ0_newCapacity_0 : cJ0_newCapacity.data.toList.drop 0 = dktJ0_newCapacity_0 := by decide +kernel
theorem dksJ0_newCapacity_1 : cJ0_newCapacity.data.toList.drop 24 = dktJ0_newCapacity_1 := dk_seg dksJ0_newCapacity_0 24 rfl rfl
theorem dksJ0_newCapacity_2 : cJ0_newCapacity.data.toList.drop 47 = dktJ0_newCapacity_2 := dk_seg dksJ0_newCapacity_1 23 rfl rfl
theorem dJ0_newCapacity_0 : decode cJ0_newCapacity 0 = .ok (.aload_n 0, 1) := dk_42 (dk_at dksJ0_newCapacity_0 0 rfl rfl)
theorem dJ0_newCapacity_1 : decode cJ0_newCapacity 1 = .ok (.getfield 15, 3) := dk_180 0 15 (dk_at dksJ0_newCapacity_0 1 rfl rfl)
theorem dJ0_newCapacity_4 : decode cJ0_newCapacity 4 = .ok (.arraylength, 1) := dk_190 (dk_at dksJ0_newCapacity_0 4 rfl rfl)
theorem dJ0_newCapacity_5 : decode cJ0_newCapacity 5 = .ok (.istore_n 2, 1) := dk_61 (dk_at dksJ0_newCapacity_0 5 rfl rfl)
theorem dJ0_newCapacity_6 : decode cJ0_newCapacity 6 = .ok (.iload_n 1, 1) := dk_27 (dk_at dksJ0_newCapacity_0 6 rfl rfl)
theorem dJ0_newCapacity_7 : decode cJ0_newCapacity 7 = .ok (.aload_n 0, 1) := dk_42 (dk_at dksJ0_newCapacity_0 7 rfl rfl)
theorem dJ0_newCapacity_8 : decode cJ0_newCapacity 8 = .ok (.getfield 22, 3) := dk_180 0 22 (dk_at dksJ0_newCapacity_0 8 rfl rfl)
theorem dJ0_newCapacity_11 : decode cJ0_newCapacity 11 = .ok (.ishl, 1) := dk_120 (dk_at dksJ0_newCapacity_0 11 rfl rfl)
theorem dJ0_newCapacity_12 : decode cJ0_newCapacity 12 = .ok (.istore_n 3, 1) := dk_62 (dk_at dksJ0_newCapacity_0 12 rfl rfl)
theorem dJ0_newCapacity_13 : decode cJ0_newCapacity 13 = .ok (.iload_n 3, 1) := dk_29 (dk_at dksJ0_newCapacity_0 13 rfl rfl)
theorem dJ0_newCapacity_14 : decode cJ0_newCapacity 14 = .ok (.iload_n 2, 1) := dk_28 (dk_at dksJ0_newCapacity_0 14 rfl rfl)
theorem dJ0_newCapacity_15 : decode cJ0_newCapacity 15 = .ok (.isub, 1) := dk_100 (dk_at dksJ0_newCapacity_0 15 rfl rfl)
theorem dJ0_newCapacity_16 : decode cJ0_newCapacity 16 = .ok (.istore 4, 2) := dk_54 4 (dk_at dksJ0_newCapacity_0 16 rfl rfl)
theorem dJ0_newCapacity_18 : decode cJ0_newCapacity 18 = .ok (.iload_n 2, 1) := dk_28 (dk_at dksJ0_newCapacity_0 18 rfl rfl)
theorem dJ0_newCapacity_19 : decode cJ0_newCapacity 19 = .ok (.iload 4, 2) := dk_21 4 (dk_at dksJ0_newCapacity_0 19 rfl rfl)
theorem dJ0_newCapacity_21 : decode cJ0_newCapacity 21 = .ok (.iload_n 2, 1) := dk_28 (dk_at dksJ0_newCapacity_0 21 rfl rfl)
theorem dJ0_newCapacity_22 : decode cJ0_newCapacity 22 = .ok (.iconst 2, 1) := dk_5 (dk_at dksJ0_newCapacity_0 22 rfl rfl)
theorem dJ0_newCapacity_23 : decode cJ0_newCapacity 23 = .ok (.aload_n 0, 1) := dk_42 (dk_at dksJ0_newCapacity_0 23 rfl rfl)
theorem dJ0_newCapacity_24 : decode cJ0_newCapacity 24 = .ok (.getfield 22, 3) := dk_180 0 22 (dk_at dksJ0_newCapacity_1 0 rfl rfl)
theorem dJ0_newCapacity_27 : decode cJ0_newCapacity 27 = .ok (.ishl, 1) := dk_120 (dk_at dksJ0_newCapacity_1 3 rfl rfl)
theorem dJ0_newCapacity_28 : decode cJ0_newCapacity 28 = .ok (.iadd, 1) := dk_96 (dk_at dksJ0_newCapacity_1 4 rfl rfl)
theorem dJ0_newCapacity_29 : decode cJ0_newCapacity 29 = .ok (.invokestatic 114, 3) := dk_184 0 114 (dk_at dksJ0_newCapacity_1 5 rfl rfl)
theorem dJ0_newCapacity_32 : decode cJ0_newCapacity 32 = .ok (.istore 5, 2) := dk_54 5 (dk_at dksJ0_newCapacity_1 8 rfl rfl)
theorem dJ0_newCapacity_34 : decode cJ0_newCapacity 34 = .ok (.iload 5, 2) := dk_21 5 (dk_at dksJ0_newCapacity_1 10 rfl rfl)
theorem dJ0_newCapacity_36 : decode cJ0_newCapacity 36 = .ok (.ldc 39, 2) := dk_18 39 (dk_at dksJ0_newCapacity_1 12 rfl rfl)
theorem dJ0_newCapacity_38 : decode cJ0_newCapacity 38 = .ok (.if_icmp .ne 13, 3) := dk_160 0 13 (dk_at dksJ0_newCapacity_1 14 rfl rfl)
theorem dJ0_newCapacity_41 : decode cJ0_newCapacity 41 = .ok (.new 120, 3) := dk_187 0 120 (dk_at dksJ0_newCapacity_1 17 rfl rfl)
theorem dJ0_newCapacity_44 : decode cJ0_newCapacity 44 = .ok (.dup, 1) := dk_89 (dk_at dksJ0_newCapacity_1 20 rfl rfl)
theorem dJ0_newCapacity_45 : decode cJ0_newCapacity 45 = .ok (.ldc 122, 2) := dk_18 122 (dk_at dksJ0_newCapacity_1 21 rfl rfl)
theorem dJ0_newCapacity_47 : decode cJ0_newCapacity 47 = .ok (.invokespecial 124, 3) := dk_183 0 124 (dk_at dksJ0_newCapacity_2 0 rfl rfl)
theorem dJ0_newCapacity_50 : decode cJ0_newCapacity 50 = .ok (.athrow, 1) := dk_191 (dk_at dksJ0_newCapacity_2 3 rfl rfl)
theorem dJ0_newCapacity_51 : decode cJ0_newCapacity 51 = .ok (.iload 5, 2) := dk_21 5 (dk_at dksJ0_newCapacity_2 4 rfl rfl)
theorem dJ0_newCapacity_53 : decode cJ0_newCapacity 53 = .ok (.aload_n 0, 1) := dk_42 (dk_at dksJ0_newCapacity_2 6 rfl rfl)
theorem dJ0_newCapacity_54 : decode cJ0_newCapacity 54 = .ok (.getfield 22, 3) := dk_180 0 22 (dk_at dksJ0_newCapacity_2 7 rfl rfl)
theorem dJ0_newCapacity_57 : decode cJ0_newCapacity 57 = .ok (.ishr, 1) := dk_122 (dk_at dksJ0_newCapacity_2 10 rfl rfl)
theorem dJ0_newCapacity_58 : decode cJ0_newCapacity 58 = .ok (.ireturn, 1) := dk_172 (dk_at dksJ0_newCapacity_2 11 rfl rfl)
abbrev cJ0_isLatin1 : ByteArray := prog_12_method_68_code
def yJ0_isLatin1 : MethodName := ⟨RJ0, "isLatin1", "()Z"⟩
def dkwJ0_isLatin1_0 : List UInt8 := [178, 0, 18, 153, 0, 14, 42, 180, 0, 22, 154, 0, 7, 4, 167, 0, 4, 3, 172]
abbrev dktJ0_isLatin1_0 : List UInt8 := dkwJ0_isLatin1_0 ++ []
theorem dksJ0_isLatin1_0 : cJ0_isLatin1.data.toList.drop 0 = dktJ0_isLatin1_0 := by decide +kernel
theorem dJ0_isLatin1_0 : decode cJ0_isLatin1 0 = .ok (.getstatic 18, 3) := dk_178 0 18 (dk_at dksJ0_isLatin1_0 0 rfl rfl)
theorem dJ0_isLatin1_3 : decode cJ0_isLatin1 3 = .ok (.ifCond .eq 14, 3) := dk_153 0 14 (dk_at dksJ0_isLatin1_0 3 rfl rfl)
theorem dJ0_isLatin1_6 : decode cJ0_isLatin1 6 = .ok (.aload_n 0, 1) := dk_42 (dk_at dksJ0_isLatin1_0 6 rfl rfl)
theorem dJ0_isLatin1_7 : decode cJ0_isLatin1 7 = .ok (.getfield 22, 3) := dk_180 0 22 (dk_at dksJ0_isLatin1_0 7 rfl rfl)
theorem dJ0_isLatin1_10 : decode cJ0_isLatin1 10 = .ok (.ifCond .ne 7, 3) := dk_154 0 7 (dk_at dksJ0_isLatin1_0 10 rfl rfl)
theorem dJ0_isLatin1_13 : decode cJ0_isLatin1 13 = .ok (.iconst 1, 1) := dk_4 (dk_at dksJ0_isLatin1_0 13 rfl rfl)
theorem dJ0_isLatin1_14 : decode cJ0_isLatin1 14 = .ok (.goto 4, 3) := dk_167 0 4 (dk_at dksJ0_isLatin1_0 14 rfl rfl)
theorem dJ0_isLatin1_17 : decode cJ0_isLatin1 17 = .ok (.iconst 0, 1) := dk_3 (dk_at dksJ0_isLatin1_0 17 rfl rfl)
theorem dJ0_isLatin1_18 : decode cJ0_isLatin1 18 = .ok (.ireturn, 1) := dk_172 (dk_at dksJ0_isLatin1_0 18 rfl rfl)
abbrev cJ0_putStringAt : ByteArray := prog_12_method_73_code
def yJ0_putStringAt : MethodName := ⟨RJ0, "putStringAt", "(ILjava/lang/String;)V"⟩
def dkwJ0_putStringAt_0 : List UInt8 := [42, 44, 182, 1, 141, 44, 42, 180, 0, 15, 27, 42, 180, 0, 22, 182, 1, 143, 177]
abbrev dktJ0_putStringAt_0 : List UInt8 := dkwJ0_putStringAt_0 ++ []
theorem dksJ0_putStringAt_0 : cJ0_putStringAt.data.toList.drop 0 = dktJ0_putStringAt_0 := by decide +kernel
theorem dJ0_putStringAt_0 : decode cJ0_putStringAt 0 = .ok (.aload_n 0, 1) := dk_42 (dk_at dksJ0_putStringAt_0 0 rfl rfl)
theorem dJ0_putStringAt_1 : decode cJ0_putStringAt 1 = .ok (.aload_n 2, 1) := dk_44 (dk_at dksJ0_putStringAt_0 1 rfl rfl)
theorem dJ0_putStringAt_2 : decode cJ0_putStringAt 2 = .ok (.invokevirtual 397, 3) := dk_182 1 141 (dk_at dksJ0_putStringAt_0 2 rfl rfl)
theorem dJ0_putStringAt_5 : decode cJ0_putStringAt 5 = .ok (.aload_n 2, 1) := dk_44 (dk_at dksJ0_putStringAt_0 5 rfl rfl)
theorem dJ0_putStringAt_6 : decode cJ0_putStringAt 6 = .ok (.aload_n 0, 1) := dk_42 (dk_at dksJ0_putStringAt_0 6 rfl rfl)
theorem dJ0_putStringAt_7 : decode cJ0_putStringAt 7 = .ok (.getfield 15, 3) := dk_180 0 15 (dk_at dksJ0_putStringAt_0 7 rfl rfl)
theorem dJ0_putStringAt_10 : decode cJ0_putStringAt 10 = .ok (.iload_n 1, 1) := dk_27 (dk_at dksJ0_putStringAt_0 10 rfl rfl)
theorem dJ0_putStringAt_11 : decode cJ0_putStringAt 11 = .ok (.aload_n 0, 1) := dk_42 (dk_at dksJ0_putStringAt_0 11 rfl rfl)
theorem dJ0_putStringAt_12 : decode cJ0_putStringAt 12 = .ok (.getfield 22, 3) := dk_180 0 22 (dk_at dksJ0_putStringAt_0 12 rfl rfl)
theorem dJ0_putStringAt_15 : decode cJ0_putStringAt 15 = .ok (.invokevirtual 399, 3) := dk_182 1 143 (dk_at dksJ0_putStringAt_0 15 rfl rfl)
theorem dJ0_putStringAt_18 : decode cJ0_putStringAt 18 = .ok (.return_, 1) := dk_177 (dk_at dksJ0_putStringAt_0 18 rfl rfl)
abbrev cJ0_inflateIfNeededFor : ByteArray := prog_12_method_71_code
def yJ0_inflateIfNeededFor : MethodName := ⟨RJ0, "inflateIfNeededFor", "(Ljava/lang/String;)V"⟩
def dkwJ0_inflateIfNeededFor_0 : List UInt8 := [178, 0, 18, 153, 0, 18, 42, 180, 0, 22, 43, 182, 0, 40, 159, 0, 7, 42, 182, 0, 195, 177]
abbrev dktJ0_inflateIfNeededFor_0 : List UInt8 := dkwJ0_inflateIfNeededFor_0 ++ []
theorem dksJ0_inflateIfNeededFor_0 : cJ0_inflateIfNeededFor.data.toList.drop 0 = dktJ0_inflateIfNeededFor_0 := by decide +kernel
theorem dJ0_inflateIfNeededFor_0 : decode cJ0_inflateIfNeededFor 0 = .ok (.getstatic 18, 3) := dk_178 0 18 (dk_at dksJ0_inflateIfNeededFor_0 0 rfl rfl)
theorem dJ0_inflateIfNeededFor_3 : decode cJ0_inflateIfNeededFor 3 = .ok (.ifCond .eq 18, 3) := dk_153 0 18 (dk_at dksJ0_inflateIfNeededFor_0 3 rfl rfl)
theorem dJ0_inflateIfNeededFor_6 : decode cJ0_inflateIfNeededFor 6 = .ok (.aload_n 0, 1) := dk_42 (dk_at dksJ0_inflateIfNeededFor_0 6 rfl rfl)
theorem dJ0_inflateIfNeededFor_7 : decode cJ0_inflateIfNeededFor 7 = .ok (.getfield 22, 3) := dk_180 0 22 (dk_at dksJ0_inflateIfNeededFor_0 7 rfl rfl)
theorem dJ0_inflateIfNeededFor_10 : decode cJ0_inflateIfNeededFor 10 = .ok (.aload_n 1, 1) := dk_43 (dk_at dksJ0_inflateIfNeededFor_0 10 rfl rfl)
theorem dJ0_inflateIfNeededFor_11 : decode cJ0_inflateIfNeededFor 11 = .ok (.invokevirtual 40, 3) := dk_182 0 40 (dk_at dksJ0_inflateIfNeededFor_0 11 rfl rfl)
theorem dJ0_inflateIfNeededFor_14 : decode cJ0_inflateIfNeededFor 14 = .ok (.if_icmp .eq 7, 3) := dk_159 0 7 (dk_at dksJ0_inflateIfNeededFor_0 14 rfl rfl)
theorem dJ0_inflateIfNeededFor_17 : decode cJ0_inflateIfNeededFor 17 = .ok (.aload_n 0, 1) := dk_42 (dk_at dksJ0_inflateIfNeededFor_0 17 rfl rfl)
theorem dJ0_inflateIfNeededFor_18 : decode cJ0_inflateIfNeededFor 18 = .ok (.invokevirtual 195, 3) := dk_182 0 195 (dk_at dksJ0_inflateIfNeededFor_0 18 rfl rfl)
theorem dJ0_inflateIfNeededFor_21 : decode cJ0_inflateIfNeededFor 21 = .ok (.return_, 1) := dk_177 (dk_at dksJ0_inflateIfNeededFor_0 21 rfl rfl)
abbrev cJ0_inflate : ByteArray := prog_12_method_11_code
def yJ0_inflate : MethodName := ⟨RJ0, "inflate", "()V"⟩
def dkwJ0_inflate_1 : List UInt8 := [42, 180, 0, 79, 184, 0, 125, 42, 43, 181, 0, 15, 42, 4, 181, 0, 22, 177]
abbrev dktJ0_inflate_1 : List UInt8 := dkwJ0_inflate_1 ++ []
def dkwJ0_inflate_0 : List UInt8 := [42, 182, 0, 83, 154, 0, 4, 177, 42, 180, 0, 15, 190, 184, 0, 26, 76, 42, 180, 0, 15, 3, 43, 3]
abbrev dktJ0_inflate_0 : List UInt8 := dkwJ0_inflate_0 ++ dktJ0_inflate_1
theorem dksJ0_inflate_0 : cJ0_inflate.data.toList.drop 0 = dktJ0_inflate_0 := by decide +kernel
theorem dksJ0_inflate_1 : cJ0_inflate.data.toList.drop 24 = dktJ0_inflate_1 := dk_seg dksJ0_inflate_0 24 rfl rfl
theorem dJ0_inflate_0 : decode cJ0_inflate 0 = .ok (.aload_n 0, 1) := dk_42 (dk_at dksJ0_inflate_0 0 rfl rfl)
theorem dJ0_inflate_1 : decode cJ0_inflate 1 = .ok (.invokevirtual 83, 3) := dk_182 0 83 (dk_at dksJ0_inflate_0 1 rfl rfl)
theorem dJ0_inflate_4 : decode cJ0_inflate 4 = .ok (.ifCond .ne 4, 3) := dk_154 0 4 (dk_at dksJ0_inflate_0 4 rfl rfl)
theorem dJ0_inflate_7 : decode cJ0_inflate 7 = .ok (.return_, 1) := dk_177 (dk_at dksJ0_inflate_0 7 rfl rfl)
theorem dJ0_inflate_8 : decode cJ0_inflate 8 = .ok (.aload_n 0, 1) := dk_42 (dk_at dksJ0_inflate_0 8 rfl rfl)
theorem dJ0_inflate_9 : decode cJ0_inflate 9 = .ok (.getfield 15, 3) := dk_180 0 15 (dk_at dksJ0_inflate_0 9 rfl rfl)
theorem dJ0_inflate_12 : decode cJ0_inflate 12 = .ok (.arraylength, 1) := dk_190 (dk_at dksJ0_inflate_0 12 rfl rfl)
theorem dJ0_inflate_13 : decode cJ0_inflate 13 = .ok (.invokestatic 26, 3) := dk_184 0 26 (dk_at dksJ0_inflate_0 13 rfl rfl)
theorem dJ0_inflate_16 : decode cJ0_inflate 16 = .ok (.astore_n 1, 1) := dk_76 (dk_at dksJ0_inflate_0 16 rfl rfl)
theorem dJ0_inflate_17 : decode cJ0_inflate 17 = .ok (.aload_n 0, 1) := dk_42 (dk_at dksJ0_inflate_0 17 rfl rfl)
theorem dJ0_inflate_18 : decode cJ0_inflate 18 = .ok (.getfield 15, 3) := dk_180 0 15 (dk_at dksJ0_inflate_0 18 rfl rfl)
theorem dJ0_inflate_21 : decode cJ0_inflate 21 = .ok (.iconst 0, 1) := dk_3 (dk_at dksJ0_inflate_0 21 rfl rfl)
theorem dJ0_inflate_22 : decode cJ0_inflate 22 = .ok (.aload_n 1, 1) := dk_43 (dk_at dksJ0_inflate_0 22 rfl rfl)
theorem dJ0_inflate_23 : decode cJ0_inflate 23 = .ok (.iconst 0, 1) := dk_3 (dk_at dksJ0_inflate_0 23 rfl rfl)
theorem dJ0_inflate_24 : decode cJ0_inflate 24 = .ok (.aload_n 0, 1) := dk_42 (dk_at dksJ0_inflate_1 0 rfl rfl)
theorem dJ0_inflate_25 : decode cJ0_inflate 25 = .ok (.getfield 79, 3) := dk_180 0 79 (dk_at dksJ0_inflate_1 1 rfl rfl)
theorem dJ0_inflate_28 : decode cJ0_inflate 28 = .ok (.invokestatic 125, 3) := dk_184 0 125 (dk_at dksJ0_inflate_1 4 rfl rfl)
theorem dJ0_inflate_31 : decode cJ0_inflate 31 = .ok (.aload_n 0, 1) := dk_42 (dk_at dksJ0_inflate_1 7 rfl rfl)
theorem dJ0_inflate_32 : decode cJ0_inflate 32 = .ok (.aload_n 1, 1) := dk_43 (dk_at dksJ0_inflate_1 8 rfl rfl)
theorem dJ0_inflate_33 : decode cJ0_inflate 33 = .ok (.putfield 15, 3) := dk_181 0 15 (dk_at dksJ0_inflate_1 9 rfl rfl)
theorem dJ0_inflate_36 : decode cJ0_inflate 36 = .ok (.aload_n 0, 1) := dk_42 (dk_at dksJ0_inflate_1 12 rfl rfl)
theorem dJ0_inflate_37 : decode cJ0_inflate 37 = .ok (.iconst 1, 1) := dk_4 (dk_at dksJ0_inflate_1 13 rfl rfl)
theorem dJ0_inflate_38 : decode cJ0_inflate 38 = .ok (.putfield 22, 3) := dk_181 0 22 (dk_at dksJ0_inflate_1 14 rfl rfl)
theorem dJ0_inflate_41 : decode cJ0_inflate 41 = .ok (.return_, 1) := dk_177 (dk_at dksJ0_inflate_1 17 rfl rfl)
abbrev cJ0_append_2 : ByteArray := prog_12_method_32_code
def yJ0_append_2 : MethodName := ⟨RJ0, "append", "(I)Ljava/lang/AbstractStringBuilder;"⟩
def dkwJ0_append_2_2 : List UInt8 := [42, 29, 181, 0, 79, 42, 176]
abbrev dktJ0_append_2_2 : List UInt8 := dkwJ0_append_2_2 ++ []
def dkwJ0_append_2_1 : List UInt8 := [27, 29, 42, 180, 0, 15, 184, 0, 248, 87, 167, 0, 14, 27, 28, 29, 42, 180, 0, 15, 184, 0, 251, 87]
abbrev dktJ0_append_2_1 : List UInt8 := dkwJ0_append_2_1 ++ dktJ0_append_2_2
def dkwJ0_append_2_0 : List UInt8 := [42, 180, 0, 79, 61, 28, 27, 184, 0, 245, 96, 62, 42, 29, 182, 0, 100, 42, 182, 0, 83, 153, 0, 16]
abbrev dktJ0_append_2_0 : List UInt8 := dkwJ0_append_2_0 ++ dktJ0_append_2_1
theorem dksJ0_append_2_0 : cJ0_append_2.data.toList.drop 0 = dktJ0_append_2_0 := by decide +kernel
theorem dksJ0_append_2_1 : cJ0_append_2.data.toList.drop 24 = dktJ0_append_2_1 := dk_seg dksJ0_append_2_0 24 rfl rfl
theorem dksJ0_append_2_2 : cJ0_append_2.data.toList.drop 48 = dktJ0_append_2_2 := dk_seg dksJ0_append_2_1 24 rfl rfl
theorem dJ0_append_2_0 : decode cJ0_append_2 0 = .ok (.aload_n 0, 1) := dk_42 (dk_at dksJ0_append_2_0 0 rfl rfl)
theorem dJ0_append_2_1 : decode cJ0_append_2 1 = .ok (.getfield 79, 3) := dk_180 0 79 (dk_at dksJ0_append_2_0 1 rfl rfl)
theorem dJ0_append_2_4 : decode cJ0_append_2 4 = .ok (.istore_n 2, 1) := dk_61 (dk_at dksJ0_append_2_0 4 rfl rfl)
theorem dJ0_append_2_5 : decode cJ0_append_2 5 = .ok (.iload_n 2, 1) := dk_28 (dk_at dksJ0_append_2_0 5 rfl rfl)
theorem dJ0_append_2_6 : decode cJ0_append_2 6 = .ok (.iload_n 1, 1) := dk_27 (dk_at dksJ0_append_2_0 6 rfl rfl)
theorem dJ0_append_2_7 : decode cJ0_append_2 7 = .ok (.invokestatic 245, 3) := dk_184 0 245 (dk_at dksJ0_append_2_0 7 rfl rfl)
theorem dJ0_append_2_10 : decode cJ0_append_2 10 = .ok (.iadd, 1) := dk_96 (dk_at dksJ0_append_2_0 10 rfl rfl)
theorem dJ0_append_2_11 : decode cJ0_append_2 11 = .ok (.istore_n 3, 1) := dk_62 (dk_at dksJ0_append_2_0 11 rfl rfl)
theorem dJ0_append_2_12 : decode cJ0_append_2 12 = .ok (.aload_n 0, 1) := dk_42 (dk_at dksJ0_append_2_0 12 rfl rfl)
theorem dJ0_append_2_13 : decode cJ0_append_2 13 = .ok (.iload_n 3, 1) := dk_29 (dk_at dksJ0_append_2_0 13 rfl rfl)
theorem dJ0_append_2_14 : decode cJ0_append_2 14 = .ok (.invokevirtual 100, 3) := dk_182 0 100 (dk_at dksJ0_append_2_0 14 rfl rfl)
theorem dJ0_append_2_17 : decode cJ0_append_2 17 = .ok (.aload_n 0, 1) := dk_42 (dk_at dksJ0_append_2_0 17 rfl rfl)
theorem dJ0_append_2_18 : decode cJ0_append_2 18 = .ok (.invokevirtual 83, 3) := dk_182 0 83 (dk_at dksJ0_append_2_0 18 rfl rfl)
theorem dJ0_append_2_21 : decode cJ0_append_2 21 = .ok (.ifCond .eq 16, 3) := dk_153 0 16 (dk_at dksJ0_append_2_0 21 rfl rfl)
theorem dJ0_append_2_24 : decode cJ0_append_2 24 = .ok (.iload_n 1, 1) := dk_27 (dk_at dksJ0_append_2_1 0 rfl rfl)
theorem dJ0_append_2_25 : decode cJ0_append_2 25 = .ok (.iload_n 3, 1) := dk_29 (dk_at dksJ0_append_2_1 1 rfl rfl)
theorem dJ0_append_2_26 : decode cJ0_append_2 26 = .ok (.aload_n 0, 1) := dk_42 (dk_at dksJ0_append_2_1 2 rfl rfl)
theorem dJ0_append_2_27 : decode cJ0_append_2 27 = .ok (.getfield 15, 3) := dk_180 0 15 (dk_at dksJ0_append_2_1 3 rfl rfl)
theorem dJ0_append_2_30 : decode cJ0_append_2 30 = .ok (.invokestatic 248, 3) := dk_184 0 248 (dk_at dksJ0_append_2_1 6 rfl rfl)
theorem dJ0_append_2_33 : decode cJ0_append_2 33 = .ok (.pop, 1) := dk_87 (dk_at dksJ0_append_2_1 9 rfl rfl)
theorem dJ0_append_2_34 : decode cJ0_append_2 34 = .ok (.goto 14, 3) := dk_167 0 14 (dk_at dksJ0_append_2_1 10 rfl rfl)
theorem dJ0_append_2_37 : decode cJ0_append_2 37 = .ok (.iload_n 1, 1) := dk_27 (dk_at dksJ0_append_2_1 13 rfl rfl)
theorem dJ0_append_2_38 : decode cJ0_append_2 38 = .ok (.iload_n 2, 1) := dk_28 (dk_at dksJ0_append_2_1 14 rfl rfl)
theorem dJ0_append_2_39 : decode cJ0_append_2 39 = .ok (.iload_n 3, 1) := dk_29 (dk_at dksJ0_append_2_1 15 rfl rfl)
theorem dJ0_append_2_40 : decode cJ0_append_2 40 = .ok (.aload_n 0, 1) := dk_42 (dk_at dksJ0_append_2_1 16 rfl rfl)
theorem dJ0_append_2_41 : decode cJ0_append_2 41 = .ok (.getfield 15, 3) := dk_180 0 15 (dk_at dksJ0_append_2_1 17 rfl rfl)
theorem dJ0_append_2_44 : decode cJ0_append_2 44 = .ok (.invokestatic 251, 3) := dk_184 0 251 (dk_at dksJ0_append_2_1 20 rfl rfl)
theorem dJ0_append_2_47 : decode cJ0_append_2 47 = .ok (.pop, 1) := dk_87 (dk_at dksJ0_append_2_1 23 rfl rfl)
theorem dJ0_append_2_48 : decode cJ0_append_2 48 = .ok (.aload_n 0, 1) := dk_42 (dk_at dksJ0_append_2_2 0 rfl rfl)
theorem dJ0_append_2_49 : decode cJ0_append_2 49 = .ok (.iload_n 3, 1) := dk_29 (dk_at dksJ0_append_2_2 1 rfl rfl)
theorem dJ0_append_2_50 : decode cJ0_append_2 50 = .ok (.putfield 79, 3) := dk_181 0 79 (dk_at dksJ0_append_2_2 2 rfl rfl)
theorem dJ0_append_2_53 : decode cJ0_append_2 53 = .ok (.aload_n 0, 1) := dk_42 (dk_at dksJ0_append_2_2 5 rfl rfl)
theorem dJ0_append_2_54 : decode cJ0_append_2 54 = .ok (.areturn, 1) := dk_176 (dk_at dksJ0_append_2_2 6 rfl rfl)
abbrev cJ0_getValue : ByteArray := prog_12_method_64_code
def yJ0_getValue : MethodName := ⟨RJ0, "getValue", "()[B"⟩
theorem dJ0_getValue_0 : decode cJ0_getValue 0 = .ok (.aload_n 0, 1) := by decide +kernel
theorem dJ0_getValue_1 : decode cJ0_getValue 1 = .ok (.getfield 15, 3) := by decide +kernel
theorem dJ0_getValue_4 : decode cJ0_getValue 4 = .ok (.areturn, 1) := by decide +kernel
abbrev cJ0_charAt : ByteArray := prog_12_method_14_code
def yJ0_charAt : MethodName := ⟨RJ0, "charAt", "(I)C"⟩
def dkwJ0_charAt_1 : List UInt8 := [21, 4, 184, 0, 144, 28, 154, 0, 12, 45, 27, 51, 17, 0, 255, 126, 146, 172, 45, 27, 184, 0, 148, 172]
abbrev dktJ0_charAt_1 : List UInt8 := dkwJ0_charAt_1 ++ []
def dkwJ0_charAt_0 : List UInt8 := [42, 180, 0, 22, 61, 42, 180, 0, 15, 78, 42, 180, 0, 79, 45, 190, 28, 122, 184, 0, 138, 54, 4, 27]
abbrev dktJ0_charAt_0 : List UInt8 := dkwJ0_charAt_0 ++ dktJ0_charAt_1
theorem dksJ0_charAt_0 : cJ0_charAt.data.toList.drop 0 = dktJ0_charAt_0 := by decide +kernel
theorem dksJ0_charAt_1 : cJ0_charAt.data.toList.drop 24 = dktJ0_charAt_1 := dk_seg dksJ0_charAt_0 24 rfl rfl
theorem dJ0_charAt_0 : decode cJ0_charAt 0 = .ok (.aload_n 0, 1) := dk_42 (dk_at dksJ0_charAt_0 0 rfl rfl)
theorem dJ0_charAt_1 : decode cJ0_charAt 1 = .ok (.getfield 22, 3) := dk_180 0 22 (dk_at dksJ0_charAt_0 1 rfl rfl)
theorem dJ0_charAt_4 : decode cJ0_charAt 4 = .ok (.istore_n 2, 1) := dk_61 (dk_at dksJ0_charAt_0 4 rfl rfl)
theorem dJ0_charAt_5 : decode cJ0_charAt 5 = .ok (.aload_n 0, 1) := dk_42 (dk_at dksJ0_charAt_0 5 rfl rfl)
theorem dJ0_charAt_6 : decode cJ0_charAt 6 = .ok (.getfield 15, 3) := dk_180 0 15 (dk_at dksJ0_charAt_0 6 rfl rfl)
theorem dJ0_charAt_9 : decode cJ0_charAt 9 = .ok (.astore_n 3, 1) := dk_78 (dk_at dksJ0_charAt_0 9 rfl rfl)
theorem dJ0_charAt_10 : decode cJ0_charAt 10 = .ok (.aload_n 0, 1) := dk_42 (dk_at dksJ0_charAt_0 10 rfl rfl)
theorem dJ0_charAt_11 : decode cJ0_charAt 11 = .ok (.getfield 79, 3) := dk_180 0 79 (dk_at dksJ0_charAt_0 11 rfl rfl)
theorem dJ0_charAt_14 : decode cJ0_charAt 14 = .ok (.aload_n 3, 1) := dk_45 (dk_at dksJ0_charAt_0 14 rfl rfl)
theorem dJ0_charAt_15 : decode cJ0_charAt 15 = .ok (.arraylength, 1) := dk_190 (dk_at dksJ0_charAt_0 15 rfl rfl)
theorem dJ0_charAt_16 : decode cJ0_charAt 16 = .ok (.iload_n 2, 1) := dk_28 (dk_at dksJ0_charAt_0 16 rfl rfl)
theorem dJ0_charAt_17 : decode cJ0_charAt 17 = .ok (.ishr, 1) := dk_122 (dk_at dksJ0_charAt_0 17 rfl rfl)
theorem dJ0_charAt_18 : decode cJ0_charAt 18 = .ok (.invokestatic 138, 3) := dk_184 0 138 (dk_at dksJ0_charAt_0 18 rfl rfl)
theorem dJ0_charAt_21 : decode cJ0_charAt 21 = .ok (.istore 4, 2) := dk_54 4 (dk_at dksJ0_charAt_0 21 rfl rfl)
theorem dJ0_charAt_23 : decode cJ0_charAt 23 = .ok (.iload_n 1, 1) := dk_27 (dk_at dksJ0_charAt_0 23 rfl rfl)
theorem dJ0_charAt_24 : decode cJ0_charAt 24 = .ok (.iload 4, 2) := dk_21 4 (dk_at dksJ0_charAt_1 0 rfl rfl)
theorem dJ0_charAt_26 : decode cJ0_charAt 26 = .ok (.invokestatic 144, 3) := dk_184 0 144 (dk_at dksJ0_charAt_1 2 rfl rfl)
theorem dJ0_charAt_29 : decode cJ0_charAt 29 = .ok (.iload_n 2, 1) := dk_28 (dk_at dksJ0_charAt_1 5 rfl rfl)
theorem dJ0_charAt_30 : decode cJ0_charAt 30 = .ok (.ifCond .ne 12, 3) := dk_154 0 12 (dk_at dksJ0_charAt_1 6 rfl rfl)
theorem dJ0_charAt_33 : decode cJ0_charAt 33 = .ok (.aload_n 3, 1) := dk_45 (dk_at dksJ0_charAt_1 9 rfl rfl)
theorem dJ0_charAt_34 : decode cJ0_charAt 34 = .ok (.iload_n 1, 1) := dk_27 (dk_at dksJ0_charAt_1 10 rfl rfl)
theorem dJ0_charAt_35 : decode cJ0_charAt 35 = .ok (.baload, 1) := dk_51 (dk_at dksJ0_charAt_1 11 rfl rfl)
theorem dJ0_charAt_36 : decode cJ0_charAt 36 = .ok (.sipush 255, 3) := dk_17 0 255 (dk_at dksJ0_charAt_1 12 rfl rfl)
theorem dJ0_charAt_39 : decode cJ0_charAt 39 = .ok (.iand, 1) := dk_126 (dk_at dksJ0_charAt_1 15 rfl rfl)
theorem dJ0_charAt_40 : decode cJ0_charAt 40 = .ok (.i2c, 1) := dk_146 (dk_at dksJ0_charAt_1 16 rfl rfl)
theorem dJ0_charAt_41 : decode cJ0_charAt 41 = .ok (.ireturn, 1) := dk_172 (dk_at dksJ0_charAt_1 17 rfl rfl)
theorem dJ0_charAt_42 : decode cJ0_charAt 42 = .ok (.aload_n 3, 1) := dk_45 (dk_at dksJ0_charAt_1 18 rfl rfl)
theorem dJ0_charAt_43 : decode cJ0_charAt 43 = .ok (.iload_n 1, 1) := dk_27 (dk_at dksJ0_charAt_1 19 rfl rfl)
theorem dJ0_charAt_44 : decode cJ0_charAt 44 = .ok (.invokestatic 148, 3) := dk_184 0 148 (dk_at dksJ0_charAt_1 20 rfl rfl)
theorem dJ0_charAt_47 : decode cJ0_charAt 47 = .ok (.ireturn, 1) := dk_172 (dk_at dksJ0_charAt_1 23 rfl rfl)
abbrev cJ0_compareTo : ByteArray := prog_12_method_5_code
def yJ0_compareTo : MethodName := ⟨RJ0, "compareTo", "(Ljava/lang/AbstractStringBuilder;)I"⟩
def dkwJ0_compareTo_4 : List UInt8 := [184, 0, 97, 172]
abbrev dktJ0_compareTo_4 : List UInt8 := dkwJ0_compareTo_4 ++ []
def dkwJ0_compareTo_3 : List UInt8 := [182, 0, 83, 153, 0, 15, 44, 45, 21, 4, 21, 5, 184, 0, 94, 167, 0, 12, 44, 45, 21, 4, 21, 5]
abbrev dktJ0_compareTo_3 : List UInt8 := dkwJ0_compareTo_3 ++ dktJ0_compareTo_4
def dkwJ0_compareTo_2 : List UInt8 := [45, 21, 4, 21, 5, 184, 0, 87, 167, 0, 12, 44, 45, 21, 4, 21, 5, 184, 0, 93, 172, 42]
abbrev dktJ0_compareTo_2 : List UInt8 := dkwJ0_compareTo_2 ++ dktJ0_compareTo_3
def dkwJ0_compareTo_1 : List UInt8 := [180, 0, 79, 54, 5, 42, 180, 0, 22, 43, 180, 0, 22, 160, 0, 32, 42, 182, 0, 83, 153, 0, 15, 44]
abbrev dktJ0_compareTo_1 : List UInt8 := dkwJ0_compareTo_1 ++ dktJ0_compareTo_2
def dkwJ0_compareTo_0 : List UInt8 := [42, 43, 166, 0, 5, 3, 172, 42, 180, 0, 15, 77, 43, 180, 0, 15, 78, 42, 180, 0, 79, 54, 4, 43]
abbrev dktJ0_compareTo_0 : List UInt8 := dkwJ0_compareTo_0 ++ dktJ0_compareTo_1
theorem dksJ0_compareTo_0 : cJ0_compareTo.data.toList.drop 0 = dktJ0_compareTo_0 := by decide +kernel
theorem dksJ0_compareTo_1 : cJ0_compareTo.data.toList.drop 24 = dktJ0_compareTo_1 := dk_seg dksJ0_compareTo_0 24 rfl rfl
theorem dksJ0_compareTo_2 : cJ0_compareTo.data.toList.drop 48 = dktJ0_compareTo_2 := dk_seg dksJ0_compareTo_1 24 rfl rfl
theorem dksJ0_compareTo_3 : cJ0_compareTo.data.toList.drop 70 = dktJ0_compareTo_3 := dk_seg dksJ0_compareTo_2 22 rfl rfl
theorem dksJ0_compareTo_4 : cJ0_compareTo.data.toList.drop 94 = dktJ0_compareTo_4 := dk_seg dksJ0_compareTo_3 24 rfl rfl
theorem dJ0_compareTo_0 : decode cJ0_compareTo 0 = .ok (.aload_n 0, 1) := dk_42 (dk_at dksJ0_compareTo_0 0 rfl rfl)
theorem dJ0_compareTo_1 : decode cJ0_compareTo 1 = .ok (.aload_n 1, 1) := dk_43 (dk_at dksJ0_compareTo_0 1 rfl rfl)
theorem dJ0_compareTo_2 : decode cJ0_compareTo 2 = .ok (.if_acmp .ne 5, 3) := dk_166 0 5 (dk_at dksJ0_compareTo_0 2 rfl rfl)
theorem dJ0_compareTo_5 : decode cJ0_compareTo 5 = .ok (.iconst 0, 1) := dk_3 (dk_at dksJ0_compareTo_0 5 rfl rfl)
theorem dJ0_compareTo_6 : decode cJ0_compareTo 6 = .ok (.ireturn, 1) := dk_172 (dk_at dksJ0_compareTo_0 6 rfl rfl)
theorem dJ0_compareTo_7 : decode cJ0_compareTo 7 = .ok (.aload_n 0, 1) := dk_42 (dk_at dksJ0_compareTo_0 7 rfl rfl)
theorem dJ0_compareTo_8 : decode cJ0_compareTo 8 = .ok (.getfield 15, 3) := dk_180 0 15 (dk_at dksJ0_compareTo_0 8 rfl rfl)
theorem dJ0_compareTo_11 : decode cJ0_compareTo 11 = .ok (.astore_n 2, 1) := dk_77 (dk_at dksJ0_compareTo_0 11 rfl rfl)
theorem dJ0_compareTo_12 : decode cJ0_compareTo 12 = .ok (.aload_n 1, 1) := dk_43 (dk_at dksJ0_compareTo_0 12 rfl rfl)
theorem dJ0_compareTo_13 : decode cJ0_compareTo 13 = .ok (.getfield 15, 3) := dk_180 0 15 (dk_at dksJ0_compareTo_0 13 rfl rfl)
theorem dJ0_compareTo_16 : decode cJ0_compareTo 16 = .ok (.astore_n 3, 1) := dk_78 (dk_at dksJ0_compareTo_0 16 rfl rfl)
theorem dJ0_compareTo_17 : decode cJ0_compareTo 17 = .ok (.aload_n 0, 1) := dk_42 (dk_at dksJ0_compareTo_0 17 rfl rfl)
theorem dJ0_compareTo_18 : decode cJ0_compareTo 18 = .ok (.getfield 79, 3) := dk_180 0 79 (dk_at dksJ0_compareTo_0 18 rfl rfl)
theorem dJ0_compareTo_21 : decode cJ0_compareTo 21 = .ok (.istore 4, 2) := dk_54 4 (dk_at dksJ0_compareTo_0 21 rfl rfl)
theorem dJ0_compareTo_23 : decode cJ0_compareTo 23 = .ok (.aload_n 1, 1) := dk_43 (dk_at dksJ0_compareTo_0 23 rfl rfl)
theorem dJ0_compareTo_24 : decode cJ0_compareTo 24 = .ok (.getfield 79, 3) := dk_180 0 79 (dk_at dksJ0_compareTo_1 0 rfl rfl)
theorem dJ0_compareTo_27 : decode cJ0_compareTo 27 = .ok (.istore 5, 2) := dk_54 5 (dk_at dksJ0_compareTo_1 3 rfl rfl)
theorem dJ0_compareTo_29 : decode cJ0_compareTo 29 = .ok (.aload_n 0, 1) := dk_42 (dk_at dksJ0_compareTo_1 5 rfl rfl)
theorem dJ0_compareTo_30 : decode cJ0_compareTo 30 = .ok (.getfield 22, 3) := dk_180 0 22 (dk_at dksJ0_compareTo_1 6 rfl rfl)
theorem dJ0_compareTo_33 : decode cJ0_compareTo 33 = .ok (.aload_n 1, 1) := dk_43 (dk_at dksJ0_compareTo_1 9 rfl rfl)
theorem dJ0_compareTo_34 : decode cJ0_compareTo 34 = .ok (.getfield 22, 3) := dk_180 0 22 (dk_at dksJ0_compareTo_1 10 rfl rfl)
theorem dJ0_compareTo_37 : decode cJ0_compareTo 37 = .ok (.if_icmp .ne 32, 3) := dk_160 0 32 (dk_at dksJ0_compareTo_1 13 rfl rfl)
theorem dJ0_compareTo_40 : decode cJ0_compareTo 40 = .ok (.aload_n 0, 1) := dk_42 (dk_at dksJ0_compareTo_1 16 rfl rfl)
theorem dJ0_compareTo_41 : decode cJ0_compareTo 41 = .ok (.invokevirtual 83, 3) := dk_182 0 83 (dk_at dksJ0_compareTo_1 17 rfl rfl)
theorem dJ0_compareTo_44 : decode cJ0_compareTo 44 = .ok (.ifCond .eq 15, 3) := dk_153 0 15 (dk_at dksJ0_compareTo_1 20 rfl rfl)
theorem dJ0_compareTo_47 : decode cJ0_compareTo 47 = .ok (.aload_n 2, 1) := dk_44 (dk_at dksJ0_compareTo_1 23 rfl rfl)
theorem dJ0_compareTo_48 : decode cJ0_compareTo 48 = .ok (.aload_n 3, 1) := dk_45 (dk_at dksJ0_compareTo_2 0 rfl rfl)
theorem dJ0_compareTo_49 : decode cJ0_compareTo 49 = .ok (.iload 4, 2) := dk_21 4 (dk_at dksJ0_compareTo_2 1 rfl rfl)
theorem dJ0_compareTo_51 : decode cJ0_compareTo 51 = .ok (.iload 5, 2) := dk_21 5 (dk_at dksJ0_compareTo_2 3 rfl rfl)
theorem dJ0_compareTo_53 : decode cJ0_compareTo 53 = .ok (.invokestatic 87, 3) := dk_184 0 87 (dk_at dksJ0_compareTo_2 5 rfl rfl)
theorem dJ0_compareTo_56 : decode cJ0_compareTo 56 = .ok (.goto 12, 3) := dk_167 0 12 (dk_at dksJ0_compareTo_2 8 rfl rfl)
theorem dJ0_compareTo_59 : decode cJ0_compareTo 59 = .ok (.aload_n 2, 1) := dk_44 (dk_at dksJ0_compareTo_2 11 rfl rfl)
theorem dJ0_compareTo_60 : decode cJ0_compareTo 60 = .ok (.aload_n 3, 1) := dk_45 (dk_at dksJ0_compareTo_2 12 rfl rfl)
theorem dJ0_compareTo_61 : decode cJ0_compareTo 61 = .ok (.iload 4, 2) := dk_21 4 (dk_at dksJ0_compareTo_2 13 rfl rfl)
theorem dJ0_compareTo_63 : decode cJ0_compareTo 63 = .ok (.iload 5, 2) := dk_21 5 (dk_at dksJ0_compareTo_2 15 rfl rfl)
theorem dJ0_compareTo_65 : decode cJ0_compareTo 65 = .ok (.invokestatic 93, 3) := dk_184 0 93 (dk_at dksJ0_compareTo_2 17 rfl rfl)
theorem dJ0_compareTo_68 : decode cJ0_compareTo 68 = .ok (.ireturn, 1) := dk_172 (dk_at dksJ0_compareTo_2 20 rfl rfl)
theorem dJ0_compareTo_69 : decode cJ0_compareTo 69 = .ok (.aload_n 0, 1) := dk_42 (dk_at dksJ0_compareTo_2 21 rfl rfl)
theorem dJ0_compareTo_70 : decode cJ0_compareTo 70 = .ok (.invokevirtual 83, 3) := dk_182 0 83 (dk_at dksJ0_compareTo_3 0 rfl rfl)
theorem dJ0_compareTo_73 : decode cJ0_compareTo 73 = .ok (.ifCond .eq 15, 3) := dk_153 0 15 (dk_at dksJ0_compareTo_3 3 rfl rfl)
theorem dJ0_compareTo_76 : decode cJ0_compareTo 76 = .ok (.aload_n 2, 1) := dk_44 (dk_at dksJ0_compareTo_3 6 rfl rfl)
theorem dJ0_compareTo_77 : decode cJ0_compareTo 77 = .ok (.aload_n 3, 1) := dk_45 (dk_at dksJ0_compareTo_3 7 rfl rfl)
theorem dJ0_compareTo_78 : decode cJ0_compareTo 78 = .ok (.iload 4, 2) := dk_21 4 (dk_at dksJ0_compareTo_3 8 rfl rfl)
theorem dJ0_compareTo_80 : decode cJ0_compareTo 80 = .ok (.iload 5, 2) := dk_21 5 (dk_at dksJ0_compareTo_3 10 rfl rfl)
theorem dJ0_compareTo_82 : decode cJ0_compareTo 82 = .ok (.invokestatic 94, 3) := dk_184 0 94 (dk_at dksJ0_compareTo_3 12 rfl rfl)
theorem dJ0_compareTo_85 : decode cJ0_compareTo 85 = .ok (.goto 12, 3) := dk_167 0 12 (dk_at dksJ0_compareTo_3 15 rfl rfl)
theorem dJ0_compareTo_88 : decode cJ0_compareTo 88 = .ok (.aload_n 2, 1) := dk_44 (dk_at dksJ0_compareTo_3 18 rfl rfl)
theorem dJ0_compareTo_89 : decode cJ0_compareTo 89 = .ok (.aload_n 3, 1) := dk_45 (dk_at dksJ0_compareTo_3 19 rfl rfl)
theorem dJ0_compareTo_90 : decode cJ0_compareTo 90 = .ok (.iload 4, 2) := dk_21 4 (dk_at dksJ0_compareTo_3 20 rfl rfl)
theorem dJ0_compareTo_92 : decode cJ0_compareTo 92 = .ok (.iload 5, 2) := dk_21 5 (dk_at dksJ0_compareTo_3 22 rfl rfl)
theorem dJ0_compareTo_94 : decode cJ0_compareTo 94 = .ok (.invokestatic 97, 3) := dk_184 0 97 (dk_at dksJ0_compareTo_4 0 rfl rfl)
theorem dJ0_compareTo_97 : decode cJ0_compareTo 97 = .ok (.ireturn, 1) := dk_172 (dk_at dksJ0_compareTo_4 3 rfl rfl)
abbrev cJ0_append_3 : ByteArray := prog_12_method_31_code
def yJ0_append_3 : MethodName := ⟨RJ0, "append", "(C)Ljava/lang/AbstractStringBuilder;"⟩
def dkwJ0_append_3_3 : List UInt8 := [181, 0, 79, 27, 184, 0, 197, 42, 176]
abbrev dktJ0_append_3_3 : List UInt8 := dkwJ0_append_3_3 ++ []
def dkwJ0_append_3_2 : List UInt8 := [182, 0, 83, 153, 0, 7, 42, 182, 0, 195, 42, 180, 0, 15, 42, 89, 180, 0, 79, 90, 4, 96]
abbrev dktJ0_append_3_2 : List UInt8 := dkwJ0_append_3_2 ++ dktJ0_append_3_3
def dkwJ0_append_3_1 : List UInt8 := [42, 180, 0, 15, 42, 89, 180, 0, 79, 90, 4, 96, 181, 0, 79, 27, 145, 84, 167, 0, 33, 42]
abbrev dktJ0_append_3_1 : List UInt8 := dkwJ0_append_3_1 ++ dktJ0_append_3_2
def dkwJ0_append_3_0 : List UInt8 := [42, 42, 180, 0, 79, 4, 96, 182, 0, 100, 42, 182, 0, 83, 153, 0, 31, 27, 184, 0, 191, 153, 0, 24]
abbrev dktJ0_append_3_0 : List UInt8 := dkwJ0_append_3_0 ++ dktJ0_append_3_1
theorem dksJ0_append_3_0 : cJ0_append_3.data.toList.drop 0 = dktJ0_append_3_0 := by decide +kernel
theorem dksJ0_append_3_1 : cJ0_append_3.data.toList.drop 24 = dktJ0_append_3_1 := dk_seg dksJ0_append_3_0 24 rfl rfl
theorem dksJ0_append_3_2 : cJ0_append_3.data.toList.drop 46 = dktJ0_append_3_2 := dk_seg dksJ0_append_3_1 22 rfl rfl
theorem dksJ0_append_3_3 : cJ0_append_3.data.toList.drop 68 = dktJ0_append_3_3 := dk_seg dksJ0_append_3_2 22 rfl rfl
theorem dJ0_append_3_0 : decode cJ0_append_3 0 = .ok (.aload_n 0, 1) := dk_42 (dk_at dksJ0_append_3_0 0 rfl rfl)
theorem dJ0_append_3_1 : decode cJ0_append_3 1 = .ok (.aload_n 0, 1) := dk_42 (dk_at dksJ0_append_3_0 1 rfl rfl)
theorem dJ0_append_3_2 : decode cJ0_append_3 2 = .ok (.getfield 79, 3) := dk_180 0 79 (dk_at dksJ0_append_3_0 2 rfl rfl)
theorem dJ0_append_3_5 : decode cJ0_append_3 5 = .ok (.iconst 1, 1) := dk_4 (dk_at dksJ0_append_3_0 5 rfl rfl)
theorem dJ0_append_3_6 : decode cJ0_append_3 6 = .ok (.iadd, 1) := dk_96 (dk_at dksJ0_append_3_0 6 rfl rfl)
theorem dJ0_append_3_7 : decode cJ0_append_3 7 = .ok (.invokevirtual 100, 3) := dk_182 0 100 (dk_at dksJ0_append_3_0 7 rfl rfl)
theorem dJ0_append_3_10 : decode cJ0_append_3 10 = .ok (.aload_n 0, 1) := dk_42 (dk_at dksJ0_append_3_0 10 rfl rfl)
theorem dJ0_append_3_11 : decode cJ0_append_3 11 = .ok (.invokevirtual 83, 3) := dk_182 0 83 (dk_at dksJ0_append_3_0 11 rfl rfl)
theorem dJ0_append_3_14 : decode cJ0_append_3 14 = .ok (.ifCond .eq 31, 3) := dk_153 0 31 (dk_at dksJ0_append_3_0 14 rfl rfl)
theorem dJ0_append_3_17 : decode cJ0_append_3 17 = .ok (.iload_n 1, 1) := dk_27 (dk_at dksJ0_append_3_0 17 rfl rfl)
theorem dJ0_append_3_18 : decode cJ0_append_3 18 = .ok (.invokestatic 191, 3) := dk_184 0 191 (dk_at dksJ0_append_3_0 18 rfl rfl)
theorem dJ0_append_3_21 : decode cJ0_append_3 21 = .ok (.ifCond .eq 24, 3) := dk_153 0 24 (dk_at dksJ0_append_3_0 21 rfl rfl)
theorem dJ0_append_3_24 : decode cJ0_append_3 24 = .ok (.aload_n 0, 1) := dk_42 (dk_at dksJ0_append_3_1 0 rfl rfl)
theorem dJ0_append_3_25 : decode cJ0_append_3 25 = .ok (.getfield 15, 3) := dk_180 0 15 (dk_at dksJ0_append_3_1 1 rfl rfl)
theorem dJ0_append_3_28 : decode cJ0_append_3 28 = .ok (.aload_n 0, 1) := dk_42 (dk_at dksJ0_append_3_1 4 rfl rfl)
theorem dJ0_append_3_29 : decode cJ0_append_3 29 = .ok (.dup, 1) := dk_89 (dk_at dksJ0_append_3_1 5 rfl rfl)
theorem dJ0_append_3_30 : decode cJ0_append_3 30 = .ok (.getfield 79, 3) := dk_180 0 79 (dk_at dksJ0_append_3_1 6 rfl rfl)
theorem dJ0_append_3_33 : decode cJ0_append_3 33 = .ok (.dup_x1, 1) := dk_90 (dk_at dksJ0_append_3_1 9 rfl rfl)
theorem dJ0_append_3_34 : decode cJ0_append_3 34 = .ok (.iconst 1, 1) := dk_4 (dk_at dksJ0_append_3_1 10 rfl rfl)
theorem dJ0_append_3_35 : decode cJ0_append_3 35 = .ok (.iadd, 1) := dk_96 (dk_at dksJ0_append_3_1 11 rfl rfl)
theorem dJ0_append_3_36 : decode cJ0_append_3 36 = .ok (.putfield 79, 3) := dk_181 0 79 (dk_at dksJ0_append_3_1 12 rfl rfl)
theorem dJ0_append_3_39 : decode cJ0_append_3 39 = .ok (.iload_n 1, 1) := dk_27 (dk_at dksJ0_append_3_1 15 rfl rfl)
theorem dJ0_append_3_40 : decode cJ0_append_3 40 = .ok (.i2b, 1) := dk_145 (dk_at dksJ0_append_3_1 16 rfl rfl)
theorem dJ0_append_3_41 : decode cJ0_append_3 41 = .ok (.bastore, 1) := dk_84 (dk_at dksJ0_append_3_1 17 rfl rfl)
theorem dJ0_append_3_42 : decode cJ0_append_3 42 = .ok (.goto 33, 3) := dk_167 0 33 (dk_at dksJ0_append_3_1 18 rfl rfl)
theorem dJ0_append_3_45 : decode cJ0_append_3 45 = .ok (.aload_n 0, 1) := dk_42 (dk_at dksJ0_append_3_1 21 rfl rfl)
theorem dJ0_append_3_46 : decode cJ0_append_3 46 = .ok (.invokevirtual 83, 3) := dk_182 0 83 (dk_at dksJ0_append_3_2 0 rfl rfl)
theorem dJ0_append_3_49 : decode cJ0_append_3 49 = .ok (.ifCond .eq 7, 3) := dk_153 0 7 (dk_at dksJ0_append_3_2 3 rfl rfl)
theorem dJ0_append_3_52 : decode cJ0_append_3 52 = .ok (.aload_n 0, 1) := dk_42 (dk_at dksJ0_append_3_2 6 rfl rfl)
theorem dJ0_append_3_53 : decode cJ0_append_3 53 = .ok (.invokevirtual 195, 3) := dk_182 0 195 (dk_at dksJ0_append_3_2 7 rfl rfl)
theorem dJ0_append_3_56 : decode cJ0_append_3 56 = .ok (.aload_n 0, 1) := dk_42 (dk_at dksJ0_append_3_2 10 rfl rfl)
theorem dJ0_append_3_57 : decode cJ0_append_3 57 = .ok (.getfield 15, 3) := dk_180 0 15 (dk_at dksJ0_append_3_2 11 rfl rfl)
theorem dJ0_append_3_60 : decode cJ0_append_3 60 = .ok (.aload_n 0, 1) := dk_42 (dk_at dksJ0_append_3_2 14 rfl rfl)
theorem dJ0_append_3_61 : decode cJ0_append_3 61 = .ok (.dup, 1) := dk_89 (dk_at dksJ0_append_3_2 15 rfl rfl)
theorem dJ0_append_3_62 : decode cJ0_append_3 62 = .ok (.getfield 79, 3) := dk_180 0 79 (dk_at dksJ0_append_3_2 16 rfl rfl)
theorem dJ0_append_3_65 : decode cJ0_append_3 65 = .ok (.dup_x1, 1) := dk_90 (dk_at dksJ0_append_3_2 19 rfl rfl)
theorem dJ0_append_3_66 : decode cJ0_append_3 66 = .ok (.iconst 1, 1) := dk_4 (dk_at dksJ0_append_3_2 20 rfl rfl)
theorem dJ0_append_3_67 : decode cJ0_append_3 67 = .ok (.iadd, 1) := dk_96 (dk_at dksJ0_append_3_2 21 rfl rfl)
theorem dJ0_append_3_68 : decode cJ0_append_3 68 = .ok (.putfield 79, 3) := dk_181 0 79 (dk_at dksJ0_append_3_3 0 rfl rfl)
theorem dJ0_append_3_71 : decode cJ0_append_3 71 = .ok (.iload_n 1, 1) := dk_27 (dk_at dksJ0_append_3_3 3 rfl rfl)
theorem dJ0_append_3_72 : decode cJ0_append_3 72 = .ok (.invokestatic 197, 3) := dk_184 0 197 (dk_at dksJ0_append_3_3 4 rfl rfl)
theorem dJ0_append_3_75 : decode cJ0_append_3 75 = .ok (.aload_n 0, 1) := dk_42 (dk_at dksJ0_append_3_3 7 rfl rfl)
theorem dJ0_append_3_76 : decode cJ0_append_3 76 = .ok (.areturn, 1) := dk_176 (dk_at dksJ0_append_3_3 8 rfl rfl)
theorem q86 : (Jvm.Cond.initialized "java/lang/AbstractStringBuilder") ∈ lw_all := lw_g (lw_at lw_m1 2 rfl) rfl
theorem q144 : (Jvm.Cond.instanceMethod ({ cls := "java/lang/AbstractStringBuilder", name := "<init>", desc := "(I)V" } : Jvm.MethodName)) ∈ lw_all := lw_g (lw_at lw_m1 60 rfl) rfl
theorem q145 : (Jvm.Cond.code ({ cls := "java/lang/AbstractStringBuilder", name := "<init>", desc := "(I)V" } : Jvm.MethodName) prog_12_method_2_code (2 : Nat) (Option.none : Option Jvm.ClassFile.FieldType)) ∈ lw_all := lw_g (lw_at lw_m1 61 rfl) rfl
theorem q146 : (Jvm.Cond.methodLink "java/lang/AbstractStringBuilder" (3 : Nat) ({ cls := "java/lang/Object", name := "<init>", desc := "()V" } : Jvm.MethodName)) ∈ lw_all := lw_g (lw_at lw_m1 62 rfl) rfl
theorem q147 : (Jvm.Cond.fieldLink "java/lang/AbstractStringBuilder" (18 : Nat) "java/lang/String" "COMPACT_STRINGS" "Z") ∈ lw_all := lw_g (lw_at lw_m1 63 rfl) rfl
theorem q149 : (Jvm.Cond.methodLink "java/lang/AbstractStringBuilder" (26 : Nat) ({ cls := "java/lang/StringUTF16", name := "newBytesFor", desc := "(I)[B" } : Jvm.MethodName)) ∈ lw_all := lw_g (lw_at lw_m1 65 rfl) rfl
theorem q156 : (Jvm.Cond.fieldLink "java/lang/AbstractStringBuilder" (15 : Nat) "java/lang/AbstractStringBuilder" "value" "[B") ∈ lw_all := lw_g (lw_at lw_m1 72 rfl) rfl
theorem q157 : (Jvm.Cond.fieldLink "java/lang/AbstractStringBuilder" (22 : Nat) "java/lang/AbstractStringBuilder" "coder" "B") ∈ lw_all := lw_g (lw_at lw_m1 73 rfl) rfl
theorem q158 : (Jvm.Cond.fieldLink "java/lang/AbstractStringBuilder" (73 : Nat) "java/lang/AbstractStringBuilder" "maybeLatin1" "Z") ∈ lw_all := lw_g (lw_at lw_m1 74 rfl) rfl
theorem q160 : (Jvm.Cond.fieldLink "java/lang/AbstractStringBuilder" (79 : Nat) "java/lang/AbstractStringBuilder" "count" "I") ∈ lw_all := lw_g (lw_at lw_m1 76 rfl) rfl
theorem q162 : (Jvm.Cond.soleField "java/lang/AbstractStringBuilder" "value") ∈ lw_all := lw_g (lw_at lw_m1 78 rfl) rfl
theorem q164 : (Jvm.Cond.soleField "java/lang/AbstractStringBuilder" "coder") ∈ lw_all := lw_g (lw_at lw_m1 80 rfl) rfl
theorem q166 : (Jvm.Cond.soleField "java/lang/AbstractStringBuilder" "maybeLatin1") ∈ lw_all := lw_g (lw_at lw_m1 82 rfl) rfl
theorem q168 : (Jvm.Cond.soleField "java/lang/AbstractStringBuilder" "count") ∈ lw_all := lw_g (lw_at lw_m1 84 rfl) rfl
theorem q231 : (Jvm.Cond.instanceMethod ({ cls := "java/lang/AbstractStringBuilder", name := "length", desc := "()I" } : Jvm.MethodName)) ∈ lw_all := lw_g (lw_at lw_m1 147 rfl) rfl
theorem q232 : (Jvm.Cond.code ({ cls := "java/lang/AbstractStringBuilder", name := "length", desc := "()I" } : Jvm.MethodName) prog_12_method_6_code (1 : Nat) (Option.some Jvm.ClassFile.FieldType.int)) ∈ lw_all := lw_g (lw_at lw_m1 148 rfl) rfl
theorem q238 : (Jvm.Cond.instanceMethod ({ cls := "java/lang/AbstractStringBuilder", name := "setLength", desc := "(I)V" } : Jvm.MethodName)) ∈ lw_all := lw_g (lw_at lw_m1 154 rfl) rfl
theorem q239 : (Jvm.Cond.code ({ cls := "java/lang/AbstractStringBuilder", name := "setLength", desc := "(I)V" } : Jvm.MethodName) prog_12_method_13_code (2 : Nat) (Option.none : Option Jvm.ClassFile.FieldType)) ∈ lw_all := lw_g (lw_at lw_m1 155 rfl) rfl
theorem q240 : (Jvm.Cond.classLink "java/lang/AbstractStringBuilder" (129 : Nat) "java/lang/StringIndexOutOfBoundsException") ∈ lw_all := lw_g (lw_at lw_m1 156 rfl) rfl
theorem q242 : (Jvm.Cond.methodLink "java/lang/AbstractStringBuilder" (131 : Nat) ({ cls := "java/lang/StringIndexOutOfBoundsException", name := "<init>", desc := "(I)V" } : Jvm.MethodName)) ∈ lw_all := lw_g (lw_at lw_m1 158 rfl) rfl
theorem q255 : (Jvm.Cond.instanceMethod ({ cls := "java/lang/AbstractStringBuilder", name := "append", desc := "(Ljava/lang/String;)Ljava/lang/AbstractStringBuilder;" } : Jvm.MethodName)) ∈ lw_all := lw_g (lw_at lw_m1 171 rfl) rfl
theorem q256 : (Jvm.Cond.code ({ cls := "java/lang/AbstractStringBuilder", name := "append", desc := "(Ljava/lang/String;)Ljava/lang/AbstractStringBuilder;" } : Jvm.MethodName) prog_12_method_22_code (3 : Nat) (Option.some (Jvm.ClassFile.FieldType.object "java/lang/AbstractStringBuilder"))) ∈ lw_all := lw_g (lw_at lw_m1 172 rfl) rfl
theorem q257 : (Jvm.Cond.methodLink "java/lang/AbstractStringBuilder" (204 : Nat) ({ cls := "java/lang/AbstractStringBuilder", name := "appendNull", desc := "()Ljava/lang/AbstractStringBuilder;" } : Jvm.MethodName)) ∈ lw_all := lw_g (lw_at lw_m1 173 rfl) rfl
theorem q258 : (Jvm.Cond.privateMethod ({ cls := "java/lang/AbstractStringBuilder", name := "appendNull", desc := "()Ljava/lang/AbstractStringBuilder;" } : Jvm.MethodName)) ∈ lw_tbl := lw_at lw_m1 174 rfl
theorem q259 : (Jvm.Cond.instanceMethod ({ cls := "java/lang/AbstractStringBuilder", name := "appendNull", desc := "()Ljava/lang/AbstractStringBuilder;" } : Jvm.MethodName)) ∈ lw_all := lw_g (lw_at lw_m1 175 rfl) rfl
theorem q260 : (Jvm.Cond.code ({ cls := "java/lang/AbstractStringBuilder", name := "appendNull", desc := "()Ljava/lang/AbstractStringBuilder;" } : Jvm.MethodName) prog_12_method_26_code (3 : Nat) (Option.some (Jvm.ClassFile.FieldType.object "java/lang/AbstractStringBuilder"))) ∈ lw_all := lw_g (lw_at lw_m1 176 rfl) rfl
theorem q261 : (Jvm.Cond.methodLink "java/lang/AbstractStringBuilder" (100 : Nat) ({ cls := "java/lang/AbstractStringBuilder", name := "ensureCapacityInternal", desc := "(I)V" } : Jvm.MethodName)) ∈ lw_all := lw_g (lw_at lw_m1 177 rfl) rfl
theorem q262 : (Jvm.Cond.privateMethod ({ cls := "java/lang/AbstractStringBuilder", name := "ensureCapacityInternal", desc := "(I)V" } : Jvm.MethodName)) ∈ lw_tbl := lw_at lw_m1 178 rfl
theorem q263 : (Jvm.Cond.instanceMethod ({ cls := "java/lang/AbstractStringBuilder", name := "ensureCapacityInternal", desc := "(I)V" } : Jvm.MethodName)) ∈ lw_all := lw_g (lw_at lw_m1 179 rfl) rfl
theorem q264 : (Jvm.Cond.code ({ cls := "java/lang/AbstractStringBuilder", name := "ensureCapacityInternal", desc := "(I)V" } : Jvm.MethodName) prog_12_method_9_code (3 : Nat) (Option.none : Option Jvm.ClassFile.FieldType)) ∈ lw_all := lw_g (lw_at lw_m1 180 rfl) rfl
theorem q265 : (Jvm.Cond.methodLink "java/lang/AbstractStringBuilder" (104 : Nat) ({ cls := "java/lang/AbstractStringBuilder", name := "newCapacity", desc := "(I)I" } : Jvm.MethodName)) ∈ lw_all := lw_g (lw_at lw_m1 181 rfl) rfl
theorem q266 : (Jvm.Cond.privateMethod ({ cls := "java/lang/AbstractStringBuilder", name := "newCapacity", desc := "(I)I" } : Jvm.MethodName)) ∈ lw_tbl := lw_at lw_m1 182 rfl
theorem q267 : (Jvm.Cond.instanceMethod ({ cls := "java/lang/AbstractStringBuilder", name := "newCapacity", desc := "(I)I" } : Jvm.MethodName)) ∈ lw_all := lw_g (lw_at lw_m1 183 rfl) rfl
theorem q268 : (Jvm.Cond.code ({ cls := "java/lang/AbstractStringBuilder", name := "newCapacity", desc := "(I)I" } : Jvm.MethodName) prog_12_method_10_code (6 : Nat) (Option.some Jvm.ClassFile.FieldType.int)) ∈ lw_all := lw_g (lw_at lw_m1 184 rfl) rfl
theorem q269 : (Jvm.Cond.methodLink "java/lang/AbstractStringBuilder" (114 : Nat) ({ cls := "jdk/internal/util/ArraysSupport", name := "newLength", desc := "(III)I" } : Jvm.MethodName)) ∈ lw_all := lw_g (lw_at lw_m1 185 rfl) rfl
theorem q279 : (Jvm.Cond.constant "java/lang/AbstractStringBuilder" (39 : Nat) (2147483647 : Int32)) ∈ lw_all := lw_g (lw_at lw_m1 195 rfl) rfl
theorem q280 : (Jvm.Cond.methodLink "java/lang/AbstractStringBuilder" (108 : Nat) ({ cls := "java/util/Arrays", name := "copyOf", desc := "([BI)[B" } : Jvm.MethodName)) ∈ lw_all := lw_g (lw_at lw_m1 196 rfl) rfl
theorem q296 : (Jvm.Cond.methodLink "java/lang/AbstractStringBuilder" (83 : Nat) ({ cls := "java/lang/AbstractStringBuilder", name := "isLatin1", desc := "()Z" } : Jvm.MethodName)) ∈ lw_all := lw_g (lw_at lw_m1 212 rfl) rfl
theorem q297 : (Jvm.Cond.instanceMethod ({ cls := "java/lang/AbstractStringBuilder", name := "isLatin1", desc := "()Z" } : Jvm.MethodName)) ∈ lw_all := lw_g (lw_at lw_m1 213 rfl) rfl
theorem q298 : (Jvm.Cond.sameMethod "java/lang/AbstractStringBuilder" "java/lang/AbstractStringBuilder" "isLatin1" "()Z") ∈ lw_all := lw_g (lw_at lw_m1 214 rfl) rfl
theorem q300 : (Jvm.Cond.code ({ cls := "java/lang/AbstractStringBuilder", name := "isLatin1", desc := "()Z" } : Jvm.MethodName) prog_12_method_68_code (1 : Nat) (Option.some Jvm.ClassFile.FieldType.boolean)) ∈ lw_all := lw_g (lw_at lw_m1 216 rfl) rfl
theorem q301 : (Jvm.Cond.methodLink "java/lang/AbstractStringBuilder" (226 : Nat) ({ cls := "java/lang/StringUTF16", name := "putCharsAt", desc := "([BICCCC)I" } : Jvm.MethodName)) ∈ lw_all := lw_g (lw_at lw_m1 217 rfl) rfl
theorem q327 : (Jvm.Cond.methodLink "java/lang/AbstractStringBuilder" (32 : Nat) ({ cls := "java/lang/String", name := "length", desc := "()I" } : Jvm.MethodName)) ∈ lw_all := lw_g (lw_at lw_m2 3 rfl) rfl
theorem q336 : (Jvm.Cond.methodLink "java/lang/AbstractStringBuilder" (208 : Nat) ({ cls := "java/lang/AbstractStringBuilder", name := "putStringAt", desc := "(ILjava/lang/String;)V" } : Jvm.MethodName)) ∈ lw_all := lw_g (lw_at lw_m2 12 rfl) rfl
theorem q337 : (Jvm.Cond.privateMethod ({ cls := "java/lang/AbstractStringBuilder", name := "putStringAt", desc := "(ILjava/lang/String;)V" } : Jvm.MethodName)) ∈ lw_tbl := lw_at lw_m2 13 rfl
theorem q338 : (Jvm.Cond.instanceMethod ({ cls := "java/lang/AbstractStringBuilder", name := "putStringAt", desc := "(ILjava/lang/String;)V" } : Jvm.MethodName)) ∈ lw_all := lw_g (lw_at lw_m2 14 rfl) rfl
theorem q339 : (Jvm.Cond.code ({ cls := "java/lang/AbstractStringBuilder", name := "putStringAt", desc := "(ILjava/lang/String;)V" } : Jvm.MethodName) prog_12_method_73_code (3 : Nat) (Option.none : Option Jvm.ClassFile.FieldType)) ∈ lw_all := lw_g (lw_at lw_m2 15 rfl) rfl
theorem q340 : (Jvm.Cond.methodLink "java/lang/AbstractStringBuilder" (397 : Nat) ({ cls := "java/lang/AbstractStringBuilder", name := "inflateIfNeededFor", desc := "(Ljava/lang/String;)V" } : Jvm.MethodName)) ∈ lw_all := lw_g (lw_at lw_m2 16 rfl) rfl
theorem q341 : (Jvm.Cond.privateMethod ({ cls := "java/lang/AbstractStringBuilder", name := "inflateIfNeededFor", desc := "(Ljava/lang/String;)V" } : Jvm.MethodName)) ∈ lw_tbl := lw_at lw_m2 17 rfl
theorem q342 : (Jvm.Cond.instanceMethod ({ cls := "java/lang/AbstractStringBuilder", name := "inflateIfNeededFor", desc := "(Ljava/lang/String;)V" } : Jvm.MethodName)) ∈ lw_all := lw_g (lw_at lw_m2 18 rfl) rfl
theorem q343 : (Jvm.Cond.code ({ cls := "java/lang/AbstractStringBuilder", name := "inflateIfNeededFor", desc := "(Ljava/lang/String;)V" } : Jvm.MethodName) prog_12_method_71_code (2 : Nat) (Option.none : Option Jvm.ClassFile.FieldType)) ∈ lw_all := lw_g (lw_at lw_m2 19 rfl) rfl
theorem q344 : (Jvm.Cond.methodLink "java/lang/AbstractStringBuilder" (40 : Nat) ({ cls := "java/lang/String", name := "coder", desc := "()B" } : Jvm.MethodName)) ∈ lw_all := lw_g (lw_at lw_m2 20 rfl) rfl
theorem q345 : (Jvm.Cond.methodLink "java/lang/AbstractStringBuilder" (195 : Nat) ({ cls := "java/lang/AbstractStringBuilder", name := "inflate", desc := "()V" } : Jvm.MethodName)) ∈ lw_all := lw_g (lw_at lw_m2 21 rfl) rfl
theorem q346 : (Jvm.Cond.privateMethod ({ cls := "java/lang/AbstractStringBuilder", name := "inflate", desc := "()V" } : Jvm.MethodName)) ∈ lw_tbl := lw_at lw_m2 22 rfl
theorem q347 : (Jvm.Cond.instanceMethod ({ cls := "java/lang/AbstractStringBuilder", name := "inflate", desc := "()V" } : Jvm.MethodName)) ∈ lw_all := lw_g (lw_at lw_m2 23 rfl) rfl
theorem q348 : (Jvm.Cond.code ({ cls := "java/lang/AbstractStringBuilder", name := "inflate", desc := "()V" } : Jvm.MethodName) prog_12_method_11_code (2 : Nat) (Option.none : Option Jvm.ClassFile.FieldType)) ∈ lw_all := lw_g (lw_at lw_m2 24 rfl) rfl
theorem q349 : (Jvm.Cond.methodLink "java/lang/AbstractStringBuilder" (125 : Nat) ({ cls := "java/lang/StringLatin1", name := "inflate", desc := "([BI[BII)V" } : Jvm.MethodName)) ∈ lw_all := lw_g (lw_at lw_m2 25 rfl) rfl
theorem q364 : (Jvm.Cond.methodLink "java/lang/AbstractStringBuilder" (399 : Nat) ({ cls := "java/lang/String", name := "getBytes", desc := "([BIB)V" } : Jvm.MethodName)) ∈ lw_all := lw_g (lw_at lw_m2 40 rfl) rfl
theorem q375 : (Jvm.Cond.instanceMethod ({ cls := "java/lang/AbstractStringBuilder", name := "append", desc := "(I)Ljava/lang/AbstractStringBuilder;" } : Jvm.MethodName)) ∈ lw_all := lw_g (lw_at lw_m2 51 rfl) rfl
theorem q376 : (Jvm.Cond.code ({ cls := "java/lang/AbstractStringBuilder", name := "append", desc := "(I)Ljava/lang/AbstractStringBuilder;" } : Jvm.MethodName) prog_12_method_32_code (4 : Nat) (Option.some (Jvm.ClassFile.FieldType.object "java/lang/AbstractStringBuilder"))) ∈ lw_all := lw_g (lw_at lw_m2 52 rfl) rfl
theorem q377 : (Jvm.Cond.methodLink "java/lang/AbstractStringBuilder" (245 : Nat) ({ cls := "java/lang/Integer", name := "stringSize", desc := "(I)I" } : Jvm.MethodName)) ∈ lw_all := lw_g (lw_at lw_m2 53 rfl) rfl
theorem q380 : (Jvm.Cond.methodLink "java/lang/AbstractStringBuilder" (248 : Nat) ({ cls := "java/lang/Integer", name := "getChars", desc := "(II[B)I" } : Jvm.MethodName)) ∈ lw_all := lw_g (lw_at lw_m2 56 rfl) rfl
theorem q387 : (Jvm.Cond.methodLink "java/lang/AbstractStringBuilder" (251 : Nat) ({ cls := "java/lang/StringUTF16", name := "getChars", desc := "(III[B)I" } : Jvm.MethodName)) ∈ lw_all := lw_g (lw_at lw_m2 63 rfl) rfl
theorem q409 : (Jvm.Cond.instanceMethod ({ cls := "java/lang/AbstractStringBuilder", name := "getValue", desc := "()[B" } : Jvm.MethodName)) ∈ lw_all := lw_g (lw_at lw_m2 85 rfl) rfl
theorem q410 : (Jvm.Cond.sameMethod "java/lang/AbstractStringBuilder" "java/lang/AbstractStringBuilder" "getValue" "()[B") ∈ lw_all := lw_g (lw_at lw_m2 86 rfl) rfl
theorem q412 : (Jvm.Cond.code ({ cls := "java/lang/AbstractStringBuilder", name := "getValue", desc := "()[B" } : Jvm.MethodName) prog_12_method_64_code (1 : Nat) (Option.some (Jvm.ClassFile.FieldType.array Jvm.ClassFile.FieldType.byte))) ∈ lw_all := lw_g (lw_at lw_m2 88 rfl) rfl
theorem q533 : (Jvm.Cond.methodLink "java/lang/AbstractStringBuilder" (133 : Nat) ({ cls := "java/lang/StringLatin1", name := "fillNull", desc := "([BII)V" } : Jvm.MethodName)) ∈ lw_all := lw_g (lw_at lw_m2 209 rfl) rfl
theorem q568 : (Jvm.Cond.methodLink "java/lang/AbstractStringBuilder" (137 : Nat) ({ cls := "java/lang/StringUTF16", name := "fillNull", desc := "([BII)V" } : Jvm.MethodName)) ∈ lw_all := lw_g (lw_at lw_m3 4 rfl) rfl
theorem q625 : (Jvm.Cond.instanceMethod ({ cls := "java/lang/AbstractStringBuilder", name := "charAt", desc := "(I)C" } : Jvm.MethodName)) ∈ lw_all := lw_g (lw_at lw_m3 61 rfl) rfl
theorem q626 : (Jvm.Cond.code ({ cls := "java/lang/AbstractStringBuilder", name := "charAt", desc := "(I)C" } : Jvm.MethodName) prog_12_method_14_code (5 : Nat) (Option.some Jvm.ClassFile.FieldType.char)) ∈ lw_all := lw_g (lw_at lw_m3 62 rfl) rfl
theorem q627 : (Jvm.Cond.methodLink "java/lang/AbstractStringBuilder" (138 : Nat) ({ cls := "java/lang/Math", name := "min", desc := "(II)I" } : Jvm.MethodName)) ∈ lw_all := lw_g (lw_at lw_m3 63 rfl) rfl
theorem q628 : (Jvm.Cond.methodLink "java/lang/AbstractStringBuilder" (144 : Nat) ({ cls := "java/lang/String", name := "checkIndex", desc := "(II)V" } : Jvm.MethodName)) ∈ lw_all := lw_g (lw_at lw_m3 64 rfl) rfl
theorem q634 : (Jvm.Cond.methodLink "java/lang/AbstractStringBuilder" (148 : Nat) ({ cls := "java/lang/StringUTF16", name := "getChar", desc := "([BI)C" } : Jvm.MethodName)) ∈ lw_all := lw_g (lw_at lw_m3 70 rfl) rfl
theorem q1156 : (Jvm.Cond.instanceMethod ({ cls := "java/lang/AbstractStringBuilder", name := "compareTo", desc := "(Ljava/lang/AbstractStringBuilder;)I" } : Jvm.MethodName)) ∈ lw_all := lw_g (lw_at lw_m5 112 rfl) rfl
theorem q1157 : (Jvm.Cond.code ({ cls := "java/lang/AbstractStringBuilder", name := "compareTo", desc := "(Ljava/lang/AbstractStringBuilder;)I" } : Jvm.MethodName) prog_12_method_5_code (6 : Nat) (Option.some Jvm.ClassFile.FieldType.int)) ∈ lw_all := lw_g (lw_at lw_m5 113 rfl) rfl
theorem q1158 : (Jvm.Cond.methodLink "java/lang/AbstractStringBuilder" (87 : Nat) ({ cls := "java/lang/StringLatin1", name := "compareTo", desc := "([B[BII)I" } : Jvm.MethodName)) ∈ lw_all := lw_g (lw_at lw_m5 114 rfl) rfl
theorem q1159 : (Jvm.Cond.methodLink "java/lang/AbstractStringBuilder" (93 : Nat) ({ cls := "java/lang/StringUTF16", name := "compareTo", desc := "([B[BII)I" } : Jvm.MethodName)) ∈ lw_all := lw_g (lw_at lw_m5 115 rfl) rfl
theorem q1168 : (Jvm.Cond.methodLink "java/lang/AbstractStringBuilder" (94 : Nat) ({ cls := "java/lang/StringLatin1", name := "compareToUTF16", desc := "([B[BII)I" } : Jvm.MethodName)) ∈ lw_all := lw_g (lw_at lw_m5 124 rfl) rfl
theorem q1172 : (Jvm.Cond.methodLink "java/lang/AbstractStringBuilder" (97 : Nat) ({ cls := "java/lang/StringUTF16", name := "compareToLatin1", desc := "([B[BII)I" } : Jvm.MethodName)) ∈ lw_all := lw_g (lw_at lw_m5 128 rfl) rfl
theorem q1728 : (Jvm.Cond.instanceMethod ({ cls := "java/lang/AbstractStringBuilder", name := "append", desc := "(C)Ljava/lang/AbstractStringBuilder;" } : Jvm.MethodName)) ∈ lw_all := lw_g (lw_at lw_m7 204 rfl) rfl
theorem q1729 : (Jvm.Cond.code ({ cls := "java/lang/AbstractStringBuilder", name := "append", desc := "(C)Ljava/lang/AbstractStringBuilder;" } : Jvm.MethodName) prog_12_method_31_code (2 : Nat) (Option.some (Jvm.ClassFile.FieldType.object "java/lang/AbstractStringBuilder"))) ∈ lw_all := lw_g (lw_at lw_m7 205 rfl) rfl
theorem q1730 : (Jvm.Cond.methodLink "java/lang/AbstractStringBuilder" (191 : Nat) ({ cls := "java/lang/StringLatin1", name := "canEncode", desc := "(C)Z" } : Jvm.MethodName)) ∈ lw_all := lw_g (lw_at lw_m7 206 rfl) rfl
theorem q1733 : (Jvm.Cond.methodLink "java/lang/AbstractStringBuilder" (197 : Nat) ({ cls := "java/lang/StringUTF16", name := "putCharSB", desc := "([BII)V" } : Jvm.MethodName)) ∈ lw_all := lw_g (lw_at lw_m7 209 rfl) rfl
theorem q2261 : (Jvm.Cond.sameMethod "java/lang/AbstractStringBuilder" "java/lang/AbstractStringBuilder" "length" "()I") ∈ lw_all := lw_g (lw_at lw_m10 17 rfl) rfl
theorem q2262 : (Jvm.Cond.sameMethod "java/lang/AbstractStringBuilder" "java/lang/AbstractStringBuilder" "setLength" "(I)V") ∈ lw_all := lw_g (lw_at lw_m10 18 rfl) rfl
theorem q2263 : (Jvm.Cond.sameMethod "java/lang/AbstractStringBuilder" "java/lang/AbstractStringBuilder" "append" "(Ljava/lang/String;)Ljava/lang/AbstractStringBuilder;") ∈ lw_all := lw_g (lw_at lw_m10 19 rfl) rfl
theorem q2264 : (Jvm.Cond.sameMethod "java/lang/AbstractStringBuilder" "java/lang/AbstractStringBuilder" "appendNull" "()Ljava/lang/AbstractStringBuilder;") ∈ lw_all := lw_g (lw_at lw_m10 20 rfl) rfl
theorem q2265 : (Jvm.Cond.sameMethod "java/lang/AbstractStringBuilder" "java/lang/AbstractStringBuilder" "ensureCapacityInternal" "(I)V") ∈ lw_all := lw_g (lw_at lw_m10 21 rfl) rfl
theorem q2266 : (Jvm.Cond.sameMethod "java/lang/AbstractStringBuilder" "java/lang/AbstractStringBuilder" "newCapacity" "(I)I") ∈ lw_all := lw_g (lw_at lw_m10 22 rfl) rfl
theorem q2267 : (Jvm.Cond.sameMethod "java/lang/AbstractStringBuilder" "java/lang/AbstractStringBuilder" "putStringAt" "(ILjava/lang/String;)V") ∈ lw_all := lw_g (lw_at lw_m10 23 rfl) rfl
theorem q2268 : (Jvm.Cond.sameMethod "java/lang/AbstractStringBuilder" "java/lang/AbstractStringBuilder" "inflateIfNeededFor" "(Ljava/lang/String;)V") ∈ lw_all := lw_g (lw_at lw_m10 24 rfl) rfl
theorem q2269 : (Jvm.Cond.sameMethod "java/lang/AbstractStringBuilder" "java/lang/AbstractStringBuilder" "inflate" "()V") ∈ lw_all := lw_g (lw_at lw_m10 25 rfl) rfl
theorem q2270 : (Jvm.Cond.sameMethod "java/lang/AbstractStringBuilder" "java/lang/AbstractStringBuilder" "append" "(I)Ljava/lang/AbstractStringBuilder;") ∈ lw_all := lw_g (lw_at lw_m10 26 rfl) rfl
theorem q2273 : (Jvm.Cond.sameMethod "java/lang/AbstractStringBuilder" "java/lang/AbstractStringBuilder" "charAt" "(I)C") ∈ lw_all := lw_g (lw_at lw_m10 29 rfl) rfl
theorem q2274 : (Jvm.Cond.sameMethod "java/lang/AbstractStringBuilder" "java/lang/AbstractStringBuilder" "compareTo" "(Ljava/lang/AbstractStringBuilder;)I") ∈ lw_all := lw_g (lw_at lw_m10 30 rfl) rfl
theorem q2275 : (Jvm.Cond.sameMethod "java/lang/AbstractStringBuilder" "java/lang/AbstractStringBuilder" "append" "(C)Ljava/lang/AbstractStringBuilder;") ∈ lw_all := lw_g (lw_at lw_m10 31 rfl) rfl
/-! java/lang/StringBuilder -/
set_option maxRecDepth 100000
def RJ1 : String := "java/lang/StringBuilder"
def TJ1 : u_T := fun k => match k with
  | 0 => ("java/lang/AbstractStringBuilder", "value", "[B", false)
  | 1 => ("java/lang/AbstractStringBuilder", "coder", "B", false)
  | 2 => ("java/lang/AbstractStringBuilder", "maybeLatin1", "Z", false)
  | _ => ("java/lang/AbstractStringBuilder", "count", "I", false)
def tyJ1 : Nat → FieldType := fun k => match k with
  | 0 => .array .byte
  | 1 => .byte
  | 2 => .boolean
  | _ => .int
abbrev wsJ10 : List Cond := u_ws RJ1 TJ1 4
theorem nmJ1 : ∀ a, a < 4 → ∀ b, b < 4 → a ≠ b → (TJ1 a).2.1 ≠ (TJ1 b).2.1 := by decide +kernel
theorem tyJ1_ok : ∀ k, k < 4 → parseFieldDescriptor (TJ1 k).2.2.1 = some (tyJ1 k) := by decide +kernel
abbrev cJ1_init : ByteArray := prog_31_method_2_code
def yJ1_init : MethodName := ⟨RJ1, "<init>", "(I)V"⟩
def dkwJ1_init_0 : List UInt8 := [42, 27, 183, 0, 1, 177]
abbrev dktJ1_init_0 : List UInt8 := dkwJ1_init_0 ++ []
theorem dksJ1_init_0 : cJ1_init.data.toList.drop 0 = dktJ1_init_0 := by decide +kernel
theorem dJ1_init_0 : decode cJ1_init 0 = .ok (.aload_n 0, 1) := dk_42 (dk_at dksJ1_init_0 0 rfl rfl)
theorem dJ1_init_1 : decode cJ1_init 1 = .ok (.iload_n 1, 1) := dk_27 (dk_at dksJ1_init_0 1 rfl rfl)
theorem dJ1_init_2 : decode cJ1_init 2 = .ok (.invokespecial 1, 3) := dk_183 0 1 (dk_at dksJ1_init_0 2 rfl rfl)
theorem dJ1_init_5 : decode cJ1_init 5 = .ok (.return_, 1) := dk_177 (dk_at dksJ1_init_0 5 rfl rfl)
abbrev cJ1_length : ByteArray := prog_31_method_93_code
def yJ1_length : MethodName := ⟨RJ1, "length", "()I"⟩
theorem dJ1_length_0 : decode cJ1_length 0 = .ok (.aload_n 0, 1) := by decide +kernel
theorem dJ1_length_1 : decode cJ1_length 1 = .ok (.invokespecial 343, 3) := by decide +kernel
theorem dJ1_length_4 : decode cJ1_length 4 = .ok (.ireturn, 1) := by decide +kernel
abbrev cJ1_setLength : ByteArray := prog_31_method_89_code
def yJ1_setLength : MethodName := ⟨RJ1, "setLength", "(I)V"⟩
def dkwJ1_setLength_0 : List UInt8 := [42, 27, 183, 1, 77, 177]
abbrev dktJ1_setLength_0 : List UInt8 := dkwJ1_setLength_0 ++ []
theorem dksJ1_setLength_0 : cJ1_setLength.data.toList.drop 0 = dktJ1_setLength_0 := by decide +kernel
theorem dJ1_setLength_0 : decode cJ1_setLength 0 = .ok (.aload_n 0, 1) := dk_42 (dk_at dksJ1_setLength_0 0 rfl rfl)
theorem dJ1_setLength_1 : decode cJ1_setLength 1 = .ok (.iload_n 1, 1) := dk_27 (dk_at dksJ1_setLength_0 1 rfl rfl)
theorem dJ1_setLength_2 : decode cJ1_setLength 2 = .ok (.invokespecial 333, 3) := dk_183 1 77 (dk_at dksJ1_setLength_0 2 rfl rfl)
theorem dJ1_setLength_5 : decode cJ1_setLength 5 = .ok (.return_, 1) := dk_177 (dk_at dksJ1_setLength_0 5 rfl rfl)
abbrev cJ1_init_2 : ByteArray := prog_31_method_1_code
def yJ1_init_2 : MethodName := ⟨RJ1, "<init>", "()V"⟩
def dkwJ1_init_2_0 : List UInt8 := [42, 16, 16, 183, 0, 1, 177]
abbrev dktJ1_init_2_0 : List UInt8 := dkwJ1_init_2_0 ++ []
theorem dksJ1_init_2_0 : cJ1_init_2.data.toList.drop 0 = dktJ1_init_2_0 := by decide +kernel
theorem dJ1_init_2_0 : decode cJ1_init_2 0 = .ok (.aload_n 0, 1) := dk_42 (dk_at dksJ1_init_2_0 0 rfl rfl)
theorem dJ1_init_2_1 : decode cJ1_init_2 1 = .ok (.bipush 16, 2) := dk_16 16 (dk_at dksJ1_init_2_0 1 rfl rfl)
theorem dJ1_init_2_3 : decode cJ1_init_2 3 = .ok (.invokespecial 1, 3) := dk_183 0 1 (dk_at dksJ1_init_2_0 3 rfl rfl)
theorem dJ1_init_2_6 : decode cJ1_init_2 6 = .ok (.return_, 1) := dk_177 (dk_at dksJ1_init_2_0 6 rfl rfl)
abbrev cJ1_append : ByteArray := prog_31_method_7_code
def yJ1_append : MethodName := ⟨RJ1, "append", "(Ljava/lang/String;)Ljava/lang/StringBuilder;"⟩
def dkwJ1_append_0 : List UInt8 := [42, 43, 183, 0, 29, 87, 42, 176]
abbrev dktJ1_append_0 : List UInt8 := dkwJ1_append_0 ++ []
theorem dksJ1_append_0 : cJ1_append.data.toList.drop 0 = dktJ1_append_0 := by decide +kernel
theorem dJ1_append_0 : decode cJ1_append 0 = .ok (.aload_n 0, 1) := dk_42 (dk_at dksJ1_append_0 0 rfl rfl)
theorem dJ1_append_1 : decode cJ1_append 1 = .ok (.aload_n 1, 1) := dk_43 (dk_at dksJ1_append_0 1 rfl rfl)
theorem dJ1_append_2 : decode cJ1_append 2 = .ok (.invokespecial 29, 3) := dk_183 0 29 (dk_at dksJ1_append_0 2 rfl rfl)
theorem dJ1_append_5 : decode cJ1_append 5 = .ok (.pop, 1) := dk_87 (dk_at dksJ1_append_0 5 rfl rfl)
theorem dJ1_append_6 : decode cJ1_append 6 = .ok (.aload_n 0, 1) := dk_42 (dk_at dksJ1_append_0 6 rfl rfl)
theorem dJ1_append_7 : decode cJ1_append 7 = .ok (.areturn, 1) := dk_176 (dk_at dksJ1_append_0 7 rfl rfl)
abbrev cJ1_append_2 : ByteArray := prog_31_method_15_code
def yJ1_append_2 : MethodName := ⟨RJ1, "append", "(I)Ljava/lang/StringBuilder;"⟩
def dkwJ1_append_2_0 : List UInt8 := [42, 27, 183, 0, 53, 87, 42, 176]
abbrev dktJ1_append_2_0 : List UInt8 := dkwJ1_append_2_0 ++ []
theorem dksJ1_append_2_0 : cJ1_append_2.data.toList.drop 0 = dktJ1_append_2_0 := by decide +kernel
theorem dJ1_append_2_0 : decode cJ1_append_2 0 = .ok (.aload_n 0, 1) := dk_42 (dk_at dksJ1_append_2_0 0 rfl rfl)
theorem dJ1_append_2_1 : decode cJ1_append_2 1 = .ok (.iload_n 1, 1) := dk_27 (dk_at dksJ1_append_2_0 1 rfl rfl)
theorem dJ1_append_2_2 : decode cJ1_append_2 2 = .ok (.invokespecial 53, 3) := dk_183 0 53 (dk_at dksJ1_append_2_0 2 rfl rfl)
theorem dJ1_append_2_5 : decode cJ1_append_2 5 = .ok (.pop, 1) := dk_87 (dk_at dksJ1_append_2_0 5 rfl rfl)
theorem dJ1_append_2_6 : decode cJ1_append_2 6 = .ok (.aload_n 0, 1) := dk_42 (dk_at dksJ1_append_2_0 6 rfl rfl)
theorem dJ1_append_2_7 : decode cJ1_append_2 7 = .ok (.areturn, 1) := dk_176 (dk_at dksJ1_append_2_0 7 rfl rfl)
abbrev cJ1_toString : ByteArray := prog_31_method_42_code
def yJ1_toString : MethodName := ⟨RJ1, "toString", "()Ljava/lang/String;"⟩
def dkwJ1_toString_0 : List UInt8 := [187, 0, 18, 89, 42, 183, 0, 137, 176]
abbrev dktJ1_toString_0 : List UInt8 := dkwJ1_toString_0 ++ []
theorem dksJ1_toString_0 : cJ1_toString.data.toList.drop 0 = dktJ1_toString_0 := by decide +kernel
theorem dJ1_toString_0 : decode cJ1_toString 0 = .ok (.new 18, 3) := dk_187 0 18 (dk_at dksJ1_toString_0 0 rfl rfl)
theorem dJ1_toString_3 : decode cJ1_toString 3 = .ok (.dup, 1) := dk_89 (dk_at dksJ1_toString_0 3 rfl rfl)
theorem dJ1_toString_4 : decode cJ1_toString 4 = .ok (.aload_n 0, 1) := dk_42 (dk_at dksJ1_toString_0 4 rfl rfl)
theorem dJ1_toString_5 : decode cJ1_toString 5 = .ok (.invokespecial 137, 3) := dk_183 0 137 (dk_at dksJ1_toString_0 5 rfl rfl)
theorem dJ1_toString_8 : decode cJ1_toString 8 = .ok (.areturn, 1) := dk_176 (dk_at dksJ1_toString_0 8 rfl rfl)
abbrev cJ1_charAt : ByteArray := prog_31_method_88_code
def yJ1_charAt : MethodName := ⟨RJ1, "charAt", "(I)C"⟩
def dkwJ1_charAt_0 : List UInt8 := [42, 27, 183, 1, 73, 172]
abbrev dktJ1_charAt_0 : List UInt8 := dkwJ1_charAt_0 ++ []
theorem dksJ1_charAt_0 : cJ1_charAt.data.toList.drop 0 = dktJ1_charAt_0 := by decide +kernel
theorem dJ1_charAt_0 : decode cJ1_charAt 0 = .ok (.aload_n 0, 1) := dk_42 (dk_at dksJ1_charAt_0 0 rfl rfl)
theorem dJ1_charAt_1 : decode cJ1_charAt 1 = .ok (.iload_n 1, 1) := dk_27 (dk_at dksJ1_charAt_0 1 rfl rfl)
theorem dJ1_charAt_2 : decode cJ1_charAt 2 = .ok (.invokespecial 329, 3) := dk_183 1 73 (dk_at dksJ1_charAt_0 2 rfl rfl)
theorem dJ1_charAt_5 : decode cJ1_charAt 5 = .ok (.ireturn, 1) := dk_172 (dk_at dksJ1_charAt_0 5 rfl rfl)
abbrev cJ1_compareTo : ByteArray := prog_31_method_97_code
def yJ1_compareTo : MethodName := ⟨RJ1, "compareTo", "(Ljava/lang/Object;)I"⟩
def dkwJ1_compareTo_0 : List UInt8 := [42, 43, 192, 0, 24, 182, 1, 90, 172]
abbrev dktJ1_compareTo_0 : List UInt8 := dkwJ1_compareTo_0 ++ []
theorem dksJ1_compareTo_0 : cJ1_compareTo.data.toList.drop 0 = dktJ1_compareTo_0 := by decide +kernel
theorem dJ1_compareTo_0 : decode cJ1_compareTo 0 = .ok (.aload_n 0, 1) := dk_42 (dk_at dksJ1_compareTo_0 0 rfl rfl)
theorem dJ1_compareTo_1 : decode cJ1_compareTo 1 = .ok (.aload_n 1, 1) := dk_43 (dk_at dksJ1_compareTo_0 1 rfl rfl)
theorem dJ1_compareTo_2 : decode cJ1_compareTo 2 = .ok (.checkcast 24, 3) := dk_192 0 24 (dk_at dksJ1_compareTo_0 2 rfl rfl)
theorem dJ1_compareTo_5 : decode cJ1_compareTo 5 = .ok (.invokevirtual 346, 3) := dk_182 1 90 (dk_at dksJ1_compareTo_0 5 rfl rfl)
theorem dJ1_compareTo_8 : decode cJ1_compareTo 8 = .ok (.ireturn, 1) := dk_172 (dk_at dksJ1_compareTo_0 8 rfl rfl)
abbrev cJ1_compareTo_2 : ByteArray := prog_31_method_5_code
def yJ1_compareTo_2 : MethodName := ⟨RJ1, "compareTo", "(Ljava/lang/StringBuilder;)I"⟩
def dkwJ1_compareTo_2_0 : List UInt8 := [42, 43, 183, 0, 13, 172]
abbrev dktJ1_compareTo_2_0 : List UInt8 := dkwJ1_compareTo_2_0 ++ []
theorem dksJ1_compareTo_2_0 : cJ1_compareTo_2.data.toList.drop 0 = dktJ1_compareTo_2_0 := by decide +kernel
theorem dJ1_compareTo_2_0 : decode cJ1_compareTo_2 0 = .ok (.aload_n 0, 1) := dk_42 (dk_at dksJ1_compareTo_2_0 0 rfl rfl)
theorem dJ1_compareTo_2_1 : decode cJ1_compareTo_2 1 = .ok (.aload_n 1, 1) := dk_43 (dk_at dksJ1_compareTo_2_0 1 rfl rfl)
theorem dJ1_compareTo_2_2 : decode cJ1_compareTo_2 2 = .ok (.invokespecial 13, 3) := dk_183 0 13 (dk_at dksJ1_compareTo_2_0 2 rfl rfl)
theorem dJ1_compareTo_2_5 : decode cJ1_compareTo_2 5 = .ok (.ireturn, 1) := dk_172 (dk_at dksJ1_compareTo_2_0 5 rfl rfl)
abbrev cJ1_append_3 : ByteArray := prog_31_method_14_code
def yJ1_append_3 : MethodName := ⟨RJ1, "append", "(C)Ljava/lang/StringBuilder;"⟩
def dkwJ1_append_3_0 : List UInt8 := [42, 27, 183, 0, 50, 87, 42, 176]
abbrev dktJ1_append_3_0 : List UInt8 := dkwJ1_append_3_0 ++ []
theorem dksJ1_append_3_0 : cJ1_append_3.data.toList.drop 0 = dktJ1_append_3_0 := by decide +kernel
theorem dJ1_append_3_0 : decode cJ1_append_3 0 = .ok (.aload_n 0, 1) := dk_42 (dk_at dksJ1_append_3_0 0 rfl rfl)
theorem dJ1_append_3_1 : decode cJ1_append_3 1 = .ok (.iload_n 1, 1) := dk_27 (dk_at dksJ1_append_3_0 1 rfl rfl)
theorem dJ1_append_3_2 : decode cJ1_append_3 2 = .ok (.invokespecial 50, 3) := dk_183 0 50 (dk_at dksJ1_append_3_0 2 rfl rfl)
theorem dJ1_append_3_5 : decode cJ1_append_3 5 = .ok (.pop, 1) := dk_87 (dk_at dksJ1_append_3_0 5 rfl rfl)
theorem dJ1_append_3_6 : decode cJ1_append_3 6 = .ok (.aload_n 0, 1) := dk_42 (dk_at dksJ1_append_3_0 6 rfl rfl)
theorem dJ1_append_3_7 : decode cJ1_append_3 7 = .ok (.areturn, 1) := dk_176 (dk_at dksJ1_append_3_0 7 rfl rfl)
theorem q87 : (Jvm.Cond.initialized "java/lang/StringBuilder") ∈ lw_all := lw_g (lw_at lw_m1 3 rfl) rfl
theorem q139 : (Jvm.Cond.instantiable "java/lang/StringBuilder" (4 : Nat)) ∈ lw_all := lw_g (lw_at lw_m1 55 rfl) rfl
theorem q141 : (Jvm.Cond.instanceMethod ({ cls := "java/lang/StringBuilder", name := "<init>", desc := "(I)V" } : Jvm.MethodName)) ∈ lw_all := lw_g (lw_at lw_m1 57 rfl) rfl
theorem q142 : (Jvm.Cond.code ({ cls := "java/lang/StringBuilder", name := "<init>", desc := "(I)V" } : Jvm.MethodName) prog_31_method_2_code (2 : Nat) (Option.none : Option Jvm.ClassFile.FieldType)) ∈ lw_all := lw_g (lw_at lw_m1 58 rfl) rfl
theorem q143 : (Jvm.Cond.methodLink "java/lang/StringBuilder" (1 : Nat) ({ cls := "java/lang/AbstractStringBuilder", name := "<init>", desc := "(I)V" } : Jvm.MethodName)) ∈ lw_all := lw_g (lw_at lw_m1 59 rfl) rfl
theorem q161 : (Jvm.Cond.lays "java/lang/StringBuilder" "java/lang/AbstractStringBuilder" "value" "[B") ∈ lw_all := lw_g (lw_at lw_m1 77 rfl) rfl
theorem q163 : (Jvm.Cond.lays "java/lang/StringBuilder" "java/lang/AbstractStringBuilder" "coder" "B") ∈ lw_all := lw_g (lw_at lw_m1 79 rfl) rfl
theorem q165 : (Jvm.Cond.lays "java/lang/StringBuilder" "java/lang/AbstractStringBuilder" "maybeLatin1" "Z") ∈ lw_all := lw_g (lw_at lw_m1 81 rfl) rfl
theorem q167 : (Jvm.Cond.lays "java/lang/StringBuilder" "java/lang/AbstractStringBuilder" "count" "I") ∈ lw_all := lw_g (lw_at lw_m1 83 rfl) rfl
theorem q169 : (Jvm.Cond.superclass "java/lang/StringBuilder" "java/lang/AbstractStringBuilder") ∈ lw_all := lw_g (lw_at lw_m1 85 rfl) rfl
theorem q227 : (Jvm.Cond.instanceMethod ({ cls := "java/lang/StringBuilder", name := "length", desc := "()I" } : Jvm.MethodName)) ∈ lw_all := lw_g (lw_at lw_m1 143 rfl) rfl
theorem q228 : (Jvm.Cond.selects "java/lang/StringBuilder" ({ cls := "java/lang/StringBuilder", name := "length", desc := "()I" } : Jvm.MethodName) ({ cls := "java/lang/StringBuilder", name := "length", desc := "()I" } : Jvm.MethodName)) ∈ lw_all := lw_g (lw_at lw_m1 144 rfl) rfl
theorem q229 : (Jvm.Cond.code ({ cls := "java/lang/StringBuilder", name := "length", desc := "()I" } : Jvm.MethodName) prog_31_method_93_code (1 : Nat) (Option.some Jvm.ClassFile.FieldType.int)) ∈ lw_all := lw_g (lw_at lw_m1 145 rfl) rfl
theorem q230 : (Jvm.Cond.methodLink "java/lang/StringBuilder" (343 : Nat) ({ cls := "java/lang/AbstractStringBuilder", name := "length", desc := "()I" } : Jvm.MethodName)) ∈ lw_all := lw_g (lw_at lw_m1 146 rfl) rfl
theorem q234 : (Jvm.Cond.instanceMethod ({ cls := "java/lang/StringBuilder", name := "setLength", desc := "(I)V" } : Jvm.MethodName)) ∈ lw_all := lw_g (lw_at lw_m1 150 rfl) rfl
theorem q235 : (Jvm.Cond.selects "java/lang/StringBuilder" ({ cls := "java/lang/StringBuilder", name := "setLength", desc := "(I)V" } : Jvm.MethodName) ({ cls := "java/lang/StringBuilder", name := "setLength", desc := "(I)V" } : Jvm.MethodName)) ∈ lw_all := lw_g (lw_at lw_m1 151 rfl) rfl
theorem q236 : (Jvm.Cond.code ({ cls := "java/lang/StringBuilder", name := "setLength", desc := "(I)V" } : Jvm.MethodName) prog_31_method_89_code (2 : Nat) (Option.none : Option Jvm.ClassFile.FieldType)) ∈ lw_all := lw_g (lw_at lw_m1 152 rfl) rfl
theorem q237 : (Jvm.Cond.methodLink "java/lang/StringBuilder" (333 : Nat) ({ cls := "java/lang/AbstractStringBuilder", name := "setLength", desc := "(I)V" } : Jvm.MethodName)) ∈ lw_all := lw_g (lw_at lw_m1 153 rfl) rfl
theorem q247 : (Jvm.Cond.instanceMethod ({ cls := "java/lang/StringBuilder", name := "<init>", desc := "()V" } : Jvm.MethodName)) ∈ lw_all := lw_g (lw_at lw_m1 163 rfl) rfl
theorem q248 : (Jvm.Cond.code ({ cls := "java/lang/StringBuilder", name := "<init>", desc := "()V" } : Jvm.MethodName) prog_31_method_1_code (1 : Nat) (Option.none : Option Jvm.ClassFile.FieldType)) ∈ lw_all := lw_g (lw_at lw_m1 164 rfl) rfl
theorem q251 : (Jvm.Cond.instanceMethod ({ cls := "java/lang/StringBuilder", name := "append", desc := "(Ljava/lang/String;)Ljava/lang/StringBuilder;" } : Jvm.MethodName)) ∈ lw_all := lw_g (lw_at lw_m1 167 rfl) rfl
theorem q252 : (Jvm.Cond.selects "java/lang/StringBuilder" ({ cls := "java/lang/StringBuilder", name := "append", desc := "(Ljava/lang/String;)Ljava/lang/StringBuilder;" } : Jvm.MethodName) ({ cls := "java/lang/StringBuilder", name := "append", desc := "(Ljava/lang/String;)Ljava/lang/StringBuilder;" } : Jvm.MethodName)) ∈ lw_all := lw_g (lw_at lw_m1 168 rfl) rfl
theorem q253 : (Jvm.Cond.code ({ cls := "java/lang/StringBuilder", name := "append", desc := "(Ljava/lang/String;)Ljava/lang/StringBuilder;" } : Jvm.MethodName) prog_31_method_7_code (2 : Nat) (Option.some (Jvm.ClassFile.FieldType.object "java/lang/StringBuilder"))) ∈ lw_all := lw_g (lw_at lw_m1 169 rfl) rfl
theorem q254 : (Jvm.Cond.methodLink "java/lang/StringBuilder" (29 : Nat) ({ cls := "java/lang/AbstractStringBuilder", name := "append", desc := "(Ljava/lang/String;)Ljava/lang/AbstractStringBuilder;" } : Jvm.MethodName)) ∈ lw_all := lw_g (lw_at lw_m1 170 rfl) rfl
theorem q299 : (Jvm.Cond.selects "java/lang/StringBuilder" ({ cls := "java/lang/AbstractStringBuilder", name := "isLatin1", desc := "()Z" } : Jvm.MethodName) ({ cls := "java/lang/AbstractStringBuilder", name := "isLatin1", desc := "()Z" } : Jvm.MethodName)) ∈ lw_all := lw_g (lw_at lw_m1 215 rfl) rfl
theorem q371 : (Jvm.Cond.instanceMethod ({ cls := "java/lang/StringBuilder", name := "append", desc := "(I)Ljava/lang/StringBuilder;" } : Jvm.MethodName)) ∈ lw_all := lw_g (lw_at lw_m2 47 rfl) rfl
theorem q372 : (Jvm.Cond.selects "java/lang/StringBuilder" ({ cls := "java/lang/StringBuilder", name := "append", desc := "(I)Ljava/lang/StringBuilder;" } : Jvm.MethodName) ({ cls := "java/lang/StringBuilder", name := "append", desc := "(I)Ljava/lang/StringBuilder;" } : Jvm.MethodName)) ∈ lw_all := lw_g (lw_at lw_m2 48 rfl) rfl
theorem q373 : (Jvm.Cond.code ({ cls := "java/lang/StringBuilder", name := "append", desc := "(I)Ljava/lang/StringBuilder;" } : Jvm.MethodName) prog_31_method_15_code (2 : Nat) (Option.some (Jvm.ClassFile.FieldType.object "java/lang/StringBuilder"))) ∈ lw_all := lw_g (lw_at lw_m2 49 rfl) rfl
theorem q374 : (Jvm.Cond.methodLink "java/lang/StringBuilder" (53 : Nat) ({ cls := "java/lang/AbstractStringBuilder", name := "append", desc := "(I)Ljava/lang/AbstractStringBuilder;" } : Jvm.MethodName)) ∈ lw_all := lw_g (lw_at lw_m2 50 rfl) rfl
theorem q396 : (Jvm.Cond.instanceMethod ({ cls := "java/lang/StringBuilder", name := "toString", desc := "()Ljava/lang/String;" } : Jvm.MethodName)) ∈ lw_all := lw_g (lw_at lw_m2 72 rfl) rfl
theorem q397 : (Jvm.Cond.selects "java/lang/StringBuilder" ({ cls := "java/lang/StringBuilder", name := "toString", desc := "()Ljava/lang/String;" } : Jvm.MethodName) ({ cls := "java/lang/StringBuilder", name := "toString", desc := "()Ljava/lang/String;" } : Jvm.MethodName)) ∈ lw_all := lw_g (lw_at lw_m2 73 rfl) rfl
theorem q398 : (Jvm.Cond.code ({ cls := "java/lang/StringBuilder", name := "toString", desc := "()Ljava/lang/String;" } : Jvm.MethodName) prog_31_method_42_code (1 : Nat) (Option.some (Jvm.ClassFile.FieldType.object "java/lang/String"))) ∈ lw_all := lw_g (lw_at lw_m2 74 rfl) rfl
theorem q399 : (Jvm.Cond.classLink "java/lang/StringBuilder" (18 : Nat) "java/lang/String") ∈ lw_all := lw_g (lw_at lw_m2 75 rfl) rfl
theorem q401 : (Jvm.Cond.methodLink "java/lang/StringBuilder" (137 : Nat) ({ cls := "java/lang/String", name := "<init>", desc := "(Ljava/lang/StringBuilder;)V" } : Jvm.MethodName)) ∈ lw_all := lw_g (lw_at lw_m2 77 rfl) rfl
theorem q411 : (Jvm.Cond.selects "java/lang/StringBuilder" ({ cls := "java/lang/AbstractStringBuilder", name := "getValue", desc := "()[B" } : Jvm.MethodName) ({ cls := "java/lang/AbstractStringBuilder", name := "getValue", desc := "()[B" } : Jvm.MethodName)) ∈ lw_all := lw_g (lw_at lw_m2 87 rfl) rfl
theorem q621 : (Jvm.Cond.instanceMethod ({ cls := "java/lang/StringBuilder", name := "charAt", desc := "(I)C" } : Jvm.MethodName)) ∈ lw_all := lw_g (lw_at lw_m3 57 rfl) rfl
theorem q622 : (Jvm.Cond.selects "java/lang/StringBuilder" ({ cls := "java/lang/StringBuilder", name := "charAt", desc := "(I)C" } : Jvm.MethodName) ({ cls := "java/lang/StringBuilder", name := "charAt", desc := "(I)C" } : Jvm.MethodName)) ∈ lw_all := lw_g (lw_at lw_m3 58 rfl) rfl
theorem q623 : (Jvm.Cond.code ({ cls := "java/lang/StringBuilder", name := "charAt", desc := "(I)C" } : Jvm.MethodName) prog_31_method_88_code (2 : Nat) (Option.some Jvm.ClassFile.FieldType.char)) ∈ lw_all := lw_g (lw_at lw_m3 59 rfl) rfl
theorem q624 : (Jvm.Cond.methodLink "java/lang/StringBuilder" (329 : Nat) ({ cls := "java/lang/AbstractStringBuilder", name := "charAt", desc := "(I)C" } : Jvm.MethodName)) ∈ lw_all := lw_g (lw_at lw_m3 60 rfl) rfl
theorem q912 : (Jvm.Cond.selects "java/lang/StringBuilder" ({ cls := "java/lang/Object", name := "getClass", desc := "()Ljava/lang/Class;" } : Jvm.MethodName) ({ cls := "java/lang/Object", name := "getClass", desc := "()Ljava/lang/Class;" } : Jvm.MethodName)) ∈ lw_all := lw_g (lw_at lw_m4 108 rfl) rfl
theorem q1144 : (Jvm.Cond.castable "java/lang/StringBuilder" "java/lang/Comparable") ∈ lw_tbl := lw_at lw_m5 100 rfl
theorem q1145 : (Jvm.Cond.selects "java/lang/StringBuilder" ({ cls := "java/lang/Comparable", name := "compareTo", desc := "(Ljava/lang/Object;)I" } : Jvm.MethodName) ({ cls := "java/lang/StringBuilder", name := "compareTo", desc := "(Ljava/lang/Object;)I" } : Jvm.MethodName)) ∈ lw_all := lw_g (lw_at lw_m5 101 rfl) rfl
theorem q1146 : (Jvm.Cond.unhidden "java/lang/StringBuilder" "compareTo" "(Ljava/lang/Object;)I") ∈ lw_tbl := lw_at lw_m5 102 rfl
theorem q1147 : (Jvm.Cond.instanceMethod ({ cls := "java/lang/StringBuilder", name := "compareTo", desc := "(Ljava/lang/Object;)I" } : Jvm.MethodName)) ∈ lw_all := lw_g (lw_at lw_m5 103 rfl) rfl
theorem q1148 : (Jvm.Cond.publicMethod ({ cls := "java/lang/StringBuilder", name := "compareTo", desc := "(Ljava/lang/Object;)I" } : Jvm.MethodName)) ∈ lw_tbl := lw_at lw_m5 104 rfl
theorem q1149 : (Jvm.Cond.code ({ cls := "java/lang/StringBuilder", name := "compareTo", desc := "(Ljava/lang/Object;)I" } : Jvm.MethodName) prog_31_method_97_code (2 : Nat) (Option.some Jvm.ClassFile.FieldType.int)) ∈ lw_all := lw_g (lw_at lw_m5 105 rfl) rfl
theorem q1150 : (Jvm.Cond.classLink "java/lang/StringBuilder" (24 : Nat) "java/lang/StringBuilder") ∈ lw_all := lw_g (lw_at lw_m5 106 rfl) rfl
theorem q1151 : (Jvm.Cond.methodLink "java/lang/StringBuilder" (346 : Nat) ({ cls := "java/lang/StringBuilder", name := "compareTo", desc := "(Ljava/lang/StringBuilder;)I" } : Jvm.MethodName)) ∈ lw_all := lw_g (lw_at lw_m5 107 rfl) rfl
theorem q1152 : (Jvm.Cond.instanceMethod ({ cls := "java/lang/StringBuilder", name := "compareTo", desc := "(Ljava/lang/StringBuilder;)I" } : Jvm.MethodName)) ∈ lw_all := lw_g (lw_at lw_m5 108 rfl) rfl
theorem q1153 : (Jvm.Cond.selects "java/lang/StringBuilder" ({ cls := "java/lang/StringBuilder", name := "compareTo", desc := "(Ljava/lang/StringBuilder;)I" } : Jvm.MethodName) ({ cls := "java/lang/StringBuilder", name := "compareTo", desc := "(Ljava/lang/StringBuilder;)I" } : Jvm.MethodName)) ∈ lw_all := lw_g (lw_at lw_m5 109 rfl) rfl
theorem q1154 : (Jvm.Cond.code ({ cls := "java/lang/StringBuilder", name := "compareTo", desc := "(Ljava/lang/StringBuilder;)I" } : Jvm.MethodName) prog_31_method_5_code (2 : Nat) (Option.some Jvm.ClassFile.FieldType.int)) ∈ lw_all := lw_g (lw_at lw_m5 110 rfl) rfl
theorem q1155 : (Jvm.Cond.methodLink "java/lang/StringBuilder" (13 : Nat) ({ cls := "java/lang/AbstractStringBuilder", name := "compareTo", desc := "(Ljava/lang/AbstractStringBuilder;)I" } : Jvm.MethodName)) ∈ lw_all := lw_g (lw_at lw_m5 111 rfl) rfl
theorem q1724 : (Jvm.Cond.instanceMethod ({ cls := "java/lang/StringBuilder", name := "append", desc := "(C)Ljava/lang/StringBuilder;" } : Jvm.MethodName)) ∈ lw_all := lw_g (lw_at lw_m7 200 rfl) rfl
theorem q1725 : (Jvm.Cond.selects "java/lang/StringBuilder" ({ cls := "java/lang/StringBuilder", name := "append", desc := "(C)Ljava/lang/StringBuilder;" } : Jvm.MethodName) ({ cls := "java/lang/StringBuilder", name := "append", desc := "(C)Ljava/lang/StringBuilder;" } : Jvm.MethodName)) ∈ lw_all := lw_g (lw_at lw_m7 201 rfl) rfl
theorem q1726 : (Jvm.Cond.code ({ cls := "java/lang/StringBuilder", name := "append", desc := "(C)Ljava/lang/StringBuilder;" } : Jvm.MethodName) prog_31_method_14_code (2 : Nat) (Option.some (Jvm.ClassFile.FieldType.object "java/lang/StringBuilder"))) ∈ lw_all := lw_g (lw_at lw_m7 202 rfl) rfl
theorem q1727 : (Jvm.Cond.methodLink "java/lang/StringBuilder" (50 : Nat) ({ cls := "java/lang/AbstractStringBuilder", name := "append", desc := "(C)Ljava/lang/AbstractStringBuilder;" } : Jvm.MethodName)) ∈ lw_all := lw_g (lw_at lw_m7 203 rfl) rfl
theorem q2271 : (Jvm.Cond.selects "java/lang/StringBuilder" ({ cls := "java/lang/AbstractStringBuilder", name := "length", desc := "()I" } : Jvm.MethodName) ({ cls := "java/lang/StringBuilder", name := "length", desc := "()I" } : Jvm.MethodName)) ∈ lw_all := lw_g (lw_at lw_m10 27 rfl) rfl
theorem q2280 : (Jvm.Cond.castable "java/lang/StringBuilder" "java/lang/Object") ∈ lw_tbl := lw_at lw_m10 36 rfl
theorem in_J1 : ∀ w ∈ wsJ10, w ∈ lw_all := lw_in wsJ10 [161, 163, 165, 167] (by decide +kernel) (by decide +kernel)
/-! java/lang/Number -/
set_option maxRecDepth 100000
def RJ10 : String := "java/lang/Number"
abbrev cJ10_init : ByteArray := prog_28_method_1_code
def yJ10_init : MethodName := ⟨RJ10, "<init>", "()V"⟩
theorem dJ10_init_0 : decode cJ10_init 0 = .ok (.aload_n 0, 1) := by decide +kernel
theorem dJ10_init_1 : decode cJ10_init 1 = .ok (.invokespecial 1, 3) := by decide +kernel
theorem dJ10_init_4 : decode cJ10_init 4 = .ok (.return_, 1) := by decide +kernel
theorem q97 : (Jvm.Cond.initialized "java/lang/Number") ∈ lw_all := lw_g (lw_at lw_m1 13 rfl) rfl
theorem q1316 : (Jvm.Cond.instanceMethod ({ cls := "java/lang/Number", name := "<init>", desc := "()V" } : Jvm.MethodName)) ∈ lw_all := lw_g (lw_at lw_m6 32 rfl) rfl
theorem q1317 : (Jvm.Cond.code ({ cls := "java/lang/Number", name := "<init>", desc := "()V" } : Jvm.MethodName) prog_28_method_1_code (1 : Nat) (Option.none : Option Jvm.ClassFile.FieldType)) ∈ lw_all := lw_g (lw_at lw_m6 33 rfl) rfl
theorem q1318 : (Jvm.Cond.methodLink "java/lang/Number" (1 : Nat) ({ cls := "java/lang/Object", name := "<init>", desc := "()V" } : Jvm.MethodName)) ∈ lw_all := lw_g (lw_at lw_m6 34 rfl) rfl
/-! java/lang/Integer -/
set_option maxRecDepth 100000
def RJ11 : String := "java/lang/Integer"
def TJ11 : u_T := fun k => match k with
  | _ => ("java/lang/Integer", "value", "I", true)
def tyJ11 : Nat → FieldType := fun k => match k with
  | _ => .int
abbrev wsJ110 : List Cond := u_ws RJ11 TJ11 1
theorem nmJ11 : ∀ a, a < 1 → ∀ b, b < 1 → a ≠ b → (TJ11 a).2.1 ≠ (TJ11 b).2.1 := by decide +kernel
theorem tyJ11_ok : ∀ k, k < 1 → parseFieldDescriptor (TJ11 k).2.2.1 = some (tyJ11 k) := by decide +kernel
abbrev cJ11_stringSize : ByteArray := prog_22_method_13_code
def yJ11_stringSize : MethodName := ⟨RJ11, "stringSize", "(I)I"⟩
def dkwJ11_stringSize_1 : List UInt8 := [164, 0, 7, 29, 27, 96, 172, 16, 10, 28, 104, 61, 132, 3, 1, 167, 255, 233, 16, 10, 27, 96, 172]
abbrev dktJ11_stringSize_1 : List UInt8 := dkwJ11_stringSize_1 ++ []
def dkwJ11_stringSize_0 : List UInt8 := [4, 60, 26, 155, 0, 8, 3, 60, 26, 116, 59, 16, 246, 61, 4, 62, 29, 16, 10, 162, 0, 23, 26, 28]
abbrev dktJ11_stringSize_0 : List UInt8 := dkwJ11_stringSize_0 ++ dktJ11_stringSize_1
theorem dksJ11_stringSize_0 : cJ11_stringSize.data.toList.drop 0 = dktJ11_stringSize_0 := by decide +kernel
theorem dksJ11_stringSize_1 : cJ11_stringSize.data.toList.drop 24 = dktJ11_stringSize_1 := dk_seg dksJ11_stringSize_0 24 rfl rfl
theorem dJ11_stringSize_0 : decode cJ11_stringSize 0 = .ok (.iconst 1, 1) := dk_4 (dk_at dksJ11_stringSize_0 0 rfl rfl)
theorem dJ11_stringSize_1 : decode cJ11_stringSize 1 = .ok (.istore_n 1, 1) := dk_60 (dk_at dksJ11_stringSize_0 1 rfl rfl)
theorem dJ11_stringSize_2 : decode cJ11_stringSize 2 = .ok (.iload_n 0, 1) := dk_26 (dk_at dksJ11_stringSize_0 2 rfl rfl)
theorem dJ11_stringSize_3 : decode cJ11_stringSize 3 = .ok (.ifCond .lt 8, 3) := dk_155 0 8 (dk_at dksJ11_stringSize_0 3 rfl rfl)
theorem dJ11_stringSize_6 : decode cJ11_stringSize 6 = .ok (.iconst 0, 1) := dk_3 (dk_at dksJ11_stringSize_0 6 rfl rfl)
theorem dJ11_stringSize_7 : decode cJ11_stringSize 7 = .ok (.istore_n 1, 1) := dk_60 (dk_at dksJ11_stringSize_0 7 rfl rfl)
theorem dJ11_stringSize_8 : decode cJ11_stringSize 8 = .ok (.iload_n 0, 1) := dk_26 (dk_at dksJ11_stringSize_0 8 rfl rfl)
theorem dJ11_stringSize_9 : decode cJ11_stringSize 9 = .ok (.ineg, 1) := dk_116 (dk_at dksJ11_stringSize_0 9 rfl rfl)
theorem dJ11_stringSize_10 : decode cJ11_stringSize 10 = .ok (.istore_n 0, 1) := dk_59 (dk_at dksJ11_stringSize_0 10 rfl rfl)
theorem dJ11_stringSize_11 : decode cJ11_stringSize 11 = .ok (.bipush (-10), 2) := dk_16 246 (dk_at dksJ11_stringSize_0 11 rfl rfl)
theorem dJ11_stringSize_13 : decode cJ11_stringSize 13 = .ok (.istore_n 2, 1) := dk_61 (dk_at dksJ11_stringSize_0 13 rfl rfl)
theorem dJ11_stringSize_14 : decode cJ11_stringSize 14 = .ok (.iconst 1, 1) := dk_4 (dk_at dksJ11_stringSize_0 14 rfl rfl)
theorem dJ11_stringSize_15 : decode cJ11_stringSize 15 = .ok (.istore_n 3, 1) := dk_62 (dk_at dksJ11_stringSize_0 15 rfl rfl)
theorem dJ11_stringSize_16 : decode cJ11_stringSize 16 = .ok (.iload_n 3, 1) := dk_29 (dk_at dksJ11_stringSize_0 16 rfl rfl)
theorem dJ11_stringSize_17 : decode cJ11_stringSize 17 = .ok (.bipush 10, 2) := dk_16 10 (dk_at dksJ11_stringSize_0 17 rfl rfl)
theorem dJ11_stringSize_19 : decode cJ11_stringSize 19 = .ok (.if_icmp .ge 23, 3) := dk_162 0 23 (dk_at dksJ11_stringSize_0 19 rfl rfl)
theorem dJ11_stringSize_22 : decode cJ11_stringSize 22 = .ok (.iload_n 0, 1) := dk_26 (dk_at dksJ11_stringSize_0 22 rfl rfl)
theorem dJ11_stringSize_23 : decode cJ11_stringSize 23 = .ok (.iload_n 2, 1) := dk_28 (dk_at dksJ11_stringSize_0 23 rfl rfl)
theorem dJ11_stringSize_24 : decode cJ11_stringSize 24 = .ok (.if_icmp .le 7, 3) := dk_164 0 7 (dk_at dksJ11_stringSize_1 0 rfl rfl)
theorem dJ11_stringSize_27 : decode cJ11_stringSize 27 = .ok (.iload_n 3, 1) := dk_29 (dk_at dksJ11_stringSize_1 3 rfl rfl)
theorem dJ11_stringSize_28 : decode cJ11_stringSize 28 = .ok (.iload_n 1, 1) := dk_27 (dk_at dksJ11_stringSize_1 4 rfl rfl)
theorem dJ11_stringSize_29 : decode cJ11_stringSize 29 = .ok (.iadd, 1) := dk_96 (dk_at dksJ11_stringSize_1 5 rfl rfl)
theorem dJ11_stringSize_30 : decode cJ11_stringSize 30 = .ok (.ireturn, 1) := dk_172 (dk_at dksJ11_stringSize_1 6 rfl rfl)
theorem dJ11_stringSize_31 : decode cJ11_stringSize 31 = .ok (.bipush 10, 2) := dk_16 10 (dk_at dksJ11_stringSize_1 7 rfl rfl)
theorem dJ11_stringSize_33 : decode cJ11_stringSize 33 = .ok (.iload_n 2, 1) := dk_28 (dk_at dksJ11_stringSize_1 9 rfl rfl)
theorem dJ11_stringSize_34 : decode cJ11_stringSize 34 = .ok (.imul, 1) := dk_104 (dk_at dksJ11_stringSize_1 10 rfl rfl)
theorem dJ11_stringSize_35 : decode cJ11_stringSize 35 = .ok (.istore_n 2, 1) := dk_61 (dk_at dksJ11_stringSize_1 11 rfl rfl)
theorem dJ11_stringSize_36 : decode cJ11_stringSize 36 = .ok (.iinc 3 1, 3) := dk_132 3 1 (dk_at dksJ11_stringSize_1 12 rfl rfl)
theorem dJ11_stringSize_39 : decode cJ11_stringSize 39 = .ok (.goto (-23), 3) := dk_167 255 233 (dk_at dksJ11_stringSize_1 15 rfl rfl)
theorem dJ11_stringSize_42 : decode cJ11_stringSize 42 = .ok (.bipush 10, 2) := dk_16 10 (dk_at dksJ11_stringSize_1 18 rfl rfl)
theorem dJ11_stringSize_44 : decode cJ11_stringSize 44 = .ok (.iload_n 1, 1) := dk_27 (dk_at dksJ11_stringSize_1 20 rfl rfl)
theorem dJ11_stringSize_45 : decode cJ11_stringSize 45 = .ok (.iadd, 1) := dk_96 (dk_at dksJ11_stringSize_1 21 rfl rfl)
theorem dJ11_stringSize_46 : decode cJ11_stringSize 46 = .ok (.ireturn, 1) := dk_172 (dk_at dksJ11_stringSize_1 22 rfl rfl)
abbrev cJ11_getChars : ByteArray := prog_22_method_12_code
def yJ11_getChars : MethodName := ⟨RJ11, "getChars", "(II[B)I"⟩
def dkwJ11_getChars_5 : List UInt8 := [16, 45, 84, 21, 5, 172]
abbrev dktJ11_getChars_5 : List UInt8 := dkwJ11_getChars_5 ++ []
def dkwJ11_getChars_4 : List UInt8 := [132, 5, 255, 21, 5, 178, 0, 87, 26, 116, 51, 84, 21, 6, 153, 0, 12, 44, 132, 5, 255, 21, 5]
abbrev dktJ11_getChars_4 : List UInt8 := dkwJ11_getChars_4 ++ dktJ11_getChars_5
def dkwJ11_getChars_3 : List UInt8 := [167, 255, 209, 44, 132, 5, 255, 21, 5, 178, 0, 83, 26, 116, 51, 84, 26, 16, 247, 162, 0, 16, 44]
abbrev dktJ11_getChars_3 : List UInt8 := dkwJ11_getChars_3 ++ dktJ11_getChars_4
def dkwJ11_getChars_2 : List UInt8 := [21, 5, 178, 0, 83, 21, 4, 51, 84, 44, 132, 5, 255, 21, 5, 178, 0, 87, 21, 4, 51, 84]
abbrev dktJ11_getChars_2 : List UInt8 := dkwJ11_getChars_2 ++ dktJ11_getChars_3
def dkwJ11_getChars_1 : List UInt8 := [16, 156, 163, 0, 47, 26, 16, 100, 108, 62, 29, 16, 100, 104, 26, 100, 54, 4, 29, 59, 44, 132, 5, 255]
abbrev dktJ11_getChars_1 : List UInt8 := dkwJ11_getChars_1 ++ dktJ11_getChars_2
def dkwJ11_getChars_0 : List UInt8 := [27, 54, 5, 26, 156, 0, 7, 4, 167, 0, 4, 3, 54, 6, 21, 6, 154, 0, 6, 26, 116, 59, 26]
abbrev dktJ11_getChars_0 : List UInt8 := dkwJ11_getChars_0 ++ dktJ11_getChars_1
theorem dksJ11_getChars_0 : cJ11_getChars.data.toList.drop 0 = dktJ11_getChars_0 := by decide +kernel
theorem dksJ11_getChars_1 : cJ11_getChars.data.toList.drop 23 = dktJ11_getChars_1 := dk_seg dksJ11_getChars_0 23 rfl rfl
theorem dksJ11_getChars_2 : cJ11_getChars.data.toList.drop 47 = dktJ11_getChars_2 := dk_seg dksJ11_getChars_1 24 rfl rfl
theorem dksJ11_getChars_3 : cJ11_getChars.data.toList.drop 69 = dktJ11_getChars_3 := dk_seg dksJ11_getChars_2 22 rfl rfl
theorem dksJ11_getChars_4 : cJ11_getChars.data.toList.drop 92 = dktJ11_getChars_4 := dk_seg dksJ11_getChars_3 23 rfl rfl
theorem dksJ11_getChars_5 : cJ11_getChars.data.toList.drop 115 = dktJ11_getChars_5 := dk_seg dksJ11_getChars_4 23 rfl rfl
theorem dJ11_getChars_0 : decode cJ11_getChars 0 = .ok (.iload_n 1, 1) := dk_27 (dk_at dksJ11_getChars_0 0 rfl rfl)
theorem dJ11_getChars_1 : decode cJ11_getChars 1 = .ok (.istore 5, 2) := dk_54 5 (dk_at dksJ11_getChars_0 1 rfl rfl)
theorem dJ11_getChars_3 : decode cJ11_getChars 3 = .ok (.iload_n 0, 1) := dk_26 (dk_at dksJ11_getChars_0 3 rfl rfl)
theorem dJ11_getChars_4 : decode cJ11_getChars 4 = .ok (.ifCond .ge 7, 3) := dk_156 0 7 (dk_at dksJ11_getChars_0 4 rfl rfl)
theorem dJ11_getChars_7 : decode cJ11_getChars 7 = .ok (.iconst 1, 1) := dk_4 (dk_at dksJ11_getChars_0 7 rfl rfl)
theorem dJ11_getChars_8 : decode cJ11_getChars 8 = .ok (.goto 4, 3) := dk_167 0 4 (dk_at dksJ11_getChars_0 8 rfl rfl)
theorem dJ11_getChars_11 : decode cJ11_getChars 11 = .ok (.iconst 0, 1) := dk_3 (dk_at dksJ11_getChars_0 11 rfl rfl)
theorem dJ11_getChars_12 : decode cJ11_getChars 12 = .ok (.istore 6, 2) := dk_54 6 (dk_at dksJ11_getChars_0 12 rfl rfl)
theorem dJ11_getChars_14 : decode cJ11_getChars 14 = .ok (.iload 6, 2) := dk_21 6 (dk_at dksJ11_getChars_0 14 rfl rfl)
theorem dJ11_getChars_16 : decode cJ11_getChars 16 = .ok (.ifCond .ne 6, 3) := dk_154 0 6 (dk_at dksJ11_getChars_0 16 rfl rfl)
theorem dJ11_getChars_19 : decode cJ11_getChars 19 = .ok (.iload_n 0, 1) := dk_26 (dk_at dksJ11_getChars_0 19 rfl rfl)
theorem dJ11_getChars_20 : decode cJ11_getChars 20 = .ok (.ineg, 1) := dk_116 (dk_at dksJ11_getChars_0 20 rfl rfl)
theorem dJ11_getChars_21 : decode cJ11_getChars 21 = .ok (.istore_n 0, 1) := dk_59 (dk_at dksJ11_getChars_0 21 rfl rfl)
theorem dJ11_getChars_22 : decode cJ11_getChars 22 = .ok (.iload_n 0, 1) := dk_26 (dk_at dksJ11_getChars_0 22 rfl rfl)
theorem dJ11_getChars_23 : decode cJ11_getChars 23 = .ok (.bipush (-100), 2) := dk_16 156 (dk_at dksJ11_getChars_1 0 rfl rfl)
theorem dJ11_getChars_25 : decode cJ11_getChars 25 = .ok (.if_icmp .gt 47, 3) := dk_163 0 47 (dk_at dksJ11_getChars_1 2 rfl rfl)
theorem dJ11_getChars_28 : decode cJ11_getChars 28 = .ok (.iload_n 0, 1) := dk_26 (dk_at dksJ11_getChars_1 5 rfl rfl)
theorem dJ11_getChars_29 : decode cJ11_getChars 29 = .ok (.bipush 100, 2) := dk_16 100 (dk_at dksJ11_getChars_1 6 rfl rfl)
theorem dJ11_getChars_31 : decode cJ11_getChars 31 = .ok (.idiv, 1) := dk_108 (dk_at dksJ11_getChars_1 8 rfl rfl)
theorem dJ11_getChars_32 : decode cJ11_getChars 32 = .ok (.istore_n 3, 1) := dk_62 (dk_at dksJ11_getChars_1 9 rfl rfl)
theorem dJ11_getChars_33 : decode cJ11_getChars 33 = .ok (.iload_n 3, 1) := dk_29 (dk_at dksJ11_getChars_1 10 rfl rfl)
theorem dJ11_getChars_34 : decode cJ11_getChars 34 = .ok (.bipush 100, 2) := dk_16 100 (dk_at dksJ11_getChars_1 11 rfl rfl)
theorem dJ11_getChars_36 : decode cJ11_getChars 36 = .ok (.imul, 1) := dk_104 (dk_at dksJ11_getChars_1 13 rfl rfl)
theorem dJ11_getChars_37 : decode cJ11_getChars 37 = .ok (.iload_n 0, 1) := dk_26 (dk_at dksJ11_getChars_1 14 rfl rfl)
theorem dJ11_getChars_38 : decode cJ11_getChars 38 = .ok (.isub, 1) := dk_100 (dk_at dksJ11_getChars_1 15 rfl rfl)
theorem dJ11_getChars_39 : decode cJ11_getChars 39 = .ok (.istore 4, 2) := dk_54 4 (dk_at dksJ11_getChars_1 16 rfl rfl)
theorem dJ11_getChars_41 : decode cJ11_getChars 41 = .ok (.iload_n 3, 1) := dk_29 (dk_at dksJ11_getChars_1 18 rfl rfl)
theorem dJ11_getChars_42 : decode cJ11_getChars 42 = .ok (.istore_n 0, 1) := dk_59 (dk_at dksJ11_getChars_1 19 rfl rfl)
theorem dJ11_getChars_43 : decode cJ11_getChars 43 = .ok (.aload_n 2, 1) := dk_44 (dk_at dksJ11_getChars_1 20 rfl rfl)
theorem dJ11_getChars_44 : decode cJ11_getChars 44 = .ok (.iinc 5 (-1), 3) := dk_132 5 255 (dk_at dksJ11_getChars_1 21 rfl rfl)
theorem dJ11_getChars_47 : decode cJ11_getChars 47 = .ok (.iload 5, 2) := dk_21 5 (dk_at dksJ11_getChars_2 0 rfl rfl)
theorem dJ11_getChars_49 : decode cJ11_getChars 49 = .ok (.getstatic 83, 3) := dk_178 0 83 (dk_at dksJ11_getChars_2 2 rfl rfl)
theorem dJ11_getChars_52 : decode cJ11_getChars 52 = .ok (.iload 4, 2) := dk_21 4 (dk_at dksJ11_getChars_2 5 rfl rfl)
theorem dJ11_getChars_54 : decode cJ11_getChars 54 = .ok (.baload, 1) := dk_51 (dk_at dksJ11_getChars_2 7 rfl rfl)
theorem dJ11_getChars_55 : decode cJ11_getChars 55 = .ok (.bastore, 1) := dk_84 (dk_at dksJ11_getChars_2 8 rfl rfl)
theorem dJ11_getChars_56 : decode cJ11_getChars 56 = .ok (.aload_n 2, 1) := dk_44 (dk_at dksJ11_getChars_2 9 rfl rfl)
theorem dJ11_getChars_57 : decode cJ11_getChars 57 = .ok (.iinc 5 (-1), 3) := dk_132 5 255 (dk_at dksJ11_getChars_2 10 rfl rfl)
theorem dJ11_getChars_60 : decode cJ11_getChars 60 = .ok (.iload 5, 2) := dk_21 5 (dk_at dksJ11_getChars_2 13 rfl rfl)
theorem dJ11_getChars_62 : decode cJ11_getChars 62 = .ok (.getstatic 87, 3) := dk_178 0 87 (dk_at dksJ11_getChars_2 15 rfl rfl)
theorem dJ11_getChars_65 : decode cJ11_getChars 65 = .ok (.iload 4, 2) := dk_21 4 (dk_at dksJ11_getChars_2 18 rfl rfl)
theorem dJ11_getChars_67 : decode cJ11_getChars 67 = .ok (.baload, 1) := dk_51 (dk_at dksJ11_getChars_2 20 rfl rfl)
theorem dJ11_getChars_68 : decode cJ11_getChars 68 = .ok (.bastore, 1) := dk_84 (dk_at dksJ11_getChars_2 21 rfl rfl)
theorem dJ11_getChars_69 : decode cJ11_getChars 69 = .ok (.goto (-47), 3) := dk_167 255 209 (dk_at dksJ11_getChars_3 0 rfl rfl)
theorem dJ11_getChars_72 : decode cJ11_getChars 72 = .ok (.aload_n 2, 1) := dk_44 (dk_at dksJ11_getChars_3 3 rfl rfl)
theorem dJ11_getChars_73 : decode cJ11_getChars 73 = .ok (.iinc 5 (-1), 3) := dk_132 5 255 (dk_at dksJ11_getChars_3 4 rfl rfl)
theorem dJ11_getChars_76 : decode cJ11_getChars 76 = .ok (.iload 5, 2) := dk_21 5 (dk_at dksJ11_getChars_3 7 rfl rfl)
theorem dJ11_getChars_78 : decode cJ11_getChars 78 = .ok (.getstatic 83, 3) := dk_178 0 83 (dk_at dksJ11_getChars_3 9 rfl rfl)
theorem dJ11_getChars_81 : decode cJ11_getChars 81 = .ok (.iload_n 0, 1) := dk_26 (dk_at dksJ11_getChars_3 12 rfl rfl)
theorem dJ11_getChars_82 : decode cJ11_getChars 82 = .ok (.ineg, 1) := dk_116 (dk_at dksJ11_getChars_3 13 rfl rfl)
theorem dJ11_getChars_83 : decode cJ11_getChars 83 = .ok (.baload, 1) := dk_51 (dk_at dksJ11_getChars_3 14 rfl rfl)
theorem dJ11_getChars_84 : decode cJ11_getChars 84 = .ok (.bastore, 1) := dk_84 (dk_at dksJ11_getChars_3 15 rfl rfl)
theorem dJ11_getChars_85 : decode cJ11_getChars 85 = .ok (.iload_n 0, 1) := dk_26 (dk_at dksJ11_getChars_3 16 rfl rfl)
theorem dJ11_getChars_86 : decode cJ11_getChars 86 = .ok (.bipush (-9), 2) := dk_16 247 (dk_at dksJ11_getChars_3 17 rfl rfl)
theorem dJ11_getChars_88 : decode cJ11_getChars 88 = .ok (.if_icmp .ge 16, 3) := dk_162 0 16 (dk_at dksJ11_getChars_3 19 rfl rfl)
theorem dJ11_getChars_91 : decode cJ11_getChars 91 = .ok (.aload_n 2, 1) := dk_44 (dk_at dksJ11_getChars_3 22 rfl rfl)
theorem dJ11_getChars_92 : decode cJ11_getChars 92 = .ok (.iinc 5 (-1), 3) := dk_132 5 255 (dk_at dksJ11_getChars_4 0 rfl rfl)
theorem dJ11_getChars_95 : decode cJ11_getChars 95 = .ok (.iload 5, 2) := dk_21 5 (dk_at dksJ11_getChars_4 3 rfl rfl)
theorem dJ11_getChars_97 : decode cJ11_getChars 97 = .ok (.getstatic 87, 3) := dk_178 0 87 (dk_at dksJ11_getChars_4 5 rfl rfl)
theorem dJ11_getChars_100 : decode cJ11_getChars 100 = .ok (.iload_n 0, 1) := dk_26 (dk_at dksJ11_getChars_4 8 rfl rfl)
theorem dJ11_getChars_101 : decode cJ11_getChars 101 = .ok (.ineg, 1) := dk_116 (dk_at dksJ11_getChars_4 9 rfl rfl)
theorem dJ11_getChars_102 : decode cJ11_getChars 102 = .ok (.baload, 1) := dk_51 (dk_at dksJ11_getChars_4 10 rfl rfl)
theorem dJ11_getChars_103 : decode cJ11_getChars 103 = .ok (.bastore, 1) := dk_84 (dk_at dksJ11_getChars_4 11 rfl rfl)
theorem dJ11_getChars_104 : decode cJ11_getChars 104 = .ok (.iload 6, 2) := dk_21 6 (dk_at dksJ11_getChars_4 12 rfl rfl)
theorem dJ11_getChars_106 : decode cJ11_getChars 106 = .ok (.ifCond .eq 12, 3) := dk_153 0 12 (dk_at dksJ11_getChars_4 14 rfl rfl)
theorem dJ11_getChars_109 : decode cJ11_getChars 109 = .ok (.aload_n 2, 1) := dk_44 (dk_at dksJ11_getChars_4 17 rfl rfl)
theorem dJ11_getChars_110 : decode cJ11_getChars 110 = .ok (.iinc 5 (-1), 3) := dk_132 5 255 (dk_at dksJ11_getChars_4 18 rfl rfl)
theorem dJ11_getChars_113 : decode cJ11_getChars 113 = .ok (.iload 5, 2) := dk_21 5 (dk_at dksJ11_getChars_4 21 rfl rfl)
theorem dJ11_getChars_115 : decode cJ11_getChars 115 = .ok (.bipush 45, 2) := dk_16 45 (dk_at dksJ11_getChars_5 0 rfl rfl)
theorem dJ11_getChars_117 : decode cJ11_getChars 117 = .ok (.bastore, 1) := dk_84 (dk_at dksJ11_getChars_5 2 rfl rfl)
theorem dJ11_getChars_118 : decode cJ11_getChars 118 = .ok (.iload 5, 2) := dk_21 5 (dk_at dksJ11_getChars_5 3 rfl rfl)
theorem dJ11_getChars_120 : decode cJ11_getChars 120 = .ok (.ireturn, 1) := dk_172 (dk_at dksJ11_getChars_5 5 rfl rfl)
abbrev cJ11_numberOfTrailingZeros : ByteArray := prog_22_method_48_code
def yJ11_numberOfTrailingZeros : MethodName := ⟨RJ11, "numberOfTrailingZeros", "(I)I"⟩
def dkwJ11_numberOfTrailingZeros_3 : List UInt8 := [5, 124, 59, 27, 26, 4, 124, 96, 172]
abbrev dktJ11_numberOfTrailingZeros_3 : List UInt8 := dkwJ11_numberOfTrailingZeros_3 ++ []
def dkwJ11_numberOfTrailingZeros_2 : List UInt8 := [124, 59, 26, 16, 16, 164, 0, 10, 132, 1, 4, 26, 7, 124, 59, 26, 7, 164, 0, 10, 132, 1, 2, 26]
abbrev dktJ11_numberOfTrailingZeros_2 : List UInt8 := dkwJ11_numberOfTrailingZeros_2 ++ dktJ11_numberOfTrailingZeros_3
def dkwJ11_numberOfTrailingZeros_1 : List UInt8 := [164, 0, 11, 132, 1, 16, 26, 16, 16, 124, 59, 26, 17, 1, 0, 164, 0, 11, 132, 1, 8, 26, 16, 8]
abbrev dktJ11_numberOfTrailingZeros_1 : List UInt8 := dkwJ11_numberOfTrailingZeros_1 ++ dktJ11_numberOfTrailingZeros_2
def dkwJ11_numberOfTrailingZeros_0 : List UInt8 := [26, 2, 130, 26, 4, 100, 126, 59, 26, 157, 0, 8, 26, 16, 32, 126, 172, 4, 60, 26, 19, 1, 8]
abbrev dktJ11_numberOfTrailingZeros_0 : List UInt8 := dkwJ11_numberOfTrailingZeros_0 ++ dktJ11_numberOfTrailingZeros_1
theorem dksJ11_numberOfTrailingZeros_0 : cJ11_numberOfTrailingZeros.data.toList.drop 0 = dktJ11_numberOfTrailingZeros_0 := by decide +kernel
theorem dksJ11_numberOfTrailingZeros_1 : cJ11_numberOfTrailingZeros.data.toList.drop 23 = dktJ11_numberOfTrailingZeros_1 := dk_seg dksJ11_numberOfTrailingZeros_0 23 rfl rfl
theorem dksJ11_numberOfTrailingZeros_2 : cJ11_numberOfTrailingZeros.data.toList.drop 47 = dktJ11_numberOfTrailingZeros_2 := dk_seg dksJ11_numberOfTrailingZeros_1 24 rfl rfl
theorem dksJ11_numberOfTrailingZeros_3 : cJ11_numberOfTrailingZeros.data.toList.drop 71 = dktJ11_numberOfTrailingZeros_3 := dk_seg dksJ11_numberOfTrailingZeros_2 24 rfl rfl
theorem dJ11_numberOfTrailingZeros_0 : decode cJ11_numberOfTrailingZeros 0 = .ok (.iload_n 0, 1) := dk_26 (dk_at dksJ11_numberOfTrailingZeros_0 0 rfl rfl)
theorem dJ11_numberOfTrailingZeros_1 : decode cJ11_numberOfTrailingZeros 1 = .ok (.iconst (-1), 1) := dk_2 (dk_at dksJ11_numberOfTrailingZeros_0 1 rfl rfl)
theorem dJ11_numberOfTrailingZeros_2 : decode cJ11_numberOfTrailingZeros 2 = .ok (.ixor, 1) := dk_130 (dk_at dksJ11_numberOfTrailingZeros_0 2 rfl rfl)
theorem dJ11_numberOfTrailingZeros_3 : decode cJ11_numberOfTrailingZeros 3 = .ok (.iload_n 0, 1) := dk_26 (dk_at dksJ11_numberOfTrailingZeros_0 3 rfl rfl)
theorem dJ11_numberOfTrailingZeros_4 : decode cJ11_numberOfTrailingZeros 4 = .ok (.iconst 1, 1) := dk_4 (dk_at dksJ11_numberOfTrailingZeros_0 4 rfl rfl)
theorem dJ11_numberOfTrailingZeros_5 : decode cJ11_numberOfTrailingZeros 5 = .ok (.isub, 1) := dk_100 (dk_at dksJ11_numberOfTrailingZeros_0 5 rfl rfl)
theorem dJ11_numberOfTrailingZeros_6 : decode cJ11_numberOfTrailingZeros 6 = .ok (.iand, 1) := dk_126 (dk_at dksJ11_numberOfTrailingZeros_0 6 rfl rfl)
theorem dJ11_numberOfTrailingZeros_7 : decode cJ11_numberOfTrailingZeros 7 = .ok (.istore_n 0, 1) := dk_59 (dk_at dksJ11_numberOfTrailingZeros_0 7 rfl rfl)
theorem dJ11_numberOfTrailingZeros_8 : decode cJ11_numberOfTrailingZeros 8 = .ok (.iload_n 0, 1) := dk_26 (dk_at dksJ11_numberOfTrailingZeros_0 8 rfl rfl)
theorem dJ11_numberOfTrailingZeros_9 : decode cJ11_numberOfTrailingZeros 9 = .ok (.ifCond .gt 8, 3) := dk_157 0 8 (dk_at dksJ11_numberOfTrailingZeros_0 9 rfl rfl)
theorem dJ11_numberOfTrailingZeros_12 : decode cJ11_numberOfTrailingZeros 12 = .ok (.iload_n 0, 1) := dk_26 (dk_at dksJ11_numberOfTrailingZeros_0 12 rfl rfl)
theorem dJ11_numberOfTrailingZeros_13 : decode cJ11_numberOfTrailingZeros 13 = .ok (.bipush 32, 2) := dk_16 32 (dk_at dksJ11_numberOfTrailingZeros_0 13 rfl rfl)
theorem dJ11_numberOfTrailingZeros_15 : decode cJ11_numberOfTrailingZeros 15 = .ok (.iand, 1) := dk_126 (dk_at dksJ11_numberOfTrailingZeros_0 15 rfl rfl)
theorem dJ11_numberOfTrailingZeros_16 : decode cJ11_numberOfTrailingZeros 16 = .ok (.ireturn, 1) := dk_172 (dk_at dksJ11_numberOfTrailingZeros_0 16 rfl rfl)
theorem dJ11_numberOfTrailingZeros_17 : decode cJ11_numberOfTrailingZeros 17 = .ok (.iconst 1, 1) := dk_4 (dk_at dksJ11_numberOfTrailingZeros_0 17 rfl rfl)
theorem dJ11_numberOfTrailingZeros_18 : decode cJ11_numberOfTrailingZeros 18 = .ok (.istore_n 1, 1) := dk_60 (dk_at dksJ11_numberOfTrailingZeros_0 18 rfl rfl)
theorem dJ11_numberOfTrailingZeros_19 : decode cJ11_numberOfTrailingZeros 19 = .ok (.iload_n 0, 1) := dk_26 (dk_at dksJ11_numberOfTrailingZeros_0 19 rfl rfl)
theorem dJ11_numberOfTrailingZeros_20 : decode cJ11_numberOfTrailingZeros 20 = .ok (.ldc_w 264, 3) := dk_19 1 8 (dk_at dksJ11_numberOfTrailingZeros_0 20 rfl rfl)
theorem dJ11_numberOfTrailingZeros_23 : decode cJ11_numberOfTrailingZeros 23 = .ok (.if_icmp .le 11, 3) := dk_164 0 11 (dk_at dksJ11_numberOfTrailingZeros_1 0 rfl rfl)
theorem dJ11_numberOfTrailingZeros_26 : decode cJ11_numberOfTrailingZeros 26 = .ok (.iinc 1 16, 3) := dk_132 1 16 (dk_at dksJ11_numberOfTrailingZeros_1 3 rfl rfl)
theorem dJ11_numberOfTrailingZeros_29 : decode cJ11_numberOfTrailingZeros 29 = .ok (.iload_n 0, 1) := dk_26 (dk_at dksJ11_numberOfTrailingZeros_1 6 rfl rfl)
theorem dJ11_numberOfTrailingZeros_30 : decode cJ11_numberOfTrailingZeros 30 = .ok (.bipush 16, 2) := dk_16 16 (dk_at dksJ11_numberOfTrailingZeros_1 7 rfl rfl)
theorem dJ11_numberOfTrailingZeros_32 : decode cJ11_numberOfTrailingZeros 32 = .ok (.iushr, 1) := dk_124 (dk_at dksJ11_numberOfTrailingZeros_1 9 rfl rfl)
theorem dJ11_numberOfTrailingZeros_33 : decode cJ11_numberOfTrailingZeros 33 = .ok (.istore_n 0, 1) := dk_59 (dk_at dksJ11_numberOfTrailingZeros_1 10 rfl rfl)
theorem dJ11_numberOfTrailingZeros_34 : decode cJ11_numberOfTrailingZeros 34 = .ok (.iload_n 0, 1) := dk_26 (dk_at dksJ11_numberOfTrailingZeros_1 11 rfl rfl)
theorem dJ11_numberOfTrailingZeros_35 : decode cJ11_numberOfTrailingZeros 35 = .ok (.sipush 256, 3) := dk_17 1 0 (dk_at dksJ11_numberOfTrailingZeros_1 12 rfl rfl)
theorem dJ11_numberOfTrailingZeros_38 : decode cJ11_numberOfTrailingZeros 38 = .ok (.if_icmp .le 11, 3) := dk_164 0 11 (dk_at dksJ11_numberOfTrailingZeros_1 15 rfl rfl)
theorem dJ11_numberOfTrailingZeros_41 : decode cJ11_numberOfTrailingZeros 41 = .ok (.iinc 1 8, 3) := dk_132 1 8 (dk_at dksJ11_numberOfTrailingZeros_1 18 rfl rfl)
theorem dJ11_numberOfTrailingZeros_44 : decode cJ11_numberOfTrailingZeros 44 = .ok (.iload_n 0, 1) := dk_26 (dk_at dksJ11_numberOfTrailingZeros_1 21 rfl rfl)
theorem dJ11_numberOfTrailingZeros_45 : decode cJ11_numberOfTrailingZeros 45 = .ok (.bipush 8, 2) := dk_16 8 (dk_at dksJ11_numberOfTrailingZeros_1 22 rfl rfl)
theorem dJ11_numberOfTrailingZeros_47 : decode cJ11_numberOfTrailingZeros 47 = .ok (.iushr, 1) := dk_124 (dk_at dksJ11_numberOfTrailingZeros_2 0 rfl rfl)
theorem dJ11_numberOfTrailingZeros_48 : decode cJ11_numberOfTrailingZeros 48 = .ok (.istore_n 0, 1) := dk_59 (dk_at dksJ11_numberOfTrailingZeros_2 1 rfl rfl)
theorem dJ11_numberOfTrailingZeros_49 : decode cJ11_numberOfTrailingZeros 49 = .ok (.iload_n 0, 1) := dk_26 (dk_at dksJ11_numberOfTrailingZeros_2 2 rfl rfl)
theorem dJ11_numberOfTrailingZeros_50 : decode cJ11_numberOfTrailingZeros 50 = .ok (.bipush 16, 2) := dk_16 16 (dk_at dksJ11_numberOfTrailingZeros_2 3 rfl rfl)
theorem dJ11_numberOfTrailingZeros_52 : decode cJ11_numberOfTrailingZeros 52 = .ok (.if_icmp .le 10, 3) := dk_164 0 10 (dk_at dksJ11_numberOfTrailingZeros_2 5 rfl rfl)
theorem dJ11_numberOfTrailingZeros_55 : decode cJ11_numberOfTrailingZeros 55 = .ok (.iinc 1 4, 3) := dk_132 1 4 (dk_at dksJ11_numberOfTrailingZeros_2 8 rfl rfl)
theorem dJ11_numberOfTrailingZeros_58 : decode cJ11_numberOfTrailingZeros 58 = .ok (.iload_n 0, 1) := dk_26 (dk_at dksJ11_numberOfTrailingZeros_2 11 rfl rfl)
theorem dJ11_numberOfTrailingZeros_59 : decode cJ11_numberOfTrailingZeros 59 = .ok (.iconst 4, 1) := dk_7 (dk_at dksJ11_numberOfTrailingZeros_2 12 rfl rfl)
theorem dJ11_numberOfTrailingZeros_60 : decode cJ11_numberOfTrailingZeros 60 = .ok (.iushr, 1) := dk_124 (dk_at dksJ11_numberOfTrailingZeros_2 13 rfl rfl)
theorem dJ11_numberOfTrailingZeros_61 : decode cJ11_numberOfTrailingZeros 61 = .ok (.istore_n 0, 1) := dk_59 (dk_at dksJ11_numberOfTrailingZeros_2 14 rfl rfl)
theorem dJ11_numberOfTrailingZeros_62 : decode cJ11_numberOfTrailingZeros 62 = .ok (.iload_n 0, 1) := dk_26 (dk_at dksJ11_numberOfTrailingZeros_2 15 rfl rfl)
theorem dJ11_numberOfTrailingZeros_63 : decode cJ11_numberOfTrailingZeros 63 = .ok (.iconst 4, 1) := dk_7 (dk_at dksJ11_numberOfTrailingZeros_2 16 rfl rfl)
theorem dJ11_numberOfTrailingZeros_64 : decode cJ11_numberOfTrailingZeros 64 = .ok (.if_icmp .le 10, 3) := dk_164 0 10 (dk_at dksJ11_numberOfTrailingZeros_2 17 rfl rfl)
theorem dJ11_numberOfTrailingZeros_67 : decode cJ11_numberOfTrailingZeros 67 = .ok (.iinc 1 2, 3) := dk_132 1 2 (dk_at dksJ11_numberOfTrailingZeros_2 20 rfl rfl)
theorem dJ11_numberOfTrailingZeros_70 : decode cJ11_numberOfTrailingZeros 70 = .ok (.iload_n 0, 1) := dk_26 (dk_at dksJ11_numberOfTrailingZeros_2 23 rfl rfl)
theorem dJ11_numberOfTrailingZeros_71 : decode cJ11_numberOfTrailingZeros 71 = .ok (.iconst 2, 1) := dk_5 (dk_at dksJ11_numberOfTrailingZeros_3 0 rfl rfl)
theorem dJ11_numberOfTrailingZeros_72 : decode cJ11_numberOfTrailingZeros 72 = .ok (.iushr, 1) := dk_124 (dk_at dksJ11_numberOfTrailingZeros_3 1 rfl rfl)
theorem dJ11_numberOfTrailingZeros_73 : decode cJ11_numberOfTrailingZeros 73 = .ok (.istore_n 0, 1) := dk_59 (dk_at dksJ11_numberOfTrailingZeros_3 2 rfl rfl)
theorem dJ11_numberOfTrailingZeros_74 : decode cJ11_numberOfTrailingZeros 74 = .ok (.iload_n 1, 1) := dk_27 (dk_at dksJ11_numberOfTrailingZeros_3 3 rfl rfl)
theorem dJ11_numberOfTrailingZeros_75 : decode cJ11_numberOfTrailingZeros 75 = .ok (.iload_n 0, 1) := dk_26 (dk_at dksJ11_numberOfTrailingZeros_3 4 rfl rfl)
theorem dJ11_numberOfTrailingZeros_76 : decode cJ11_numberOfTrailingZeros 76 = .ok (.iconst 1, 1) := dk_4 (dk_at dksJ11_numberOfTrailingZeros_3 5 rfl rfl)
theorem dJ11_numberOfTrailingZeros_77 : decode cJ11_numberOfTrailingZeros 77 = .ok (.iushr, 1) := dk_124 (dk_at dksJ11_numberOfTrailingZeros_3 6 rfl rfl)
theorem dJ11_numberOfTrailingZeros_78 : decode cJ11_numberOfTrailingZeros 78 = .ok (.iadd, 1) := dk_96 (dk_at dksJ11_numberOfTrailingZeros_3 7 rfl rfl)
theorem dJ11_numberOfTrailingZeros_79 : decode cJ11_numberOfTrailingZeros 79 = .ok (.ireturn, 1) := dk_172 (dk_at dksJ11_numberOfTrailingZeros_3 8 rfl rfl)
abbrev cJ11_compare : ByteArray := prog_22_method_40_code
def yJ11_compare : MethodName := ⟨RJ11, "compare", "(II)I"⟩
def dkwJ11_compare_0 : List UInt8 := [26, 27, 162, 0, 7, 2, 167, 0, 13, 26, 27, 160, 0, 7, 3, 167, 0, 4, 4, 172]
abbrev dktJ11_compare_0 : List UInt8 := dkwJ11_compare_0 ++ []
theorem dksJ11_compare_0 : cJ11_compare.data.toList.drop 0 = dktJ11_compare_0 := by decide +kernel
theorem dJ11_compare_0 : decode cJ11_compare 0 = .ok (.iload_n 0, 1) := dk_26 (dk_at dksJ11_compare_0 0 rfl rfl)
theorem dJ11_compare_1 : decode cJ11_compare 1 = .ok (.iload_n 1, 1) := dk_27 (dk_at dksJ11_compare_0 1 rfl rfl)
theorem dJ11_compare_2 : decode cJ11_compare 2 = .ok (.if_icmp .ge 7, 3) := dk_162 0 7 (dk_at dksJ11_compare_0 2 rfl rfl)
theorem dJ11_compare_5 : decode cJ11_compare 5 = .ok (.iconst (-1), 1) := dk_2 (dk_at dksJ11_compare_0 5 rfl rfl)
theorem dJ11_compare_6 : decode cJ11_compare 6 = .ok (.goto 13, 3) := dk_167 0 13 (dk_at dksJ11_compare_0 6 rfl rfl)
theorem dJ11_compare_9 : decode cJ11_compare 9 = .ok (.iload_n 0, 1) := dk_26 (dk_at dksJ11_compare_0 9 rfl rfl)
theorem dJ11_compare_10 : decode cJ11_compare 10 = .ok (.iload_n 1, 1) := dk_27 (dk_at dksJ11_compare_0 10 rfl rfl)
theorem dJ11_compare_11 : decode cJ11_compare 11 = .ok (.if_icmp .ne 7, 3) := dk_160 0 7 (dk_at dksJ11_compare_0 11 rfl rfl)
theorem dJ11_compare_14 : decode cJ11_compare 14 = .ok (.iconst 0, 1) := dk_3 (dk_at dksJ11_compare_0 14 rfl rfl)
theorem dJ11_compare_15 : decode cJ11_compare 15 = .ok (.goto 4, 3) := dk_167 0 4 (dk_at dksJ11_compare_0 15 rfl rfl)
theorem dJ11_compare_18 : decode cJ11_compare 18 = .ok (.iconst 1, 1) := dk_4 (dk_at dksJ11_compare_0 18 rfl rfl)
theorem dJ11_compare_19 : decode cJ11_compare 19 = .ok (.ireturn, 1) := dk_172 (dk_at dksJ11_compare_0 19 rfl rfl)
abbrev cJ11_compareTo : ByteArray := prog_22_method_63_code
def yJ11_compareTo : MethodName := ⟨RJ11, "compareTo", "(Ljava/lang/Object;)I"⟩
def dkwJ11_compareTo_0 : List UInt8 := [42, 43, 192, 0, 1, 182, 1, 28, 172]
abbrev dktJ11_compareTo_0 : List UInt8 := dkwJ11_compareTo_0 ++ []
theorem dksJ11_compareTo_0 : cJ11_compareTo.data.toList.drop 0 = dktJ11_compareTo_0 := by decide +kernel
theorem dJ11_compareTo_0 : decode cJ11_compareTo 0 = .ok (.aload_n 0, 1) := dk_42 (dk_at dksJ11_compareTo_0 0 rfl rfl)
theorem dJ11_compareTo_1 : decode cJ11_compareTo 1 = .ok (.aload_n 1, 1) := dk_43 (dk_at dksJ11_compareTo_0 1 rfl rfl)
theorem dJ11_compareTo_2 : decode cJ11_compareTo 2 = .ok (.checkcast 1, 3) := dk_192 0 1 (dk_at dksJ11_compareTo_0 2 rfl rfl)
theorem dJ11_compareTo_5 : decode cJ11_compareTo 5 = .ok (.invokevirtual 284, 3) := dk_182 1 28 (dk_at dksJ11_compareTo_0 5 rfl rfl)
theorem dJ11_compareTo_8 : decode cJ11_compareTo 8 = .ok (.ireturn, 1) := dk_172 (dk_at dksJ11_compareTo_0 8 rfl rfl)
abbrev cJ11_compareTo_2 : ByteArray := prog_22_method_39_code
def yJ11_compareTo_2 : MethodName := ⟨RJ11, "compareTo", "(Ljava/lang/Integer;)I"⟩
def dkwJ11_compareTo_2_0 : List UInt8 := [42, 180, 0, 205, 43, 180, 0, 205, 184, 1, 3, 172]
abbrev dktJ11_compareTo_2_0 : List UInt8 := dkwJ11_compareTo_2_0 ++ []
theorem dksJ11_compareTo_2_0 : cJ11_compareTo_2.data.toList.drop 0 = dktJ11_compareTo_2_0 := by decide +kernel
theorem dJ11_compareTo_2_0 : decode cJ11_compareTo_2 0 = .ok (.aload_n 0, 1) := dk_42 (dk_at dksJ11_compareTo_2_0 0 rfl rfl)
theorem dJ11_compareTo_2_1 : decode cJ11_compareTo_2 1 = .ok (.getfield 205, 3) := dk_180 0 205 (dk_at dksJ11_compareTo_2_0 1 rfl rfl)
theorem dJ11_compareTo_2_4 : decode cJ11_compareTo_2 4 = .ok (.aload_n 1, 1) := dk_43 (dk_at dksJ11_compareTo_2_0 4 rfl rfl)
theorem dJ11_compareTo_2_5 : decode cJ11_compareTo_2 5 = .ok (.getfield 205, 3) := dk_180 0 205 (dk_at dksJ11_compareTo_2_0 5 rfl rfl)
theorem dJ11_compareTo_2_8 : decode cJ11_compareTo_2 8 = .ok (.invokestatic 259, 3) := dk_184 1 3 (dk_at dksJ11_compareTo_2_0 8 rfl rfl)
theorem dJ11_compareTo_2_11 : decode cJ11_compareTo_2 11 = .ok (.ireturn, 1) := dk_172 (dk_at dksJ11_compareTo_2_0 11 rfl rfl)
abbrev cJ11_numberOfLeadingZeros : ByteArray := prog_22_method_47_code
def yJ11_numberOfLeadingZeros : MethodName := ⟨RJ11, "numberOfLeadingZeros", "(I)I"⟩
def dkwJ11_numberOfLeadingZeros_3 : List UInt8 := [5, 124, 59, 27, 26, 4, 124, 100, 172]
abbrev dktJ11_numberOfLeadingZeros_3 : List UInt8 := dkwJ11_numberOfLeadingZeros_3 ++ []
def dkwJ11_numberOfLeadingZeros_2 : List UInt8 := [124, 59, 26, 16, 16, 161, 0, 10, 132, 1, 252, 26, 7, 124, 59, 26, 7, 161, 0, 10, 132, 1, 254, 26]
abbrev dktJ11_numberOfLeadingZeros_2 : List UInt8 := dkwJ11_numberOfLeadingZeros_2 ++ dktJ11_numberOfLeadingZeros_3
def dkwJ11_numberOfLeadingZeros_1 : List UInt8 := [161, 0, 11, 132, 1, 240, 26, 16, 16, 124, 59, 26, 17, 1, 0, 161, 0, 11, 132, 1, 248, 26, 16, 8]
abbrev dktJ11_numberOfLeadingZeros_1 : List UInt8 := dkwJ11_numberOfLeadingZeros_1 ++ dktJ11_numberOfLeadingZeros_2
def dkwJ11_numberOfLeadingZeros_0 : List UInt8 := [26, 157, 0, 14, 26, 154, 0, 8, 16, 32, 167, 0, 4, 3, 172, 16, 31, 60, 26, 19, 1, 8]
abbrev dktJ11_numberOfLeadingZeros_0 : List UInt8 := dkwJ11_numberOfLeadingZeros_0 ++ dktJ11_numberOfLeadingZeros_1
theorem dksJ11_numberOfLeadingZeros_0 : cJ11_numberOfLeadingZeros.data.toList.drop 0 = dktJ11_numberOfLeadingZeros_0 := by decide +kernel
theorem dksJ11_numberOfLeadingZeros_1 : cJ11_numberOfLeadingZeros.data.toList.drop 22 = dktJ11_numberOfLeadingZeros_1 := dk_seg dksJ11_numberOfLeadingZeros_0 22 rfl rfl
theorem dksJ11_numberOfLeadingZeros_2 : cJ11_numberOfLeadingZeros.data.toList.drop 46 = dktJ11_numberOfLeadingZeros_2 := dk_seg dksJ11_numberOfLeadingZeros_1 24 rfl rfl
theorem dksJ11_numberOfLeadingZeros_3 : cJ11_numberOfLeadingZeros.data.toList.drop 70 = dktJ11_numberOfLeadingZeros_3 := dk_seg dksJ11_numberOfLeadingZeros_2 24 rfl rfl
theorem dJ11_numberOfLeadingZeros_0 : decode cJ11_numberOfLeadingZeros 0 = .ok (.iload_n 0, 1) := dk_26 (dk_at dksJ11_numberOfLeadingZeros_0 0 rfl rfl)
theorem dJ11_numberOfLeadingZeros_1 : decode cJ11_numberOfLeadingZeros 1 = .ok (.ifCond .gt 14, 3) := dk_157 0 14 (dk_at dksJ11_numberOfLeadingZeros_0 1 rfl rfl)
theorem dJ11_numberOfLeadingZeros_4 : decode cJ11_numberOfLeadingZeros 4 = .ok (.iload_n 0, 1) := dk_26 (dk_at dksJ11_numberOfLeadingZeros_0 4 rfl rfl)
theorem dJ11_numberOfLeadingZeros_5 : decode cJ11_numberOfLeadingZeros 5 = .ok (.ifCond .ne 8, 3) := dk_154 0 8 (dk_at dksJ11_numberOfLeadingZeros_0 5 rfl rfl)
theorem dJ11_numberOfLeadingZeros_8 : decode cJ11_numberOfLeadingZeros 8 = .ok (.bipush 32, 2) := dk_16 32 (dk_at dksJ11_numberOfLeadingZeros_0 8 rfl rfl)
theorem dJ11_numberOfLeadingZeros_10 : decode cJ11_numberOfLeadingZeros 10 = .ok (.goto 4, 3) := dk_167 0 4 (dk_at dksJ11_numberOfLeadingZeros_0 10 rfl rfl)
theorem dJ11_numberOfLeadingZeros_13 : decode cJ11_numberOfLeadingZeros 13 = .ok (.iconst 0, 1) := dk_3 (dk_at dksJ11_numberOfLeadingZeros_0 13 rfl rfl)
theorem dJ11_numberOfLeadingZeros_14 : decode cJ11_numberOfLeadingZeros 14 = .ok (.ireturn, 1) := dk_172 (dk_at dksJ11_numberOfLeadingZeros_0 14 rfl rfl)
theorem dJ11_numberOfLeadingZeros_15 : decode cJ11_numberOfLeadingZeros 15 = .ok (.bipush 31, 2) := dk_16 31 (dk_at dksJ11_numberOfLeadingZeros_0 15 rfl rfl)
theorem dJ11_numberOfLeadingZeros_17 : decode cJ11_numberOfLeadingZeros 17 = .ok (.istore_n 1, 1) := dk_60 (dk_at dksJ11_numberOfLeadingZeros_0 17 rfl rfl)
theorem dJ11_numberOfLeadingZeros_18 : decode cJ11_numberOfLeadingZeros 18 = .ok (.iload_n 0, 1) := dk_26 (dk_at dksJ11_numberOfLeadingZeros_0 18 rfl rfl)
theorem dJ11_numberOfLeadingZeros_19 : decode cJ11_numberOfLeadingZeros 19 = .ok (.ldc_w 264, 3) := dk_19 1 8 (dk_at dksJ11_numberOfLeadingZeros_0 19 rfl rfl)
theorem dJ11_numberOfLeadingZeros_22 : decode cJ11_numberOfLeadingZeros 22 = .ok (.if_icmp .lt 11, 3) := dk_161 0 11 (dk_at dksJ11_numberOfLeadingZeros_1 0 rfl rfl)
theorem dJ11_numberOfLeadingZeros_25 : decode cJ11_numberOfLeadingZeros 25 = .ok (.iinc 1 (-16), 3) := dk_132 1 240 (dk_at dksJ11_numberOfLeadingZeros_1 3 rfl rfl)
theorem dJ11_numberOfLeadingZeros_28 : decode cJ11_numberOfLeadingZeros 28 = .ok (.iload_n 0, 1) := dk_26 (dk_at dksJ11_numberOfLeadingZeros_1 6 rfl rfl)
theorem dJ11_numberOfLeadingZeros_29 : decode cJ11_numberOfLeadingZeros 29 = .ok (.bipush 16, 2) := dk_16 16 (dk_at dksJ11_numberOfLeadingZeros_1 7 rfl rfl)
theorem dJ11_numberOfLeadingZeros_31 : decode cJ11_numberOfLeadingZeros 31 = .ok (.iushr, 1) := dk_124 (dk_at dksJ11_numberOfLeadingZeros_1 9 rfl rfl)
theorem dJ11_numberOfLeadingZeros_32 : decode cJ11_numberOfLeadingZeros 32 = .ok (.istore_n 0, 1) := dk_59 (dk_at dksJ11_numberOfLeadingZeros_1 10 rfl rfl)
theorem dJ11_numberOfLeadingZeros_33 : decode cJ11_numberOfLeadingZeros 33 = .ok (.iload_n 0, 1) := dk_26 (dk_at dksJ11_numberOfLeadingZeros_1 11 rfl rfl)
theorem dJ11_numberOfLeadingZeros_34 : decode cJ11_numberOfLeadingZeros 34 = .ok (.sipush 256, 3) := dk_17 1 0 (dk_at dksJ11_numberOfLeadingZeros_1 12 rfl rfl)
theorem dJ11_numberOfLeadingZeros_37 : decode cJ11_numberOfLeadingZeros 37 = .ok (.if_icmp .lt 11, 3) := dk_161 0 11 (dk_at dksJ11_numberOfLeadingZeros_1 15 rfl rfl)
theorem dJ11_numberOfLeadingZeros_40 : decode cJ11_numberOfLeadingZeros 40 = .ok (.iinc 1 (-8), 3) := dk_132 1 248 (dk_at dksJ11_numberOfLeadingZeros_1 18 rfl rfl)
theorem dJ11_numberOfLeadingZeros_43 : decode cJ11_numberOfLeadingZeros 43 = .ok (.iload_n 0, 1) := dk_26 (dk_at dksJ11_numberOfLeadingZeros_1 21 rfl rfl)
theorem dJ11_numberOfLeadingZeros_44 : decode cJ11_numberOfLeadingZeros 44 = .ok (.bipush 8, 2) := dk_16 8 (dk_at dksJ11_numberOfLeadingZeros_1 22 rfl rfl)
theorem dJ11_numberOfLeadingZeros_46 : decode cJ11_numberOfLeadingZeros 46 = .ok (.iushr, 1) := dk_124 (dk_at dksJ11_numberOfLeadingZeros_2 0 rfl rfl)
theorem dJ11_numberOfLeadingZeros_47 : decode cJ11_numberOfLeadingZeros 47 = .ok (.istore_n 0, 1) := dk_59 (dk_at dksJ11_numberOfLeadingZeros_2 1 rfl rfl)
theorem dJ11_numberOfLeadingZeros_48 : decode cJ11_numberOfLeadingZeros 48 = .ok (.iload_n 0, 1) := dk_26 (dk_at dksJ11_numberOfLeadingZeros_2 2 rfl rfl)
theorem dJ11_numberOfLeadingZeros_49 : decode cJ11_numberOfLeadingZeros 49 = .ok (.bipush 16, 2) := dk_16 16 (dk_at dksJ11_numberOfLeadingZeros_2 3 rfl rfl)
theorem dJ11_numberOfLeadingZeros_51 : decode cJ11_numberOfLeadingZeros 51 = .ok (.if_icmp .lt 10, 3) := dk_161 0 10 (dk_at dksJ11_numberOfLeadingZeros_2 5 rfl rfl)
theorem dJ11_numberOfLeadingZeros_54 : decode cJ11_numberOfLeadingZeros 54 = .ok (.iinc 1 (-4), 3) := dk_132 1 252 (dk_at dksJ11_numberOfLeadingZeros_2 8 rfl rfl)
theorem dJ11_numberOfLeadingZeros_57 : decode cJ11_numberOfLeadingZeros 57 = .ok (.iload_n 0, 1) := dk_26 (dk_at dksJ11_numberOfLeadingZeros_2 11 rfl rfl)
theorem dJ11_numberOfLeadingZeros_58 : decode cJ11_numberOfLeadingZeros 58 = .ok (.iconst 4, 1) := dk_7 (dk_at dksJ11_numberOfLeadingZeros_2 12 rfl rfl)
theorem dJ11_numberOfLeadingZeros_59 : decode cJ11_numberOfLeadingZeros 59 = .ok (.iushr, 1) := dk_124 (dk_at dksJ11_numberOfLeadingZeros_2 13 rfl rfl)
theorem dJ11_numberOfLeadingZeros_60 : decode cJ11_numberOfLeadingZeros 60 = .ok (.istore_n 0, 1) := dk_59 (dk_at dksJ11_numberOfLeadingZeros_2 14 rfl rfl)
theorem dJ11_numberOfLeadingZeros_61 : decode cJ11_numberOfLeadingZeros 61 = .ok (.iload_n 0, 1) := dk_26 (dk_at dksJ11_numberOfLeadingZeros_2 15 rfl rfl)
theorem dJ11_numberOfLeadingZeros_62 : decode cJ11_numberOfLeadingZeros 62 = .ok (.iconst 4, 1) := dk_7 (dk_at dksJ11_numberOfLeadingZeros_2 16 rfl rfl)
theorem dJ11_numberOfLeadingZeros_63 : decode cJ11_numberOfLeadingZeros 63 = .ok (.if_icmp .lt 10, 3) := dk_161 0 10 (dk_at dksJ11_numberOfLeadingZeros_2 17 rfl rfl)
theorem dJ11_numberOfLeadingZeros_66 : decode cJ11_numberOfLeadingZeros 66 = .ok (.iinc 1 (-2), 3) := dk_132 1 254 (dk_at dksJ11_numberOfLeadingZeros_2 20 rfl rfl)
theorem dJ11_numberOfLeadingZeros_69 : decode cJ11_numberOfLeadingZeros 69 = .ok (.iload_n 0, 1) := dk_26 (dk_at dksJ11_numberOfLeadingZeros_2 23 rfl rfl)
theorem dJ11_numberOfLeadingZeros_70 : decode cJ11_numberOfLeadingZeros 70 = .ok (.iconst 2, 1) := dk_5 (dk_at dksJ11_numberOfLeadingZeros_3 0 rfl rfl)
theorem dJ11_numberOfLeadingZeros_71 : decode cJ11_numberOfLeadingZeros 71 = .ok (.iushr, 1) := dk_124 (dk_at dksJ11_numberOfLeadingZeros_3 1 rfl rfl)
theorem dJ11_numberOfLeadingZeros_72 : decode cJ11_numberOfLeadingZeros 72 = .ok (.istore_n 0, 1) := dk_59 (dk_at dksJ11_numberOfLeadingZeros_3 2 rfl rfl)
theorem dJ11_numberOfLeadingZeros_73 : decode cJ11_numberOfLeadingZeros 73 = .ok (.iload_n 1, 1) := dk_27 (dk_at dksJ11_numberOfLeadingZeros_3 3 rfl rfl)
theorem dJ11_numberOfLeadingZeros_74 : decode cJ11_numberOfLeadingZeros 74 = .ok (.iload_n 0, 1) := dk_26 (dk_at dksJ11_numberOfLeadingZeros_3 4 rfl rfl)
theorem dJ11_numberOfLeadingZeros_75 : decode cJ11_numberOfLeadingZeros 75 = .ok (.iconst 1, 1) := dk_4 (dk_at dksJ11_numberOfLeadingZeros_3 5 rfl rfl)
theorem dJ11_numberOfLeadingZeros_76 : decode cJ11_numberOfLeadingZeros 76 = .ok (.iushr, 1) := dk_124 (dk_at dksJ11_numberOfLeadingZeros_3 6 rfl rfl)
theorem dJ11_numberOfLeadingZeros_77 : decode cJ11_numberOfLeadingZeros 77 = .ok (.isub, 1) := dk_100 (dk_at dksJ11_numberOfLeadingZeros_3 7 rfl rfl)
theorem dJ11_numberOfLeadingZeros_78 : decode cJ11_numberOfLeadingZeros 78 = .ok (.ireturn, 1) := dk_172 (dk_at dksJ11_numberOfLeadingZeros_3 8 rfl rfl)
abbrev cJ11_valueOf : ByteArray := prog_22_method_22_code
def yJ11_valueOf : MethodName := ⟨RJ11, "valueOf", "(I)Ljava/lang/Integer;"⟩
def dkwJ11_valueOf_1 : List UInt8 := [187, 0, 1, 89, 26, 183, 0, 199, 176]
abbrev dktJ11_valueOf_1 : List UInt8 := dkwJ11_valueOf_1 ++ []
def dkwJ11_valueOf_0 : List UInt8 := [26, 16, 128, 161, 0, 20, 26, 178, 0, 191, 163, 0, 13, 178, 0, 195, 26, 17, 0, 128, 96, 50, 176]
abbrev dktJ11_valueOf_0 : List UInt8 := dkwJ11_valueOf_0 ++ dktJ11_valueOf_1
theorem dksJ11_valueOf_0 : cJ11_valueOf.data.toList.drop 0 = dktJ11_valueOf_0 := by decide +kernel
theorem dksJ11_valueOf_1 : cJ11_valueOf.data.toList.drop 23 = dktJ11_valueOf_1 := dk_seg dksJ11_valueOf_0 23 rfl rfl
theorem dJ11_valueOf_0 : decode cJ11_valueOf 0 = .ok (.iload_n 0, 1) := dk_26 (dk_at dksJ11_valueOf_0 0 rfl rfl)
theorem dJ11_valueOf_1 : decode cJ11_valueOf 1 = .ok (.bipush (-128), 2) := dk_16 128 (dk_at dksJ11_valueOf_0 1 rfl rfl)
theorem dJ11_valueOf_3 : decode cJ11_valueOf 3 = .ok (.if_icmp .lt 20, 3) := dk_161 0 20 (dk_at dksJ11_valueOf_0 3 rfl rfl)
theorem dJ11_valueOf_6 : decode cJ11_valueOf 6 = .ok (.iload_n 0, 1) := dk_26 (dk_at dksJ11_valueOf_0 6 rfl rfl)
theorem dJ11_valueOf_7 : decode cJ11_valueOf 7 = .ok (.getstatic 191, 3) := dk_178 0 191 (dk_at dksJ11_valueOf_0 7 rfl rfl)
theorem dJ11_valueOf_10 : decode cJ11_valueOf 10 = .ok (.if_icmp .gt 13, 3) := dk_163 0 13 (dk_at dksJ11_valueOf_0 10 rfl rfl)
theorem dJ11_valueOf_13 : decode cJ11_valueOf 13 = .ok (.getstatic 195, 3) := dk_178 0 195 (dk_at dksJ11_valueOf_0 13 rfl rfl)
theorem dJ11_valueOf_16 : decode cJ11_valueOf 16 = .ok (.iload_n 0, 1) := dk_26 (dk_at dksJ11_valueOf_0 16 rfl rfl)
theorem dJ11_valueOf_17 : decode cJ11_valueOf 17 = .ok (.sipush 128, 3) := dk_17 0 128 (dk_at dksJ11_valueOf_0 17 rfl rfl)
theorem dJ11_valueOf_20 : decode cJ11_valueOf 20 = .ok (.iadd, 1) := dk_96 (dk_at dksJ11_valueOf_0 20 rfl rfl)
theorem dJ11_valueOf_21 : decode cJ11_valueOf 21 = .ok (.aaload, 1) := dk_50 (dk_at dksJ11_valueOf_0 21 rfl rfl)
theorem dJ11_valueOf_22 : decode cJ11_valueOf 22 = .ok (.areturn, 1) := dk_176 (dk_at dksJ11_valueOf_0 22 rfl rfl)
theorem dJ11_valueOf_23 : decode cJ11_valueOf 23 = .ok (.new 1, 3) := dk_187 0 1 (dk_at dksJ11_valueOf_1 0 rfl rfl)
theorem dJ11_valueOf_26 : decode cJ11_valueOf 26 = .ok (.dup, 1) := dk_89 (dk_at dksJ11_valueOf_1 3 rfl rfl)
theorem dJ11_valueOf_27 : decode cJ11_valueOf 27 = .ok (.iload_n 0, 1) := dk_26 (dk_at dksJ11_valueOf_1 4 rfl rfl)
theorem dJ11_valueOf_28 : decode cJ11_valueOf 28 = .ok (.invokespecial 199, 3) := dk_183 0 199 (dk_at dksJ11_valueOf_1 5 rfl rfl)
theorem dJ11_valueOf_31 : decode cJ11_valueOf 31 = .ok (.areturn, 1) := dk_176 (dk_at dksJ11_valueOf_1 8 rfl rfl)
abbrev cJ11_init : ByteArray := prog_22_method_23_code
def yJ11_init : MethodName := ⟨RJ11, "<init>", "(I)V"⟩
def dkwJ11_init_0 : List UInt8 := [42, 183, 0, 202, 42, 27, 181, 0, 205, 177]
abbrev dktJ11_init_0 : List UInt8 := dkwJ11_init_0 ++ []
theorem dksJ11_init_0 : cJ11_init.data.toList.drop 0 = dktJ11_init_0 := by decide +kernel
theorem dJ11_init_0 : decode cJ11_init 0 = .ok (.aload_n 0, 1) := dk_42 (dk_at dksJ11_init_0 0 rfl rfl)
theorem dJ11_init_1 : decode cJ11_init 1 = .ok (.invokespecial 202, 3) := dk_183 0 202 (dk_at dksJ11_init_0 1 rfl rfl)
theorem dJ11_init_4 : decode cJ11_init 4 = .ok (.aload_n 0, 1) := dk_42 (dk_at dksJ11_init_0 4 rfl rfl)
theorem dJ11_init_5 : decode cJ11_init 5 = .ok (.iload_n 1, 1) := dk_27 (dk_at dksJ11_init_0 5 rfl rfl)
theorem dJ11_init_6 : decode cJ11_init 6 = .ok (.putfield 205, 3) := dk_181 0 205 (dk_at dksJ11_init_0 6 rfl rfl)
theorem dJ11_init_9 : decode cJ11_init 9 = .ok (.return_, 1) := dk_177 (dk_at dksJ11_init_0 9 rfl rfl)
abbrev cJ11_intValue : ByteArray := prog_22_method_27_code
def yJ11_intValue : MethodName := ⟨RJ11, "intValue", "()I"⟩
theorem dJ11_intValue_0 : decode cJ11_intValue 0 = .ok (.aload_n 0, 1) := by decide +kernel
theorem dJ11_intValue_1 : decode cJ11_intValue 1 = .ok (.getfield 205, 3) := by decide +kernel
theorem dJ11_intValue_4 : decode cJ11_intValue 4 = .ok (.ireturn, 1) := by decide +kernel
abbrev cJ11_bitCount : ByteArray := prog_22_method_49_code
def yJ11_bitCount : MethodName := ⟨RJ11, "bitCount", "(I)I"⟩
def dkwJ11_bitCount_2 : List UInt8 := [26, 16, 63, 126, 172]
abbrev dktJ11_bitCount_2 : List UInt8 := dkwJ11_bitCount_2 ++ []
def dkwJ11_bitCount_1 : List UInt8 := [26, 26, 7, 124, 96, 19, 1, 11, 126, 59, 26, 26, 16, 8, 124, 96, 59, 26, 26, 16, 16, 124, 96, 59]
abbrev dktJ11_bitCount_1 : List UInt8 := dkwJ11_bitCount_1 ++ dktJ11_bitCount_2
def dkwJ11_bitCount_0 : List UInt8 := [26, 26, 4, 124, 19, 1, 9, 126, 100, 59, 26, 19, 1, 10, 126, 26, 5, 124, 19, 1, 10, 126, 96, 59]
abbrev dktJ11_bitCount_0 : List UInt8 := dkwJ11_bitCount_0 ++ dktJ11_bitCount_1
theorem dksJ11_bitCount_0 : cJ11_bitCount.data.toList.drop 0 = dktJ11_bitCount_0 := by decide +kernel
theorem dksJ11_bitCount_1 : cJ11_bitCount.data.toList.drop 24 = dktJ11_bitCount_1 := dk_seg dksJ11_bitCount_0 24 rfl rfl
theorem dksJ11_bitCount_2 : cJ11_bitCount.data.toList.drop 48 = dktJ11_bitCount_2 := dk_seg dksJ11_bitCount_1 24 rfl rfl
theorem dJ11_bitCount_0 : decode cJ11_bitCount 0 = .ok (.iload_n 0, 1) := dk_26 (dk_at dksJ11_bitCount_0 0 rfl rfl)
theorem dJ11_bitCount_1 : decode cJ11_bitCount 1 = .ok (.iload_n 0, 1) := dk_26 (dk_at dksJ11_bitCount_0 1 rfl rfl)
theorem dJ11_bitCount_2 : decode cJ11_bitCount 2 = .ok (.iconst 1, 1) := dk_4 (dk_at dksJ11_bitCount_0 2 rfl rfl)
theorem dJ11_bitCount_3 : decode cJ11_bitCount 3 = .ok (.iushr, 1) := dk_124 (dk_at dksJ11_bitCount_0 3 rfl rfl)
theorem dJ11_bitCount_4 : decode cJ11_bitCount 4 = .ok (.ldc_w 265, 3) := dk_19 1 9 (dk_at dksJ11_bitCount_0 4 rfl rfl)
theorem dJ11_bitCount_7 : decode cJ11_bitCount 7 = .ok (.iand, 1) := dk_126 (dk_at dksJ11_bitCount_0 7 rfl rfl)
theorem dJ11_bitCount_8 : decode cJ11_bitCount 8 = .ok (.isub, 1) := dk_100 (dk_at dksJ11_bitCount_0 8 rfl rfl)
theorem dJ11_bitCount_9 : decode cJ11_bitCount 9 = .ok (.istore_n 0, 1) := dk_59 (dk_at dksJ11_bitCount_0 9 rfl rfl)
theorem dJ11_bitCount_10 : decode cJ11_bitCount 10 = .ok (.iload_n 0, 1) := dk_26 (dk_at dksJ11_bitCount_0 10 rfl rfl)
theorem dJ11_bitCount_11 : decode cJ11_bitCount 11 = .ok (.ldc_w 266, 3) := dk_19 1 10 (dk_at dksJ11_bitCount_0 11 rfl rfl)
theorem dJ11_bitCount_14 : decode cJ11_bitCount 14 = .ok (.iand, 1) := dk_126 (dk_at dksJ11_bitCount_0 14 rfl rfl)
theorem dJ11_bitCount_15 : decode cJ11_bitCount 15 = .ok (.iload_n 0, 1) := dk_26 (dk_at dksJ11_bitCount_0 15 rfl rfl)
theorem dJ11_bitCount_16 : decode cJ11_bitCount 16 = .ok (.iconst 2, 1) := dk_5 (dk_at dksJ11_bitCount_0 16 rfl rfl)
theorem dJ11_bitCount_17 : decode cJ11_bitCount 17 = .ok (.iushr, 1) := dk_124 (dk_at dksJ11_bitCount_0 17 rfl rfl)
theorem dJ11_bitCount_18 : decode cJ11_bitCount 18 = .ok (.ldc_w 266, 3) := dk_19 1 10 (dk_at dksJ11_bitCount_0 18 rfl rfl)
theorem dJ11_bitCount_21 : decode cJ11_bitCount 21 = .ok (.iand, 1) := dk_126 (dk_at dksJ11_bitCount_0 21 rfl rfl)
theorem dJ11_bitCount_22 : decode cJ11_bitCount 22 = .ok (.iadd, 1) := dk_96 (dk_at dksJ11_bitCount_0 22 rfl rfl)
theorem dJ11_bitCount_23 : decode cJ11_bitCount 23 = .ok (.istore_n 0, 1) := dk_59 (dk_at dksJ11_bitCount_0 23 rfl rfl)
theorem dJ11_bitCount_24 : decode cJ11_bitCount 24 = .ok (.iload_n 0, 1) := dk_26 (dk_at dksJ11_bitCount_1 0 rfl rfl)
theorem dJ11_bitCount_25 : decode cJ11_bitCount 25 = .ok (.iload_n 0, 1) := dk_26 (dk_at dksJ11_bitCount_1 1 rfl rfl)
theorem dJ11_bitCount_26 : decode cJ11_bitCount 26 = .ok (.iconst 4, 1) := dk_7 (dk_at dksJ11_bitCount_1 2 rfl rfl)
theorem dJ11_bitCount_27 : decode cJ11_bitCount 27 = .ok (.iushr, 1) := dk_124 (dk_at dksJ11_bitCount_1 3 rfl rfl)
theorem dJ11_bitCount_28 : decode cJ11_bitCount 28 = .ok (.iadd, 1) := dk_96 (dk_at dksJ11_bitCount_1 4 rfl rfl)
theorem dJ11_bitCount_29 : decode cJ11_bitCount 29 = .ok (.ldc_w 267, 3) := dk_19 1 11 (dk_at dksJ11_bitCount_1 5 rfl rfl)
theorem dJ11_bitCount_32 : decode cJ11_bitCount 32 = .ok (.iand, 1) := dk_126 (dk_at dksJ11_bitCount_1 8 rfl rfl)
theorem dJ11_bitCount_33 : decode cJ11_bitCount 33 = .ok (.istore_n 0, 1) := dk_59 (dk_at dksJ11_bitCount_1 9 rfl rfl)
theorem dJ11_bitCount_34 : decode cJ11_bitCount 34 = .ok (.iload_n 0, 1) := dk_26 (dk_at dksJ11_bitCount_1 10 rfl rfl)
theorem dJ11_bitCount_35 : decode cJ11_bitCount 35 = .ok (.iload_n 0, 1) := dk_26 (dk_at dksJ11_bitCount_1 11 rfl rfl)
theorem dJ11_bitCount_36 : decode cJ11_bitCount 36 = .ok (.bipush 8, 2) := dk_16 8 (dk_at dksJ11_bitCount_1 12 rfl rfl)
theorem dJ11_bitCount_38 : decode cJ11_bitCount 38 = .ok (.iushr, 1) := dk_124 (dk_at dksJ11_bitCount_1 14 rfl rfl)
theorem dJ11_bitCount_39 : decode cJ11_bitCount 39 = .ok (.iadd, 1) := dk_96 (dk_at dksJ11_bitCount_1 15 rfl rfl)
theorem dJ11_bitCount_40 : decode cJ11_bitCount 40 = .ok (.istore_n 0, 1) := dk_59 (dk_at dksJ11_bitCount_1 16 rfl rfl)
theorem dJ11_bitCount_41 : decode cJ11_bitCount 41 = .ok (.iload_n 0, 1) := dk_26 (dk_at dksJ11_bitCount_1 17 rfl rfl)
theorem dJ11_bitCount_42 : decode cJ11_bitCount 42 = .ok (.iload_n 0, 1) := dk_26 (dk_at dksJ11_bitCount_1 18 rfl rfl)
theorem dJ11_bitCount_43 : decode cJ11_bitCount 43 = .ok (.bipush 16, 2) := dk_16 16 (dk_at dksJ11_bitCount_1 19 rfl rfl)
theorem dJ11_bitCount_45 : decode cJ11_bitCount 45 = .ok (.iushr, 1) := dk_124 (dk_at dksJ11_bitCount_1 21 rfl rfl)
theorem dJ11_bitCount_46 : decode cJ11_bitCount 46 = .ok (.iadd, 1) := dk_96 (dk_at dksJ11_bitCount_1 22 rfl rfl)
theorem dJ11_bitCount_47 : decode cJ11_bitCount 47 = .ok (.istore_n 0, 1) := dk_59 (dk_at dksJ11_bitCount_1 23 rfl rfl)
theorem dJ11_bitCount_48 : decode cJ11_bitCount 48 = .ok (.iload_n 0, 1) := dk_26 (dk_at dksJ11_bitCount_2 0 rfl rfl)
theorem dJ11_bitCount_49 : decode cJ11_bitCount 49 = .ok (.bipush 63, 2) := dk_16 63 (dk_at dksJ11_bitCount_2 1 rfl rfl)
theorem dJ11_bitCount_51 : decode cJ11_bitCount 51 = .ok (.iand, 1) := dk_126 (dk_at dksJ11_bitCount_2 3 rfl rfl)
theorem dJ11_bitCount_52 : decode cJ11_bitCount 52 = .ok (.ireturn, 1) := dk_172 (dk_at dksJ11_bitCount_2 4 rfl rfl)
theorem q98 : (Jvm.Cond.initialized "java/lang/Integer") ∈ lw_all := lw_g (lw_at lw_m1 14 rfl) rfl
theorem q378 : (Jvm.Cond.static ({ cls := "java/lang/Integer", name := "stringSize", desc := "(I)I" } : Jvm.MethodName)) ∈ lw_all := lw_g (lw_at lw_m2 54 rfl) rfl
theorem q379 : (Jvm.Cond.code ({ cls := "java/lang/Integer", name := "stringSize", desc := "(I)I" } : Jvm.MethodName) prog_22_method_13_code (4 : Nat) (Option.some Jvm.ClassFile.FieldType.int)) ∈ lw_all := lw_g (lw_at lw_m2 55 rfl) rfl
theorem q381 : (Jvm.Cond.static ({ cls := "java/lang/Integer", name := "getChars", desc := "(II[B)I" } : Jvm.MethodName)) ∈ lw_all := lw_g (lw_at lw_m2 57 rfl) rfl
theorem q382 : (Jvm.Cond.code ({ cls := "java/lang/Integer", name := "getChars", desc := "(II[B)I" } : Jvm.MethodName) prog_22_method_12_code (7 : Nat) (Option.some Jvm.ClassFile.FieldType.int)) ∈ lw_all := lw_g (lw_at lw_m2 58 rfl) rfl
theorem q383 : (Jvm.Cond.fieldLink "java/lang/Integer" (83 : Nat) "java/lang/Integer" "DigitOnes" "[B") ∈ lw_all := lw_g (lw_at lw_m2 59 rfl) rfl
theorem q384 : (Jvm.Cond.laysStatic "java/lang/Integer" "DigitOnes" "[B") ∈ lw_tbl := lw_at lw_m2 60 rfl
theorem q385 : (Jvm.Cond.fieldLink "java/lang/Integer" (87 : Nat) "java/lang/Integer" "DigitTens" "[B") ∈ lw_all := lw_g (lw_at lw_m2 61 rfl) rfl
theorem q386 : (Jvm.Cond.laysStatic "java/lang/Integer" "DigitTens" "[B") ∈ lw_tbl := lw_at lw_m2 62 rfl
theorem q761 : (Jvm.Cond.static ({ cls := "java/lang/Integer", name := "numberOfTrailingZeros", desc := "(I)I" } : Jvm.MethodName)) ∈ lw_all := lw_g (lw_at lw_m3 197 rfl) rfl
theorem q762 : (Jvm.Cond.code ({ cls := "java/lang/Integer", name := "numberOfTrailingZeros", desc := "(I)I" } : Jvm.MethodName) prog_22_method_48_code (2 : Nat) (Option.some Jvm.ClassFile.FieldType.int)) ∈ lw_all := lw_g (lw_at lw_m3 198 rfl) rfl
theorem q763 : (Jvm.Cond.constant "java/lang/Integer" (264 : Nat) (65536 : Int32)) ∈ lw_all := lw_g (lw_at lw_m3 199 rfl) rfl
theorem q909 : (Jvm.Cond.selects "java/lang/Integer" ({ cls := "java/lang/Object", name := "getClass", desc := "()Ljava/lang/Class;" } : Jvm.MethodName) ({ cls := "java/lang/Object", name := "getClass", desc := "()Ljava/lang/Class;" } : Jvm.MethodName)) ∈ lw_all := lw_g (lw_at lw_m4 105 rfl) rfl
theorem q956 : (Jvm.Cond.static ({ cls := "java/lang/Integer", name := "compare", desc := "(II)I" } : Jvm.MethodName)) ∈ lw_all := lw_g (lw_at lw_m4 152 rfl) rfl
theorem q957 : (Jvm.Cond.code ({ cls := "java/lang/Integer", name := "compare", desc := "(II)I" } : Jvm.MethodName) prog_22_method_40_code (2 : Nat) (Option.some Jvm.ClassFile.FieldType.int)) ∈ lw_all := lw_g (lw_at lw_m4 153 rfl) rfl
theorem q974 : (Jvm.Cond.castable "java/lang/Integer" "java/lang/Comparable") ∈ lw_tbl := lw_at lw_m4 170 rfl
theorem q975 : (Jvm.Cond.selects "java/lang/Integer" ({ cls := "java/lang/Comparable", name := "compareTo", desc := "(Ljava/lang/Object;)I" } : Jvm.MethodName) ({ cls := "java/lang/Integer", name := "compareTo", desc := "(Ljava/lang/Object;)I" } : Jvm.MethodName)) ∈ lw_all := lw_g (lw_at lw_m4 171 rfl) rfl
theorem q976 : (Jvm.Cond.unhidden "java/lang/Integer" "compareTo" "(Ljava/lang/Object;)I") ∈ lw_tbl := lw_at lw_m4 172 rfl
theorem q977 : (Jvm.Cond.instanceMethod ({ cls := "java/lang/Integer", name := "compareTo", desc := "(Ljava/lang/Object;)I" } : Jvm.MethodName)) ∈ lw_all := lw_g (lw_at lw_m4 173 rfl) rfl
theorem q978 : (Jvm.Cond.publicMethod ({ cls := "java/lang/Integer", name := "compareTo", desc := "(Ljava/lang/Object;)I" } : Jvm.MethodName)) ∈ lw_tbl := lw_at lw_m4 174 rfl
theorem q979 : (Jvm.Cond.code ({ cls := "java/lang/Integer", name := "compareTo", desc := "(Ljava/lang/Object;)I" } : Jvm.MethodName) prog_22_method_63_code (2 : Nat) (Option.some Jvm.ClassFile.FieldType.int)) ∈ lw_all := lw_g (lw_at lw_m4 175 rfl) rfl
theorem q980 : (Jvm.Cond.classLink "java/lang/Integer" (1 : Nat) "java/lang/Integer") ∈ lw_all := lw_g (lw_at lw_m4 176 rfl) rfl
theorem q981 : (Jvm.Cond.methodLink "java/lang/Integer" (284 : Nat) ({ cls := "java/lang/Integer", name := "compareTo", desc := "(Ljava/lang/Integer;)I" } : Jvm.MethodName)) ∈ lw_all := lw_g (lw_at lw_m4 177 rfl) rfl
theorem q982 : (Jvm.Cond.instanceMethod ({ cls := "java/lang/Integer", name := "compareTo", desc := "(Ljava/lang/Integer;)I" } : Jvm.MethodName)) ∈ lw_all := lw_g (lw_at lw_m4 178 rfl) rfl
theorem q983 : (Jvm.Cond.selects "java/lang/Integer" ({ cls := "java/lang/Integer", name := "compareTo", desc := "(Ljava/lang/Integer;)I" } : Jvm.MethodName) ({ cls := "java/lang/Integer", name := "compareTo", desc := "(Ljava/lang/Integer;)I" } : Jvm.MethodName)) ∈ lw_all := lw_g (lw_at lw_m4 179 rfl) rfl
theorem q984 : (Jvm.Cond.code ({ cls := "java/lang/Integer", name := "compareTo", desc := "(Ljava/lang/Integer;)I" } : Jvm.MethodName) prog_22_method_39_code (2 : Nat) (Option.some Jvm.ClassFile.FieldType.int)) ∈ lw_all := lw_g (lw_at lw_m4 180 rfl) rfl
theorem q985 : (Jvm.Cond.methodLink "java/lang/Integer" (259 : Nat) ({ cls := "java/lang/Integer", name := "compare", desc := "(II)I" } : Jvm.MethodName)) ∈ lw_all := lw_g (lw_at lw_m4 181 rfl) rfl
theorem q1090 : (Jvm.Cond.static ({ cls := "java/lang/Integer", name := "numberOfLeadingZeros", desc := "(I)I" } : Jvm.MethodName)) ∈ lw_all := lw_g (lw_at lw_m5 46 rfl) rfl
theorem q1091 : (Jvm.Cond.code ({ cls := "java/lang/Integer", name := "numberOfLeadingZeros", desc := "(I)I" } : Jvm.MethodName) prog_22_method_47_code (2 : Nat) (Option.some Jvm.ClassFile.FieldType.int)) ∈ lw_all := lw_g (lw_at lw_m5 47 rfl) rfl
theorem q1305 : (Jvm.Cond.static ({ cls := "java/lang/Integer", name := "valueOf", desc := "(I)Ljava/lang/Integer;" } : Jvm.MethodName)) ∈ lw_all := lw_g (lw_at lw_m6 21 rfl) rfl
theorem q1306 : (Jvm.Cond.code ({ cls := "java/lang/Integer", name := "valueOf", desc := "(I)Ljava/lang/Integer;" } : Jvm.MethodName) prog_22_method_22_code (1 : Nat) (Option.some (Jvm.ClassFile.FieldType.object "java/lang/Integer"))) ∈ lw_all := lw_g (lw_at lw_m6 22 rfl) rfl
theorem q1307 : (Jvm.Cond.fieldLink "java/lang/Integer" (191 : Nat) "java/lang/Integer$IntegerCache" "high" "I") ∈ lw_all := lw_g (lw_at lw_m6 23 rfl) rfl
theorem q1309 : (Jvm.Cond.fieldLink "java/lang/Integer" (195 : Nat) "java/lang/Integer$IntegerCache" "cache" "[Ljava/lang/Integer;") ∈ lw_all := lw_g (lw_at lw_m6 25 rfl) rfl
theorem q1311 : (Jvm.Cond.instantiable "java/lang/Integer" (1 : Nat)) ∈ lw_all := lw_g (lw_at lw_m6 27 rfl) rfl
theorem q1312 : (Jvm.Cond.methodLink "java/lang/Integer" (199 : Nat) ({ cls := "java/lang/Integer", name := "<init>", desc := "(I)V" } : Jvm.MethodName)) ∈ lw_all := lw_g (lw_at lw_m6 28 rfl) rfl
theorem q1313 : (Jvm.Cond.instanceMethod ({ cls := "java/lang/Integer", name := "<init>", desc := "(I)V" } : Jvm.MethodName)) ∈ lw_all := lw_g (lw_at lw_m6 29 rfl) rfl
theorem q1314 : (Jvm.Cond.code ({ cls := "java/lang/Integer", name := "<init>", desc := "(I)V" } : Jvm.MethodName) prog_22_method_23_code (2 : Nat) (Option.none : Option Jvm.ClassFile.FieldType)) ∈ lw_all := lw_g (lw_at lw_m6 30 rfl) rfl
theorem q1315 : (Jvm.Cond.methodLink "java/lang/Integer" (202 : Nat) ({ cls := "java/lang/Number", name := "<init>", desc := "()V" } : Jvm.MethodName)) ∈ lw_all := lw_g (lw_at lw_m6 31 rfl) rfl
theorem q1319 : (Jvm.Cond.fieldLink "java/lang/Integer" (205 : Nat) "java/lang/Integer" "value" "I") ∈ lw_all := lw_g (lw_at lw_m6 35 rfl) rfl
theorem q1320 : (Jvm.Cond.laysFinal "java/lang/Integer" "java/lang/Integer" "value" "I") ∈ lw_all := lw_g (lw_at lw_m6 36 rfl) rfl
theorem q1321 : (Jvm.Cond.soleField "java/lang/Integer" "value") ∈ lw_all := lw_g (lw_at lw_m6 37 rfl) rfl
theorem q1322 : (Jvm.Cond.superclass "java/lang/Integer" "java/lang/Number") ∈ lw_all := lw_g (lw_at lw_m6 38 rfl) rfl
theorem q1538 : (Jvm.Cond.instanceMethod ({ cls := "java/lang/Integer", name := "intValue", desc := "()I" } : Jvm.MethodName)) ∈ lw_all := lw_g (lw_at lw_m7 14 rfl) rfl
theorem q1539 : (Jvm.Cond.selects "java/lang/Integer" ({ cls := "java/lang/Integer", name := "intValue", desc := "()I" } : Jvm.MethodName) ({ cls := "java/lang/Integer", name := "intValue", desc := "()I" } : Jvm.MethodName)) ∈ lw_all := lw_g (lw_at lw_m7 15 rfl) rfl
theorem q1540 : (Jvm.Cond.code ({ cls := "java/lang/Integer", name := "intValue", desc := "()I" } : Jvm.MethodName) prog_22_method_27_code (1 : Nat) (Option.some Jvm.ClassFile.FieldType.int)) ∈ lw_all := lw_g (lw_at lw_m7 16 rfl) rfl
theorem q1663 : (Jvm.Cond.static ({ cls := "java/lang/Integer", name := "bitCount", desc := "(I)I" } : Jvm.MethodName)) ∈ lw_all := lw_g (lw_at lw_m7 139 rfl) rfl
theorem q1664 : (Jvm.Cond.code ({ cls := "java/lang/Integer", name := "bitCount", desc := "(I)I" } : Jvm.MethodName) prog_22_method_49_code (1 : Nat) (Option.some Jvm.ClassFile.FieldType.int)) ∈ lw_all := lw_g (lw_at lw_m7 140 rfl) rfl
theorem q1665 : (Jvm.Cond.constant "java/lang/Integer" (265 : Nat) (1431655765 : Int32)) ∈ lw_all := lw_g (lw_at lw_m7 141 rfl) rfl
theorem q1666 : (Jvm.Cond.constant "java/lang/Integer" (266 : Nat) (858993459 : Int32)) ∈ lw_all := lw_g (lw_at lw_m7 142 rfl) rfl
theorem q1667 : (Jvm.Cond.constant "java/lang/Integer" (267 : Nat) (252645135 : Int32)) ∈ lw_all := lw_g (lw_at lw_m7 143 rfl) rfl
theorem q2292 : (Jvm.Cond.castable "java/lang/Integer" "java/lang/Object") ∈ lw_tbl := lw_at lw_m10 48 rfl
theorem in_J11 : ∀ w ∈ wsJ110, w ∈ lw_all := lw_in wsJ110 [1320] (by decide +kernel) (by decide +kernel)
/-! java/lang/IllegalStateException -/
set_option maxRecDepth 100000
def RJ12 : String := "java/lang/IllegalStateException"
def TJ12 : u_T := fun k => match k with
  | 0 => ("java/lang/Throwable", "cause", "Ljava/lang/Throwable;", false)
  | 1 => ("java/lang/Throwable", "stackTrace", "[Ljava/lang/StackTraceElement;", false)
  | 2 => ("java/lang/Throwable", "suppressedExceptions", "Ljava/util/List;", false)
  | 3 => ("java/lang/Throwable", "detailMessage", "Ljava/lang/String;", false)
  | 4 => ("java/lang/Throwable", "backtrace", "Ljava/lang/Object;", false)
  | _ => ("java/lang/Throwable", "depth", "I", false)
def tyJ12 : Nat → FieldType := fun k => match k with
  | 0 => .object "java/lang/Throwable"
  | 1 => .array (.object "java/lang/StackTraceElement")
  | 2 => .object "java/util/List"
  | 3 => .object "java/lang/String"
  | 4 => .object "java/lang/Object"
  | _ => .int
abbrev wsJ120 : List Cond := u_ws RJ12 TJ12 6
theorem nmJ12 : ∀ a, a < 6 → ∀ b, b < 6 → a ≠ b → (TJ12 a).2.1 ≠ (TJ12 b).2.1 := by decide +kernel
theorem tyJ12_ok : ∀ k, k < 6 → parseFieldDescriptor (TJ12 k).2.2.1 = some (tyJ12 k) := by decide +kernel
abbrev cJ12_init : ByteArray := prog_20_method_1_code
def yJ12_init : MethodName := ⟨RJ12, "<init>", "()V"⟩
theorem dJ12_init_0 : decode cJ12_init 0 = .ok (.aload_n 0, 1) := by decide +kernel
theorem dJ12_init_1 : decode cJ12_init 1 = .ok (.invokespecial 1, 3) := by decide +kernel
theorem dJ12_init_4 : decode cJ12_init 4 = .ok (.return_, 1) := by decide +kernel
theorem q99 : (Jvm.Cond.initialized "java/lang/IllegalStateException") ∈ lw_all := lw_g (lw_at lw_m1 15 rfl) rfl
theorem q458 : (Jvm.Cond.selects "java/lang/IllegalStateException" ({ cls := "java/lang/Throwable", name := "fillInStackTrace", desc := "()Ljava/lang/Throwable;" } : Jvm.MethodName) ({ cls := "java/lang/Throwable", name := "fillInStackTrace", desc := "()Ljava/lang/Throwable;" } : Jvm.MethodName)) ∈ lw_all := lw_g (lw_at lw_m2 134 rfl) rfl
theorem q907 : (Jvm.Cond.selects "java/lang/IllegalStateException" ({ cls := "java/lang/Object", name := "getClass", desc := "()Ljava/lang/Class;" } : Jvm.MethodName) ({ cls := "java/lang/Object", name := "getClass", desc := "()Ljava/lang/Class;" } : Jvm.MethodName)) ∈ lw_all := lw_g (lw_at lw_m4 103 rfl) rfl
theorem q1702 : (Jvm.Cond.instantiable "java/lang/IllegalStateException" (6 : Nat)) ∈ lw_all := lw_g (lw_at lw_m7 178 rfl) rfl
theorem q1703 : (Jvm.Cond.castable "java/lang/IllegalStateException" "java/lang/IllegalStateException") ∈ lw_tbl := lw_at lw_m7 179 rfl
theorem q1704 : (Jvm.Cond.selects "java/lang/IllegalStateException" ({ cls := "java/lang/Throwable", name := "fillInStackTrace", desc := "(I)Ljava/lang/Throwable;" } : Jvm.MethodName) ({ cls := "java/lang/Throwable", name := "fillInStackTrace", desc := "(I)Ljava/lang/Throwable;" } : Jvm.MethodName)) ∈ lw_all := lw_g (lw_at lw_m7 180 rfl) rfl
theorem q1705 : (Jvm.Cond.lays "java/lang/IllegalStateException" "java/lang/Throwable" "cause" "Ljava/lang/Throwable;") ∈ lw_all := lw_g (lw_at lw_m7 181 rfl) rfl
theorem q1706 : (Jvm.Cond.lays "java/lang/IllegalStateException" "java/lang/Throwable" "stackTrace" "[Ljava/lang/StackTraceElement;") ∈ lw_all := lw_g (lw_at lw_m7 182 rfl) rfl
theorem q1707 : (Jvm.Cond.lays "java/lang/IllegalStateException" "java/lang/Throwable" "suppressedExceptions" "Ljava/util/List;") ∈ lw_all := lw_g (lw_at lw_m7 183 rfl) rfl
theorem q1708 : (Jvm.Cond.lays "java/lang/IllegalStateException" "java/lang/Throwable" "detailMessage" "Ljava/lang/String;") ∈ lw_all := lw_g (lw_at lw_m7 184 rfl) rfl
theorem q1709 : (Jvm.Cond.lays "java/lang/IllegalStateException" "java/lang/Throwable" "backtrace" "Ljava/lang/Object;") ∈ lw_all := lw_g (lw_at lw_m7 185 rfl) rfl
theorem q1711 : (Jvm.Cond.instanceMethod ({ cls := "java/lang/IllegalStateException", name := "<init>", desc := "()V" } : Jvm.MethodName)) ∈ lw_all := lw_g (lw_at lw_m7 187 rfl) rfl
theorem q1712 : (Jvm.Cond.code ({ cls := "java/lang/IllegalStateException", name := "<init>", desc := "()V" } : Jvm.MethodName) prog_20_method_1_code (1 : Nat) (Option.none : Option Jvm.ClassFile.FieldType)) ∈ lw_all := lw_g (lw_at lw_m7 188 rfl) rfl
theorem q1713 : (Jvm.Cond.methodLink "java/lang/IllegalStateException" (1 : Nat) ({ cls := "java/lang/RuntimeException", name := "<init>", desc := "()V" } : Jvm.MethodName)) ∈ lw_all := lw_g (lw_at lw_m7 189 rfl) rfl
theorem q1714 : (Jvm.Cond.lays "java/lang/IllegalStateException" "java/lang/Throwable" "depth" "I") ∈ lw_all := lw_g (lw_at lw_m7 190 rfl) rfl
theorem q1715 : (Jvm.Cond.superclass "java/lang/IllegalStateException" "java/lang/RuntimeException") ∈ lw_all := lw_g (lw_at lw_m7 191 rfl) rfl
theorem q2285 : (Jvm.Cond.castable "java/lang/IllegalStateException" "java/lang/Object") ∈ lw_tbl := lw_at lw_m10 41 rfl
theorem in_J12 : ∀ w ∈ wsJ120, w ∈ lw_all := lw_in wsJ120 [1705, 1706, 1707, 1708, 1709, 1714] (by decide +kernel) (by decide +kernel)
/-! jdk/internal/util/ArraysSupport -/
set_option maxRecDepth 100000
def RJ13 : String := "jdk/internal/util/ArraysSupport"
abbrev cJ13_newLength : ByteArray := prog_68_method_27_code
def yJ13_newLength : MethodName := ⟨RJ13, "newLength", "(III)I"⟩
def dkwJ13_newLength_1 : List UInt8 := [184, 0, 201, 172]
abbrev dktJ13_newLength_1 : List UInt8 := dkwJ13_newLength_1 ++ []
def dkwJ13_newLength_0 : List UInt8 := [26, 27, 28, 184, 0, 194, 96, 62, 3, 29, 162, 0, 11, 29, 18, 200, 163, 0, 5, 29, 172, 26, 27]
abbrev dktJ13_newLength_0 : List UInt8 := dkwJ13_newLength_0 ++ dktJ13_newLength_1
theorem dksJ13_newLength_0 : cJ13_newLength.data.toList.drop 0 = dktJ13_newLength_0 := by decide +kernel
theorem dksJ13_newLength_1 : cJ13_newLength.data.toList.drop 23 = dktJ13_newLength_1 := dk_seg dksJ13_newLength_0 23 rfl rfl
theorem dJ13_newLength_0 : decode cJ13_newLength 0 = .ok (.iload_n 0, 1) := dk_26 (dk_at dksJ13_newLength_0 0 rfl rfl)
theorem dJ13_newLength_1 : decode cJ13_newLength 1 = .ok (.iload_n 1, 1) := dk_27 (dk_at dksJ13_newLength_0 1 rfl rfl)
theorem dJ13_newLength_2 : decode cJ13_newLength 2 = .ok (.iload_n 2, 1) := dk_28 (dk_at dksJ13_newLength_0 2 rfl rfl)
theorem dJ13_newLength_3 : decode cJ13_newLength 3 = .ok (.invokestatic 194, 3) := dk_184 0 194 (dk_at dksJ13_newLength_0 3 rfl rfl)
theorem dJ13_newLength_6 : decode cJ13_newLength 6 = .ok (.iadd, 1) := dk_96 (dk_at dksJ13_newLength_0 6 rfl rfl)
theorem dJ13_newLength_7 : decode cJ13_newLength 7 = .ok (.istore_n 3, 1) := dk_62 (dk_at dksJ13_newLength_0 7 rfl rfl)
theorem dJ13_newLength_8 : decode cJ13_newLength 8 = .ok (.iconst 0, 1) := dk_3 (dk_at dksJ13_newLength_0 8 rfl rfl)
theorem dJ13_newLength_9 : decode cJ13_newLength 9 = .ok (.iload_n 3, 1) := dk_29 (dk_at dksJ13_newLength_0 9 rfl rfl)
theorem dJ13_newLength_10 : decode cJ13_newLength 10 = .ok (.if_icmp .ge 11, 3) := dk_162 0 11 (dk_at dksJ13_newLength_0 10 rfl rfl)
theorem dJ13_newLength_13 : decode cJ13_newLength 13 = .ok (.iload_n 3, 1) := dk_29 (dk_at dksJ13_newLength_0 13 rfl rfl)
theorem dJ13_newLength_14 : decode cJ13_newLength 14 = .ok (.ldc 200, 2) := dk_18 200 (dk_at dksJ13_newLength_0 14 rfl rfl)
theorem dJ13_newLength_16 : decode cJ13_newLength 16 = .ok (.if_icmp .gt 5, 3) := dk_163 0 5 (dk_at dksJ13_newLength_0 16 rfl rfl)
theorem dJ13_newLength_19 : decode cJ13_newLength 19 = .ok (.iload_n 3, 1) := dk_29 (dk_at dksJ13_newLength_0 19 rfl rfl)
theorem dJ13_newLength_20 : decode cJ13_newLength 20 = .ok (.ireturn, 1) := dk_172 (dk_at dksJ13_newLength_0 20 rfl rfl)
theorem dJ13_newLength_21 : decode cJ13_newLength 21 = .ok (.iload_n 0, 1) := dk_26 (dk_at dksJ13_newLength_0 21 rfl rfl)
theorem dJ13_newLength_22 : decode cJ13_newLength 22 = .ok (.iload_n 1, 1) := dk_27 (dk_at dksJ13_newLength_0 22 rfl rfl)
theorem dJ13_newLength_23 : decode cJ13_newLength 23 = .ok (.invokestatic 201, 3) := dk_184 0 201 (dk_at dksJ13_newLength_1 0 rfl rfl)
theorem dJ13_newLength_26 : decode cJ13_newLength 26 = .ok (.ireturn, 1) := dk_172 (dk_at dksJ13_newLength_1 3 rfl rfl)
abbrev cJ13_hugeLength : ByteArray := prog_68_method_28_code
def yJ13_hugeLength : MethodName := ⟨RJ13, "hugeLength", "(II)I"⟩
def dkwJ13_hugeLength_2 : List UInt8 := [191, 28, 18, 200, 163, 0, 6, 18, 200, 172, 28, 172]
abbrev dktJ13_hugeLength_2 : List UInt8 := dkwJ13_hugeLength_2 ++ []
def dkwJ13_hugeLength_1 : List UInt8 := [26, 182, 0, 98, 18, 208, 182, 0, 94, 27, 182, 0, 98, 18, 210, 182, 0, 94, 182, 0, 101, 183, 0, 212]
abbrev dktJ13_hugeLength_1 : List UInt8 := dkwJ13_hugeLength_1 ++ dktJ13_hugeLength_2
def dkwJ13_hugeLength_0 : List UInt8 := [26, 27, 96, 61, 28, 156, 0, 44, 187, 0, 204, 89, 187, 0, 89, 89, 183, 0, 91, 18, 206, 182, 0, 94]
abbrev dktJ13_hugeLength_0 : List UInt8 := dkwJ13_hugeLength_0 ++ dktJ13_hugeLength_1
theorem dksJ13_hugeLength_0 : cJ13_hugeLength.data.toList.drop 0 = dktJ13_hugeLength_0 := by decide +kernel
theorem dksJ13_hugeLength_1 : cJ13_hugeLength.data.toList.drop 24 = dktJ13_hugeLength_1 := dk_seg dksJ13_hugeLength_0 24 rfl rfl
theorem dksJ13_hugeLength_2 : cJ13_hugeLength.data.toList.drop 48 = dktJ13_hugeLength_2 := dk_seg dksJ13_hugeLength_1 24 rfl rfl
theorem dJ13_hugeLength_0 : decode cJ13_hugeLength 0 = .ok (.iload_n 0, 1) := dk_26 (dk_at dksJ13_hugeLength_0 0 rfl rfl)
theorem dJ13_hugeLength_1 : decode cJ13_hugeLength 1 = .ok (.iload_n 1, 1) := dk_27 (dk_at dksJ13_hugeLength_0 1 rfl rfl)
theorem dJ13_hugeLength_2 : decode cJ13_hugeLength 2 = .ok (.iadd, 1) := dk_96 (dk_at dksJ13_hugeLength_0 2 rfl rfl)
theorem dJ13_hugeLength_3 : decode cJ13_hugeLength 3 = .ok (.istore_n 2, 1) := dk_61 (dk_at dksJ13_hugeLength_0 3 rfl rfl)
theorem dJ13_hugeLength_4 : decode cJ13_hugeLength 4 = .ok (.iload_n 2, 1) := dk_28 (dk_at dksJ13_hugeLength_0 4 rfl rfl)
theorem dJ13_hugeLength_5 : decode cJ13_hugeLength 5 = .ok (.ifCond .ge 44, 3) := dk_156 0 44 (dk_at dksJ13_hugeLength_0 5 rfl rfl)
theorem dJ13_hugeLength_8 : decode cJ13_hugeLength 8 = .ok (.new 204, 3) := dk_187 0 204 (dk_at dksJ13_hugeLength_0 8 rfl rfl)
theorem dJ13_hugeLength_11 : decode cJ13_hugeLength 11 = .ok (.dup, 1) := dk_89 (dk_at dksJ13_hugeLength_0 11 rfl rfl)
theorem dJ13_hugeLength_12 : decode cJ13_hugeLength 12 = .ok (.new 89, 3) := dk_187 0 89 (dk_at dksJ13_hugeLength_0 12 rfl rfl)
theorem dJ13_hugeLength_15 : decode cJ13_hugeLength 15 = .ok (.dup, 1) := dk_89 (dk_at dksJ13_hugeLength_0 15 rfl rfl)
theorem dJ13_hugeLength_16 : decode cJ13_hugeLength 16 = .ok (.invokespecial 91, 3) := dk_183 0 91 (dk_at dksJ13_hugeLength_0 16 rfl rfl)
theorem dJ13_hugeLength_19 : decode cJ13_hugeLength 19 = .ok (.ldc 206, 2) := dk_18 206 (dk_at dksJ13_hugeLength_0 19 rfl rfl)
theorem dJ13_hugeLength_21 : decode cJ13_hugeLength 21 = .ok (.invokevirtual 94, 3) := dk_182 0 94 (dk_at dksJ13_hugeLength_0 21 rfl rfl)
theorem dJ13_hugeLength_24 : decode cJ13_hugeLength 24 = .ok (.iload_n 0, 1) := dk_26 (dk_at dksJ13_hugeLength_1 0 rfl rfl)
theorem dJ13_hugeLength_25 : decode cJ13_hugeLength 25 = .ok (.invokevirtual 98, 3) := dk_182 0 98 (dk_at dksJ13_hugeLength_1 1 rfl rfl)
theorem dJ13_hugeLength_28 : decode cJ13_hugeLength 28 = .ok (.ldc 208, 2) := dk_18 208 (dk_at dksJ13_hugeLength_1 4 rfl rfl)
theorem dJ13_hugeLength_30 : decode cJ13_hugeLength 30 = .ok (.invokevirtual 94, 3) := dk_182 0 94 (dk_at dksJ13_hugeLength_1 6 rfl rfl)
theorem dJ13_hugeLength_33 : decode cJ13_hugeLength 33 = .ok (.iload_n 1, 1) := dk_27 (dk_at dksJ13_hugeLength_1 9 rfl rfl)
theorem dJ13_hugeLength_34 : decode cJ13_hugeLength 34 = .ok (.invokevirtual 98, 3) := dk_182 0 98 (dk_at dksJ13_hugeLength_1 10 rfl rfl)
theorem dJ13_hugeLength_37 : decode cJ13_hugeLength 37 = .ok (.ldc 210, 2) := dk_18 210 (dk_at dksJ13_hugeLength_1 13 rfl rfl)
theorem dJ13_hugeLength_39 : decode cJ13_hugeLength 39 = .ok (.invokevirtual 94, 3) := dk_182 0 94 (dk_at dksJ13_hugeLength_1 15 rfl rfl)
theorem dJ13_hugeLength_42 : decode cJ13_hugeLength 42 = .ok (.invokevirtual 101, 3) := dk_182 0 101 (dk_at dksJ13_hugeLength_1 18 rfl rfl)
theorem dJ13_hugeLength_45 : decode cJ13_hugeLength 45 = .ok (.invokespecial 212, 3) := dk_183 0 212 (dk_at dksJ13_hugeLength_1 21 rfl rfl)
theorem dJ13_hugeLength_48 : decode cJ13_hugeLength 48 = .ok (.athrow, 1) := dk_191 (dk_at dksJ13_hugeLength_2 0 rfl rfl)
theorem dJ13_hugeLength_49 : decode cJ13_hugeLength 49 = .ok (.iload_n 2, 1) := dk_28 (dk_at dksJ13_hugeLength_2 1 rfl rfl)
theorem dJ13_hugeLength_50 : decode cJ13_hugeLength 50 = .ok (.ldc 200, 2) := dk_18 200 (dk_at dksJ13_hugeLength_2 2 rfl rfl)
theorem dJ13_hugeLength_52 : decode cJ13_hugeLength 52 = .ok (.if_icmp .gt 6, 3) := dk_163 0 6 (dk_at dksJ13_hugeLength_2 4 rfl rfl)
theorem dJ13_hugeLength_55 : decode cJ13_hugeLength 55 = .ok (.ldc 200, 2) := dk_18 200 (dk_at dksJ13_hugeLength_2 7 rfl rfl)
theorem dJ13_hugeLength_57 : decode cJ13_hugeLength 57 = .ok (.ireturn, 1) := dk_172 (dk_at dksJ13_hugeLength_2 9 rfl rfl)
theorem dJ13_hugeLength_58 : decode cJ13_hugeLength 58 = .ok (.iload_n 2, 1) := dk_28 (dk_at dksJ13_hugeLength_2 10 rfl rfl)
theorem dJ13_hugeLength_59 : decode cJ13_hugeLength 59 = .ok (.ireturn, 1) := dk_172 (dk_at dksJ13_hugeLength_2 11 rfl rfl)
abbrev cJ13_mismatch : ByteArray := prog_68_method_13_code
def yJ13_mismatch : MethodName := ⟨RJ13, "mismatch", "([B[BI)I"⟩
def dkwJ13_mismatch_3 : List UInt8 := [172]
abbrev dktJ13_mismatch_3 : List UInt8 := dkwJ13_mismatch_3 ++ []
def dkwJ13_mismatch_2 : List UInt8 := [62, 29, 28, 162, 0, 20, 42, 29, 51, 43, 29, 51, 159, 0, 5, 29, 172, 132, 3, 1, 167, 255, 237, 2]
abbrev dktJ13_mismatch_2 : List UInt8 := dkwJ13_mismatch_2 ++ dktJ13_mismatch_3
def dkwJ13_mismatch_1 : List UInt8 := [43, 178, 0, 126, 133, 28, 178, 0, 129, 184, 0, 122, 62, 29, 155, 0, 5, 29, 172, 28, 29, 2, 130, 100]
abbrev dktJ13_mismatch_1 : List UInt8 := dkwJ13_mismatch_1 ++ dktJ13_mismatch_2
def dkwJ13_mismatch_0 : List UInt8 := [3, 62, 28, 16, 7, 164, 0, 44, 42, 3, 51, 43, 3, 51, 159, 0, 5, 3, 172, 42, 178, 0, 126, 133]
abbrev dktJ13_mismatch_0 : List UInt8 := dkwJ13_mismatch_0 ++ dktJ13_mismatch_1
theorem dksJ13_mismatch_0 : cJ13_mismatch.data.toList.drop 0 = dktJ13_mismatch_0 := by decide +kernel
theorem dksJ13_mismatch_1 : cJ13_mismatch.data.toList.drop 24 = dktJ13_mismatch_1 := dk_seg dksJ13_mismatch_0 24 rfl rfl
theorem dksJ13_mismatch_2 : cJ13_mismatch.data.toList.drop 48 = dktJ13_mismatch_2 := dk_seg dksJ13_mismatch_1 24 rfl rfl
theorem dksJ13_mismatch_3 : cJ13_mismatch.data.toList.drop 72 = dktJ13_mismatch_3 := dk_seg dksJ13_mismatch_2 24 rfl rfl
theorem dJ13_mismatch_0 : decode cJ13_mismatch 0 = .ok (.iconst 0, 1) := dk_3 (dk_at dksJ13_mismatch_0 0 rfl rfl)
theorem dJ13_mismatch_1 : decode cJ13_mismatch 1 = .ok (.istore_n 3, 1) := dk_62 (dk_at dksJ13_mismatch_0 1 rfl rfl)
theorem dJ13_mismatch_2 : decode cJ13_mismatch 2 = .ok (.iload_n 2, 1) := dk_28 (dk_at dksJ13_mismatch_0 2 rfl rfl)
theorem dJ13_mismatch_3 : decode cJ13_mismatch 3 = .ok (.bipush 7, 2) := dk_16 7 (dk_at dksJ13_mismatch_0 3 rfl rfl)
theorem dJ13_mismatch_5 : decode cJ13_mismatch 5 = .ok (.if_icmp .le 44, 3) := dk_164 0 44 (dk_at dksJ13_mismatch_0 5 rfl rfl)
theorem dJ13_mismatch_8 : decode cJ13_mismatch 8 = .ok (.aload_n 0, 1) := dk_42 (dk_at dksJ13_mismatch_0 8 rfl rfl)
theorem dJ13_mismatch_9 : decode cJ13_mismatch 9 = .ok (.iconst 0, 1) := dk_3 (dk_at dksJ13_mismatch_0 9 rfl rfl)
theorem dJ13_mismatch_10 : decode cJ13_mismatch 10 = .ok (.baload, 1) := dk_51 (dk_at dksJ13_mismatch_0 10 rfl rfl)
theorem dJ13_mismatch_11 : decode cJ13_mismatch 11 = .ok (.aload_n 1, 1) := dk_43 (dk_at dksJ13_mismatch_0 11 rfl rfl)
theorem dJ13_mismatch_12 : decode cJ13_mismatch 12 = .ok (.iconst 0, 1) := dk_3 (dk_at dksJ13_mismatch_0 12 rfl rfl)
theorem dJ13_mismatch_13 : decode cJ13_mismatch 13 = .ok (.baload, 1) := dk_51 (dk_at dksJ13_mismatch_0 13 rfl rfl)
theorem dJ13_mismatch_14 : decode cJ13_mismatch 14 = .ok (.if_icmp .eq 5, 3) := dk_159 0 5 (dk_at dksJ13_mismatch_0 14 rfl rfl)
theorem dJ13_mismatch_17 : decode cJ13_mismatch 17 = .ok (.iconst 0, 1) := dk_3 (dk_at dksJ13_mismatch_0 17 rfl rfl)
theorem dJ13_mismatch_18 : decode cJ13_mismatch 18 = .ok (.ireturn, 1) := dk_172 (dk_at dksJ13_mismatch_0 18 rfl rfl)
theorem dJ13_mismatch_19 : decode cJ13_mismatch 19 = .ok (.aload_n 0, 1) := dk_42 (dk_at dksJ13_mismatch_0 19 rfl rfl)
theorem dJ13_mismatch_20 : decode cJ13_mismatch 20 = .ok (.getstatic 126, 3) := dk_178 0 126 (dk_at dksJ13_mismatch_0 20 rfl rfl)
theorem dJ13_mismatch_23 : decode cJ13_mismatch 23 = .ok (.i2l, 1) := dk_133 (dk_at dksJ13_mismatch_0 23 rfl rfl)
theorem dJ13_mismatch_24 : decode cJ13_mismatch 24 = .ok (.aload_n 1, 1) := dk_43 (dk_at dksJ13_mismatch_1 0 rfl rfl)
theorem dJ13_mismatch_25 : decode cJ13_mismatch 25 = .ok (.getstatic 126, 3) := dk_178 0 126 (dk_at dksJ13_mismatch_1 1 rfl rfl)
theorem dJ13_mismatch_28 : decode cJ13_mismatch 28 = .ok (.i2l, 1) := dk_133 (dk_at dksJ13_mismatch_1 4 rfl rfl)
theorem dJ13_mismatch_29 : decode cJ13_mismatch 29 = .ok (.iload_n 2, 1) := dk_28 (dk_at dksJ13_mismatch_1 5 rfl rfl)
theorem dJ13_mismatch_30 : decode cJ13_mismatch 30 = .ok (.getstatic 129, 3) := dk_178 0 129 (dk_at dksJ13_mismatch_1 6 rfl rfl)
theorem dJ13_mismatch_33 : decode cJ13_mismatch 33 = .ok (.invokestatic 122, 3) := dk_184 0 122 (dk_at dksJ13_mismatch_1 9 rfl rfl)
theorem dJ13_mismatch_36 : decode cJ13_mismatch 36 = .ok (.istore_n 3, 1) := dk_62 (dk_at dksJ13_mismatch_1 12 rfl rfl)
theorem dJ13_mismatch_37 : decode cJ13_mismatch 37 = .ok (.iload_n 3, 1) := dk_29 (dk_at dksJ13_mismatch_1 13 rfl rfl)
theorem dJ13_mismatch_38 : decode cJ13_mismatch 38 = .ok (.ifCond .lt 5, 3) := dk_155 0 5 (dk_at dksJ13_mismatch_1 14 rfl rfl)
theorem dJ13_mismatch_41 : decode cJ13_mismatch 41 = .ok (.iload_n 3, 1) := dk_29 (dk_at dksJ13_mismatch_1 17 rfl rfl)
theorem dJ13_mismatch_42 : decode cJ13_mismatch 42 = .ok (.ireturn, 1) := dk_172 (dk_at dksJ13_mismatch_1 18 rfl rfl)
theorem dJ13_mismatch_43 : decode cJ13_mismatch 43 = .ok (.iload_n 2, 1) := dk_28 (dk_at dksJ13_mismatch_1 19 rfl rfl)
theorem dJ13_mismatch_44 : decode cJ13_mismatch 44 = .ok (.iload_n 3, 1) := dk_29 (dk_at dksJ13_mismatch_1 20 rfl rfl)
theorem dJ13_mismatch_45 : decode cJ13_mismatch 45 = .ok (.iconst (-1), 1) := dk_2 (dk_at dksJ13_mismatch_1 21 rfl rfl)
theorem dJ13_mismatch_46 : decode cJ13_mismatch 46 = .ok (.ixor, 1) := dk_130 (dk_at dksJ13_mismatch_1 22 rfl rfl)
theorem dJ13_mismatch_47 : decode cJ13_mismatch 47 = .ok (.isub, 1) := dk_100 (dk_at dksJ13_mismatch_1 23 rfl rfl)
theorem dJ13_mismatch_48 : decode cJ13_mismatch 48 = .ok (.istore_n 3, 1) := dk_62 (dk_at dksJ13_mismatch_2 0 rfl rfl)
theorem dJ13_mismatch_49 : decode cJ13_mismatch 49 = .ok (.iload_n 3, 1) := dk_29 (dk_at dksJ13_mismatch_2 1 rfl rfl)
theorem dJ13_mismatch_50 : decode cJ13_mismatch 50 = .ok (.iload_n 2, 1) := dk_28 (dk_at dksJ13_mismatch_2 2 rfl rfl)
theorem dJ13_mismatch_51 : decode cJ13_mismatch 51 = .ok (.if_icmp .ge 20, 3) := dk_162 0 20 (dk_at dksJ13_mismatch_2 3 rfl rfl)
theorem dJ13_mismatch_54 : decode cJ13_mismatch 54 = .ok (.aload_n 0, 1) := dk_42 (dk_at dksJ13_mismatch_2 6 rfl rfl)
theorem dJ13_mismatch_55 : decode cJ13_mismatch 55 = .ok (.iload_n 3, 1) := dk_29 (dk_at dksJ13_mismatch_2 7 rfl rfl)
theorem dJ13_mismatch_56 : decode cJ13_mismatch 56 = .ok (.baload, 1) := dk_51 (dk_at dksJ13_mismatch_2 8 rfl rfl)
theorem dJ13_mismatch_57 : decode cJ13_mismatch 57 = .ok (.aload_n 1, 1) := dk_43 (dk_at dksJ13_mismatch_2 9 rfl rfl)
theorem dJ13_mismatch_58 : decode cJ13_mismatch 58 = .ok (.iload_n 3, 1) := dk_29 (dk_at dksJ13_mismatch_2 10 rfl rfl)
theorem dJ13_mismatch_59 : decode cJ13_mismatch 59 = .ok (.baload, 1) := dk_51 (dk_at dksJ13_mismatch_2 11 rfl rfl)
theorem dJ13_mismatch_60 : decode cJ13_mismatch 60 = .ok (.if_icmp .eq 5, 3) := dk_159 0 5 (dk_at dksJ13_mismatch_2 12 rfl rfl)
theorem dJ13_mismatch_63 : decode cJ13_mismatch 63 = .ok (.iload_n 3, 1) := dk_29 (dk_at dksJ13_mismatch_2 15 rfl rfl)
theorem dJ13_mismatch_64 : decode cJ13_mismatch 64 = .ok (.ireturn, 1) := dk_172 (dk_at dksJ13_mismatch_2 16 rfl rfl)
theorem dJ13_mismatch_65 : decode cJ13_mismatch 65 = .ok (.iinc 3 1, 3) := dk_132 3 1 (dk_at dksJ13_mismatch_2 17 rfl rfl)
theorem dJ13_mismatch_68 : decode cJ13_mismatch 68 = .ok (.goto (-19), 3) := dk_167 255 237 (dk_at dksJ13_mismatch_2 20 rfl rfl)
theorem dJ13_mismatch_71 : decode cJ13_mismatch 71 = .ok (.iconst (-1), 1) := dk_2 (dk_at dksJ13_mismatch_2 23 rfl rfl)
theorem dJ13_mismatch_72 : decode cJ13_mismatch 72 = .ok (.ireturn, 1) := dk_172 (dk_at dksJ13_mismatch_3 0 rfl rfl)
abbrev cJ13_vectorizedMismatch : ByteArray := prog_68_method_3_code
def yJ13_vectorizedMismatch : MethodName := ⟨RJ13, "vectorizedMismatch", "(Ljava/lang/Object;JLjava/lang/Object;JII)I"⟩
def dkwJ13_vectorizedMismatch_11 : List UInt8 := [54, 10, 21, 10, 2, 130, 172, 21, 10, 2, 130, 172]
abbrev dktJ13_vectorizedMismatch_11 : List UInt8 := dkwJ13_vectorizedMismatch_11 ++ []
def dkwJ13_vectorizedMismatch_10 : List UInt8 := [178, 0, 46, 21, 7, 96, 122, 54, 17, 21, 9, 21, 8, 120, 21, 17, 96, 172, 21, 10, 21, 11, 100]
abbrev dktJ13_vectorizedMismatch_10 : List UInt8 := dkwJ13_vectorizedMismatch_10 ++ dktJ13_vectorizedMismatch_11
def dkwJ13_vectorizedMismatch_9 : List UInt8 := [153, 0, 18, 21, 16, 184, 0, 58, 178, 0, 46, 21, 7, 96, 122, 167, 0, 15, 21, 16, 184, 0, 11]
abbrev dktJ13_vectorizedMismatch_9 : List UInt8 := dkwJ13_vectorizedMismatch_9 ++ dktJ13_vectorizedMismatch_10
def dkwJ13_vectorizedMismatch_8 : List UInt8 := [182, 0, 54, 54, 15, 21, 14, 21, 15, 159, 0, 54, 21, 14, 21, 15, 130, 54, 16, 178, 0, 36]
abbrev dktJ13_vectorizedMismatch_8 : List UInt8 := dkwJ13_vectorizedMismatch_8 ++ dktJ13_vectorizedMismatch_9
def dkwJ13_vectorizedMismatch_7 : List UInt8 := [55, 12, 178, 0, 26, 42, 31, 22, 12, 97, 182, 0, 54, 54, 14, 178, 0, 26, 45, 22, 4, 22, 12, 97]
abbrev dktJ13_vectorizedMismatch_7 : List UInt8 := dkwJ13_vectorizedMismatch_7 ++ dktJ13_vectorizedMismatch_8
def dkwJ13_vectorizedMismatch_6 : List UInt8 := [4, 178, 0, 51, 21, 7, 100, 120, 54, 11, 21, 10, 21, 11, 161, 0, 104, 21, 9, 133, 178, 0, 20, 121]
abbrev dktJ13_vectorizedMismatch_6 : List UInt8 := dkwJ13_vectorizedMismatch_6 ++ dktJ13_vectorizedMismatch_7
def dkwJ13_vectorizedMismatch_5 : List UInt8 := [132, 9, 1, 167, 255, 148, 21, 6, 21, 9, 21, 8, 120, 100, 54, 10, 21, 7, 178, 0, 51, 162, 0, 126]
abbrev dktJ13_vectorizedMismatch_5 : List UInt8 := dkwJ13_vectorizedMismatch_5 ++ dktJ13_vectorizedMismatch_6
def dkwJ13_vectorizedMismatch_4 : List UInt8 := [22, 16, 184, 0, 49, 178, 0, 46, 21, 7, 96, 122, 54, 18, 21, 9, 21, 8, 120, 21, 18, 96, 172]
abbrev dktJ13_vectorizedMismatch_4 : List UInt8 := dkwJ13_vectorizedMismatch_4 ++ dktJ13_vectorizedMismatch_5
def dkwJ13_vectorizedMismatch_3 : List UInt8 := [55, 16, 178, 0, 36, 153, 0, 18, 22, 16, 184, 0, 40, 178, 0, 46, 21, 7, 96, 122, 167, 0, 15]
abbrev dktJ13_vectorizedMismatch_3 : List UInt8 := dkwJ13_vectorizedMismatch_3 ++ dktJ13_vectorizedMismatch_4
def dkwJ13_vectorizedMismatch_2 : List UInt8 := [22, 4, 22, 10, 97, 182, 0, 30, 55, 14, 22, 12, 22, 14, 148, 153, 0, 54, 22, 12, 22, 14, 131]
abbrev dktJ13_vectorizedMismatch_2 : List UInt8 := dkwJ13_vectorizedMismatch_2 ++ dktJ13_vectorizedMismatch_3
def dkwJ13_vectorizedMismatch_1 : List UInt8 := [178, 0, 20, 121, 55, 10, 178, 0, 26, 42, 31, 22, 10, 97, 182, 0, 30, 55, 12, 178, 0, 26, 45]
abbrev dktJ13_vectorizedMismatch_1 : List UInt8 := dkwJ13_vectorizedMismatch_1 ++ dktJ13_vectorizedMismatch_2
def dkwJ13_vectorizedMismatch_0 : List UInt8 := [178, 0, 20, 21, 7, 100, 54, 8, 3, 54, 9, 21, 9, 21, 6, 21, 8, 122, 162, 0, 104, 21, 9, 133]
abbrev dktJ13_vectorizedMismatch_0 : List UInt8 := dkwJ13_vectorizedMismatch_0 ++ dktJ13_vectorizedMismatch_1
theorem dksJ13_vectorizedMismatch_0 : cJ13_vectorizedMismatch.data.toList.drop 0 = dktJ13_vectorizedMismatch_0 := by decide +kernel
theorem dksJ13_vectorizedMismatch_1 : cJ13_vectorizedMismatch.data.toList.drop 24 = dktJ13_vectorizedMismatch_1 := dk_seg dksJ13_vectorizedMismatch_0 24 rfl rfl
theorem dksJ13_vectorizedMismatch_2 : cJ13_vectorizedMismatch.data.toList.drop 47 = dktJ13_vectorizedMismatch_2 := dk_seg dksJ13_vectorizedMismatch_1 23 rfl rfl
theorem dksJ13_vectorizedMismatch_3 : cJ13_vectorizedMismatch.data.toList.drop 70 = dktJ13_vectorizedMismatch_3 := dk_seg dksJ13_vectorizedMismatch_2 23 rfl rfl
theorem dksJ13_vectorizedMismatch_4 : cJ13_vectorizedMismatch.data.toList.drop 93 = dktJ13_vectorizedMismatch_4 := dk_seg dksJ13_vectorizedMismatch_3 23 rfl rfl
theorem dksJ13_vectorizedMismatch_5 : cJ13_vectorizedMismatch.data.toList.drop 116 = dktJ13_vectorizedMismatch_5 := dk_seg dksJ13_vectorizedMismatch_4 23 rfl rfl
theorem dksJ13_vectorizedMismatch_6 : cJ13_vectorizedMismatch.data.toList.drop 140 = dktJ13_vectorizedMismatch_6 := dk_seg dksJ13_vectorizedMismatch_5 24 rfl rfl
theorem dksJ13_vectorizedMismatch_7 : cJ13_vectorizedMismatch.data.toList.drop 164 = dktJ13_vectorizedMismatch_7 := dk_seg dksJ13_vectorizedMismatch_6 24 rfl rfl
theorem dksJ13_vectorizedMismatch_8 : cJ13_vectorizedMismatch.data.toList.drop 188 = dktJ13_vectorizedMismatch_8 := dk_seg dksJ13_vectorizedMismatch_7 24 rfl rfl
theorem dksJ13_vectorizedMismatch_9 : cJ13_vectorizedMismatch.data.toList.drop 210 = dktJ13_vectorizedMismatch_9 := dk_seg dksJ13_vectorizedMismatch_8 22 rfl rfl
theorem dksJ13_vectorizedMismatch_10 : cJ13_vectorizedMismatch.data.toList.drop 233 = dktJ13_vectorizedMismatch_10 := dk_seg dksJ13_vectorizedMismatch_9 23 rfl rfl
theorem dksJ13_vectorizedMismatch_11 : cJ13_vectorizedMismatch.data.toList.drop 256 = dktJ13_vectorizedMismatch_11 := dk_seg dksJ13_vectorizedMismatch_10 23 rfl rfl
theorem dJ13_vectorizedMismatch_0 : decode cJ13_vectorizedMismatch 0 = .ok (.getstatic 20, 3) := dk_178 0 20 (dk_at dksJ13_vectorizedMismatch_0 0 rfl rfl)
theorem dJ13_vectorizedMismatch_3 : decode cJ13_vectorizedMismatch 3 = .ok (.iload 7, 2) := dk_21 7 (dk_at dksJ13_vectorizedMismatch_0 3 rfl rfl)
theorem dJ13_vectorizedMismatch_5 : decode cJ13_vectorizedMismatch 5 = .ok (.isub, 1) := dk_100 (dk_at dksJ13_vectorizedMismatch_0 5 rfl rfl)
theorem dJ13_vectorizedMismatch_6 : decode cJ13_vectorizedMismatch 6 = .ok (.istore 8, 2) := dk_54 8 (dk_at dksJ13_vectorizedMismatch_0 6 rfl rfl)
theorem dJ13_vectorizedMismatch_8 : decode cJ13_vectorizedMismatch 8 = .ok (.iconst 0, 1) := dk_3 (dk_at dksJ13_vectorizedMismatch_0 8 rfl rfl)
theorem dJ13_vectorizedMismatch_9 : decode cJ13_vectorizedMismatch 9 = .ok (.istore 9, 2) := dk_54 9 (dk_at dksJ13_vectorizedMismatch_0 9 rfl rfl)
theorem dJ13_vectorizedMismatch_11 : decode cJ13_vectorizedMismatch 11 = .ok (.iload 9, 2) := dk_21 9 (dk_at dksJ13_vectorizedMismatch_0 11 rfl rfl)
theorem dJ13_vectorizedMismatch_13 : decode cJ13_vectorizedMismatch 13 = .ok (.iload 6, 2) := dk_21 6 (dk_at dksJ13_vectorizedMismatch_0 13 rfl rfl)
theorem dJ13_vectorizedMismatch_15 : decode cJ13_vectorizedMismatch 15 = .ok (.iload 8, 2) := dk_21 8 (dk_at dksJ13_vectorizedMismatch_0 15 rfl rfl)
theorem dJ13_vectorizedMismatch_17 : decode cJ13_vectorizedMismatch 17 = .ok (.ishr, 1) := dk_122 (dk_at dksJ13_vectorizedMismatch_0 17 rfl rfl)
theorem dJ13_vectorizedMismatch_18 : decode cJ13_vectorizedMismatch 18 = .ok (.if_icmp .ge 104, 3) := dk_162 0 104 (dk_at dksJ13_vectorizedMismatch_0 18 rfl rfl)
theorem dJ13_vectorizedMismatch_21 : decode cJ13_vectorizedMismatch 21 = .ok (.iload 9, 2) := dk_21 9 (dk_at dksJ13_vectorizedMismatch_0 21 rfl rfl)
theorem dJ13_vectorizedMismatch_23 : decode cJ13_vectorizedMismatch 23 = .ok (.i2l, 1) := dk_133 (dk_at dksJ13_vectorizedMismatch_0 23 rfl rfl)
theorem dJ13_vectorizedMismatch_24 : decode cJ13_vectorizedMismatch 24 = .ok (.getstatic 20, 3) := dk_178 0 20 (dk_at dksJ13_vectorizedMismatch_1 0 rfl rfl)
theorem dJ13_vectorizedMismatch_27 : decode cJ13_vectorizedMismatch 27 = .ok (.lshl, 1) := dk_121 (dk_at dksJ13_vectorizedMismatch_1 3 rfl rfl)
theorem dJ13_vectorizedMismatch_28 : decode cJ13_vectorizedMismatch 28 = .ok (.lstore 10, 2) := dk_55 10 (dk_at dksJ13_vectorizedMismatch_1 4 rfl rfl)
theorem dJ13_vectorizedMismatch_30 : decode cJ13_vectorizedMismatch 30 = .ok (.getstatic 26, 3) := dk_178 0 26 (dk_at dksJ13_vectorizedMismatch_1 6 rfl rfl)
theorem dJ13_vectorizedMismatch_33 : decode cJ13_vectorizedMismatch 33 = .ok (.aload_n 0, 1) := dk_42 (dk_at dksJ13_vectorizedMismatch_1 9 rfl rfl)
theorem dJ13_vectorizedMismatch_34 : decode cJ13_vectorizedMismatch 34 = .ok (.lload_n 1, 1) := dk_31 (dk_at dksJ13_vectorizedMismatch_1 10 rfl rfl)
theorem dJ13_vectorizedMismatch_35 : decode cJ13_vectorizedMismatch 35 = .ok (.lload 10, 2) := dk_22 10 (dk_at dksJ13_vectorizedMismatch_1 11 rfl rfl)
theorem dJ13_vectorizedMismatch_37 : decode cJ13_vectorizedMismatch 37 = .ok (.ladd, 1) := dk_97 (dk_at dksJ13_vectorizedMismatch_1 13 rfl rfl)
theorem dJ13_vectorizedMismatch_38 : decode cJ13_vectorizedMismatch 38 = .ok (.invokevirtual 30, 3) := dk_182 0 30 (dk_at dksJ13_vectorizedMismatch_1 14 rfl rfl)
theorem dJ13_vectorizedMismatch_41 : decode cJ13_vectorizedMismatch 41 = .ok (.lstore 12, 2) := dk_55 12 (dk_at dksJ13_vectorizedMismatch_1 17 rfl rfl)
theorem dJ13_vectorizedMismatch_43 : decode cJ13_vectorizedMismatch 43 = .ok (.getstatic 26, 3) := dk_178 0 26 (dk_at dksJ13_vectorizedMismatch_1 19 rfl rfl)
theorem dJ13_vectorizedMismatch_46 : decode cJ13_vectorizedMismatch 46 = .ok (.aload_n 3, 1) := dk_45 (dk_at dksJ13_vectorizedMismatch_1 22 rfl rfl)
theorem dJ13_vectorizedMismatch_47 : decode cJ13_vectorizedMismatch 47 = .ok (.lload 4, 2) := dk_22 4 (dk_at dksJ13_vectorizedMismatch_2 0 rfl rfl)
theorem dJ13_vectorizedMismatch_49 : decode cJ13_vectorizedMismatch 49 = .ok (.lload 10, 2) := dk_22 10 (dk_at dksJ13_vectorizedMismatch_2 2 rfl rfl)
theorem dJ13_vectorizedMismatch_51 : decode cJ13_vectorizedMismatch 51 = .ok (.ladd, 1) := dk_97 (dk_at dksJ13_vectorizedMismatch_2 4 rfl rfl)
theorem dJ13_vectorizedMismatch_52 : decode cJ13_vectorizedMismatch 52 = .ok (.invokevirtual 30, 3) := dk_182 0 30 (dk_at dksJ13_vectorizedMismatch_2 5 rfl rfl)
theorem dJ13_vectorizedMismatch_55 : decode cJ13_vectorizedMismatch 55 = .ok (.lstore 14, 2) := dk_55 14 (dk_at dksJ13_vectorizedMismatch_2 8 rfl rfl)
theorem dJ13_vectorizedMismatch_57 : decode cJ13_vectorizedMismatch 57 = .ok (.lload 12, 2) := dk_22 12 (dk_at dksJ13_vectorizedMismatch_2 10 rfl rfl)
theorem dJ13_vectorizedMismatch_59 : decode cJ13_vectorizedMismatch 59 = .ok (.lload 14, 2) := dk_22 14 (dk_at dksJ13_vectorizedMismatch_2 12 rfl rfl)
theorem dJ13_vectorizedMismatch_61 : decode cJ13_vectorizedMismatch 61 = .ok (.lcmp, 1) := dk_148 (dk_at dksJ13_vectorizedMismatch_2 14 rfl rfl)
theorem dJ13_vectorizedMismatch_62 : decode cJ13_vectorizedMismatch 62 = .ok (.ifCond .eq 54, 3) := dk_153 0 54 (dk_at dksJ13_vectorizedMismatch_2 15 rfl rfl)
theorem dJ13_vectorizedMismatch_65 : decode cJ13_vectorizedMismatch 65 = .ok (.lload 12, 2) := dk_22 12 (dk_at dksJ13_vectorizedMismatch_2 18 rfl rfl)
theorem dJ13_vectorizedMismatch_67 : decode cJ13_vectorizedMismatch 67 = .ok (.lload 14, 2) := dk_22 14 (dk_at dksJ13_vectorizedMismatch_2 20 rfl rfl)
theorem dJ13_vectorizedMismatch_69 : decode cJ13_vectorizedMismatch 69 = .ok (.lxor, 1) := dk_131 (dk_at dksJ13_vectorizedMismatch_2 22 rfl rfl)
theorem dJ13_vectorizedMismatch_70 : decode cJ13_vectorizedMismatch 70 = .ok (.lstore 16, 2) := dk_55 16 (dk_at dksJ13_vectorizedMismatch_3 0 rfl rfl)
theorem dJ13_vectorizedMismatch_72 : decode cJ13_vectorizedMismatch 72 = .ok (.getstatic 36, 3) := dk_178 0 36 (dk_at dksJ13_vectorizedMismatch_3 2 rfl rfl)
theorem dJ13_vectorizedMismatch_75 : decode cJ13_vectorizedMismatch 75 = .ok (.ifCond .eq 18, 3) := dk_153 0 18 (dk_at dksJ13_vectorizedMismatch_3 5 rfl rfl)
theorem dJ13_vectorizedMismatch_78 : decode cJ13_vectorizedMismatch 78 = .ok (.lload 16, 2) := dk_22 16 (dk_at dksJ13_vectorizedMismatch_3 8 rfl rfl)
theorem dJ13_vectorizedMismatch_80 : decode cJ13_vectorizedMismatch 80 = .ok (.invokestatic 40, 3) := dk_184 0 40 (dk_at dksJ13_vectorizedMismatch_3 10 rfl rfl)
theorem dJ13_vectorizedMismatch_83 : decode cJ13_vectorizedMismatch 83 = .ok (.getstatic 46, 3) := dk_178 0 46 (dk_at dksJ13_vectorizedMismatch_3 13 rfl rfl)
theorem dJ13_vectorizedMismatch_86 : decode cJ13_vectorizedMismatch 86 = .ok (.iload 7, 2) := dk_21 7 (dk_at dksJ13_vectorizedMismatch_3 16 rfl rfl)
theorem dJ13_vectorizedMismatch_88 : decode cJ13_vectorizedMismatch 88 = .ok (.iadd, 1) := dk_96 (dk_at dksJ13_vectorizedMismatch_3 18 rfl rfl)
theorem dJ13_vectorizedMismatch_89 : decode cJ13_vectorizedMismatch 89 = .ok (.ishr, 1) := dk_122 (dk_at dksJ13_vectorizedMismatch_3 19 rfl rfl)
theorem dJ13_vectorizedMismatch_90 : decode cJ13_vectorizedMismatch 90 = .ok (.goto 15, 3) := dk_167 0 15 (dk_at dksJ13_vectorizedMismatch_3 20 rfl rfl)
theorem dJ13_vectorizedMismatch_93 : decode cJ13_vectorizedMismatch 93 = .ok (.lload 16, 2) := dk_22 16 (dk_at dksJ13_vectorizedMismatch_4 0 rfl rfl)
theorem dJ13_vectorizedMismatch_95 : decode cJ13_vectorizedMismatch 95 = .ok (.invokestatic 49, 3) := dk_184 0 49 (dk_at dksJ13_vectorizedMismatch_4 2 rfl rfl)
theorem dJ13_vectorizedMismatch_98 : decode cJ13_vectorizedMismatch 98 = .ok (.getstatic 46, 3) := dk_178 0 46 (dk_at dksJ13_vectorizedMismatch_4 5 rfl rfl)
theorem dJ13_vectorizedMismatch_101 : decode cJ13_vectorizedMismatch 101 = .ok (.iload 7, 2) := dk_21 7 (dk_at dksJ13_vectorizedMismatch_4 8 rfl rfl)
theorem dJ13_vectorizedMismatch_103 : decode cJ13_vectorizedMismatch 103 = .ok (.iadd, 1) := dk_96 (dk_at dksJ13_vectorizedMismatch_4 10 rfl rfl)
theorem dJ13_vectorizedMismatch_104 : decode cJ13_vectorizedMismatch 104 = .ok (.ishr, 1) := dk_122 (dk_at dksJ13_vectorizedMismatch_4 11 rfl rfl)
theorem dJ13_vectorizedMismatch_105 : decode cJ13_vectorizedMismatch 105 = .ok (.istore 18, 2) := dk_54 18 (dk_at dksJ13_vectorizedMismatch_4 12 rfl rfl)
theorem dJ13_vectorizedMismatch_107 : decode cJ13_vectorizedMismatch 107 = .ok (.iload 9, 2) := dk_21 9 (dk_at dksJ13_vectorizedMismatch_4 14 rfl rfl)
theorem dJ13_vectorizedMismatch_109 : decode cJ13_vectorizedMismatch 109 = .ok (.iload 8, 2) := dk_21 8 (dk_at dksJ13_vectorizedMismatch_4 16 rfl rfl)
theorem dJ13_vectorizedMismatch_111 : decode cJ13_vectorizedMismatch 111 = .ok (.ishl, 1) := dk_120 (dk_at dksJ13_vectorizedMismatch_4 18 rfl rfl)
theorem dJ13_vectorizedMismatch_112 : decode cJ13_vectorizedMismatch 112 = .ok (.iload 18, 2) := dk_21 18 (dk_at dksJ13_vectorizedMismatch_4 19 rfl rfl)
theorem dJ13_vectorizedMismatch_114 : decode cJ13_vectorizedMismatch 114 = .ok (.iadd, 1) := dk_96 (dk_at dksJ13_vectorizedMismatch_4 21 rfl rfl)
theorem dJ13_vectorizedMismatch_115 : decode cJ13_vectorizedMismatch 115 = .ok (.ireturn, 1) := dk_172 (dk_at dksJ13_vectorizedMismatch_4 22 rfl rfl)
theorem dJ13_vectorizedMismatch_116 : decode cJ13_vectorizedMismatch 116 = .ok (.iinc 9 1, 3) := dk_132 9 1 (dk_at dksJ13_vectorizedMismatch_5 0 rfl rfl)
theorem dJ13_vectorizedMismatch_119 : decode cJ13_vectorizedMismatch 119 = .ok (.goto (-108), 3) := dk_167 255 148 (dk_at dksJ13_vectorizedMismatch_5 3 rfl rfl)
theorem dJ13_vectorizedMismatch_122 : decode cJ13_vectorizedMismatch 122 = .ok (.iload 6, 2) := dk_21 6 (dk_at dksJ13_vectorizedMismatch_5 6 rfl rfl)
theorem dJ13_vectorizedMismatch_124 : decode cJ13_vectorizedMismatch 124 = .ok (.iload 9, 2) := dk_21 9 (dk_at dksJ13_vectorizedMismatch_5 8 rfl rfl)
theorem dJ13_vectorizedMismatch_126 : decode cJ13_vectorizedMismatch 126 = .ok (.iload 8, 2) := dk_21 8 (dk_at dksJ13_vectorizedMismatch_5 10 rfl rfl)
theorem dJ13_vectorizedMismatch_128 : decode cJ13_vectorizedMismatch 128 = .ok (.ishl, 1) := dk_120 (dk_at dksJ13_vectorizedMismatch_5 12 rfl rfl)
theorem dJ13_vectorizedMismatch_129 : decode cJ13_vectorizedMismatch 129 = .ok (.isub, 1) := dk_100 (dk_at dksJ13_vectorizedMismatch_5 13 rfl rfl)
theorem dJ13_vectorizedMismatch_130 : decode cJ13_vectorizedMismatch 130 = .ok (.istore 10, 2) := dk_54 10 (dk_at dksJ13_vectorizedMismatch_5 14 rfl rfl)
theorem dJ13_vectorizedMismatch_132 : decode cJ13_vectorizedMismatch 132 = .ok (.iload 7, 2) := dk_21 7 (dk_at dksJ13_vectorizedMismatch_5 16 rfl rfl)
theorem dJ13_vectorizedMismatch_134 : decode cJ13_vectorizedMismatch 134 = .ok (.getstatic 51, 3) := dk_178 0 51 (dk_at dksJ13_vectorizedMismatch_5 18 rfl rfl)
theorem dJ13_vectorizedMismatch_137 : decode cJ13_vectorizedMismatch 137 = .ok (.if_icmp .ge 126, 3) := dk_162 0 126 (dk_at dksJ13_vectorizedMismatch_5 21 rfl rfl)
theorem dJ13_vectorizedMismatch_140 : decode cJ13_vectorizedMismatch 140 = .ok (.iconst 1, 1) := dk_4 (dk_at dksJ13_vectorizedMismatch_6 0 rfl rfl)
theorem dJ13_vectorizedMismatch_141 : decode cJ13_vectorizedMismatch 141 = .ok (.getstatic 51, 3) := dk_178 0 51 (dk_at dksJ13_vectorizedMismatch_6 1 rfl rfl)
theorem dJ13_vectorizedMismatch_144 : decode cJ13_vectorizedMismatch 144 = .ok (.iload 7, 2) := dk_21 7 (dk_at dksJ13_vectorizedMismatch_6 4 rfl rfl)
theorem dJ13_vectorizedMismatch_146 : decode cJ13_vectorizedMismatch 146 = .ok (.isub, 1) := dk_100 (dk_at dksJ13_vectorizedMismatch_6 6 rfl rfl)
theorem dJ13_vectorizedMismatch_147 : decode cJ13_vectorizedMismatch 147 = .ok (.ishl, 1) := dk_120 (dk_at dksJ13_vectorizedMismatch_6 7 rfl rfl)
theorem dJ13_vectorizedMismatch_148 : decode cJ13_vectorizedMismatch 148 = .ok (.istore 11, 2) := dk_54 11 (dk_at dksJ13_vectorizedMismatch_6 8 rfl rfl)
theorem dJ13_vectorizedMismatch_150 : decode cJ13_vectorizedMismatch 150 = .ok (.iload 10, 2) := dk_21 10 (dk_at dksJ13_vectorizedMismatch_6 10 rfl rfl)
theorem dJ13_vectorizedMismatch_152 : decode cJ13_vectorizedMismatch 152 = .ok (.iload 11, 2) := dk_21 11 (dk_at dksJ13_vectorizedMismatch_6 12 rfl rfl)
theorem dJ13_vectorizedMismatch_154 : decode cJ13_vectorizedMismatch 154 = .ok (.if_icmp .lt 104, 3) := dk_161 0 104 (dk_at dksJ13_vectorizedMismatch_6 14 rfl rfl)
theorem dJ13_vectorizedMismatch_157 : decode cJ13_vectorizedMismatch 157 = .ok (.iload 9, 2) := dk_21 9 (dk_at dksJ13_vectorizedMismatch_6 17 rfl rfl)
theorem dJ13_vectorizedMismatch_159 : decode cJ13_vectorizedMismatch 159 = .ok (.i2l, 1) := dk_133 (dk_at dksJ13_vectorizedMismatch_6 19 rfl rfl)
theorem dJ13_vectorizedMismatch_160 : decode cJ13_vectorizedMismatch 160 = .ok (.getstatic 20, 3) := dk_178 0 20 (dk_at dksJ13_vectorizedMismatch_6 20 rfl rfl)
theorem dJ13_vectorizedMismatch_163 : decode cJ13_vectorizedMismatch 163 = .ok (.lshl, 1) := dk_121 (dk_at dksJ13_vectorizedMismatch_6 23 rfl rfl)
theorem dJ13_vectorizedMismatch_164 : decode cJ13_vectorizedMismatch 164 = .ok (.lstore 12, 2) := dk_55 12 (dk_at dksJ13_vectorizedMismatch_7 0 rfl rfl)
theorem dJ13_vectorizedMismatch_166 : decode cJ13_vectorizedMismatch 166 = .ok (.getstatic 26, 3) := dk_178 0 26 (dk_at dksJ13_vectorizedMismatch_7 2 rfl rfl)
theorem dJ13_vectorizedMismatch_169 : decode cJ13_vectorizedMismatch 169 = .ok (.aload_n 0, 1) := dk_42 (dk_at dksJ13_vectorizedMismatch_7 5 rfl rfl)
theorem dJ13_vectorizedMismatch_170 : decode cJ13_vectorizedMismatch 170 = .ok (.lload_n 1, 1) := dk_31 (dk_at dksJ13_vectorizedMismatch_7 6 rfl rfl)
theorem dJ13_vectorizedMismatch_171 : decode cJ13_vectorizedMismatch 171 = .ok (.lload 12, 2) := dk_22 12 (dk_at dksJ13_vectorizedMismatch_7 7 rfl rfl)
theorem dJ13_vectorizedMismatch_173 : decode cJ13_vectorizedMismatch 173 = .ok (.ladd, 1) := dk_97 (dk_at dksJ13_vectorizedMismatch_7 9 rfl rfl)
theorem dJ13_vectorizedMismatch_174 : decode cJ13_vectorizedMismatch 174 = .ok (.invokevirtual 54, 3) := dk_182 0 54 (dk_at dksJ13_vectorizedMismatch_7 10 rfl rfl)
theorem dJ13_vectorizedMismatch_177 : decode cJ13_vectorizedMismatch 177 = .ok (.istore 14, 2) := dk_54 14 (dk_at dksJ13_vectorizedMismatch_7 13 rfl rfl)
theorem dJ13_vectorizedMismatch_179 : decode cJ13_vectorizedMismatch 179 = .ok (.getstatic 26, 3) := dk_178 0 26 (dk_at dksJ13_vectorizedMismatch_7 15 rfl rfl)
theorem dJ13_vectorizedMismatch_182 : decode cJ13_vectorizedMismatch 182 = .ok (.aload_n 3, 1) := dk_45 (dk_at dksJ13_vectorizedMismatch_7 18 rfl rfl)
theorem dJ13_vectorizedMismatch_183 : decode cJ13_vectorizedMismatch 183 = .ok (.lload 4, 2) := dk_22 4 (dk_at dksJ13_vectorizedMismatch_7 19 rfl rfl)
theorem dJ13_vectorizedMismatch_185 : decode cJ13_vectorizedMismatch 185 = .ok (.lload 12, 2) := dk_22 12 (dk_at dksJ13_vectorizedMismatch_7 21 rfl rfl)
theorem dJ13_vectorizedMismatch_187 : decode cJ13_vectorizedMismatch 187 = .ok (.ladd, 1) := dk_97 (dk_at dksJ13_vectorizedMismatch_7 23 rfl rfl)
theorem dJ13_vectorizedMismatch_188 : decode cJ13_vectorizedMismatch 188 = .ok (.invokevirtual 54, 3) := dk_182 0 54 (dk_at dksJ13_vectorizedMismatch_8 0 rfl rfl)
theorem dJ13_vectorizedMismatch_191 : decode cJ13_vectorizedMismatch 191 = .ok (.istore 15, 2) := dk_54 15 (dk_at dksJ13_vectorizedMismatch_8 3 rfl rfl)
theorem dJ13_vectorizedMismatch_193 : decode cJ13_vectorizedMismatch 193 = .ok (.iload 14, 2) := dk_21 14 (dk_at dksJ13_vectorizedMismatch_8 5 rfl rfl)
theorem dJ13_vectorizedMismatch_195 : decode cJ13_vectorizedMismatch 195 = .ok (.iload 15, 2) := dk_21 15 (dk_at dksJ13_vectorizedMismatch_8 7 rfl rfl)
theorem dJ13_vectorizedMismatch_197 : decode cJ13_vectorizedMismatch 197 = .ok (.if_icmp .eq 54, 3) := dk_159 0 54 (dk_at dksJ13_vectorizedMismatch_8 9 rfl rfl)
theorem dJ13_vectorizedMismatch_200 : decode cJ13_vectorizedMismatch 200 = .ok (.iload 14, 2) := dk_21 14 (dk_at dksJ13_vectorizedMismatch_8 12 rfl rfl)
theorem dJ13_vectorizedMismatch_202 : decode cJ13_vectorizedMismatch 202 = .ok (.iload 15, 2) := dk_21 15 (dk_at dksJ13_vectorizedMismatch_8 14 rfl rfl)
theorem dJ13_vectorizedMismatch_204 : decode cJ13_vectorizedMismatch 204 = .ok (.ixor, 1) := dk_130 (dk_at dksJ13_vectorizedMismatch_8 16 rfl rfl)
theorem dJ13_vectorizedMismatch_205 : decode cJ13_vectorizedMismatch 205 = .ok (.istore 16, 2) := dk_54 16 (dk_at dksJ13_vectorizedMismatch_8 17 rfl rfl)
theorem dJ13_vectorizedMismatch_207 : decode cJ13_vectorizedMismatch 207 = .ok (.getstatic 36, 3) := dk_178 0 36 (dk_at dksJ13_vectorizedMismatch_8 19 rfl rfl)
theorem dJ13_vectorizedMismatch_210 : decode cJ13_vectorizedMismatch 210 = .ok (.ifCond .eq 18, 3) := dk_153 0 18 (dk_at dksJ13_vectorizedMismatch_9 0 rfl rfl)
theorem dJ13_vectorizedMismatch_213 : decode cJ13_vectorizedMismatch 213 = .ok (.iload 16, 2) := dk_21 16 (dk_at dksJ13_vectorizedMismatch_9 3 rfl rfl)
theorem dJ13_vectorizedMismatch_215 : decode cJ13_vectorizedMismatch 215 = .ok (.invokestatic 58, 3) := dk_184 0 58 (dk_at dksJ13_vectorizedMismatch_9 5 rfl rfl)
theorem dJ13_vectorizedMismatch_218 : decode cJ13_vectorizedMismatch 218 = .ok (.getstatic 46, 3) := dk_178 0 46 (dk_at dksJ13_vectorizedMismatch_9 8 rfl rfl)
theorem dJ13_vectorizedMismatch_221 : decode cJ13_vectorizedMismatch 221 = .ok (.iload 7, 2) := dk_21 7 (dk_at dksJ13_vectorizedMismatch_9 11 rfl rfl)
theorem dJ13_vectorizedMismatch_223 : decode cJ13_vectorizedMismatch 223 = .ok (.iadd, 1) := dk_96 (dk_at dksJ13_vectorizedMismatch_9 13 rfl rfl)
theorem dJ13_vectorizedMismatch_224 : decode cJ13_vectorizedMismatch 224 = .ok (.ishr, 1) := dk_122 (dk_at dksJ13_vectorizedMismatch_9 14 rfl rfl)
theorem dJ13_vectorizedMismatch_225 : decode cJ13_vectorizedMismatch 225 = .ok (.goto 15, 3) := dk_167 0 15 (dk_at dksJ13_vectorizedMismatch_9 15 rfl rfl)
theorem dJ13_vectorizedMismatch_228 : decode cJ13_vectorizedMismatch 228 = .ok (.iload 16, 2) := dk_21 16 (dk_at dksJ13_vectorizedMismatch_9 18 rfl rfl)
theorem dJ13_vectorizedMismatch_230 : decode cJ13_vectorizedMismatch 230 = .ok (.invokestatic 11, 3) := dk_184 0 11 (dk_at dksJ13_vectorizedMismatch_9 20 rfl rfl)
theorem dJ13_vectorizedMismatch_233 : decode cJ13_vectorizedMismatch 233 = .ok (.getstatic 46, 3) := dk_178 0 46 (dk_at dksJ13_vectorizedMismatch_10 0 rfl rfl)
theorem dJ13_vectorizedMismatch_236 : decode cJ13_vectorizedMismatch 236 = .ok (.iload 7, 2) := dk_21 7 (dk_at dksJ13_vectorizedMismatch_10 3 rfl rfl)
theorem dJ13_vectorizedMismatch_238 : decode cJ13_vectorizedMismatch 238 = .ok (.iadd, 1) := dk_96 (dk_at dksJ13_vectorizedMismatch_10 5 rfl rfl)
theorem dJ13_vectorizedMismatch_239 : decode cJ13_vectorizedMismatch 239 = .ok (.ishr, 1) := dk_122 (dk_at dksJ13_vectorizedMismatch_10 6 rfl rfl)
theorem dJ13_vectorizedMismatch_240 : decode cJ13_vectorizedMismatch 240 = .ok (.istore 17, 2) := dk_54 17 (dk_at dksJ13_vectorizedMismatch_10 7 rfl rfl)
theorem dJ13_vectorizedMismatch_242 : decode cJ13_vectorizedMismatch 242 = .ok (.iload 9, 2) := dk_21 9 (dk_at dksJ13_vectorizedMismatch_10 9 rfl rfl)
theorem dJ13_vectorizedMismatch_244 : decode cJ13_vectorizedMismatch 244 = .ok (.iload 8, 2) := dk_21 8 (dk_at dksJ13_vectorizedMismatch_10 11 rfl rfl)
theorem dJ13_vectorizedMismatch_246 : decode cJ13_vectorizedMismatch 246 = .ok (.ishl, 1) := dk_120 (dk_at dksJ13_vectorizedMismatch_10 13 rfl rfl)
theorem dJ13_vectorizedMismatch_247 : decode cJ13_vectorizedMismatch 247 = .ok (.iload 17, 2) := dk_21 17 (dk_at dksJ13_vectorizedMismatch_10 14 rfl rfl)
theorem dJ13_vectorizedMismatch_249 : decode cJ13_vectorizedMismatch 249 = .ok (.iadd, 1) := dk_96 (dk_at dksJ13_vectorizedMismatch_10 16 rfl rfl)
theorem dJ13_vectorizedMismatch_250 : decode cJ13_vectorizedMismatch 250 = .ok (.ireturn, 1) := dk_172 (dk_at dksJ13_vectorizedMismatch_10 17 rfl rfl)
theorem dJ13_vectorizedMismatch_251 : decode cJ13_vectorizedMismatch 251 = .ok (.iload 10, 2) := dk_21 10 (dk_at dksJ13_vectorizedMismatch_10 18 rfl rfl)
theorem dJ13_vectorizedMismatch_253 : decode cJ13_vectorizedMismatch 253 = .ok (.iload 11, 2) := dk_21 11 (dk_at dksJ13_vectorizedMismatch_10 20 rfl rfl)
theorem dJ13_vectorizedMismatch_255 : decode cJ13_vectorizedMismatch 255 = .ok (.isub, 1) := dk_100 (dk_at dksJ13_vectorizedMismatch_10 22 rfl rfl)
theorem dJ13_vectorizedMismatch_256 : decode cJ13_vectorizedMismatch 256 = .ok (.istore 10, 2) := dk_54 10 (dk_at dksJ13_vectorizedMismatch_11 0 rfl rfl)
theorem dJ13_vectorizedMismatch_258 : decode cJ13_vectorizedMismatch 258 = .ok (.iload 10, 2) := dk_21 10 (dk_at dksJ13_vectorizedMismatch_11 2 rfl rfl)
theorem dJ13_vectorizedMismatch_260 : decode cJ13_vectorizedMismatch 260 = .ok (.iconst (-1), 1) := dk_2 (dk_at dksJ13_vectorizedMismatch_11 4 rfl rfl)
theorem dJ13_vectorizedMismatch_261 : decode cJ13_vectorizedMismatch 261 = .ok (.ixor, 1) := dk_130 (dk_at dksJ13_vectorizedMismatch_11 5 rfl rfl)
theorem dJ13_vectorizedMismatch_262 : decode cJ13_vectorizedMismatch 262 = .ok (.ireturn, 1) := dk_172 (dk_at dksJ13_vectorizedMismatch_11 6 rfl rfl)
theorem dJ13_vectorizedMismatch_263 : decode cJ13_vectorizedMismatch 263 = .ok (.iload 10, 2) := dk_21 10 (dk_at dksJ13_vectorizedMismatch_11 7 rfl rfl)
theorem dJ13_vectorizedMismatch_265 : decode cJ13_vectorizedMismatch 265 = .ok (.iconst (-1), 1) := dk_2 (dk_at dksJ13_vectorizedMismatch_11 9 rfl rfl)
theorem dJ13_vectorizedMismatch_266 : decode cJ13_vectorizedMismatch 266 = .ok (.ixor, 1) := dk_130 (dk_at dksJ13_vectorizedMismatch_11 10 rfl rfl)
theorem dJ13_vectorizedMismatch_267 : decode cJ13_vectorizedMismatch 267 = .ok (.ireturn, 1) := dk_172 (dk_at dksJ13_vectorizedMismatch_11 11 rfl rfl)
theorem q101 : (Jvm.Cond.initialized "jdk/internal/util/ArraysSupport") ∈ lw_all := lw_g (lw_at lw_m1 17 rfl) rfl
theorem q270 : (Jvm.Cond.static ({ cls := "jdk/internal/util/ArraysSupport", name := "newLength", desc := "(III)I" } : Jvm.MethodName)) ∈ lw_all := lw_g (lw_at lw_m1 186 rfl) rfl
theorem q271 : (Jvm.Cond.code ({ cls := "jdk/internal/util/ArraysSupport", name := "newLength", desc := "(III)I" } : Jvm.MethodName) prog_68_method_27_code (4 : Nat) (Option.some Jvm.ClassFile.FieldType.int)) ∈ lw_all := lw_g (lw_at lw_m1 187 rfl) rfl
theorem q272 : (Jvm.Cond.methodLink "jdk/internal/util/ArraysSupport" (194 : Nat) ({ cls := "java/lang/Math", name := "max", desc := "(II)I" } : Jvm.MethodName)) ∈ lw_all := lw_g (lw_at lw_m1 188 rfl) rfl
theorem q275 : (Jvm.Cond.constant "jdk/internal/util/ArraysSupport" (200 : Nat) (2147483639 : Int32)) ∈ lw_all := lw_g (lw_at lw_m1 191 rfl) rfl
theorem q276 : (Jvm.Cond.methodLink "jdk/internal/util/ArraysSupport" (201 : Nat) ({ cls := "jdk/internal/util/ArraysSupport", name := "hugeLength", desc := "(II)I" } : Jvm.MethodName)) ∈ lw_all := lw_g (lw_at lw_m1 192 rfl) rfl
theorem q277 : (Jvm.Cond.static ({ cls := "jdk/internal/util/ArraysSupport", name := "hugeLength", desc := "(II)I" } : Jvm.MethodName)) ∈ lw_all := lw_g (lw_at lw_m1 193 rfl) rfl
theorem q278 : (Jvm.Cond.code ({ cls := "jdk/internal/util/ArraysSupport", name := "hugeLength", desc := "(II)I" } : Jvm.MethodName) prog_68_method_28_code (3 : Nat) (Option.some Jvm.ClassFile.FieldType.int)) ∈ lw_all := lw_g (lw_at lw_m1 194 rfl) rfl
theorem q1019 : (Jvm.Cond.static ({ cls := "jdk/internal/util/ArraysSupport", name := "mismatch", desc := "([B[BI)I" } : Jvm.MethodName)) ∈ lw_all := lw_g (lw_at lw_m4 215 rfl) rfl
theorem q1020 : (Jvm.Cond.code ({ cls := "jdk/internal/util/ArraysSupport", name := "mismatch", desc := "([B[BI)I" } : Jvm.MethodName) prog_68_method_13_code (4 : Nat) (Option.some Jvm.ClassFile.FieldType.int)) ∈ lw_all := lw_g (lw_at lw_m4 216 rfl) rfl
theorem q1021 : (Jvm.Cond.fieldLink "jdk/internal/util/ArraysSupport" (126 : Nat) "jdk/internal/misc/Unsafe" "ARRAY_BYTE_BASE_OFFSET" "I") ∈ lw_all := lw_g (lw_at lw_m4 217 rfl) rfl
theorem q1023 : (Jvm.Cond.fieldLink "jdk/internal/util/ArraysSupport" (129 : Nat) "jdk/internal/util/ArraysSupport" "LOG2_ARRAY_BYTE_INDEX_SCALE" "I") ∈ lw_all := lw_g (lw_at lw_m4 219 rfl) rfl
theorem q1024 : (Jvm.Cond.laysStatic "jdk/internal/util/ArraysSupport" "LOG2_ARRAY_BYTE_INDEX_SCALE" "I") ∈ lw_tbl := lw_at lw_m4 220 rfl
theorem q1025 : (Jvm.Cond.methodLink "jdk/internal/util/ArraysSupport" (122 : Nat) ({ cls := "jdk/internal/util/ArraysSupport", name := "vectorizedMismatch", desc := "(Ljava/lang/Object;JLjava/lang/Object;JII)I" } : Jvm.MethodName)) ∈ lw_all := lw_g (lw_at lw_m4 221 rfl) rfl
theorem q1026 : (Jvm.Cond.static ({ cls := "jdk/internal/util/ArraysSupport", name := "vectorizedMismatch", desc := "(Ljava/lang/Object;JLjava/lang/Object;JII)I" } : Jvm.MethodName)) ∈ lw_all := lw_g (lw_at lw_m4 222 rfl) rfl
theorem q1027 : (Jvm.Cond.code ({ cls := "jdk/internal/util/ArraysSupport", name := "vectorizedMismatch", desc := "(Ljava/lang/Object;JLjava/lang/Object;JII)I" } : Jvm.MethodName) prog_68_method_3_code (19 : Nat) (Option.some Jvm.ClassFile.FieldType.int)) ∈ lw_all := lw_g (lw_at lw_m4 223 rfl) rfl
theorem q1028 : (Jvm.Cond.fieldLink "jdk/internal/util/ArraysSupport" (20 : Nat) "jdk/internal/util/ArraysSupport" "LOG2_ARRAY_LONG_INDEX_SCALE" "I") ∈ lw_all := lw_g (lw_at lw_m4 224 rfl) rfl
theorem q1029 : (Jvm.Cond.laysStatic "jdk/internal/util/ArraysSupport" "LOG2_ARRAY_LONG_INDEX_SCALE" "I") ∈ lw_tbl := lw_at lw_m4 225 rfl
theorem q1030 : (Jvm.Cond.fieldLink "jdk/internal/util/ArraysSupport" (26 : Nat) "jdk/internal/util/ArraysSupport" "U" "Ljdk/internal/misc/Unsafe;") ∈ lw_all := lw_g (lw_at lw_m4 226 rfl) rfl
theorem q1031 : (Jvm.Cond.laysStatic "jdk/internal/util/ArraysSupport" "U" "Ljdk/internal/misc/Unsafe;") ∈ lw_tbl := lw_at lw_m4 227 rfl
theorem q1032 : (Jvm.Cond.methodLink "jdk/internal/util/ArraysSupport" (30 : Nat) ({ cls := "jdk/internal/misc/Unsafe", name := "getLongUnaligned", desc := "(Ljava/lang/Object;J)J" } : Jvm.MethodName)) ∈ lw_all := lw_g (lw_at lw_m4 228 rfl) rfl
theorem q1084 : (Jvm.Cond.fieldLink "jdk/internal/util/ArraysSupport" (36 : Nat) "jdk/internal/util/ArraysSupport" "BIG_ENDIAN" "Z") ∈ lw_all := lw_g (lw_at lw_m5 40 rfl) rfl
theorem q1085 : (Jvm.Cond.laysStatic "jdk/internal/util/ArraysSupport" "BIG_ENDIAN" "Z") ∈ lw_tbl := lw_at lw_m5 41 rfl
theorem q1086 : (Jvm.Cond.methodLink "jdk/internal/util/ArraysSupport" (40 : Nat) ({ cls := "java/lang/Long", name := "numberOfLeadingZeros", desc := "(J)I" } : Jvm.MethodName)) ∈ lw_all := lw_g (lw_at lw_m5 42 rfl) rfl
theorem q1092 : (Jvm.Cond.fieldLink "jdk/internal/util/ArraysSupport" (46 : Nat) "jdk/internal/util/ArraysSupport" "LOG2_BYTE_BIT_SIZE" "I") ∈ lw_all := lw_g (lw_at lw_m5 48 rfl) rfl
theorem q1093 : (Jvm.Cond.laysStatic "jdk/internal/util/ArraysSupport" "LOG2_BYTE_BIT_SIZE" "I") ∈ lw_tbl := lw_at lw_m5 49 rfl
theorem q1094 : (Jvm.Cond.methodLink "jdk/internal/util/ArraysSupport" (49 : Nat) ({ cls := "java/lang/Long", name := "numberOfTrailingZeros", desc := "(J)I" } : Jvm.MethodName)) ∈ lw_all := lw_g (lw_at lw_m5 50 rfl) rfl
theorem q1098 : (Jvm.Cond.fieldLink "jdk/internal/util/ArraysSupport" (51 : Nat) "jdk/internal/util/ArraysSupport" "LOG2_ARRAY_INT_INDEX_SCALE" "I") ∈ lw_all := lw_g (lw_at lw_m5 54 rfl) rfl
theorem q1099 : (Jvm.Cond.laysStatic "jdk/internal/util/ArraysSupport" "LOG2_ARRAY_INT_INDEX_SCALE" "I") ∈ lw_tbl := lw_at lw_m5 55 rfl
theorem q1100 : (Jvm.Cond.methodLink "jdk/internal/util/ArraysSupport" (54 : Nat) ({ cls := "jdk/internal/misc/Unsafe", name := "getIntUnaligned", desc := "(Ljava/lang/Object;J)I" } : Jvm.MethodName)) ∈ lw_all := lw_g (lw_at lw_m5 56 rfl) rfl
theorem q1117 : (Jvm.Cond.methodLink "jdk/internal/util/ArraysSupport" (58 : Nat) ({ cls := "java/lang/Integer", name := "numberOfLeadingZeros", desc := "(I)I" } : Jvm.MethodName)) ∈ lw_all := lw_g (lw_at lw_m5 73 rfl) rfl
theorem q1118 : (Jvm.Cond.methodLink "jdk/internal/util/ArraysSupport" (11 : Nat) ({ cls := "java/lang/Integer", name := "numberOfTrailingZeros", desc := "(I)I" } : Jvm.MethodName)) ∈ lw_all := lw_g (lw_at lw_m5 74 rfl) rfl
/-! java/lang/Math -/
set_option maxRecDepth 100000
def RJ14 : String := "java/lang/Math"
abbrev cJ14_max : ByteArray := prog_27_method_65_code
def yJ14_max : MethodName := ⟨RJ14, "max", "(II)I"⟩
def dkwJ14_max_0 : List UInt8 := [26, 27, 161, 0, 7, 26, 167, 0, 4, 27, 172]
abbrev dktJ14_max_0 : List UInt8 := dkwJ14_max_0 ++ []
theorem dksJ14_max_0 : cJ14_max.data.toList.drop 0 = dktJ14_max_0 := by decide +kernel
theorem dJ14_max_0 : decode cJ14_max 0 = .ok (.iload_n 0, 1) := dk_26 (dk_at dksJ14_max_0 0 rfl rfl)
theorem dJ14_max_1 : decode cJ14_max 1 = .ok (.iload_n 1, 1) := dk_27 (dk_at dksJ14_max_0 1 rfl rfl)
theorem dJ14_max_2 : decode cJ14_max 2 = .ok (.if_icmp .lt 7, 3) := dk_161 0 7 (dk_at dksJ14_max_0 2 rfl rfl)
theorem dJ14_max_5 : decode cJ14_max 5 = .ok (.iload_n 0, 1) := dk_26 (dk_at dksJ14_max_0 5 rfl rfl)
theorem dJ14_max_6 : decode cJ14_max 6 = .ok (.goto 4, 3) := dk_167 0 4 (dk_at dksJ14_max_0 6 rfl rfl)
theorem dJ14_max_9 : decode cJ14_max 9 = .ok (.iload_n 1, 1) := dk_27 (dk_at dksJ14_max_0 9 rfl rfl)
theorem dJ14_max_10 : decode cJ14_max 10 = .ok (.ireturn, 1) := dk_172 (dk_at dksJ14_max_0 10 rfl rfl)
abbrev cJ14_min : ByteArray := prog_27_method_69_code
def yJ14_min : MethodName := ⟨RJ14, "min", "(II)I"⟩
def dkwJ14_min_0 : List UInt8 := [26, 27, 163, 0, 7, 26, 167, 0, 4, 27, 172]
abbrev dktJ14_min_0 : List UInt8 := dkwJ14_min_0 ++ []
theorem dksJ14_min_0 : cJ14_min.data.toList.drop 0 = dktJ14_min_0 := by decide +kernel
theorem dJ14_min_0 : decode cJ14_min 0 = .ok (.iload_n 0, 1) := dk_26 (dk_at dksJ14_min_0 0 rfl rfl)
theorem dJ14_min_1 : decode cJ14_min 1 = .ok (.iload_n 1, 1) := dk_27 (dk_at dksJ14_min_0 1 rfl rfl)
theorem dJ14_min_2 : decode cJ14_min 2 = .ok (.if_icmp .gt 7, 3) := dk_163 0 7 (dk_at dksJ14_min_0 2 rfl rfl)
theorem dJ14_min_5 : decode cJ14_min 5 = .ok (.iload_n 0, 1) := dk_26 (dk_at dksJ14_min_0 5 rfl rfl)
theorem dJ14_min_6 : decode cJ14_min 6 = .ok (.goto 4, 3) := dk_167 0 4 (dk_at dksJ14_min_0 6 rfl rfl)
theorem dJ14_min_9 : decode cJ14_min 9 = .ok (.iload_n 1, 1) := dk_27 (dk_at dksJ14_min_0 9 rfl rfl)
theorem dJ14_min_10 : decode cJ14_min 10 = .ok (.ireturn, 1) := dk_172 (dk_at dksJ14_min_0 10 rfl rfl)
abbrev cJ14_abs : ByteArray := prog_27_method_61_code
def yJ14_abs : MethodName := ⟨RJ14, "abs", "(J)J"⟩
def dkwJ14_abs_0 : List UInt8 := [30, 9, 148, 156, 0, 8, 30, 117, 167, 0, 4, 30, 173]
abbrev dktJ14_abs_0 : List UInt8 := dkwJ14_abs_0 ++ []
theorem dksJ14_abs_0 : cJ14_abs.data.toList.drop 0 = dktJ14_abs_0 := by decide +kernel
theorem dJ14_abs_0 : decode cJ14_abs 0 = .ok (.lload_n 0, 1) := dk_30 (dk_at dksJ14_abs_0 0 rfl rfl)
theorem dJ14_abs_1 : decode cJ14_abs 1 = .ok (.lconst 0, 1) := dk_9 (dk_at dksJ14_abs_0 1 rfl rfl)
theorem dJ14_abs_2 : decode cJ14_abs 2 = .ok (.lcmp, 1) := dk_148 (dk_at dksJ14_abs_0 2 rfl rfl)
theorem dJ14_abs_3 : decode cJ14_abs 3 = .ok (.ifCond .ge 8, 3) := dk_156 0 8 (dk_at dksJ14_abs_0 3 rfl rfl)
theorem dJ14_abs_6 : decode cJ14_abs 6 = .ok (.lload_n 0, 1) := dk_30 (dk_at dksJ14_abs_0 6 rfl rfl)
theorem dJ14_abs_7 : decode cJ14_abs 7 = .ok (.lneg, 1) := dk_117 (dk_at dksJ14_abs_0 7 rfl rfl)
theorem dJ14_abs_8 : decode cJ14_abs 8 = .ok (.goto 4, 3) := dk_167 0 4 (dk_at dksJ14_abs_0 8 rfl rfl)
theorem dJ14_abs_11 : decode cJ14_abs 11 = .ok (.lload_n 0, 1) := dk_30 (dk_at dksJ14_abs_0 11 rfl rfl)
theorem dJ14_abs_12 : decode cJ14_abs 12 = .ok (.lreturn, 1) := dk_173 (dk_at dksJ14_abs_0 12 rfl rfl)
abbrev cJ14_floorDiv : ByteArray := prog_27_method_49_code
def yJ14_floorDiv : MethodName := ⟨RJ14, "floorDiv", "(JJ)J"⟩
def dkwJ14_floorDiv_1 : List UInt8 := [10, 101, 173, 22, 4, 173]
abbrev dktJ14_floorDiv_1 : List UInt8 := dkwJ14_floorDiv_1 ++ []
def dkwJ14_floorDiv_0 : List UInt8 := [30, 32, 109, 55, 4, 30, 32, 131, 9, 148, 156, 0, 17, 22, 4, 32, 105, 30, 148, 153, 0, 8, 22, 4]
abbrev dktJ14_floorDiv_0 : List UInt8 := dkwJ14_floorDiv_0 ++ dktJ14_floorDiv_1
theorem dksJ14_floorDiv_0 : cJ14_floorDiv.data.toList.drop 0 = dktJ14_floorDiv_0 := by decide +kernel
theorem dksJ14_floorDiv_1 : cJ14_floorDiv.data.toList.drop 24 = dktJ14_floorDiv_1 := dk_seg dksJ14_floorDiv_0 24 rfl rfl
theorem dJ14_floorDiv_0 : decode cJ14_floorDiv 0 = .ok (.lload_n 0, 1) := dk_30 (dk_at dksJ14_floorDiv_0 0 rfl rfl)
theorem dJ14_floorDiv_1 : decode cJ14_floorDiv 1 = .ok (.lload_n 2, 1) := dk_32 (dk_at dksJ14_floorDiv_0 1 rfl rfl)
theorem dJ14_floorDiv_2 : decode cJ14_floorDiv 2 = .ok (.ldiv, 1) := dk_109 (dk_at dksJ14_floorDiv_0 2 rfl rfl)
theorem dJ14_floorDiv_3 : decode cJ14_floorDiv 3 = .ok (.lstore 4, 2) := dk_55 4 (dk_at dksJ14_floorDiv_0 3 rfl rfl)
theorem dJ14_floorDiv_5 : decode cJ14_floorDiv 5 = .ok (.lload_n 0, 1) := dk_30 (dk_at dksJ14_floorDiv_0 5 rfl rfl)
theorem dJ14_floorDiv_6 : decode cJ14_floorDiv 6 = .ok (.lload_n 2, 1) := dk_32 (dk_at dksJ14_floorDiv_0 6 rfl rfl)
theorem dJ14_floorDiv_7 : decode cJ14_floorDiv 7 = .ok (.lxor, 1) := dk_131 (dk_at dksJ14_floorDiv_0 7 rfl rfl)
theorem dJ14_floorDiv_8 : decode cJ14_floorDiv 8 = .ok (.lconst 0, 1) := dk_9 (dk_at dksJ14_floorDiv_0 8 rfl rfl)
theorem dJ14_floorDiv_9 : decode cJ14_floorDiv 9 = .ok (.lcmp, 1) := dk_148 (dk_at dksJ14_floorDiv_0 9 rfl rfl)
theorem dJ14_floorDiv_10 : decode cJ14_floorDiv 10 = .ok (.ifCond .ge 17, 3) := dk_156 0 17 (dk_at dksJ14_floorDiv_0 10 rfl rfl)
theorem dJ14_floorDiv_13 : decode cJ14_floorDiv 13 = .ok (.lload 4, 2) := dk_22 4 (dk_at dksJ14_floorDiv_0 13 rfl rfl)
theorem dJ14_floorDiv_15 : decode cJ14_floorDiv 15 = .ok (.lload_n 2, 1) := dk_32 (dk_at dksJ14_floorDiv_0 15 rfl rfl)
theorem dJ14_floorDiv_16 : decode cJ14_floorDiv 16 = .ok (.lmul, 1) := dk_105 (dk_at dksJ14_floorDiv_0 16 rfl rfl)
theorem dJ14_floorDiv_17 : decode cJ14_floorDiv 17 = .ok (.lload_n 0, 1) := dk_30 (dk_at dksJ14_floorDiv_0 17 rfl rfl)
theorem dJ14_floorDiv_18 : decode cJ14_floorDiv 18 = .ok (.lcmp, 1) := dk_148 (dk_at dksJ14_floorDiv_0 18 rfl rfl)
theorem dJ14_floorDiv_19 : decode cJ14_floorDiv 19 = .ok (.ifCond .eq 8, 3) := dk_153 0 8 (dk_at dksJ14_floorDiv_0 19 rfl rfl)
theorem dJ14_floorDiv_22 : decode cJ14_floorDiv 22 = .ok (.lload 4, 2) := dk_22 4 (dk_at dksJ14_floorDiv_0 22 rfl rfl)
theorem dJ14_floorDiv_24 : decode cJ14_floorDiv 24 = .ok (.lconst 1, 1) := dk_10 (dk_at dksJ14_floorDiv_1 0 rfl rfl)
theorem dJ14_floorDiv_25 : decode cJ14_floorDiv 25 = .ok (.lsub, 1) := dk_101 (dk_at dksJ14_floorDiv_1 1 rfl rfl)
theorem dJ14_floorDiv_26 : decode cJ14_floorDiv 26 = .ok (.lreturn, 1) := dk_173 (dk_at dksJ14_floorDiv_1 2 rfl rfl)
theorem dJ14_floorDiv_27 : decode cJ14_floorDiv 27 = .ok (.lload 4, 2) := dk_22 4 (dk_at dksJ14_floorDiv_1 3 rfl rfl)
theorem dJ14_floorDiv_29 : decode cJ14_floorDiv 29 = .ok (.lreturn, 1) := dk_173 (dk_at dksJ14_floorDiv_1 5 rfl rfl)
abbrev cJ14_floorDiv_2 : ByteArray := prog_27_method_47_code
def yJ14_floorDiv_2 : MethodName := ⟨RJ14, "floorDiv", "(II)I"⟩
def dkwJ14_floorDiv_2_0 : List UInt8 := [26, 27, 108, 61, 26, 27, 130, 156, 0, 14, 28, 27, 104, 26, 159, 0, 7, 28, 4, 100, 172, 28, 172]
abbrev dktJ14_floorDiv_2_0 : List UInt8 := dkwJ14_floorDiv_2_0 ++ []
theorem dksJ14_floorDiv_2_0 : cJ14_floorDiv_2.data.toList.drop 0 = dktJ14_floorDiv_2_0 := by decide +kernel
theorem dJ14_floorDiv_2_0 : decode cJ14_floorDiv_2 0 = .ok (.iload_n 0, 1) := dk_26 (dk_at dksJ14_floorDiv_2_0 0 rfl rfl)
theorem dJ14_floorDiv_2_1 : decode cJ14_floorDiv_2 1 = .ok (.iload_n 1, 1) := dk_27 (dk_at dksJ14_floorDiv_2_0 1 rfl rfl)
theorem dJ14_floorDiv_2_2 : decode cJ14_floorDiv_2 2 = .ok (.idiv, 1) := dk_108 (dk_at dksJ14_floorDiv_2_0 2 rfl rfl)
theorem dJ14_floorDiv_2_3 : decode cJ14_floorDiv_2 3 = .ok (.istore_n 2, 1) := dk_61 (dk_at dksJ14_floorDiv_2_0 3 rfl rfl)
theorem dJ14_floorDiv_2_4 : decode cJ14_floorDiv_2 4 = .ok (.iload_n 0, 1) := dk_26 (dk_at dksJ14_floorDiv_2_0 4 rfl rfl)
theorem dJ14_floorDiv_2_5 : decode cJ14_floorDiv_2 5 = .ok (.iload_n 1, 1) := dk_27 (dk_at dksJ14_floorDiv_2_0 5 rfl rfl)
theorem dJ14_floorDiv_2_6 : decode cJ14_floorDiv_2 6 = .ok (.ixor, 1) := dk_130 (dk_at dksJ14_floorDiv_2_0 6 rfl rfl)
theorem dJ14_floorDiv_2_7 : decode cJ14_floorDiv_2 7 = .ok (.ifCond .ge 14, 3) := dk_156 0 14 (dk_at dksJ14_floorDiv_2_0 7 rfl rfl)
theorem dJ14_floorDiv_2_10 : decode cJ14_floorDiv_2 10 = .ok (.iload_n 2, 1) := dk_28 (dk_at dksJ14_floorDiv_2_0 10 rfl rfl)
theorem dJ14_floorDiv_2_11 : decode cJ14_floorDiv_2 11 = .ok (.iload_n 1, 1) := dk_27 (dk_at dksJ14_floorDiv_2_0 11 rfl rfl)
theorem dJ14_floorDiv_2_12 : decode cJ14_floorDiv_2 12 = .ok (.imul, 1) := dk_104 (dk_at dksJ14_floorDiv_2_0 12 rfl rfl)
theorem dJ14_floorDiv_2_13 : decode cJ14_floorDiv_2 13 = .ok (.iload_n 0, 1) := dk_26 (dk_at dksJ14_floorDiv_2_0 13 rfl rfl)
theorem dJ14_floorDiv_2_14 : decode cJ14_floorDiv_2 14 = .ok (.if_icmp .eq 7, 3) := dk_159 0 7 (dk_at dksJ14_floorDiv_2_0 14 rfl rfl)
theorem dJ14_floorDiv_2_17 : decode cJ14_floorDiv_2 17 = .ok (.iload_n 2, 1) := dk_28 (dk_at dksJ14_floorDiv_2_0 17 rfl rfl)
theorem dJ14_floorDiv_2_18 : decode cJ14_floorDiv_2 18 = .ok (.iconst 1, 1) := dk_4 (dk_at dksJ14_floorDiv_2_0 18 rfl rfl)
theorem dJ14_floorDiv_2_19 : decode cJ14_floorDiv_2 19 = .ok (.isub, 1) := dk_100 (dk_at dksJ14_floorDiv_2_0 19 rfl rfl)
theorem dJ14_floorDiv_2_20 : decode cJ14_floorDiv_2 20 = .ok (.ireturn, 1) := dk_172 (dk_at dksJ14_floorDiv_2_0 20 rfl rfl)
theorem dJ14_floorDiv_2_21 : decode cJ14_floorDiv_2 21 = .ok (.iload_n 2, 1) := dk_28 (dk_at dksJ14_floorDiv_2_0 21 rfl rfl)
theorem dJ14_floorDiv_2_22 : decode cJ14_floorDiv_2 22 = .ok (.ireturn, 1) := dk_172 (dk_at dksJ14_floorDiv_2_0 22 rfl rfl)
abbrev cJ14_floorMod : ByteArray := prog_27_method_50_code
def yJ14_floorMod : MethodName := ⟨RJ14, "floorMod", "(II)I"⟩
def dkwJ14_floorMod_0 : List UInt8 := [26, 27, 112, 61, 26, 27, 130, 156, 0, 11, 28, 153, 0, 7, 28, 27, 96, 172, 28, 172]
abbrev dktJ14_floorMod_0 : List UInt8 := dkwJ14_floorMod_0 ++ []
theorem dksJ14_floorMod_0 : cJ14_floorMod.data.toList.drop 0 = dktJ14_floorMod_0 := by decide +kernel
theorem dJ14_floorMod_0 : decode cJ14_floorMod 0 = .ok (.iload_n 0, 1) := dk_26 (dk_at dksJ14_floorMod_0 0 rfl rfl)
theorem dJ14_floorMod_1 : decode cJ14_floorMod 1 = .ok (.iload_n 1, 1) := dk_27 (dk_at dksJ14_floorMod_0 1 rfl rfl)
theorem dJ14_floorMod_2 : decode cJ14_floorMod 2 = .ok (.irem, 1) := dk_112 (dk_at dksJ14_floorMod_0 2 rfl rfl)
theorem dJ14_floorMod_3 : decode cJ14_floorMod 3 = .ok (.istore_n 2, 1) := dk_61 (dk_at dksJ14_floorMod_0 3 rfl rfl)
theorem dJ14_floorMod_4 : decode cJ14_floorMod 4 = .ok (.iload_n 0, 1) := dk_26 (dk_at dksJ14_floorMod_0 4 rfl rfl)
theorem dJ14_floorMod_5 : decode cJ14_floorMod 5 = .ok (.iload_n 1, 1) := dk_27 (dk_at dksJ14_floorMod_0 5 rfl rfl)
theorem dJ14_floorMod_6 : decode cJ14_floorMod 6 = .ok (.ixor, 1) := dk_130 (dk_at dksJ14_floorMod_0 6 rfl rfl)
theorem dJ14_floorMod_7 : decode cJ14_floorMod 7 = .ok (.ifCond .ge 11, 3) := dk_156 0 11 (dk_at dksJ14_floorMod_0 7 rfl rfl)
theorem dJ14_floorMod_10 : decode cJ14_floorMod 10 = .ok (.iload_n 2, 1) := dk_28 (dk_at dksJ14_floorMod_0 10 rfl rfl)
theorem dJ14_floorMod_11 : decode cJ14_floorMod 11 = .ok (.ifCond .eq 7, 3) := dk_153 0 7 (dk_at dksJ14_floorMod_0 11 rfl rfl)
theorem dJ14_floorMod_14 : decode cJ14_floorMod 14 = .ok (.iload_n 2, 1) := dk_28 (dk_at dksJ14_floorMod_0 14 rfl rfl)
theorem dJ14_floorMod_15 : decode cJ14_floorMod 15 = .ok (.iload_n 1, 1) := dk_27 (dk_at dksJ14_floorMod_0 15 rfl rfl)
theorem dJ14_floorMod_16 : decode cJ14_floorMod 16 = .ok (.iadd, 1) := dk_96 (dk_at dksJ14_floorMod_0 16 rfl rfl)
theorem dJ14_floorMod_17 : decode cJ14_floorMod 17 = .ok (.ireturn, 1) := dk_172 (dk_at dksJ14_floorMod_0 17 rfl rfl)
theorem dJ14_floorMod_18 : decode cJ14_floorMod 18 = .ok (.iload_n 2, 1) := dk_28 (dk_at dksJ14_floorMod_0 18 rfl rfl)
theorem dJ14_floorMod_19 : decode cJ14_floorMod 19 = .ok (.ireturn, 1) := dk_172 (dk_at dksJ14_floorMod_0 19 rfl rfl)
theorem q102 : (Jvm.Cond.initialized "java/lang/Math") ∈ lw_all := lw_g (lw_at lw_m1 18 rfl) rfl
theorem q273 : (Jvm.Cond.static ({ cls := "java/lang/Math", name := "max", desc := "(II)I" } : Jvm.MethodName)) ∈ lw_all := lw_g (lw_at lw_m1 189 rfl) rfl
theorem q274 : (Jvm.Cond.code ({ cls := "java/lang/Math", name := "max", desc := "(II)I" } : Jvm.MethodName) prog_27_method_65_code (2 : Nat) (Option.some Jvm.ClassFile.FieldType.int)) ∈ lw_all := lw_g (lw_at lw_m1 190 rfl) rfl
theorem q291 : (Jvm.Cond.static ({ cls := "java/lang/Math", name := "min", desc := "(II)I" } : Jvm.MethodName)) ∈ lw_all := lw_g (lw_at lw_m1 207 rfl) rfl
theorem q292 : (Jvm.Cond.code ({ cls := "java/lang/Math", name := "min", desc := "(II)I" } : Jvm.MethodName) prog_27_method_69_code (2 : Nat) (Option.some Jvm.ClassFile.FieldType.int)) ∈ lw_all := lw_g (lw_at lw_m1 208 rfl) rfl
theorem q787 : (Jvm.Cond.static ({ cls := "java/lang/Math", name := "abs", desc := "(J)J" } : Jvm.MethodName)) ∈ lw_all := lw_g (lw_at lw_m3 223 rfl) rfl
theorem q788 : (Jvm.Cond.code ({ cls := "java/lang/Math", name := "abs", desc := "(J)J" } : Jvm.MethodName) prog_27_method_61_code (2 : Nat) (Option.some Jvm.ClassFile.FieldType.long)) ∈ lw_all := lw_g (lw_at lw_m3 224 rfl) rfl
theorem q953 : (Jvm.Cond.static ({ cls := "java/lang/Math", name := "floorDiv", desc := "(JJ)J" } : Jvm.MethodName)) ∈ lw_all := lw_g (lw_at lw_m4 149 rfl) rfl
theorem q954 : (Jvm.Cond.code ({ cls := "java/lang/Math", name := "floorDiv", desc := "(JJ)J" } : Jvm.MethodName) prog_27_method_49_code (6 : Nat) (Option.some Jvm.ClassFile.FieldType.long)) ∈ lw_all := lw_g (lw_at lw_m4 150 rfl) rfl
theorem q1542 : (Jvm.Cond.static ({ cls := "java/lang/Math", name := "floorDiv", desc := "(II)I" } : Jvm.MethodName)) ∈ lw_all := lw_g (lw_at lw_m7 18 rfl) rfl
theorem q1543 : (Jvm.Cond.code ({ cls := "java/lang/Math", name := "floorDiv", desc := "(II)I" } : Jvm.MethodName) prog_27_method_47_code (3 : Nat) (Option.some Jvm.ClassFile.FieldType.int)) ∈ lw_all := lw_g (lw_at lw_m7 19 rfl) rfl
theorem q1545 : (Jvm.Cond.static ({ cls := "java/lang/Math", name := "floorMod", desc := "(II)I" } : Jvm.MethodName)) ∈ lw_all := lw_g (lw_at lw_m7 21 rfl) rfl
theorem q1546 : (Jvm.Cond.code ({ cls := "java/lang/Math", name := "floorMod", desc := "(II)I" } : Jvm.MethodName) prog_27_method_50_code (3 : Nat) (Option.some Jvm.ClassFile.FieldType.int)) ∈ lw_all := lw_g (lw_at lw_m7 22 rfl) rfl
/-! java/util/Arrays -/
set_option maxRecDepth 100000
def RJ15 : String := "java/util/Arrays"
abbrev cJ15_copyOf : ByteArray := prog_45_method_121_code
def yJ15_copyOf : MethodName := ⟨RJ15, "copyOf", "([BI)[B"⟩
def dkwJ15_copyOf_1 : List UInt8 := [27, 184, 1, 48, 184, 0, 150, 44, 176]
abbrev dktJ15_copyOf_1 : List UInt8 := dkwJ15_copyOf_1 ++ []
def dkwJ15_copyOf_0 : List UInt8 := [27, 42, 190, 160, 0, 11, 42, 182, 1, 54, 192, 1, 55, 176, 27, 188, 8, 77, 42, 3, 44, 3, 42, 190]
abbrev dktJ15_copyOf_0 : List UInt8 := dkwJ15_copyOf_0 ++ dktJ15_copyOf_1
theorem dksJ15_copyOf_0 : cJ15_copyOf.data.toList.drop 0 = dktJ15_copyOf_0 := by decide +kernel
theorem dksJ15_copyOf_1 : cJ15_copyOf.data.toList.drop 24 = dktJ15_copyOf_1 := dk_seg dksJ15_copyOf_0 24 rfl rfl
theorem dJ15_copyOf_0 : decode cJ15_copyOf 0 = .ok (.iload_n 1, 1) := dk_27 (dk_at dksJ15_copyOf_0 0 rfl rfl)
theorem dJ15_copyOf_1 : decode cJ15_copyOf 1 = .ok (.aload_n 0, 1) := dk_42 (dk_at dksJ15_copyOf_0 1 rfl rfl)
theorem dJ15_copyOf_2 : decode cJ15_copyOf 2 = .ok (.arraylength, 1) := dk_190 (dk_at dksJ15_copyOf_0 2 rfl rfl)
theorem dJ15_copyOf_3 : decode cJ15_copyOf 3 = .ok (.if_icmp .ne 11, 3) := dk_160 0 11 (dk_at dksJ15_copyOf_0 3 rfl rfl)
theorem dJ15_copyOf_6 : decode cJ15_copyOf 6 = .ok (.aload_n 0, 1) := dk_42 (dk_at dksJ15_copyOf_0 6 rfl rfl)
theorem dJ15_copyOf_7 : decode cJ15_copyOf 7 = .ok (.invokevirtual 310, 3) := dk_182 1 54 (dk_at dksJ15_copyOf_0 7 rfl rfl)
theorem dJ15_copyOf_10 : decode cJ15_copyOf 10 = .ok (.checkcast 311, 3) := dk_192 1 55 (dk_at dksJ15_copyOf_0 10 rfl rfl)
theorem dJ15_copyOf_13 : decode cJ15_copyOf 13 = .ok (.areturn, 1) := dk_176 (dk_at dksJ15_copyOf_0 13 rfl rfl)
theorem dJ15_copyOf_14 : decode cJ15_copyOf 14 = .ok (.iload_n 1, 1) := dk_27 (dk_at dksJ15_copyOf_0 14 rfl rfl)
theorem dJ15_copyOf_15 : decode cJ15_copyOf 15 = .ok (.newarray .byte, 2) := dk_188_8 (dk_at dksJ15_copyOf_0 15 rfl rfl)
theorem dJ15_copyOf_17 : decode cJ15_copyOf 17 = .ok (.astore_n 2, 1) := dk_77 (dk_at dksJ15_copyOf_0 17 rfl rfl)
theorem dJ15_copyOf_18 : decode cJ15_copyOf 18 = .ok (.aload_n 0, 1) := dk_42 (dk_at dksJ15_copyOf_0 18 rfl rfl)
theorem dJ15_copyOf_19 : decode cJ15_copyOf 19 = .ok (.iconst 0, 1) := dk_3 (dk_at dksJ15_copyOf_0 19 rfl rfl)
theorem dJ15_copyOf_20 : decode cJ15_copyOf 20 = .ok (.aload_n 2, 1) := dk_44 (dk_at dksJ15_copyOf_0 20 rfl rfl)
theorem dJ15_copyOf_21 : decode cJ15_copyOf 21 = .ok (.iconst 0, 1) := dk_3 (dk_at dksJ15_copyOf_0 21 rfl rfl)
theorem dJ15_copyOf_22 : decode cJ15_copyOf 22 = .ok (.aload_n 0, 1) := dk_42 (dk_at dksJ15_copyOf_0 22 rfl rfl)
theorem dJ15_copyOf_23 : decode cJ15_copyOf 23 = .ok (.arraylength, 1) := dk_190 (dk_at dksJ15_copyOf_0 23 rfl rfl)
theorem dJ15_copyOf_24 : decode cJ15_copyOf 24 = .ok (.iload_n 1, 1) := dk_27 (dk_at dksJ15_copyOf_1 0 rfl rfl)
theorem dJ15_copyOf_25 : decode cJ15_copyOf 25 = .ok (.invokestatic 304, 3) := dk_184 1 48 (dk_at dksJ15_copyOf_1 1 rfl rfl)
theorem dJ15_copyOf_28 : decode cJ15_copyOf 28 = .ok (.invokestatic 150, 3) := dk_184 0 150 (dk_at dksJ15_copyOf_1 4 rfl rfl)
theorem dJ15_copyOf_31 : decode cJ15_copyOf 31 = .ok (.aload_n 2, 1) := dk_44 (dk_at dksJ15_copyOf_1 7 rfl rfl)
theorem dJ15_copyOf_32 : decode cJ15_copyOf 32 = .ok (.areturn, 1) := dk_176 (dk_at dksJ15_copyOf_1 8 rfl rfl)
abbrev cJ15_copyOfRange : ByteArray := prog_45_method_132_code
def yJ15_copyOfRange : MethodName := ⟨RJ15, "copyOfRange", "([BII)[B"⟩
def dkwJ15_copyOfRange_1 : List UInt8 := [176]
abbrev dktJ15_copyOfRange_1 : List UInt8 := dkwJ15_copyOfRange_1 ++ []
def dkwJ15_copyOfRange_0 : List UInt8 := [27, 154, 0, 9, 28, 42, 190, 159, 0, 10, 42, 27, 28, 184, 1, 83, 176, 42, 182, 1, 54, 192, 1, 55]
abbrev dktJ15_copyOfRange_0 : List UInt8 := dkwJ15_copyOfRange_0 ++ dktJ15_copyOfRange_1
theorem dksJ15_copyOfRange_0 : cJ15_copyOfRange.data.toList.drop 0 = dktJ15_copyOfRange_0 := by decide +kernel
theorem dksJ15_copyOfRange_1 : cJ15_copyOfRange.data.toList.drop 24 = dktJ15_copyOfRange_1 := dk_seg dksJ15_copyOfRange_0 24 rfl rfl
theorem dJ15_copyOfRange_0 : decode cJ15_copyOfRange 0 = .ok (.iload_n 1, 1) := dk_27 (dk_at dksJ15_copyOfRange_0 0 rfl rfl)
theorem dJ15_copyOfRange_1 : decode cJ15_copyOfRange 1 = .ok (.ifCond .ne 9, 3) := dk_154 0 9 (dk_at dksJ15_copyOfRange_0 1 rfl rfl)
theorem dJ15_copyOfRange_4 : decode cJ15_copyOfRange 4 = .ok (.iload_n 2, 1) := dk_28 (dk_at dksJ15_copyOfRange_0 4 rfl rfl)
theorem dJ15_copyOfRange_5 : decode cJ15_copyOfRange 5 = .ok (.aload_n 0, 1) := dk_42 (dk_at dksJ15_copyOfRange_0 5 rfl rfl)
theorem dJ15_copyOfRange_6 : decode cJ15_copyOfRange 6 = .ok (.arraylength, 1) := dk_190 (dk_at dksJ15_copyOfRange_0 6 rfl rfl)
theorem dJ15_copyOfRange_7 : decode cJ15_copyOfRange 7 = .ok (.if_icmp .eq 10, 3) := dk_159 0 10 (dk_at dksJ15_copyOfRange_0 7 rfl rfl)
theorem dJ15_copyOfRange_10 : decode cJ15_copyOfRange 10 = .ok (.aload_n 0, 1) := dk_42 (dk_at dksJ15_copyOfRange_0 10 rfl rfl)
theorem dJ15_copyOfRange_11 : decode cJ15_copyOfRange 11 = .ok (.iload_n 1, 1) := dk_27 (dk_at dksJ15_copyOfRange_0 11 rfl rfl)
theorem dJ15_copyOfRange_12 : decode cJ15_copyOfRange 12 = .ok (.iload_n 2, 1) := dk_28 (dk_at dksJ15_copyOfRange_0 12 rfl rfl)
theorem dJ15_copyOfRange_13 : decode cJ15_copyOfRange 13 = .ok (.invokestatic 339, 3) := dk_184 1 83 (dk_at dksJ15_copyOfRange_0 13 rfl rfl)
theorem dJ15_copyOfRange_16 : decode cJ15_copyOfRange 16 = .ok (.areturn, 1) := dk_176 (dk_at dksJ15_copyOfRange_0 16 rfl rfl)
theorem dJ15_copyOfRange_17 : decode cJ15_copyOfRange 17 = .ok (.aload_n 0, 1) := dk_42 (dk_at dksJ15_copyOfRange_0 17 rfl rfl)
theorem dJ15_copyOfRange_18 : decode cJ15_copyOfRange 18 = .ok (.invokevirtual 310, 3) := dk_182 1 54 (dk_at dksJ15_copyOfRange_0 18 rfl rfl)
theorem dJ15_copyOfRange_21 : decode cJ15_copyOfRange 21 = .ok (.checkcast 311, 3) := dk_192 1 55 (dk_at dksJ15_copyOfRange_0 21 rfl rfl)
theorem dJ15_copyOfRange_24 : decode cJ15_copyOfRange 24 = .ok (.areturn, 1) := dk_176 (dk_at dksJ15_copyOfRange_1 0 rfl rfl)
abbrev cJ15_copyOfRangeByte : ByteArray := prog_45_method_133_code
def yJ15_copyOfRangeByte : MethodName := ⟨RJ15, "copyOfRangeByte", "([BII)[B"⟩
def dkwJ15_copyOfRangeByte_1 : List UInt8 := [184, 1, 48, 184, 0, 150, 25, 4, 176]
abbrev dktJ15_copyOfRangeByte_1 : List UInt8 := dkwJ15_copyOfRangeByte_1 ++ []
def dkwJ15_copyOfRangeByte_0 : List UInt8 := [27, 28, 184, 1, 87, 28, 27, 100, 62, 29, 188, 8, 58, 4, 42, 27, 25, 4, 3, 42, 190, 27, 100, 29]
abbrev dktJ15_copyOfRangeByte_0 : List UInt8 := dkwJ15_copyOfRangeByte_0 ++ dktJ15_copyOfRangeByte_1
theorem dksJ15_copyOfRangeByte_0 : cJ15_copyOfRangeByte.data.toList.drop 0 = dktJ15_copyOfRangeByte_0 := by decide +kernel
theorem dksJ15_copyOfRangeByte_1 : cJ15_copyOfRangeByte.data.toList.drop 24 = dktJ15_copyOfRangeByte_1 := dk_seg dksJ15_copyOfRangeByte_0 24 rfl rfl
theorem dJ15_copyOfRangeByte_0 : decode cJ15_copyOfRangeByte 0 = .ok (.iload_n 1, 1) := dk_27 (dk_at dksJ15_copyOfRangeByte_0 0 rfl rfl)
theorem dJ15_copyOfRangeByte_1 : decode cJ15_copyOfRangeByte 1 = .ok (.iload_n 2, 1) := dk_28 (dk_at dksJ15_copyOfRangeByte_0 1 rfl rfl)
theorem dJ15_copyOfRangeByte_2 : decode cJ15_copyOfRangeByte 2 = .ok (.invokestatic 343, 3) := dk_184 1 87 (dk_at dksJ15_copyOfRangeByte_0 2 rfl rfl)
theorem dJ15_copyOfRangeByte_5 : decode cJ15_copyOfRangeByte 5 = .ok (.iload_n 2, 1) := dk_28 (dk_at dksJ15_copyOfRangeByte_0 5 rfl rfl)
theorem dJ15_copyOfRangeByte_6 : decode cJ15_copyOfRangeByte 6 = .ok (.iload_n 1, 1) := dk_27 (dk_at dksJ15_copyOfRangeByte_0 6 rfl rfl)
theorem dJ15_copyOfRangeByte_7 : decode cJ15_copyOfRangeByte 7 = .ok (.isub, 1) := dk_100 (dk_at dksJ15_copyOfRangeByte_0 7 rfl rfl)
theorem dJ15_copyOfRangeByte_8 : decode cJ15_copyOfRangeByte 8 = .ok (.istore_n 3, 1) := dk_62 (dk_at dksJ15_copyOfRangeByte_0 8 rfl rfl)
theorem dJ15_copyOfRangeByte_9 : decode cJ15_copyOfRangeByte 9 = .ok (.iload_n 3, 1) := dk_29 (dk_at dksJ15_copyOfRangeByte_0 9 rfl rfl)
theorem dJ15_copyOfRangeByte_10 : decode cJ15_copyOfRangeByte 10 = .ok (.newarray .byte, 2) := dk_188_8 (dk_at dksJ15_copyOfRangeByte_0 10 rfl rfl)
theorem dJ15_copyOfRangeByte_12 : decode cJ15_copyOfRangeByte 12 = .ok (.astore 4, 2) := dk_58 4 (dk_at dksJ15_copyOfRangeByte_0 12 rfl rfl)
theorem dJ15_copyOfRangeByte_14 : decode cJ15_copyOfRangeByte 14 = .ok (.aload_n 0, 1) := dk_42 (dk_at dksJ15_copyOfRangeByte_0 14 rfl rfl)
theorem dJ15_copyOfRangeByte_15 : decode cJ15_copyOfRangeByte 15 = .ok (.iload_n 1, 1) := dk_27 (dk_at dksJ15_copyOfRangeByte_0 15 rfl rfl)
theorem dJ15_copyOfRangeByte_16 : decode cJ15_copyOfRangeByte 16 = .ok (.aload 4, 2) := dk_25 4 (dk_at dksJ15_copyOfRangeByte_0 16 rfl rfl)
theorem dJ15_copyOfRangeByte_18 : decode cJ15_copyOfRangeByte 18 = .ok (.iconst 0, 1) := dk_3 (dk_at dksJ15_copyOfRangeByte_0 18 rfl rfl)
theorem dJ15_copyOfRangeByte_19 : decode cJ15_copyOfRangeByte 19 = .ok (.aload_n 0, 1) := dk_42 (dk_at dksJ15_copyOfRangeByte_0 19 rfl rfl)
theorem dJ15_copyOfRangeByte_20 : decode cJ15_copyOfRangeByte 20 = .ok (.arraylength, 1) := dk_190 (dk_at dksJ15_copyOfRangeByte_0 20 rfl rfl)
theorem dJ15_copyOfRangeByte_21 : decode cJ15_copyOfRangeByte 21 = .ok (.iload_n 1, 1) := dk_27 (dk_at dksJ15_copyOfRangeByte_0 21 rfl rfl)
theorem dJ15_copyOfRangeByte_22 : decode cJ15_copyOfRangeByte 22 = .ok (.isub, 1) := dk_100 (dk_at dksJ15_copyOfRangeByte_0 22 rfl rfl)
theorem dJ15_copyOfRangeByte_23 : decode cJ15_copyOfRangeByte 23 = .ok (.iload_n 3, 1) := dk_29 (dk_at dksJ15_copyOfRangeByte_0 23 rfl rfl)
theorem dJ15_copyOfRangeByte_24 : decode cJ15_copyOfRangeByte 24 = .ok (.invokestatic 304, 3) := dk_184 1 48 (dk_at dksJ15_copyOfRangeByte_1 0 rfl rfl)
theorem dJ15_copyOfRangeByte_27 : decode cJ15_copyOfRangeByte 27 = .ok (.invokestatic 150, 3) := dk_184 0 150 (dk_at dksJ15_copyOfRangeByte_1 3 rfl rfl)
theorem dJ15_copyOfRangeByte_30 : decode cJ15_copyOfRangeByte 30 = .ok (.aload 4, 2) := dk_25 4 (dk_at dksJ15_copyOfRangeByte_1 6 rfl rfl)
theorem dJ15_copyOfRangeByte_32 : decode cJ15_copyOfRangeByte 32 = .ok (.areturn, 1) := dk_176 (dk_at dksJ15_copyOfRangeByte_1 8 rfl rfl)
abbrev cJ15_checkLength : ByteArray := prog_45_method_131_code
def yJ15_checkLength : MethodName := ⟨RJ15, "checkLength", "(II)V"⟩
def dkwJ15_checkLength_1 : List UInt8 := [182, 0, 50, 27, 182, 0, 54, 182, 0, 61, 183, 0, 65, 191, 177]
abbrev dktJ15_checkLength_1 : List UInt8 := dkwJ15_checkLength_1 ++ []
def dkwJ15_checkLength_0 : List UInt8 := [27, 26, 162, 0, 35, 187, 0, 43, 89, 187, 0, 45, 89, 183, 0, 47, 26, 182, 0, 54, 19, 1, 81]
abbrev dktJ15_checkLength_0 : List UInt8 := dkwJ15_checkLength_0 ++ dktJ15_checkLength_1
theorem dksJ15_checkLength_0 : cJ15_checkLength.data.toList.drop 0 = dktJ15_checkLength_0 := by decide +kernel
theorem dksJ15_checkLength_1 : cJ15_checkLength.data.toList.drop 23 = dktJ15_checkLength_1 := dk_seg dksJ15_checkLength_0 23 rfl rfl
theorem dJ15_checkLength_0 : decode cJ15_checkLength 0 = .ok (.iload_n 1, 1) := dk_27 (dk_at dksJ15_checkLength_0 0 rfl rfl)
theorem dJ15_checkLength_1 : decode cJ15_checkLength 1 = .ok (.iload_n 0, 1) := dk_26 (dk_at dksJ15_checkLength_0 1 rfl rfl)
theorem dJ15_checkLength_2 : decode cJ15_checkLength 2 = .ok (.if_icmp .ge 35, 3) := dk_162 0 35 (dk_at dksJ15_checkLength_0 2 rfl rfl)
theorem dJ15_checkLength_5 : decode cJ15_checkLength 5 = .ok (.new 43, 3) := dk_187 0 43 (dk_at dksJ15_checkLength_0 5 rfl rfl)
theorem dJ15_checkLength_8 : decode cJ15_checkLength 8 = .ok (.dup, 1) := dk_89 (dk_at dksJ15_checkLength_0 8 rfl rfl)
theorem dJ15_checkLength_9 : decode cJ15_checkLength 9 = .ok (.new 45, 3) := dk_187 0 45 (dk_at dksJ15_checkLength_0 9 rfl rfl)
theorem dJ15_checkLength_12 : decode cJ15_checkLength 12 = .ok (.dup, 1) := dk_89 (dk_at dksJ15_checkLength_0 12 rfl rfl)
theorem dJ15_checkLength_13 : decode cJ15_checkLength 13 = .ok (.invokespecial 47, 3) := dk_183 0 47 (dk_at dksJ15_checkLength_0 13 rfl rfl)
theorem dJ15_checkLength_16 : decode cJ15_checkLength 16 = .ok (.iload_n 0, 1) := dk_26 (dk_at dksJ15_checkLength_0 16 rfl rfl)
theorem dJ15_checkLength_17 : decode cJ15_checkLength 17 = .ok (.invokevirtual 54, 3) := dk_182 0 54 (dk_at dksJ15_checkLength_0 17 rfl rfl)
theorem dJ15_checkLength_20 : decode cJ15_checkLength 20 = .ok (.ldc_w 337, 3) := dk_19 1 81 (dk_at dksJ15_checkLength_0 20 rfl rfl)
theorem dJ15_checkLength_23 : decode cJ15_checkLength 23 = .ok (.invokevirtual 50, 3) := dk_182 0 50 (dk_at dksJ15_checkLength_1 0 rfl rfl)
theorem dJ15_checkLength_26 : decode cJ15_checkLength 26 = .ok (.iload_n 1, 1) := dk_27 (dk_at dksJ15_checkLength_1 3 rfl rfl)
theorem dJ15_checkLength_27 : decode cJ15_checkLength 27 = .ok (.invokevirtual 54, 3) := dk_182 0 54 (dk_at dksJ15_checkLength_1 4 rfl rfl)
theorem dJ15_checkLength_30 : decode cJ15_checkLength 30 = .ok (.invokevirtual 61, 3) := dk_182 0 61 (dk_at dksJ15_checkLength_1 7 rfl rfl)
theorem dJ15_checkLength_33 : decode cJ15_checkLength 33 = .ok (.invokespecial 65, 3) := dk_183 0 65 (dk_at dksJ15_checkLength_1 10 rfl rfl)
theorem dJ15_checkLength_36 : decode cJ15_checkLength 36 = .ok (.athrow, 1) := dk_191 (dk_at dksJ15_checkLength_1 13 rfl rfl)
theorem dJ15_checkLength_37 : decode cJ15_checkLength 37 = .ok (.return_, 1) := dk_177 (dk_at dksJ15_checkLength_1 14 rfl rfl)
abbrev cJ15_fill : ByteArray := prog_45_method_110_code
def yJ15_fill : MethodName := ⟨RJ15, "fill", "([BIIB)V"⟩
def dkwJ15_fill_1 : List UInt8 := [167, 255, 242, 177]
abbrev dktJ15_fill_1 : List UInt8 := dkwJ15_fill_1 ++ []
def dkwJ15_fill_0 : List UInt8 := [42, 190, 27, 28, 184, 0, 13, 27, 54, 4, 21, 4, 28, 162, 0, 14, 42, 21, 4, 29, 84, 132, 4, 1]
abbrev dktJ15_fill_0 : List UInt8 := dkwJ15_fill_0 ++ dktJ15_fill_1
theorem dksJ15_fill_0 : cJ15_fill.data.toList.drop 0 = dktJ15_fill_0 := by decide +kernel
theorem dksJ15_fill_1 : cJ15_fill.data.toList.drop 24 = dktJ15_fill_1 := dk_seg dksJ15_fill_0 24 rfl rfl
theorem dJ15_fill_0 : decode cJ15_fill 0 = .ok (.aload_n 0, 1) := dk_42 (dk_at dksJ15_fill_0 0 rfl rfl)
theorem dJ15_fill_1 : decode cJ15_fill 1 = .ok (.arraylength, 1) := dk_190 (dk_at dksJ15_fill_0 1 rfl rfl)
theorem dJ15_fill_2 : decode cJ15_fill 2 = .ok (.iload_n 1, 1) := dk_27 (dk_at dksJ15_fill_0 2 rfl rfl)
theorem dJ15_fill_3 : decode cJ15_fill 3 = .ok (.iload_n 2, 1) := dk_28 (dk_at dksJ15_fill_0 3 rfl rfl)
theorem dJ15_fill_4 : decode cJ15_fill 4 = .ok (.invokestatic 13, 3) := dk_184 0 13 (dk_at dksJ15_fill_0 4 rfl rfl)
theorem dJ15_fill_7 : decode cJ15_fill 7 = .ok (.iload_n 1, 1) := dk_27 (dk_at dksJ15_fill_0 7 rfl rfl)
theorem dJ15_fill_8 : decode cJ15_fill 8 = .ok (.istore 4, 2) := dk_54 4 (dk_at dksJ15_fill_0 8 rfl rfl)
theorem dJ15_fill_10 : decode cJ15_fill 10 = .ok (.iload 4, 2) := dk_21 4 (dk_at dksJ15_fill_0 10 rfl rfl)
theorem dJ15_fill_12 : decode cJ15_fill 12 = .ok (.iload_n 2, 1) := dk_28 (dk_at dksJ15_fill_0 12 rfl rfl)
theorem dJ15_fill_13 : decode cJ15_fill 13 = .ok (.if_icmp .ge 14, 3) := dk_162 0 14 (dk_at dksJ15_fill_0 13 rfl rfl)
theorem dJ15_fill_16 : decode cJ15_fill 16 = .ok (.aload_n 0, 1) := dk_42 (dk_at dksJ15_fill_0 16 rfl rfl)
theorem dJ15_fill_17 : decode cJ15_fill 17 = .ok (.iload 4, 2) := dk_21 4 (dk_at dksJ15_fill_0 17 rfl rfl)
theorem dJ15_fill_19 : decode cJ15_fill 19 = .ok (.iload_n 3, 1) := dk_29 (dk_at dksJ15_fill_0 19 rfl rfl)
theorem dJ15_fill_20 : decode cJ15_fill 20 = .ok (.bastore, 1) := dk_84 (dk_at dksJ15_fill_0 20 rfl rfl)
theorem dJ15_fill_21 : decode cJ15_fill 21 = .ok (.iinc 4 1, 3) := dk_132 4 1 (dk_at dksJ15_fill_0 21 rfl rfl)
theorem dJ15_fill_24 : decode cJ15_fill 24 = .ok (.goto (-14), 3) := dk_167 255 242 (dk_at dksJ15_fill_1 0 rfl rfl)
theorem dJ15_fill_27 : decode cJ15_fill 27 = .ok (.return_, 1) := dk_177 (dk_at dksJ15_fill_1 3 rfl rfl)
abbrev cJ15_rangeCheck : ByteArray := prog_45_method_30_code
def yJ15_rangeCheck : MethodName := ⟨RJ15, "rangeCheck", "(III)V"⟩
def dkwJ15_rangeCheck_3 : List UInt8 := [183, 0, 70, 191, 177]
abbrev dktJ15_rangeCheck_3 : List UInt8 := dkwJ15_rangeCheck_3 ++ []
def dkwJ15_rangeCheck_2 : List UInt8 := [27, 156, 0, 12, 187, 0, 68, 89, 27, 183, 0, 70, 191, 28, 26, 164, 0, 12, 187, 0, 68, 89, 28]
abbrev dktJ15_rangeCheck_2 : List UInt8 := dkwJ15_rangeCheck_2 ++ dktJ15_rangeCheck_3
def dkwJ15_rangeCheck_1 : List UInt8 := [182, 0, 54, 18, 57, 182, 0, 50, 28, 182, 0, 54, 18, 59, 182, 0, 50, 182, 0, 61, 183, 0, 65, 191]
abbrev dktJ15_rangeCheck_1 : List UInt8 := dkwJ15_rangeCheck_1 ++ dktJ15_rangeCheck_2
def dkwJ15_rangeCheck_0 : List UInt8 := [27, 28, 164, 0, 44, 187, 0, 43, 89, 187, 0, 45, 89, 183, 0, 47, 18, 48, 182, 0, 50, 27]
abbrev dktJ15_rangeCheck_0 : List UInt8 := dkwJ15_rangeCheck_0 ++ dktJ15_rangeCheck_1
theorem dksJ15_rangeCheck_0 : cJ15_rangeCheck.data.toList.drop 0 = dktJ15_rangeCheck_0 := by decide +kernel
theorem dksJ15_rangeCheck_1 : cJ15_rangeCheck.data.toList.drop 22 = dktJ15_rangeCheck_1 := dk_seg dksJ15_rangeCheck_0 22 rfl rfl
theorem dksJ15_rangeCheck_2 : cJ15_rangeCheck.data.toList.drop 46 = dktJ15_rangeCheck_2 := dk_seg dksJ15_rangeCheck_1 24 rfl rfl
theorem dksJ15_rangeCheck_3 : cJ15_rangeCheck.data.toList.drop 69 = dktJ15_rangeCheck_3 := dk_seg dksJ15_rangeCheck_2 23 rfl rfl
theorem dJ15_rangeCheck_0 : decode cJ15_rangeCheck 0 = .ok (.iload_n 1, 1) := dk_27 (dk_at dksJ15_rangeCheck_0 0 rfl rfl)
theorem dJ15_rangeCheck_1 : decode cJ15_rangeCheck 1 = .ok (.iload_n 2, 1) := dk_28 (dk_at dksJ15_rangeCheck_0 1 rfl rfl)
theorem dJ15_rangeCheck_2 : decode cJ15_rangeCheck 2 = .ok (.if_icmp .le 44, 3) := dk_164 0 44 (dk_at dksJ15_rangeCheck_0 2 rfl rfl)
theorem dJ15_rangeCheck_5 : decode cJ15_rangeCheck 5 = .ok (.new 43, 3) := dk_187 0 43 (dk_at dksJ15_rangeCheck_0 5 rfl rfl)
theorem dJ15_rangeCheck_8 : decode cJ15_rangeCheck 8 = .ok (.dup, 1) := dk_89 (dk_at dksJ15_rangeCheck_0 8 rfl rfl)
theorem dJ15_rangeCheck_9 : decode cJ15_rangeCheck 9 = .ok (.new 45, 3) := dk_187 0 45 (dk_at dksJ15_rangeCheck_0 9 rfl rfl)
theorem dJ15_rangeCheck_12 : decode cJ15_rangeCheck 12 = .ok (.dup, 1) := dk_89 (dk_at dksJ15_rangeCheck_0 12 rfl rfl)
theorem dJ15_rangeCheck_13 : decode cJ15_rangeCheck 13 = .ok (.invokespecial 47, 3) := dk_183 0 47 (dk_at dksJ15_rangeCheck_0 13 rfl rfl)
theorem dJ15_rangeCheck_16 : decode cJ15_rangeCheck 16 = .ok (.ldc 48, 2) := dk_18 48 (dk_at dksJ15_rangeCheck_0 16 rfl rfl)
theorem dJ15_rangeCheck_18 : decode cJ15_rangeCheck 18 = .ok (.invokevirtual 50, 3) := dk_182 0 50 (dk_at dksJ15_rangeCheck_0 18 rfl rfl)
theorem dJ15_rangeCheck_21 : decode cJ15_rangeCheck 21 = .ok (.iload_n 1, 1) := dk_27 (dk_at dksJ15_rangeCheck_0 21 rfl rfl)
theorem dJ15_rangeCheck_22 : decode cJ15_rangeCheck 22 = .ok (.invokevirtual 54, 3) := dk_182 0 54 (dk_at dksJ15_rangeCheck_1 0 rfl rfl)
theorem dJ15_rangeCheck_25 : decode cJ15_rangeCheck 25 = .ok (.ldc 57, 2) := dk_18 57 (dk_at dksJ15_rangeCheck_1 3 rfl rfl)
theorem dJ15_rangeCheck_27 : decode cJ15_rangeCheck 27 = .ok (.invokevirtual 50, 3) := dk_182 0 50 (dk_at dksJ15_rangeCheck_1 5 rfl rfl)
theorem dJ15_rangeCheck_30 : decode cJ15_rangeCheck 30 = .ok (.iload_n 2, 1) := dk_28 (dk_at dksJ15_rangeCheck_1 8 rfl rfl)
theorem dJ15_rangeCheck_31 : decode cJ15_rangeCheck 31 = .ok (.invokevirtual 54, 3) := dk_182 0 54 (dk_at dksJ15_rangeCheck_1 9 rfl rfl)
theorem dJ15_rangeCheck_34 : decode cJ15_rangeCheck 34 = .ok (.ldc 59, 2) := dk_18 59 (dk_at dksJ15_rangeCheck_1 12 rfl rfl)
theorem dJ15_rangeCheck_36 : decode cJ15_rangeCheck 36 = .ok (.invokevirtual 50, 3) := dk_182 0 50 (dk_at dksJ15_rangeCheck_1 14 rfl rfl)
theorem dJ15_rangeCheck_39 : decode cJ15_rangeCheck 39 = .ok (.invokevirtual 61, 3) := dk_182 0 61 (dk_at dksJ15_rangeCheck_1 17 rfl rfl)
theorem dJ15_rangeCheck_42 : decode cJ15_rangeCheck 42 = .ok (.invokespecial 65, 3) := dk_183 0 65 (dk_at dksJ15_rangeCheck_1 20 rfl rfl)
theorem dJ15_rangeCheck_45 : decode cJ15_rangeCheck 45 = .ok (.athrow, 1) := dk_191 (dk_at dksJ15_rangeCheck_1 23 rfl rfl)
theorem dJ15_rangeCheck_46 : decode cJ15_rangeCheck 46 = .ok (.iload_n 1, 1) := dk_27 (dk_at dksJ15_rangeCheck_2 0 rfl rfl)
theorem dJ15_rangeCheck_47 : decode cJ15_rangeCheck 47 = .ok (.ifCond .ge 12, 3) := dk_156 0 12 (dk_at dksJ15_rangeCheck_2 1 rfl rfl)
theorem dJ15_rangeCheck_50 : decode cJ15_rangeCheck 50 = .ok (.new 68, 3) := dk_187 0 68 (dk_at dksJ15_rangeCheck_2 4 rfl rfl)
theorem dJ15_rangeCheck_53 : decode cJ15_rangeCheck 53 = .ok (.dup, 1) := dk_89 (dk_at dksJ15_rangeCheck_2 7 rfl rfl)
theorem dJ15_rangeCheck_54 : decode cJ15_rangeCheck 54 = .ok (.iload_n 1, 1) := dk_27 (dk_at dksJ15_rangeCheck_2 8 rfl rfl)
theorem dJ15_rangeCheck_55 : decode cJ15_rangeCheck 55 = .ok (.invokespecial 70, 3) := dk_183 0 70 (dk_at dksJ15_rangeCheck_2 9 rfl rfl)
theorem dJ15_rangeCheck_58 : decode cJ15_rangeCheck 58 = .ok (.athrow, 1) := dk_191 (dk_at dksJ15_rangeCheck_2 12 rfl rfl)
theorem dJ15_rangeCheck_59 : decode cJ15_rangeCheck 59 = .ok (.iload_n 2, 1) := dk_28 (dk_at dksJ15_rangeCheck_2 13 rfl rfl)
theorem dJ15_rangeCheck_60 : decode cJ15_rangeCheck 60 = .ok (.iload_n 0, 1) := dk_26 (dk_at dksJ15_rangeCheck_2 14 rfl rfl)
theorem dJ15_rangeCheck_61 : decode cJ15_rangeCheck 61 = .ok (.if_icmp .le 12, 3) := dk_164 0 12 (dk_at dksJ15_rangeCheck_2 15 rfl rfl)
theorem dJ15_rangeCheck_64 : decode cJ15_rangeCheck 64 = .ok (.new 68, 3) := dk_187 0 68 (dk_at dksJ15_rangeCheck_2 18 rfl rfl)
theorem dJ15_rangeCheck_67 : decode cJ15_rangeCheck 67 = .ok (.dup, 1) := dk_89 (dk_at dksJ15_rangeCheck_2 21 rfl rfl)
theorem dJ15_rangeCheck_68 : decode cJ15_rangeCheck 68 = .ok (.iload_n 2, 1) := dk_28 (dk_at dksJ15_rangeCheck_2 22 rfl rfl)
theorem dJ15_rangeCheck_69 : decode cJ15_rangeCheck 69 = .ok (.invokespecial 70, 3) := dk_183 0 70 (dk_at dksJ15_rangeCheck_3 0 rfl rfl)
theorem dJ15_rangeCheck_72 : decode cJ15_rangeCheck 72 = .ok (.athrow, 1) := dk_191 (dk_at dksJ15_rangeCheck_3 3 rfl rfl)
theorem dJ15_rangeCheck_73 : decode cJ15_rangeCheck 73 = .ok (.return_, 1) := dk_177 (dk_at dksJ15_rangeCheck_3 4 rfl rfl)
abbrev cJ15_copyOf_2 : ByteArray := prog_45_method_119_code
def yJ15_copyOf_2 : MethodName := ⟨RJ15, "copyOf", "([Ljava/lang/Object;I)[Ljava/lang/Object;"⟩
def dkwJ15_copyOf_2_0 : List UInt8 := [42, 27, 42, 182, 0, 86, 184, 1, 44, 176]
abbrev dktJ15_copyOf_2_0 : List UInt8 := dkwJ15_copyOf_2_0 ++ []
theorem dksJ15_copyOf_2_0 : cJ15_copyOf_2.data.toList.drop 0 = dktJ15_copyOf_2_0 := by decide +kernel
theorem dJ15_copyOf_2_0 : decode cJ15_copyOf_2 0 = .ok (.aload_n 0, 1) := dk_42 (dk_at dksJ15_copyOf_2_0 0 rfl rfl)
theorem dJ15_copyOf_2_1 : decode cJ15_copyOf_2 1 = .ok (.iload_n 1, 1) := dk_27 (dk_at dksJ15_copyOf_2_0 1 rfl rfl)
theorem dJ15_copyOf_2_2 : decode cJ15_copyOf_2 2 = .ok (.aload_n 0, 1) := dk_42 (dk_at dksJ15_copyOf_2_0 2 rfl rfl)
theorem dJ15_copyOf_2_3 : decode cJ15_copyOf_2 3 = .ok (.invokevirtual 86, 3) := dk_182 0 86 (dk_at dksJ15_copyOf_2_0 3 rfl rfl)
theorem dJ15_copyOf_2_6 : decode cJ15_copyOf_2 6 = .ok (.invokestatic 300, 3) := dk_184 1 44 (dk_at dksJ15_copyOf_2_0 6 rfl rfl)
theorem dJ15_copyOf_2_9 : decode cJ15_copyOf_2 9 = .ok (.areturn, 1) := dk_176 (dk_at dksJ15_copyOf_2_0 9 rfl rfl)
abbrev cJ15_copyOf_3 : ByteArray := prog_45_method_120_code
def yJ15_copyOf_3 : MethodName := ⟨RJ15, "copyOf", "([Ljava/lang/Object;ILjava/lang/Class;)[Ljava/lang/Object;"⟩
def dkwJ15_copyOf_3_1 : List UInt8 := [78, 42, 3, 45, 3, 42, 190, 27, 184, 1, 48, 184, 0, 150, 45, 176]
abbrev dktJ15_copyOf_3_1 : List UInt8 := dkwJ15_copyOf_3_1 ++ []
def dkwJ15_copyOf_3_0 : List UInt8 := [44, 18, 110, 166, 0, 10, 27, 189, 0, 2, 167, 0, 14, 44, 182, 0, 90, 27, 184, 0, 95, 192, 0, 110]
abbrev dktJ15_copyOf_3_0 : List UInt8 := dkwJ15_copyOf_3_0 ++ dktJ15_copyOf_3_1
theorem dksJ15_copyOf_3_0 : cJ15_copyOf_3.data.toList.drop 0 = dktJ15_copyOf_3_0 := by decide +kernel
theorem dksJ15_copyOf_3_1 : cJ15_copyOf_3.data.toList.drop 24 = dktJ15_copyOf_3_1 := dk_seg dksJ15_copyOf_3_0 24 rfl rfl
theorem dJ15_copyOf_3_0 : decode cJ15_copyOf_3 0 = .ok (.aload_n 2, 1) := dk_44 (dk_at dksJ15_copyOf_3_0 0 rfl rfl)
theorem dJ15_copyOf_3_1 : decode cJ15_copyOf_3 1 = .ok (.ldc 110, 2) := dk_18 110 (dk_at dksJ15_copyOf_3_0 1 rfl rfl)
theorem dJ15_copyOf_3_3 : decode cJ15_copyOf_3 3 = .ok (.if_acmp .ne 10, 3) := dk_166 0 10 (dk_at dksJ15_copyOf_3_0 3 rfl rfl)
theorem dJ15_copyOf_3_6 : decode cJ15_copyOf_3 6 = .ok (.iload_n 1, 1) := dk_27 (dk_at dksJ15_copyOf_3_0 6 rfl rfl)
theorem dJ15_copyOf_3_7 : decode cJ15_copyOf_3 7 = .ok (.anewarray 2, 3) := dk_189 0 2 (dk_at dksJ15_copyOf_3_0 7 rfl rfl)
theorem dJ15_copyOf_3_10 : decode cJ15_copyOf_3 10 = .ok (.goto 14, 3) := dk_167 0 14 (dk_at dksJ15_copyOf_3_0 10 rfl rfl)
theorem dJ15_copyOf_3_13 : decode cJ15_copyOf_3 13 = .ok (.aload_n 2, 1) := dk_44 (dk_at dksJ15_copyOf_3_0 13 rfl rfl)
theorem dJ15_copyOf_3_14 : decode cJ15_copyOf_3 14 = .ok (.invokevirtual 90, 3) := dk_182 0 90 (dk_at dksJ15_copyOf_3_0 14 rfl rfl)
theorem dJ15_copyOf_3_17 : decode cJ15_copyOf_3 17 = .ok (.iload_n 1, 1) := dk_27 (dk_at dksJ15_copyOf_3_0 17 rfl rfl)
theorem dJ15_copyOf_3_18 : decode cJ15_copyOf_3 18 = .ok (.invokestatic 95, 3) := dk_184 0 95 (dk_at dksJ15_copyOf_3_0 18 rfl rfl)
theorem dJ15_copyOf_3_21 : decode cJ15_copyOf_3 21 = .ok (.checkcast 110, 3) := dk_192 0 110 (dk_at dksJ15_copyOf_3_0 21 rfl rfl)
theorem dJ15_copyOf_3_24 : decode cJ15_copyOf_3 24 = .ok (.astore_n 3, 1) := dk_78 (dk_at dksJ15_copyOf_3_1 0 rfl rfl)
theorem dJ15_copyOf_3_25 : decode cJ15_copyOf_3 25 = .ok (.aload_n 0, 1) := dk_42 (dk_at dksJ15_copyOf_3_1 1 rfl rfl)
theorem dJ15_copyOf_3_26 : decode cJ15_copyOf_3 26 = .ok (.iconst 0, 1) := dk_3 (dk_at dksJ15_copyOf_3_1 2 rfl rfl)
theorem dJ15_copyOf_3_27 : decode cJ15_copyOf_3 27 = .ok (.aload_n 3, 1) := dk_45 (dk_at dksJ15_copyOf_3_1 3 rfl rfl)
theorem dJ15_copyOf_3_28 : decode cJ15_copyOf_3 28 = .ok (.iconst 0, 1) := dk_3 (dk_at dksJ15_copyOf_3_1 4 rfl rfl)
theorem dJ15_copyOf_3_29 : decode cJ15_copyOf_3 29 = .ok (.aload_n 0, 1) := dk_42 (dk_at dksJ15_copyOf_3_1 5 rfl rfl)
theorem dJ15_copyOf_3_30 : decode cJ15_copyOf_3 30 = .ok (.arraylength, 1) := dk_190 (dk_at dksJ15_copyOf_3_1 6 rfl rfl)
theorem dJ15_copyOf_3_31 : decode cJ15_copyOf_3 31 = .ok (.iload_n 1, 1) := dk_27 (dk_at dksJ15_copyOf_3_1 7 rfl rfl)
theorem dJ15_copyOf_3_32 : decode cJ15_copyOf_3 32 = .ok (.invokestatic 304, 3) := dk_184 1 48 (dk_at dksJ15_copyOf_3_1 8 rfl rfl)
theorem dJ15_copyOf_3_35 : decode cJ15_copyOf_3 35 = .ok (.invokestatic 150, 3) := dk_184 0 150 (dk_at dksJ15_copyOf_3_1 11 rfl rfl)
theorem dJ15_copyOf_3_38 : decode cJ15_copyOf_3 38 = .ok (.aload_n 3, 1) := dk_45 (dk_at dksJ15_copyOf_3_1 14 rfl rfl)
theorem dJ15_copyOf_3_39 : decode cJ15_copyOf_3 39 = .ok (.areturn, 1) := dk_176 (dk_at dksJ15_copyOf_3_1 15 rfl rfl)
theorem q103 : (Jvm.Cond.initialized "java/util/Arrays") ∈ lw_all := lw_g (lw_at lw_m1 19 rfl) rfl
theorem q281 : (Jvm.Cond.static ({ cls := "java/util/Arrays", name := "copyOf", desc := "([BI)[B" } : Jvm.MethodName)) ∈ lw_all := lw_g (lw_at lw_m1 197 rfl) rfl
theorem q282 : (Jvm.Cond.code ({ cls := "java/util/Arrays", name := "copyOf", desc := "([BI)[B" } : Jvm.MethodName) prog_45_method_121_code (3 : Nat) (Option.some (Jvm.ClassFile.FieldType.array Jvm.ClassFile.FieldType.byte))) ∈ lw_all := lw_g (lw_at lw_m1 198 rfl) rfl
theorem q283 : (Jvm.Cond.methodLink "java/util/Arrays" (310 : Nat) ({ cls := "[B", name := "clone", desc := "()Ljava/lang/Object;" } : Jvm.MethodName)) ∈ lw_all := lw_g (lw_at lw_m1 199 rfl) rfl
theorem q289 : (Jvm.Cond.classLink "java/util/Arrays" (311 : Nat) "[B") ∈ lw_all := lw_g (lw_at lw_m1 205 rfl) rfl
theorem q290 : (Jvm.Cond.methodLink "java/util/Arrays" (304 : Nat) ({ cls := "java/lang/Math", name := "min", desc := "(II)I" } : Jvm.MethodName)) ∈ lw_all := lw_g (lw_at lw_m1 206 rfl) rfl
theorem q293 : (Jvm.Cond.methodLink "java/util/Arrays" (150 : Nat) ({ cls := "java/lang/System", name := "arraycopy", desc := "(Ljava/lang/Object;ILjava/lang/Object;II)V" } : Jvm.MethodName)) ∈ lw_all := lw_g (lw_at lw_m1 209 rfl) rfl
theorem q416 : (Jvm.Cond.static ({ cls := "java/util/Arrays", name := "copyOfRange", desc := "([BII)[B" } : Jvm.MethodName)) ∈ lw_all := lw_g (lw_at lw_m2 92 rfl) rfl
theorem q417 : (Jvm.Cond.code ({ cls := "java/util/Arrays", name := "copyOfRange", desc := "([BII)[B" } : Jvm.MethodName) prog_45_method_132_code (3 : Nat) (Option.some (Jvm.ClassFile.FieldType.array Jvm.ClassFile.FieldType.byte))) ∈ lw_all := lw_g (lw_at lw_m2 93 rfl) rfl
theorem q418 : (Jvm.Cond.methodLink "java/util/Arrays" (339 : Nat) ({ cls := "java/util/Arrays", name := "copyOfRangeByte", desc := "([BII)[B" } : Jvm.MethodName)) ∈ lw_all := lw_g (lw_at lw_m2 94 rfl) rfl
theorem q419 : (Jvm.Cond.static ({ cls := "java/util/Arrays", name := "copyOfRangeByte", desc := "([BII)[B" } : Jvm.MethodName)) ∈ lw_all := lw_g (lw_at lw_m2 95 rfl) rfl
theorem q420 : (Jvm.Cond.code ({ cls := "java/util/Arrays", name := "copyOfRangeByte", desc := "([BII)[B" } : Jvm.MethodName) prog_45_method_133_code (5 : Nat) (Option.some (Jvm.ClassFile.FieldType.array Jvm.ClassFile.FieldType.byte))) ∈ lw_all := lw_g (lw_at lw_m2 96 rfl) rfl
theorem q421 : (Jvm.Cond.methodLink "java/util/Arrays" (343 : Nat) ({ cls := "java/util/Arrays", name := "checkLength", desc := "(II)V" } : Jvm.MethodName)) ∈ lw_all := lw_g (lw_at lw_m2 97 rfl) rfl
theorem q422 : (Jvm.Cond.static ({ cls := "java/util/Arrays", name := "checkLength", desc := "(II)V" } : Jvm.MethodName)) ∈ lw_all := lw_g (lw_at lw_m2 98 rfl) rfl
theorem q423 : (Jvm.Cond.code ({ cls := "java/util/Arrays", name := "checkLength", desc := "(II)V" } : Jvm.MethodName) prog_45_method_131_code (2 : Nat) (Option.none : Option Jvm.ClassFile.FieldType)) ∈ lw_all := lw_g (lw_at lw_m2 99 rfl) rfl
theorem q424 : (Jvm.Cond.classLink "java/util/Arrays" (43 : Nat) "java/lang/IllegalArgumentException") ∈ lw_all := lw_g (lw_at lw_m2 100 rfl) rfl
theorem q467 : (Jvm.Cond.classLink "java/util/Arrays" (45 : Nat) "java/lang/StringBuilder") ∈ lw_all := lw_g (lw_at lw_m2 143 rfl) rfl
theorem q468 : (Jvm.Cond.methodLink "java/util/Arrays" (47 : Nat) ({ cls := "java/lang/StringBuilder", name := "<init>", desc := "()V" } : Jvm.MethodName)) ∈ lw_all := lw_g (lw_at lw_m2 144 rfl) rfl
theorem q469 : (Jvm.Cond.methodLink "java/util/Arrays" (54 : Nat) ({ cls := "java/lang/StringBuilder", name := "append", desc := "(I)Ljava/lang/StringBuilder;" } : Jvm.MethodName)) ∈ lw_all := lw_g (lw_at lw_m2 145 rfl) rfl
theorem q470 : (Jvm.Cond.stringRef "java/util/Arrays" (337 : Nat) " > ") ∈ lw_tbl := lw_at lw_m2 146 rfl
theorem q471 : (Jvm.Cond.methodLink "java/util/Arrays" (50 : Nat) ({ cls := "java/lang/StringBuilder", name := "append", desc := "(Ljava/lang/String;)Ljava/lang/StringBuilder;" } : Jvm.MethodName)) ∈ lw_all := lw_g (lw_at lw_m2 147 rfl) rfl
theorem q472 : (Jvm.Cond.methodLink "java/util/Arrays" (61 : Nat) ({ cls := "java/lang/StringBuilder", name := "toString", desc := "()Ljava/lang/String;" } : Jvm.MethodName)) ∈ lw_all := lw_g (lw_at lw_m2 148 rfl) rfl
theorem q473 : (Jvm.Cond.methodLink "java/util/Arrays" (65 : Nat) ({ cls := "java/lang/IllegalArgumentException", name := "<init>", desc := "(Ljava/lang/String;)V" } : Jvm.MethodName)) ∈ lw_all := lw_g (lw_at lw_m2 149 rfl) rfl
theorem q537 : (Jvm.Cond.static ({ cls := "java/util/Arrays", name := "fill", desc := "([BIIB)V" } : Jvm.MethodName)) ∈ lw_all := lw_g (lw_at lw_m2 213 rfl) rfl
theorem q538 : (Jvm.Cond.code ({ cls := "java/util/Arrays", name := "fill", desc := "([BIIB)V" } : Jvm.MethodName) prog_45_method_110_code (5 : Nat) (Option.none : Option Jvm.ClassFile.FieldType)) ∈ lw_all := lw_g (lw_at lw_m2 214 rfl) rfl
theorem q539 : (Jvm.Cond.methodLink "java/util/Arrays" (13 : Nat) ({ cls := "java/util/Arrays", name := "rangeCheck", desc := "(III)V" } : Jvm.MethodName)) ∈ lw_all := lw_g (lw_at lw_m2 215 rfl) rfl
theorem q540 : (Jvm.Cond.static ({ cls := "java/util/Arrays", name := "rangeCheck", desc := "(III)V" } : Jvm.MethodName)) ∈ lw_all := lw_g (lw_at lw_m2 216 rfl) rfl
theorem q541 : (Jvm.Cond.code ({ cls := "java/util/Arrays", name := "rangeCheck", desc := "(III)V" } : Jvm.MethodName) prog_45_method_30_code (3 : Nat) (Option.none : Option Jvm.ClassFile.FieldType)) ∈ lw_all := lw_g (lw_at lw_m2 217 rfl) rfl
theorem q542 : (Jvm.Cond.stringRef "java/util/Arrays" (48 : Nat) "fromIndex(") ∈ lw_tbl := lw_at lw_m2 218 rfl
theorem q543 : (Jvm.Cond.stringRef "java/util/Arrays" (57 : Nat) ") > toIndex(") ∈ lw_tbl := lw_at lw_m2 219 rfl
theorem q544 : (Jvm.Cond.stringRef "java/util/Arrays" (59 : Nat) ")") ∈ lw_tbl := lw_at lw_m2 220 rfl
theorem q545 : (Jvm.Cond.classLink "java/util/Arrays" (68 : Nat) "java/lang/ArrayIndexOutOfBoundsException") ∈ lw_all := lw_g (lw_at lw_m2 221 rfl) rfl
theorem q556 : (Jvm.Cond.methodLink "java/util/Arrays" (70 : Nat) ({ cls := "java/lang/ArrayIndexOutOfBoundsException", name := "<init>", desc := "(I)V" } : Jvm.MethodName)) ∈ lw_all := lw_g (lw_at lw_m2 232 rfl) rfl
theorem q891 : (Jvm.Cond.static ({ cls := "java/util/Arrays", name := "copyOf", desc := "([Ljava/lang/Object;I)[Ljava/lang/Object;" } : Jvm.MethodName)) ∈ lw_all := lw_g (lw_at lw_m4 87 rfl) rfl
theorem q892 : (Jvm.Cond.code ({ cls := "java/util/Arrays", name := "copyOf", desc := "([Ljava/lang/Object;I)[Ljava/lang/Object;" } : Jvm.MethodName) prog_45_method_119_code (2 : Nat) (Option.some (Jvm.ClassFile.FieldType.array (Jvm.ClassFile.FieldType.object "java/lang/Object")))) ∈ lw_all := lw_g (lw_at lw_m4 88 rfl) rfl
theorem q893 : (Jvm.Cond.methodLink "java/util/Arrays" (86 : Nat) ({ cls := "java/lang/Object", name := "getClass", desc := "()Ljava/lang/Class;" } : Jvm.MethodName)) ∈ lw_all := lw_g (lw_at lw_m4 89 rfl) rfl
theorem q921 : (Jvm.Cond.methodLink "java/util/Arrays" (300 : Nat) ({ cls := "java/util/Arrays", name := "copyOf", desc := "([Ljava/lang/Object;ILjava/lang/Class;)[Ljava/lang/Object;" } : Jvm.MethodName)) ∈ lw_all := lw_g (lw_at lw_m4 117 rfl) rfl
theorem q922 : (Jvm.Cond.static ({ cls := "java/util/Arrays", name := "copyOf", desc := "([Ljava/lang/Object;ILjava/lang/Class;)[Ljava/lang/Object;" } : Jvm.MethodName)) ∈ lw_all := lw_g (lw_at lw_m4 118 rfl) rfl
theorem q923 : (Jvm.Cond.code ({ cls := "java/util/Arrays", name := "copyOf", desc := "([Ljava/lang/Object;ILjava/lang/Class;)[Ljava/lang/Object;" } : Jvm.MethodName) prog_45_method_120_code (4 : Nat) (Option.some (Jvm.ClassFile.FieldType.array (Jvm.ClassFile.FieldType.object "java/lang/Object")))) ∈ lw_all := lw_g (lw_at lw_m4 119 rfl) rfl
theorem q924 : (Jvm.Cond.classLink "java/util/Arrays" (110 : Nat) "[Ljava/lang/Object;") ∈ lw_all := lw_g (lw_at lw_m4 120 rfl) rfl
theorem q925 : (Jvm.Cond.classLink "java/util/Arrays" (2 : Nat) "java/lang/Object") ∈ lw_all := lw_g (lw_at lw_m4 121 rfl) rfl
/-! java/lang/StringLatin1 -/
set_option maxRecDepth 100000
def RJ16 : String := "java/lang/StringLatin1"
abbrev cJ16_inflate : ByteArray := prog_33_method_50_code
def yJ16_inflate : MethodName := ⟨RJ16, "inflate", "([BI[BII)V"⟩
def dkwJ16_inflate_0 : List UInt8 := [42, 27, 44, 29, 21, 4, 184, 0, 240, 177]
abbrev dktJ16_inflate_0 : List UInt8 := dkwJ16_inflate_0 ++ []
theorem dksJ16_inflate_0 : cJ16_inflate.data.toList.drop 0 = dktJ16_inflate_0 := by decide +kernel
theorem dJ16_inflate_0 : decode cJ16_inflate 0 = .ok (.aload_n 0, 1) := dk_42 (dk_at dksJ16_inflate_0 0 rfl rfl)
theorem dJ16_inflate_1 : decode cJ16_inflate 1 = .ok (.iload_n 1, 1) := dk_27 (dk_at dksJ16_inflate_0 1 rfl rfl)
theorem dJ16_inflate_2 : decode cJ16_inflate 2 = .ok (.aload_n 2, 1) := dk_44 (dk_at dksJ16_inflate_0 2 rfl rfl)
theorem dJ16_inflate_3 : decode cJ16_inflate 3 = .ok (.iload_n 3, 1) := dk_29 (dk_at dksJ16_inflate_0 3 rfl rfl)
theorem dJ16_inflate_4 : decode cJ16_inflate 4 = .ok (.iload 4, 2) := dk_21 4 (dk_at dksJ16_inflate_0 4 rfl rfl)
theorem dJ16_inflate_6 : decode cJ16_inflate 6 = .ok (.invokestatic 240, 3) := dk_184 0 240 (dk_at dksJ16_inflate_0 6 rfl rfl)
theorem dJ16_inflate_9 : decode cJ16_inflate 9 = .ok (.return_, 1) := dk_177 (dk_at dksJ16_inflate_0 9 rfl rfl)
abbrev cJ16_fillNull : ByteArray := prog_33_method_48_code
def yJ16_fillNull : MethodName := ⟨RJ16, "fillNull", "([BII)V"⟩
def dkwJ16_fillNull_0 : List UInt8 := [42, 27, 28, 3, 184, 0, 236, 177]
abbrev dktJ16_fillNull_0 : List UInt8 := dkwJ16_fillNull_0 ++ []
theorem dksJ16_fillNull_0 : cJ16_fillNull.data.toList.drop 0 = dktJ16_fillNull_0 := by decide +kernel
theorem dJ16_fillNull_0 : decode cJ16_fillNull 0 = .ok (.aload_n 0, 1) := dk_42 (dk_at dksJ16_fillNull_0 0 rfl rfl)
theorem dJ16_fillNull_1 : decode cJ16_fillNull 1 = .ok (.iload_n 1, 1) := dk_27 (dk_at dksJ16_fillNull_0 1 rfl rfl)
theorem dJ16_fillNull_2 : decode cJ16_fillNull 2 = .ok (.iload_n 2, 1) := dk_28 (dk_at dksJ16_fillNull_0 2 rfl rfl)
theorem dJ16_fillNull_3 : decode cJ16_fillNull 3 = .ok (.iconst 0, 1) := dk_3 (dk_at dksJ16_fillNull_0 3 rfl rfl)
theorem dJ16_fillNull_4 : decode cJ16_fillNull 4 = .ok (.invokestatic 236, 3) := dk_184 0 236 (dk_at dksJ16_fillNull_0 4 rfl rfl)
theorem dJ16_fillNull_7 : decode cJ16_fillNull 7 = .ok (.return_, 1) := dk_177 (dk_at dksJ16_fillNull_0 7 rfl rfl)
abbrev cJ16_compareTo : ByteArray := prog_33_method_14_code
def yJ16_compareTo : MethodName := ⟨RJ16, "compareTo", "([B[B)I"⟩
def dkwJ16_compareTo_0 : List UInt8 := [42, 190, 61, 43, 190, 62, 42, 43, 28, 29, 184, 0, 34, 172]
abbrev dktJ16_compareTo_0 : List UInt8 := dkwJ16_compareTo_0 ++ []
theorem dksJ16_compareTo_0 : cJ16_compareTo.data.toList.drop 0 = dktJ16_compareTo_0 := by decide +kernel
theorem dJ16_compareTo_0 : decode cJ16_compareTo 0 = .ok (.aload_n 0, 1) := dk_42 (dk_at dksJ16_compareTo_0 0 rfl rfl)
theorem dJ16_compareTo_1 : decode cJ16_compareTo 1 = .ok (.arraylength, 1) := dk_190 (dk_at dksJ16_compareTo_0 1 rfl rfl)
theorem dJ16_compareTo_2 : decode cJ16_compareTo 2 = .ok (.istore_n 2, 1) := dk_61 (dk_at dksJ16_compareTo_0 2 rfl rfl)
theorem dJ16_compareTo_3 : decode cJ16_compareTo 3 = .ok (.aload_n 1, 1) := dk_43 (dk_at dksJ16_compareTo_0 3 rfl rfl)
theorem dJ16_compareTo_4 : decode cJ16_compareTo 4 = .ok (.arraylength, 1) := dk_190 (dk_at dksJ16_compareTo_0 4 rfl rfl)
theorem dJ16_compareTo_5 : decode cJ16_compareTo 5 = .ok (.istore_n 3, 1) := dk_62 (dk_at dksJ16_compareTo_0 5 rfl rfl)
theorem dJ16_compareTo_6 : decode cJ16_compareTo 6 = .ok (.aload_n 0, 1) := dk_42 (dk_at dksJ16_compareTo_0 6 rfl rfl)
theorem dJ16_compareTo_7 : decode cJ16_compareTo 7 = .ok (.aload_n 1, 1) := dk_43 (dk_at dksJ16_compareTo_0 7 rfl rfl)
theorem dJ16_compareTo_8 : decode cJ16_compareTo 8 = .ok (.iload_n 2, 1) := dk_28 (dk_at dksJ16_compareTo_0 8 rfl rfl)
theorem dJ16_compareTo_9 : decode cJ16_compareTo 9 = .ok (.iload_n 3, 1) := dk_29 (dk_at dksJ16_compareTo_0 9 rfl rfl)
theorem dJ16_compareTo_10 : decode cJ16_compareTo 10 = .ok (.invokestatic 34, 3) := dk_184 0 34 (dk_at dksJ16_compareTo_0 10 rfl rfl)
theorem dJ16_compareTo_13 : decode cJ16_compareTo 13 = .ok (.ireturn, 1) := dk_172 (dk_at dksJ16_compareTo_0 13 rfl rfl)
abbrev cJ16_compareTo_2 : ByteArray := prog_33_method_15_code
def yJ16_compareTo_2 : MethodName := ⟨RJ16, "compareTo", "([B[BII)I"⟩
def dkwJ16_compareTo_2_1 : List UInt8 := [167, 0, 16, 42, 21, 5, 184, 0, 50, 43, 21, 5, 184, 0, 50, 100, 172]
abbrev dktJ16_compareTo_2_1 : List UInt8 := dkwJ16_compareTo_2_1 ++ []
def dkwJ16_compareTo_2_0 : List UInt8 := [28, 29, 184, 0, 38, 54, 4, 42, 43, 21, 4, 184, 0, 44, 54, 5, 21, 5, 156, 0, 9, 28, 29, 100]
abbrev dktJ16_compareTo_2_0 : List UInt8 := dkwJ16_compareTo_2_0 ++ dktJ16_compareTo_2_1
theorem dksJ16_compareTo_2_0 : cJ16_compareTo_2.data.toList.drop 0 = dktJ16_compareTo_2_0 := by decide +kernel
theorem dksJ16_compareTo_2_1 : cJ16_compareTo_2.data.toList.drop 24 = dktJ16_compareTo_2_1 := dk_seg dksJ16_compareTo_2_0 24 rfl rfl
theorem dJ16_compareTo_2_0 : decode cJ16_compareTo_2 0 = .ok (.iload_n 2, 1) := dk_28 (dk_at dksJ16_compareTo_2_0 0 rfl rfl)
theorem dJ16_compareTo_2_1 : decode cJ16_compareTo_2 1 = .ok (.iload_n 3, 1) := dk_29 (dk_at dksJ16_compareTo_2_0 1 rfl rfl)
theorem dJ16_compareTo_2_2 : decode cJ16_compareTo_2 2 = .ok (.invokestatic 38, 3) := dk_184 0 38 (dk_at dksJ16_compareTo_2_0 2 rfl rfl)
theorem dJ16_compareTo_2_5 : decode cJ16_compareTo_2 5 = .ok (.istore 4, 2) := dk_54 4 (dk_at dksJ16_compareTo_2_0 5 rfl rfl)
theorem dJ16_compareTo_2_7 : decode cJ16_compareTo_2 7 = .ok (.aload_n 0, 1) := dk_42 (dk_at dksJ16_compareTo_2_0 7 rfl rfl)
theorem dJ16_compareTo_2_8 : decode cJ16_compareTo_2 8 = .ok (.aload_n 1, 1) := dk_43 (dk_at dksJ16_compareTo_2_0 8 rfl rfl)
theorem dJ16_compareTo_2_9 : decode cJ16_compareTo_2 9 = .ok (.iload 4, 2) := dk_21 4 (dk_at dksJ16_compareTo_2_0 9 rfl rfl)
theorem dJ16_compareTo_2_11 : decode cJ16_compareTo_2 11 = .ok (.invokestatic 44, 3) := dk_184 0 44 (dk_at dksJ16_compareTo_2_0 11 rfl rfl)
theorem dJ16_compareTo_2_14 : decode cJ16_compareTo_2 14 = .ok (.istore 5, 2) := dk_54 5 (dk_at dksJ16_compareTo_2_0 14 rfl rfl)
theorem dJ16_compareTo_2_16 : decode cJ16_compareTo_2 16 = .ok (.iload 5, 2) := dk_21 5 (dk_at dksJ16_compareTo_2_0 16 rfl rfl)
theorem dJ16_compareTo_2_18 : decode cJ16_compareTo_2 18 = .ok (.ifCond .ge 9, 3) := dk_156 0 9 (dk_at dksJ16_compareTo_2_0 18 rfl rfl)
theorem dJ16_compareTo_2_21 : decode cJ16_compareTo_2 21 = .ok (.iload_n 2, 1) := dk_28 (dk_at dksJ16_compareTo_2_0 21 rfl rfl)
theorem dJ16_compareTo_2_22 : decode cJ16_compareTo_2 22 = .ok (.iload_n 3, 1) := dk_29 (dk_at dksJ16_compareTo_2_0 22 rfl rfl)
theorem dJ16_compareTo_2_23 : decode cJ16_compareTo_2 23 = .ok (.isub, 1) := dk_100 (dk_at dksJ16_compareTo_2_0 23 rfl rfl)
theorem dJ16_compareTo_2_24 : decode cJ16_compareTo_2 24 = .ok (.goto 16, 3) := dk_167 0 16 (dk_at dksJ16_compareTo_2_1 0 rfl rfl)
theorem dJ16_compareTo_2_27 : decode cJ16_compareTo_2 27 = .ok (.aload_n 0, 1) := dk_42 (dk_at dksJ16_compareTo_2_1 3 rfl rfl)
theorem dJ16_compareTo_2_28 : decode cJ16_compareTo_2 28 = .ok (.iload 5, 2) := dk_21 5 (dk_at dksJ16_compareTo_2_1 4 rfl rfl)
theorem dJ16_compareTo_2_30 : decode cJ16_compareTo_2 30 = .ok (.invokestatic 50, 3) := dk_184 0 50 (dk_at dksJ16_compareTo_2_1 6 rfl rfl)
theorem dJ16_compareTo_2_33 : decode cJ16_compareTo_2 33 = .ok (.aload_n 1, 1) := dk_43 (dk_at dksJ16_compareTo_2_1 9 rfl rfl)
theorem dJ16_compareTo_2_34 : decode cJ16_compareTo_2 34 = .ok (.iload 5, 2) := dk_21 5 (dk_at dksJ16_compareTo_2_1 10 rfl rfl)
theorem dJ16_compareTo_2_36 : decode cJ16_compareTo_2 36 = .ok (.invokestatic 50, 3) := dk_184 0 50 (dk_at dksJ16_compareTo_2_1 12 rfl rfl)
theorem dJ16_compareTo_2_39 : decode cJ16_compareTo_2 39 = .ok (.isub, 1) := dk_100 (dk_at dksJ16_compareTo_2_1 15 rfl rfl)
theorem dJ16_compareTo_2_40 : decode cJ16_compareTo_2 40 = .ok (.ireturn, 1) := dk_172 (dk_at dksJ16_compareTo_2_1 16 rfl rfl)
abbrev cJ16_getChar : ByteArray := prog_33_method_44_code
def yJ16_getChar : MethodName := ⟨RJ16, "getChar", "([BI)C"⟩
def dkwJ16_getChar_0 : List UInt8 := [42, 27, 51, 17, 0, 255, 126, 146, 172]
abbrev dktJ16_getChar_0 : List UInt8 := dkwJ16_getChar_0 ++ []
theorem dksJ16_getChar_0 : cJ16_getChar.data.toList.drop 0 = dktJ16_getChar_0 := by decide +kernel
theorem dJ16_getChar_0 : decode cJ16_getChar 0 = .ok (.aload_n 0, 1) := dk_42 (dk_at dksJ16_getChar_0 0 rfl rfl)
theorem dJ16_getChar_1 : decode cJ16_getChar 1 = .ok (.iload_n 1, 1) := dk_27 (dk_at dksJ16_getChar_0 1 rfl rfl)
theorem dJ16_getChar_2 : decode cJ16_getChar 2 = .ok (.baload, 1) := dk_51 (dk_at dksJ16_getChar_0 2 rfl rfl)
theorem dJ16_getChar_3 : decode cJ16_getChar 3 = .ok (.sipush 255, 3) := dk_17 0 255 (dk_at dksJ16_getChar_0 3 rfl rfl)
theorem dJ16_getChar_6 : decode cJ16_getChar 6 = .ok (.iand, 1) := dk_126 (dk_at dksJ16_getChar_0 6 rfl rfl)
theorem dJ16_getChar_7 : decode cJ16_getChar 7 = .ok (.i2c, 1) := dk_146 (dk_at dksJ16_getChar_0 7 rfl rfl)
theorem dJ16_getChar_8 : decode cJ16_getChar 8 = .ok (.ireturn, 1) := dk_172 (dk_at dksJ16_getChar_0 8 rfl rfl)
abbrev cJ16_compareToUTF16 : ByteArray := prog_33_method_16_code
def yJ16_compareToUTF16 : MethodName := ⟨RJ16, "compareToUTF16", "([B[B)I"⟩
def dkwJ16_compareToUTF16_0 : List UInt8 := [42, 184, 0, 54, 61, 43, 184, 0, 58, 62, 42, 43, 28, 29, 184, 0, 59, 172]
abbrev dktJ16_compareToUTF16_0 : List UInt8 := dkwJ16_compareToUTF16_0 ++ []
theorem dksJ16_compareToUTF16_0 : cJ16_compareToUTF16.data.toList.drop 0 = dktJ16_compareToUTF16_0 := by decide +kernel
theorem dJ16_compareToUTF16_0 : decode cJ16_compareToUTF16 0 = .ok (.aload_n 0, 1) := dk_42 (dk_at dksJ16_compareToUTF16_0 0 rfl rfl)
theorem dJ16_compareToUTF16_1 : decode cJ16_compareToUTF16 1 = .ok (.invokestatic 54, 3) := dk_184 0 54 (dk_at dksJ16_compareToUTF16_0 1 rfl rfl)
theorem dJ16_compareToUTF16_4 : decode cJ16_compareToUTF16 4 = .ok (.istore_n 2, 1) := dk_61 (dk_at dksJ16_compareToUTF16_0 4 rfl rfl)
theorem dJ16_compareToUTF16_5 : decode cJ16_compareToUTF16 5 = .ok (.aload_n 1, 1) := dk_43 (dk_at dksJ16_compareToUTF16_0 5 rfl rfl)
theorem dJ16_compareToUTF16_6 : decode cJ16_compareToUTF16 6 = .ok (.invokestatic 58, 3) := dk_184 0 58 (dk_at dksJ16_compareToUTF16_0 6 rfl rfl)
theorem dJ16_compareToUTF16_9 : decode cJ16_compareToUTF16 9 = .ok (.istore_n 3, 1) := dk_62 (dk_at dksJ16_compareToUTF16_0 9 rfl rfl)
theorem dJ16_compareToUTF16_10 : decode cJ16_compareToUTF16 10 = .ok (.aload_n 0, 1) := dk_42 (dk_at dksJ16_compareToUTF16_0 10 rfl rfl)
theorem dJ16_compareToUTF16_11 : decode cJ16_compareToUTF16 11 = .ok (.aload_n 1, 1) := dk_43 (dk_at dksJ16_compareToUTF16_0 11 rfl rfl)
theorem dJ16_compareToUTF16_12 : decode cJ16_compareToUTF16 12 = .ok (.iload_n 2, 1) := dk_28 (dk_at dksJ16_compareToUTF16_0 12 rfl rfl)
theorem dJ16_compareToUTF16_13 : decode cJ16_compareToUTF16 13 = .ok (.iload_n 3, 1) := dk_29 (dk_at dksJ16_compareToUTF16_0 13 rfl rfl)
theorem dJ16_compareToUTF16_14 : decode cJ16_compareToUTF16 14 = .ok (.invokestatic 59, 3) := dk_184 0 59 (dk_at dksJ16_compareToUTF16_0 14 rfl rfl)
theorem dJ16_compareToUTF16_17 : decode cJ16_compareToUTF16 17 = .ok (.ireturn, 1) := dk_172 (dk_at dksJ16_compareToUTF16_0 17 rfl rfl)
abbrev cJ16_length : ByteArray := prog_33_method_5_code
def yJ16_length : MethodName := ⟨RJ16, "length", "([B)I"⟩
theorem dJ16_length_0 : decode cJ16_length 0 = .ok (.aload_n 0, 1) := by decide +kernel
theorem dJ16_length_1 : decode cJ16_length 1 = .ok (.arraylength, 1) := by decide +kernel
theorem dJ16_length_2 : decode cJ16_length 2 = .ok (.ireturn, 1) := by decide +kernel
abbrev cJ16_compareToUTF16Values : ByteArray := prog_33_method_18_code
def yJ16_compareToUTF16Values : MethodName := ⟨RJ16, "compareToUTF16Values", "([B[BII)I"⟩
def dkwJ16_compareToUTF16Values_2 : List UInt8 := [132, 5, 1, 167, 255, 217, 28, 29, 100, 172]
abbrev dktJ16_compareToUTF16Values_2 : List UInt8 := dkwJ16_compareToUTF16Values_2 ++ []
def dkwJ16_compareToUTF16Values_1 : List UInt8 := [54, 6, 43, 21, 5, 184, 0, 65, 54, 7, 21, 6, 21, 7, 159, 0, 9, 21, 6, 21, 7, 100, 172]
abbrev dktJ16_compareToUTF16Values_1 : List UInt8 := dkwJ16_compareToUTF16Values_1 ++ dktJ16_compareToUTF16Values_2
def dkwJ16_compareToUTF16Values_0 : List UInt8 := [28, 29, 184, 0, 38, 54, 4, 3, 54, 5, 21, 5, 21, 4, 162, 0, 38, 42, 21, 5, 184, 0, 50]
abbrev dktJ16_compareToUTF16Values_0 : List UInt8 := dkwJ16_compareToUTF16Values_0 ++ dktJ16_compareToUTF16Values_1
theorem dksJ16_compareToUTF16Values_0 : cJ16_compareToUTF16Values.data.toList.drop 0 = dktJ16_compareToUTF16Values_0 := by decide +kernel
theorem dksJ16_compareToUTF16Values_1 : cJ16_compareToUTF16Values.data.toList.drop 23 = dktJ16_compareToUTF16Values_1 := dk_seg dksJ16_compareToUTF16Values_0 23 rfl rfl
theorem dksJ16_compareToUTF16Values_2 : cJ16_compareToUTF16Values.data.toList.drop 46 = dktJ16_compareToUTF16Values_2 := dk_seg dksJ16_compareToUTF16Values_1 23 rfl rfl
theorem dJ16_compareToUTF16Values_0 : decode cJ16_compareToUTF16Values 0 = .ok (.iload_n 2, 1) := dk_28 (dk_at dksJ16_compareToUTF16Values_0 0 rfl rfl)
theorem dJ16_compareToUTF16Values_1 : decode cJ16_compareToUTF16Values 1 = .ok (.iload_n 3, 1) := dk_29 (dk_at dksJ16_compareToUTF16Values_0 1 rfl rfl)
theorem dJ16_compareToUTF16Values_2 : decode cJ16_compareToUTF16Values 2 = .ok (.invokestatic 38, 3) := dk_184 0 38 (dk_at dksJ16_compareToUTF16Values_0 2 rfl rfl)
theorem dJ16_compareToUTF16Values_5 : decode cJ16_compareToUTF16Values 5 = .ok (.istore 4, 2) := dk_54 4 (dk_at dksJ16_compareToUTF16Values_0 5 rfl rfl)
theorem dJ16_compareToUTF16Values_7 : decode cJ16_compareToUTF16Values 7 = .ok (.iconst 0, 1) := dk_3 (dk_at dksJ16_compareToUTF16Values_0 7 rfl rfl)
theorem dJ16_compareToUTF16Values_8 : decode cJ16_compareToUTF16Values 8 = .ok (.istore 5, 2) := dk_54 5 (dk_at dksJ16_compareToUTF16Values_0 8 rfl rfl)
theorem dJ16_compareToUTF16Values_10 : decode cJ16_compareToUTF16Values 10 = .ok (.iload 5, 2) := dk_21 5 (dk_at dksJ16_compareToUTF16Values_0 10 rfl rfl)
theorem dJ16_compareToUTF16Values_12 : decode cJ16_compareToUTF16Values 12 = .ok (.iload 4, 2) := dk_21 4 (dk_at dksJ16_compareToUTF16Values_0 12 rfl rfl)
theorem dJ16_compareToUTF16Values_14 : decode cJ16_compareToUTF16Values 14 = .ok (.if_icmp .ge 38, 3) := dk_162 0 38 (dk_at dksJ16_compareToUTF16Values_0 14 rfl rfl)
theorem dJ16_compareToUTF16Values_17 : decode cJ16_compareToUTF16Values 17 = .ok (.aload_n 0, 1) := dk_42 (dk_at dksJ16_compareToUTF16Values_0 17 rfl rfl)
theorem dJ16_compareToUTF16Values_18 : decode cJ16_compareToUTF16Values 18 = .ok (.iload 5, 2) := dk_21 5 (dk_at dksJ16_compareToUTF16Values_0 18 rfl rfl)
theorem dJ16_compareToUTF16Values_20 : decode cJ16_compareToUTF16Values 20 = .ok (.invokestatic 50, 3) := dk_184 0 50 (dk_at dksJ16_compareToUTF16Values_0 20 rfl rfl)
theorem dJ16_compareToUTF16Values_23 : decode cJ16_compareToUTF16Values 23 = .ok (.istore 6, 2) := dk_54 6 (dk_at dksJ16_compareToUTF16Values_1 0 rfl rfl)
theorem dJ16_compareToUTF16Values_25 : decode cJ16_compareToUTF16Values 25 = .ok (.aload_n 1, 1) := dk_43 (dk_at dksJ16_compareToUTF16Values_1 2 rfl rfl)
theorem dJ16_compareToUTF16Values_26 : decode cJ16_compareToUTF16Values 26 = .ok (.iload 5, 2) := dk_21 5 (dk_at dksJ16_compareToUTF16Values_1 3 rfl rfl)
theorem dJ16_compareToUTF16Values_28 : decode cJ16_compareToUTF16Values 28 = .ok (.invokestatic 65, 3) := dk_184 0 65 (dk_at dksJ16_compareToUTF16Values_1 5 rfl rfl)
theorem dJ16_compareToUTF16Values_31 : decode cJ16_compareToUTF16Values 31 = .ok (.istore 7, 2) := dk_54 7 (dk_at dksJ16_compareToUTF16Values_1 8 rfl rfl)
theorem dJ16_compareToUTF16Values_33 : decode cJ16_compareToUTF16Values 33 = .ok (.iload 6, 2) := dk_21 6 (dk_at dksJ16_compareToUTF16Values_1 10 rfl rfl)
theorem dJ16_compareToUTF16Values_35 : decode cJ16_compareToUTF16Values 35 = .ok (.iload 7, 2) := dk_21 7 (dk_at dksJ16_compareToUTF16Values_1 12 rfl rfl)
theorem dJ16_compareToUTF16Values_37 : decode cJ16_compareToUTF16Values 37 = .ok (.if_icmp .eq 9, 3) := dk_159 0 9 (dk_at dksJ16_compareToUTF16Values_1 14 rfl rfl)
theorem dJ16_compareToUTF16Values_40 : decode cJ16_compareToUTF16Values 40 = .ok (.iload 6, 2) := dk_21 6 (dk_at dksJ16_compareToUTF16Values_1 17 rfl rfl)
theorem dJ16_compareToUTF16Values_42 : decode cJ16_compareToUTF16Values 42 = .ok (.iload 7, 2) := dk_21 7 (dk_at dksJ16_compareToUTF16Values_1 19 rfl rfl)
theorem dJ16_compareToUTF16Values_44 : decode cJ16_compareToUTF16Values 44 = .ok (.isub, 1) := dk_100 (dk_at dksJ16_compareToUTF16Values_1 21 rfl rfl)
theorem dJ16_compareToUTF16Values_45 : decode cJ16_compareToUTF16Values 45 = .ok (.ireturn, 1) := dk_172 (dk_at dksJ16_compareToUTF16Values_1 22 rfl rfl)
theorem dJ16_compareToUTF16Values_46 : decode cJ16_compareToUTF16Values 46 = .ok (.iinc 5 1, 3) := dk_132 5 1 (dk_at dksJ16_compareToUTF16Values_2 0 rfl rfl)
theorem dJ16_compareToUTF16Values_49 : decode cJ16_compareToUTF16Values 49 = .ok (.goto (-39), 3) := dk_167 255 217 (dk_at dksJ16_compareToUTF16Values_2 3 rfl rfl)
theorem dJ16_compareToUTF16Values_52 : decode cJ16_compareToUTF16Values 52 = .ok (.iload_n 2, 1) := dk_28 (dk_at dksJ16_compareToUTF16Values_2 6 rfl rfl)
theorem dJ16_compareToUTF16Values_53 : decode cJ16_compareToUTF16Values 53 = .ok (.iload_n 3, 1) := dk_29 (dk_at dksJ16_compareToUTF16Values_2 7 rfl rfl)
theorem dJ16_compareToUTF16Values_54 : decode cJ16_compareToUTF16Values 54 = .ok (.isub, 1) := dk_100 (dk_at dksJ16_compareToUTF16Values_2 8 rfl rfl)
theorem dJ16_compareToUTF16Values_55 : decode cJ16_compareToUTF16Values 55 = .ok (.ireturn, 1) := dk_172 (dk_at dksJ16_compareToUTF16Values_2 9 rfl rfl)
abbrev cJ16_compareToUTF16_2 : ByteArray := prog_33_method_17_code
def yJ16_compareToUTF16_2 : MethodName := ⟨RJ16, "compareToUTF16", "([B[BII)I"⟩
def dkwJ16_compareToUTF16_2_0 : List UInt8 := [28, 42, 184, 0, 54, 184, 0, 62, 29, 43, 184, 0, 58, 184, 0, 62, 42, 43, 28, 29, 184, 0, 59, 172]
abbrev dktJ16_compareToUTF16_2_0 : List UInt8 := dkwJ16_compareToUTF16_2_0 ++ []
theorem dksJ16_compareToUTF16_2_0 : cJ16_compareToUTF16_2.data.toList.drop 0 = dktJ16_compareToUTF16_2_0 := by decide +kernel
theorem dJ16_compareToUTF16_2_0 : decode cJ16_compareToUTF16_2 0 = .ok (.iload_n 2, 1) := dk_28 (dk_at dksJ16_compareToUTF16_2_0 0 rfl rfl)
theorem dJ16_compareToUTF16_2_1 : decode cJ16_compareToUTF16_2 1 = .ok (.aload_n 0, 1) := dk_42 (dk_at dksJ16_compareToUTF16_2_0 1 rfl rfl)
theorem dJ16_compareToUTF16_2_2 : decode cJ16_compareToUTF16_2 2 = .ok (.invokestatic 54, 3) := dk_184 0 54 (dk_at dksJ16_compareToUTF16_2_0 2 rfl rfl)
theorem dJ16_compareToUTF16_2_5 : decode cJ16_compareToUTF16_2 5 = .ok (.invokestatic 62, 3) := dk_184 0 62 (dk_at dksJ16_compareToUTF16_2_0 5 rfl rfl)
theorem dJ16_compareToUTF16_2_8 : decode cJ16_compareToUTF16_2 8 = .ok (.iload_n 3, 1) := dk_29 (dk_at dksJ16_compareToUTF16_2_0 8 rfl rfl)
theorem dJ16_compareToUTF16_2_9 : decode cJ16_compareToUTF16_2 9 = .ok (.aload_n 1, 1) := dk_43 (dk_at dksJ16_compareToUTF16_2_0 9 rfl rfl)
theorem dJ16_compareToUTF16_2_10 : decode cJ16_compareToUTF16_2 10 = .ok (.invokestatic 58, 3) := dk_184 0 58 (dk_at dksJ16_compareToUTF16_2_0 10 rfl rfl)
theorem dJ16_compareToUTF16_2_13 : decode cJ16_compareToUTF16_2 13 = .ok (.invokestatic 62, 3) := dk_184 0 62 (dk_at dksJ16_compareToUTF16_2_0 13 rfl rfl)
theorem dJ16_compareToUTF16_2_16 : decode cJ16_compareToUTF16_2 16 = .ok (.aload_n 0, 1) := dk_42 (dk_at dksJ16_compareToUTF16_2_0 16 rfl rfl)
theorem dJ16_compareToUTF16_2_17 : decode cJ16_compareToUTF16_2 17 = .ok (.aload_n 1, 1) := dk_43 (dk_at dksJ16_compareToUTF16_2_0 17 rfl rfl)
theorem dJ16_compareToUTF16_2_18 : decode cJ16_compareToUTF16_2 18 = .ok (.iload_n 2, 1) := dk_28 (dk_at dksJ16_compareToUTF16_2_0 18 rfl rfl)
theorem dJ16_compareToUTF16_2_19 : decode cJ16_compareToUTF16_2 19 = .ok (.iload_n 3, 1) := dk_29 (dk_at dksJ16_compareToUTF16_2_0 19 rfl rfl)
theorem dJ16_compareToUTF16_2_20 : decode cJ16_compareToUTF16_2 20 = .ok (.invokestatic 59, 3) := dk_184 0 59 (dk_at dksJ16_compareToUTF16_2_0 20 rfl rfl)
theorem dJ16_compareToUTF16_2_23 : decode cJ16_compareToUTF16_2 23 = .ok (.ireturn, 1) := dk_172 (dk_at dksJ16_compareToUTF16_2_0 23 rfl rfl)
abbrev cJ16_canEncode : ByteArray := prog_33_method_3_code
def yJ16_canEncode : MethodName := ⟨RJ16, "canEncode", "(C)Z"⟩
def dkwJ16_canEncode_0 : List UInt8 := [26, 17, 0, 255, 163, 0, 7, 4, 167, 0, 4, 3, 172]
abbrev dktJ16_canEncode_0 : List UInt8 := dkwJ16_canEncode_0 ++ []
theorem dksJ16_canEncode_0 : cJ16_canEncode.data.toList.drop 0 = dktJ16_canEncode_0 := by decide +kernel
theorem dJ16_canEncode_0 : decode cJ16_canEncode 0 = .ok (.iload_n 0, 1) := dk_26 (dk_at dksJ16_canEncode_0 0 rfl rfl)
theorem dJ16_canEncode_1 : decode cJ16_canEncode 1 = .ok (.sipush 255, 3) := dk_17 0 255 (dk_at dksJ16_canEncode_0 1 rfl rfl)
theorem dJ16_canEncode_4 : decode cJ16_canEncode 4 = .ok (.if_icmp .gt 7, 3) := dk_163 0 7 (dk_at dksJ16_canEncode_0 4 rfl rfl)
theorem dJ16_canEncode_7 : decode cJ16_canEncode 7 = .ok (.iconst 1, 1) := dk_4 (dk_at dksJ16_canEncode_0 7 rfl rfl)
theorem dJ16_canEncode_8 : decode cJ16_canEncode 8 = .ok (.goto 4, 3) := dk_167 0 4 (dk_at dksJ16_canEncode_0 8 rfl rfl)
theorem dJ16_canEncode_11 : decode cJ16_canEncode 11 = .ok (.iconst 0, 1) := dk_3 (dk_at dksJ16_canEncode_0 11 rfl rfl)
theorem dJ16_canEncode_12 : decode cJ16_canEncode 12 = .ok (.ireturn, 1) := dk_172 (dk_at dksJ16_canEncode_0 12 rfl rfl)
theorem q105 : (Jvm.Cond.initialized "java/lang/StringLatin1") ∈ lw_all := lw_g (lw_at lw_m1 21 rfl) rfl
theorem q350 : (Jvm.Cond.static ({ cls := "java/lang/StringLatin1", name := "inflate", desc := "([BI[BII)V" } : Jvm.MethodName)) ∈ lw_all := lw_g (lw_at lw_m2 26 rfl) rfl
theorem q351 : (Jvm.Cond.code ({ cls := "java/lang/StringLatin1", name := "inflate", desc := "([BI[BII)V" } : Jvm.MethodName) prog_33_method_50_code (5 : Nat) (Option.none : Option Jvm.ClassFile.FieldType)) ∈ lw_all := lw_g (lw_at lw_m2 27 rfl) rfl
theorem q352 : (Jvm.Cond.methodLink "java/lang/StringLatin1" (240 : Nat) ({ cls := "java/lang/StringUTF16", name := "inflate", desc := "([BI[BII)V" } : Jvm.MethodName)) ∈ lw_all := lw_g (lw_at lw_m2 28 rfl) rfl
theorem q534 : (Jvm.Cond.static ({ cls := "java/lang/StringLatin1", name := "fillNull", desc := "([BII)V" } : Jvm.MethodName)) ∈ lw_all := lw_g (lw_at lw_m2 210 rfl) rfl
theorem q535 : (Jvm.Cond.code ({ cls := "java/lang/StringLatin1", name := "fillNull", desc := "([BII)V" } : Jvm.MethodName) prog_33_method_48_code (3 : Nat) (Option.none : Option Jvm.ClassFile.FieldType)) ∈ lw_all := lw_g (lw_at lw_m2 211 rfl) rfl
theorem q536 : (Jvm.Cond.methodLink "java/lang/StringLatin1" (236 : Nat) ({ cls := "java/util/Arrays", name := "fill", desc := "([BIIB)V" } : Jvm.MethodName)) ∈ lw_all := lw_g (lw_at lw_m2 212 rfl) rfl
theorem q1012 : (Jvm.Cond.static ({ cls := "java/lang/StringLatin1", name := "compareTo", desc := "([B[B)I" } : Jvm.MethodName)) ∈ lw_all := lw_g (lw_at lw_m4 208 rfl) rfl
theorem q1013 : (Jvm.Cond.code ({ cls := "java/lang/StringLatin1", name := "compareTo", desc := "([B[B)I" } : Jvm.MethodName) prog_33_method_14_code (4 : Nat) (Option.some Jvm.ClassFile.FieldType.int)) ∈ lw_all := lw_g (lw_at lw_m4 209 rfl) rfl
theorem q1014 : (Jvm.Cond.methodLink "java/lang/StringLatin1" (34 : Nat) ({ cls := "java/lang/StringLatin1", name := "compareTo", desc := "([B[BII)I" } : Jvm.MethodName)) ∈ lw_all := lw_g (lw_at lw_m4 210 rfl) rfl
theorem q1015 : (Jvm.Cond.static ({ cls := "java/lang/StringLatin1", name := "compareTo", desc := "([B[BII)I" } : Jvm.MethodName)) ∈ lw_all := lw_g (lw_at lw_m4 211 rfl) rfl
theorem q1016 : (Jvm.Cond.code ({ cls := "java/lang/StringLatin1", name := "compareTo", desc := "([B[BII)I" } : Jvm.MethodName) prog_33_method_15_code (6 : Nat) (Option.some Jvm.ClassFile.FieldType.int)) ∈ lw_all := lw_g (lw_at lw_m4 212 rfl) rfl
theorem q1017 : (Jvm.Cond.methodLink "java/lang/StringLatin1" (38 : Nat) ({ cls := "java/lang/Math", name := "min", desc := "(II)I" } : Jvm.MethodName)) ∈ lw_all := lw_g (lw_at lw_m4 213 rfl) rfl
theorem q1018 : (Jvm.Cond.methodLink "java/lang/StringLatin1" (44 : Nat) ({ cls := "jdk/internal/util/ArraysSupport", name := "mismatch", desc := "([B[BI)I" } : Jvm.MethodName)) ∈ lw_all := lw_g (lw_at lw_m4 214 rfl) rfl
theorem q1119 : (Jvm.Cond.methodLink "java/lang/StringLatin1" (50 : Nat) ({ cls := "java/lang/StringLatin1", name := "getChar", desc := "([BI)C" } : Jvm.MethodName)) ∈ lw_all := lw_g (lw_at lw_m5 75 rfl) rfl
theorem q1120 : (Jvm.Cond.static ({ cls := "java/lang/StringLatin1", name := "getChar", desc := "([BI)C" } : Jvm.MethodName)) ∈ lw_all := lw_g (lw_at lw_m5 76 rfl) rfl
theorem q1121 : (Jvm.Cond.code ({ cls := "java/lang/StringLatin1", name := "getChar", desc := "([BI)C" } : Jvm.MethodName) prog_33_method_44_code (2 : Nat) (Option.some Jvm.ClassFile.FieldType.char)) ∈ lw_all := lw_g (lw_at lw_m5 77 rfl) rfl
theorem q1130 : (Jvm.Cond.static ({ cls := "java/lang/StringLatin1", name := "compareToUTF16", desc := "([B[B)I" } : Jvm.MethodName)) ∈ lw_all := lw_g (lw_at lw_m5 86 rfl) rfl
theorem q1131 : (Jvm.Cond.code ({ cls := "java/lang/StringLatin1", name := "compareToUTF16", desc := "([B[B)I" } : Jvm.MethodName) prog_33_method_16_code (4 : Nat) (Option.some Jvm.ClassFile.FieldType.int)) ∈ lw_all := lw_g (lw_at lw_m5 87 rfl) rfl
theorem q1132 : (Jvm.Cond.methodLink "java/lang/StringLatin1" (54 : Nat) ({ cls := "java/lang/StringLatin1", name := "length", desc := "([B)I" } : Jvm.MethodName)) ∈ lw_all := lw_g (lw_at lw_m5 88 rfl) rfl
theorem q1133 : (Jvm.Cond.static ({ cls := "java/lang/StringLatin1", name := "length", desc := "([B)I" } : Jvm.MethodName)) ∈ lw_all := lw_g (lw_at lw_m5 89 rfl) rfl
theorem q1134 : (Jvm.Cond.code ({ cls := "java/lang/StringLatin1", name := "length", desc := "([B)I" } : Jvm.MethodName) prog_33_method_5_code (1 : Nat) (Option.some Jvm.ClassFile.FieldType.int)) ∈ lw_all := lw_g (lw_at lw_m5 90 rfl) rfl
theorem q1135 : (Jvm.Cond.methodLink "java/lang/StringLatin1" (58 : Nat) ({ cls := "java/lang/StringUTF16", name := "length", desc := "([B)I" } : Jvm.MethodName)) ∈ lw_all := lw_g (lw_at lw_m5 91 rfl) rfl
theorem q1136 : (Jvm.Cond.methodLink "java/lang/StringLatin1" (59 : Nat) ({ cls := "java/lang/StringLatin1", name := "compareToUTF16Values", desc := "([B[BII)I" } : Jvm.MethodName)) ∈ lw_all := lw_g (lw_at lw_m5 92 rfl) rfl
theorem q1137 : (Jvm.Cond.static ({ cls := "java/lang/StringLatin1", name := "compareToUTF16Values", desc := "([B[BII)I" } : Jvm.MethodName)) ∈ lw_all := lw_g (lw_at lw_m5 93 rfl) rfl
theorem q1138 : (Jvm.Cond.code ({ cls := "java/lang/StringLatin1", name := "compareToUTF16Values", desc := "([B[BII)I" } : Jvm.MethodName) prog_33_method_18_code (8 : Nat) (Option.some Jvm.ClassFile.FieldType.int)) ∈ lw_all := lw_g (lw_at lw_m5 94 rfl) rfl
theorem q1139 : (Jvm.Cond.methodLink "java/lang/StringLatin1" (65 : Nat) ({ cls := "java/lang/StringUTF16", name := "getChar", desc := "([BI)C" } : Jvm.MethodName)) ∈ lw_all := lw_g (lw_at lw_m5 95 rfl) rfl
theorem q1169 : (Jvm.Cond.static ({ cls := "java/lang/StringLatin1", name := "compareToUTF16", desc := "([B[BII)I" } : Jvm.MethodName)) ∈ lw_all := lw_g (lw_at lw_m5 125 rfl) rfl
theorem q1170 : (Jvm.Cond.code ({ cls := "java/lang/StringLatin1", name := "compareToUTF16", desc := "([B[BII)I" } : Jvm.MethodName) prog_33_method_17_code (4 : Nat) (Option.some Jvm.ClassFile.FieldType.int)) ∈ lw_all := lw_g (lw_at lw_m5 126 rfl) rfl
theorem q1171 : (Jvm.Cond.methodLink "java/lang/StringLatin1" (62 : Nat) ({ cls := "java/lang/String", name := "checkOffset", desc := "(II)V" } : Jvm.MethodName)) ∈ lw_all := lw_g (lw_at lw_m5 127 rfl) rfl
theorem q1731 : (Jvm.Cond.static ({ cls := "java/lang/StringLatin1", name := "canEncode", desc := "(C)Z" } : Jvm.MethodName)) ∈ lw_all := lw_g (lw_at lw_m7 207 rfl) rfl
theorem q1732 : (Jvm.Cond.code ({ cls := "java/lang/StringLatin1", name := "canEncode", desc := "(C)Z" } : Jvm.MethodName) prog_33_method_3_code (1 : Nat) (Option.some Jvm.ClassFile.FieldType.boolean)) ∈ lw_all := lw_g (lw_at lw_m7 208 rfl) rfl
/-! jdk/internal/util/Preconditions -/
set_option maxRecDepth 100000
def RJ17 : String := "jdk/internal/util/Preconditions"
abbrev cJ17_checkFromToIndex : ByteArray := prog_69_method_12_code
def yJ17_checkFromToIndex : MethodName := ⟨RJ17, "checkFromToIndex", "(IIILjava/util/function/BiFunction;)I"⟩
def dkwJ17_checkFromToIndex_0 : List UInt8 := [26, 155, 0, 13, 26, 27, 163, 0, 8, 27, 28, 164, 0, 11, 45, 26, 27, 28, 184, 0, 99, 191, 26, 172]
abbrev dktJ17_checkFromToIndex_0 : List UInt8 := dkwJ17_checkFromToIndex_0 ++ []
theorem dksJ17_checkFromToIndex_0 : cJ17_checkFromToIndex.data.toList.drop 0 = dktJ17_checkFromToIndex_0 := by decide +kernel
theorem dJ17_checkFromToIndex_0 : decode cJ17_checkFromToIndex 0 = .ok (.iload_n 0, 1) := dk_26 (dk_at dksJ17_checkFromToIndex_0 0 rfl rfl)
theorem dJ17_checkFromToIndex_1 : decode cJ17_checkFromToIndex 1 = .ok (.ifCond .lt 13, 3) := dk_155 0 13 (dk_at dksJ17_checkFromToIndex_0 1 rfl rfl)
theorem dJ17_checkFromToIndex_4 : decode cJ17_checkFromToIndex 4 = .ok (.iload_n 0, 1) := dk_26 (dk_at dksJ17_checkFromToIndex_0 4 rfl rfl)
theorem dJ17_checkFromToIndex_5 : decode cJ17_checkFromToIndex 5 = .ok (.iload_n 1, 1) := dk_27 (dk_at dksJ17_checkFromToIndex_0 5 rfl rfl)
theorem dJ17_checkFromToIndex_6 : decode cJ17_checkFromToIndex 6 = .ok (.if_icmp .gt 8, 3) := dk_163 0 8 (dk_at dksJ17_checkFromToIndex_0 6 rfl rfl)
theorem dJ17_checkFromToIndex_9 : decode cJ17_checkFromToIndex 9 = .ok (.iload_n 1, 1) := dk_27 (dk_at dksJ17_checkFromToIndex_0 9 rfl rfl)
theorem dJ17_checkFromToIndex_10 : decode cJ17_checkFromToIndex 10 = .ok (.iload_n 2, 1) := dk_28 (dk_at dksJ17_checkFromToIndex_0 10 rfl rfl)
theorem dJ17_checkFromToIndex_11 : decode cJ17_checkFromToIndex 11 = .ok (.if_icmp .le 11, 3) := dk_164 0 11 (dk_at dksJ17_checkFromToIndex_0 11 rfl rfl)
theorem dJ17_checkFromToIndex_14 : decode cJ17_checkFromToIndex 14 = .ok (.aload_n 3, 1) := dk_45 (dk_at dksJ17_checkFromToIndex_0 14 rfl rfl)
theorem dJ17_checkFromToIndex_15 : decode cJ17_checkFromToIndex 15 = .ok (.iload_n 0, 1) := dk_26 (dk_at dksJ17_checkFromToIndex_0 15 rfl rfl)
theorem dJ17_checkFromToIndex_16 : decode cJ17_checkFromToIndex 16 = .ok (.iload_n 1, 1) := dk_27 (dk_at dksJ17_checkFromToIndex_0 16 rfl rfl)
theorem dJ17_checkFromToIndex_17 : decode cJ17_checkFromToIndex 17 = .ok (.iload_n 2, 1) := dk_28 (dk_at dksJ17_checkFromToIndex_0 17 rfl rfl)
theorem dJ17_checkFromToIndex_18 : decode cJ17_checkFromToIndex 18 = .ok (.invokestatic 99, 3) := dk_184 0 99 (dk_at dksJ17_checkFromToIndex_0 18 rfl rfl)
theorem dJ17_checkFromToIndex_21 : decode cJ17_checkFromToIndex 21 = .ok (.athrow, 1) := dk_191 (dk_at dksJ17_checkFromToIndex_0 21 rfl rfl)
theorem dJ17_checkFromToIndex_22 : decode cJ17_checkFromToIndex 22 = .ok (.iload_n 0, 1) := dk_26 (dk_at dksJ17_checkFromToIndex_0 22 rfl rfl)
theorem dJ17_checkFromToIndex_23 : decode cJ17_checkFromToIndex 23 = .ok (.ireturn, 1) := dk_172 (dk_at dksJ17_checkFromToIndex_0 23 rfl rfl)
abbrev cJ17_checkFromIndexSize : ByteArray := prog_69_method_13_code
def yJ17_checkFromIndexSize : MethodName := ⟨RJ17, "checkFromIndexSize", "(IIILjava/util/function/BiFunction;)I"⟩
def dkwJ17_checkFromIndexSize_1 : List UInt8 := [172]
abbrev dktJ17_checkFromIndexSize_1 : List UInt8 := dkwJ17_checkFromIndexSize_1 ++ []
def dkwJ17_checkFromIndexSize_0 : List UInt8 := [28, 26, 128, 27, 128, 155, 0, 10, 27, 28, 26, 100, 164, 0, 11, 45, 26, 27, 28, 184, 0, 103, 191, 26]
abbrev dktJ17_checkFromIndexSize_0 : List UInt8 := dkwJ17_checkFromIndexSize_0 ++ dktJ17_checkFromIndexSize_1
theorem dksJ17_checkFromIndexSize_0 : cJ17_checkFromIndexSize.data.toList.drop 0 = dktJ17_checkFromIndexSize_0 := by decide +kernel
theorem dksJ17_checkFromIndexSize_1 : cJ17_checkFromIndexSize.data.toList.drop 24 = dktJ17_checkFromIndexSize_1 := dk_seg dksJ17_checkFromIndexSize_0 24 rfl rfl
theorem dJ17_checkFromIndexSize_0 : decode cJ17_checkFromIndexSize 0 = .ok (.iload_n 2, 1) := dk_28 (dk_at dksJ17_checkFromIndexSize_0 0 rfl rfl)
theorem dJ17_checkFromIndexSize_1 : decode cJ17_checkFromIndexSize 1 = .ok (.iload_n 0, 1) := dk_26 (dk_at dksJ17_checkFromIndexSize_0 1 rfl rfl)
theorem dJ17_checkFromIndexSize_2 : decode cJ17_checkFromIndexSize 2 = .ok (.ior, 1) := dk_128 (dk_at dksJ17_checkFromIndexSize_0 2 rfl rfl)
theorem dJ17_checkFromIndexSize_3 : decode cJ17_checkFromIndexSize 3 = .ok (.iload_n 1, 1) := dk_27 (dk_at dksJ17_checkFromIndexSize_0 3 rfl rfl)
theorem dJ17_checkFromIndexSize_4 : decode cJ17_checkFromIndexSize 4 = .ok (.ior, 1) := dk_128 (dk_at dksJ17_checkFromIndexSize_0 4 rfl rfl)
theorem dJ17_checkFromIndexSize_5 : decode cJ17_checkFromIndexSize 5 = .ok (.ifCond .lt 10, 3) := dk_155 0 10 (dk_at dksJ17_checkFromIndexSize_0 5 rfl rfl)
theorem dJ17_checkFromIndexSize_8 : decode cJ17_checkFromIndexSize 8 = .ok (.iload_n 1, 1) := dk_27 (dk_at dksJ17_checkFromIndexSize_0 8 rfl rfl)
theorem dJ17_checkFromIndexSize_9 : decode cJ17_checkFromIndexSize 9 = .ok (.iload_n 2, 1) := dk_28 (dk_at dksJ17_checkFromIndexSize_0 9 rfl rfl)
theorem dJ17_checkFromIndexSize_10 : decode cJ17_checkFromIndexSize 10 = .ok (.iload_n 0, 1) := dk_26 (dk_at dksJ17_checkFromIndexSize_0 10 rfl rfl)
theorem dJ17_checkFromIndexSize_11 : decode cJ17_checkFromIndexSize 11 = .ok (.isub, 1) := dk_100 (dk_at dksJ17_checkFromIndexSize_0 11 rfl rfl)
theorem dJ17_checkFromIndexSize_12 : decode cJ17_checkFromIndexSize 12 = .ok (.if_icmp .le 11, 3) := dk_164 0 11 (dk_at dksJ17_checkFromIndexSize_0 12 rfl rfl)
theorem dJ17_checkFromIndexSize_15 : decode cJ17_checkFromIndexSize 15 = .ok (.aload_n 3, 1) := dk_45 (dk_at dksJ17_checkFromIndexSize_0 15 rfl rfl)
theorem dJ17_checkFromIndexSize_16 : decode cJ17_checkFromIndexSize 16 = .ok (.iload_n 0, 1) := dk_26 (dk_at dksJ17_checkFromIndexSize_0 16 rfl rfl)
theorem dJ17_checkFromIndexSize_17 : decode cJ17_checkFromIndexSize 17 = .ok (.iload_n 1, 1) := dk_27 (dk_at dksJ17_checkFromIndexSize_0 17 rfl rfl)
theorem dJ17_checkFromIndexSize_18 : decode cJ17_checkFromIndexSize 18 = .ok (.iload_n 2, 1) := dk_28 (dk_at dksJ17_checkFromIndexSize_0 18 rfl rfl)
theorem dJ17_checkFromIndexSize_19 : decode cJ17_checkFromIndexSize 19 = .ok (.invokestatic 103, 3) := dk_184 0 103 (dk_at dksJ17_checkFromIndexSize_0 19 rfl rfl)
theorem dJ17_checkFromIndexSize_22 : decode cJ17_checkFromIndexSize 22 = .ok (.athrow, 1) := dk_191 (dk_at dksJ17_checkFromIndexSize_0 22 rfl rfl)
theorem dJ17_checkFromIndexSize_23 : decode cJ17_checkFromIndexSize 23 = .ok (.iload_n 0, 1) := dk_26 (dk_at dksJ17_checkFromIndexSize_0 23 rfl rfl)
theorem dJ17_checkFromIndexSize_24 : decode cJ17_checkFromIndexSize 24 = .ok (.ireturn, 1) := dk_172 (dk_at dksJ17_checkFromIndexSize_1 0 rfl rfl)
abbrev cJ17_checkIndex : ByteArray := prog_69_method_11_code
def yJ17_checkIndex : MethodName := ⟨RJ17, "checkIndex", "(IILjava/util/function/BiFunction;)I"⟩
def dkwJ17_checkIndex_0 : List UInt8 := [26, 155, 0, 8, 26, 27, 161, 0, 10, 44, 26, 27, 184, 0, 95, 191, 26, 172]
abbrev dktJ17_checkIndex_0 : List UInt8 := dkwJ17_checkIndex_0 ++ []
theorem dksJ17_checkIndex_0 : cJ17_checkIndex.data.toList.drop 0 = dktJ17_checkIndex_0 := by decide +kernel
theorem dJ17_checkIndex_0 : decode cJ17_checkIndex 0 = .ok (.iload_n 0, 1) := dk_26 (dk_at dksJ17_checkIndex_0 0 rfl rfl)
theorem dJ17_checkIndex_1 : decode cJ17_checkIndex 1 = .ok (.ifCond .lt 8, 3) := dk_155 0 8 (dk_at dksJ17_checkIndex_0 1 rfl rfl)
theorem dJ17_checkIndex_4 : decode cJ17_checkIndex 4 = .ok (.iload_n 0, 1) := dk_26 (dk_at dksJ17_checkIndex_0 4 rfl rfl)
theorem dJ17_checkIndex_5 : decode cJ17_checkIndex 5 = .ok (.iload_n 1, 1) := dk_27 (dk_at dksJ17_checkIndex_0 5 rfl rfl)
theorem dJ17_checkIndex_6 : decode cJ17_checkIndex 6 = .ok (.if_icmp .lt 10, 3) := dk_161 0 10 (dk_at dksJ17_checkIndex_0 6 rfl rfl)
theorem dJ17_checkIndex_9 : decode cJ17_checkIndex 9 = .ok (.aload_n 2, 1) := dk_44 (dk_at dksJ17_checkIndex_0 9 rfl rfl)
theorem dJ17_checkIndex_10 : decode cJ17_checkIndex 10 = .ok (.iload_n 0, 1) := dk_26 (dk_at dksJ17_checkIndex_0 10 rfl rfl)
theorem dJ17_checkIndex_11 : decode cJ17_checkIndex 11 = .ok (.iload_n 1, 1) := dk_27 (dk_at dksJ17_checkIndex_0 11 rfl rfl)
theorem dJ17_checkIndex_12 : decode cJ17_checkIndex 12 = .ok (.invokestatic 95, 3) := dk_184 0 95 (dk_at dksJ17_checkIndex_0 12 rfl rfl)
theorem dJ17_checkIndex_15 : decode cJ17_checkIndex 15 = .ok (.athrow, 1) := dk_191 (dk_at dksJ17_checkIndex_0 15 rfl rfl)
theorem dJ17_checkIndex_16 : decode cJ17_checkIndex 16 = .ok (.iload_n 0, 1) := dk_26 (dk_at dksJ17_checkIndex_0 16 rfl rfl)
theorem dJ17_checkIndex_17 : decode cJ17_checkIndex 17 = .ok (.ireturn, 1) := dk_172 (dk_at dksJ17_checkIndex_0 17 rfl rfl)
theorem q106 : (Jvm.Cond.initialized "jdk/internal/util/Preconditions") ∈ lw_all := lw_g (lw_at lw_m1 22 rfl) rfl
theorem q314 : (Jvm.Cond.laysStatic "jdk/internal/util/Preconditions" "SIOOBE_FORMATTER" "Ljava/util/function/BiFunction;") ∈ lw_tbl := lw_at lw_m1 230 rfl
theorem q316 : (Jvm.Cond.static ({ cls := "jdk/internal/util/Preconditions", name := "checkFromToIndex", desc := "(IIILjava/util/function/BiFunction;)I" } : Jvm.MethodName)) ∈ lw_all := lw_g (lw_at lw_m1 232 rfl) rfl
theorem q317 : (Jvm.Cond.code ({ cls := "jdk/internal/util/Preconditions", name := "checkFromToIndex", desc := "(IIILjava/util/function/BiFunction;)I" } : Jvm.MethodName) prog_69_method_12_code (4 : Nat) (Option.some Jvm.ClassFile.FieldType.int)) ∈ lw_all := lw_g (lw_at lw_m1 233 rfl) rfl
theorem q362 : (Jvm.Cond.static ({ cls := "jdk/internal/util/Preconditions", name := "checkFromIndexSize", desc := "(IIILjava/util/function/BiFunction;)I" } : Jvm.MethodName)) ∈ lw_all := lw_g (lw_at lw_m2 38 rfl) rfl
theorem q363 : (Jvm.Cond.code ({ cls := "jdk/internal/util/Preconditions", name := "checkFromIndexSize", desc := "(IIILjava/util/function/BiFunction;)I" } : Jvm.MethodName) prog_69_method_13_code (4 : Nat) (Option.some Jvm.ClassFile.FieldType.int)) ∈ lw_all := lw_g (lw_at lw_m2 39 rfl) rfl
theorem q632 : (Jvm.Cond.static ({ cls := "jdk/internal/util/Preconditions", name := "checkIndex", desc := "(IILjava/util/function/BiFunction;)I" } : Jvm.MethodName)) ∈ lw_all := lw_g (lw_at lw_m3 68 rfl) rfl
theorem q633 : (Jvm.Cond.code ({ cls := "jdk/internal/util/Preconditions", name := "checkIndex", desc := "(IILjava/util/function/BiFunction;)I" } : Jvm.MethodName) prog_69_method_11_code (3 : Nat) (Option.some Jvm.ClassFile.FieldType.int)) ∈ lw_all := lw_g (lw_at lw_m3 69 rfl) rfl
/-! java/lang/StringIndexOutOfBoundsException -/
set_option maxRecDepth 100000
def RJ18 : String := "java/lang/StringIndexOutOfBoundsException"
def TJ18 : u_T := fun k => match k with
  | 0 => ("java/lang/Throwable", "backtrace", "Ljava/lang/Object;", false)
  | 1 => ("java/lang/Throwable", "detailMessage", "Ljava/lang/String;", false)
  | 2 => ("java/lang/Throwable", "cause", "Ljava/lang/Throwable;", false)
  | 3 => ("java/lang/Throwable", "stackTrace", "[Ljava/lang/StackTraceElement;", false)
  | 4 => ("java/lang/Throwable", "depth", "I", false)
  | _ => ("java/lang/Throwable", "suppressedExceptions", "Ljava/util/List;", false)
def tyJ18 : Nat → FieldType := fun k => match k with
  | 0 => .object "java/lang/Object"
  | 1 => .object "java/lang/String"
  | 2 => .object "java/lang/Throwable"
  | 3 => .array (.object "java/lang/StackTraceElement")
  | 4 => .int
  | _ => .object "java/util/List"
abbrev wsJ180 : List Cond := u_ws RJ18 TJ18 6
theorem nmJ18 : ∀ a, a < 6 → ∀ b, b < 6 → a ≠ b → (TJ18 a).2.1 ≠ (TJ18 b).2.1 := by decide +kernel
theorem tyJ18_ok : ∀ k, k < 6 → parseFieldDescriptor (TJ18 k).2.2.1 = some (tyJ18 k) := by decide +kernel
abbrev cJ18_init : ByteArray := prog_32_method_3_code
def yJ18_init : MethodName := ⟨RJ18, "<init>", "(I)V"⟩
def dkwJ18_init_0 : List UInt8 := [42, 187, 0, 10, 89, 183, 0, 12, 18, 13, 182, 0, 15, 27, 182, 0, 19, 182, 0, 22, 183, 0, 7, 177]
abbrev dktJ18_init_0 : List UInt8 := dkwJ18_init_0 ++ []
theorem dksJ18_init_0 : cJ18_init.data.toList.drop 0 = dktJ18_init_0 := by decide +kernel
theorem dJ18_init_0 : decode cJ18_init 0 = .ok (.aload_n 0, 1) := dk_42 (dk_at dksJ18_init_0 0 rfl rfl)
theorem dJ18_init_1 : decode cJ18_init 1 = .ok (.new 10, 3) := dk_187 0 10 (dk_at dksJ18_init_0 1 rfl rfl)
theorem dJ18_init_4 : decode cJ18_init 4 = .ok (.dup, 1) := dk_89 (dk_at dksJ18_init_0 4 rfl rfl)
theorem dJ18_init_5 : decode cJ18_init 5 = .ok (.invokespecial 12, 3) := dk_183 0 12 (dk_at dksJ18_init_0 5 rfl rfl)
theorem dJ18_init_8 : decode cJ18_init 8 = .ok (.ldc 13, 2) := dk_18 13 (dk_at dksJ18_init_0 8 rfl rfl)
theorem dJ18_init_10 : decode cJ18_init 10 = .ok (.invokevirtual 15, 3) := dk_182 0 15 (dk_at dksJ18_init_0 10 rfl rfl)
theorem dJ18_init_13 : decode cJ18_init 13 = .ok (.iload_n 1, 1) := dk_27 (dk_at dksJ18_init_0 13 rfl rfl)
theorem dJ18_init_14 : decode cJ18_init 14 = .ok (.invokevirtual 19, 3) := dk_182 0 19 (dk_at dksJ18_init_0 14 rfl rfl)
theorem dJ18_init_17 : decode cJ18_init 17 = .ok (.invokevirtual 22, 3) := dk_182 0 22 (dk_at dksJ18_init_0 17 rfl rfl)
theorem dJ18_init_20 : decode cJ18_init 20 = .ok (.invokespecial 7, 3) := dk_183 0 7 (dk_at dksJ18_init_0 20 rfl rfl)
theorem dJ18_init_23 : decode cJ18_init 23 = .ok (.return_, 1) := dk_177 (dk_at dksJ18_init_0 23 rfl rfl)
theorem q107 : (Jvm.Cond.initialized "java/lang/StringIndexOutOfBoundsException") ∈ lw_all := lw_g (lw_at lw_m1 23 rfl) rfl
theorem q241 : (Jvm.Cond.instantiable "java/lang/StringIndexOutOfBoundsException" (6 : Nat)) ∈ lw_all := lw_g (lw_at lw_m1 157 rfl) rfl
theorem q243 : (Jvm.Cond.instanceMethod ({ cls := "java/lang/StringIndexOutOfBoundsException", name := "<init>", desc := "(I)V" } : Jvm.MethodName)) ∈ lw_all := lw_g (lw_at lw_m1 159 rfl) rfl
theorem q244 : (Jvm.Cond.code ({ cls := "java/lang/StringIndexOutOfBoundsException", name := "<init>", desc := "(I)V" } : Jvm.MethodName) prog_32_method_3_code (2 : Nat) (Option.none : Option Jvm.ClassFile.FieldType)) ∈ lw_all := lw_g (lw_at lw_m1 160 rfl) rfl
theorem q245 : (Jvm.Cond.classLink "java/lang/StringIndexOutOfBoundsException" (10 : Nat) "java/lang/StringBuilder") ∈ lw_all := lw_g (lw_at lw_m1 161 rfl) rfl
theorem q246 : (Jvm.Cond.methodLink "java/lang/StringIndexOutOfBoundsException" (12 : Nat) ({ cls := "java/lang/StringBuilder", name := "<init>", desc := "()V" } : Jvm.MethodName)) ∈ lw_all := lw_g (lw_at lw_m1 162 rfl) rfl
theorem q249 : (Jvm.Cond.stringRef "java/lang/StringIndexOutOfBoundsException" (13 : Nat) "String index out of range: ") ∈ lw_tbl := lw_at lw_m1 165 rfl
theorem q250 : (Jvm.Cond.methodLink "java/lang/StringIndexOutOfBoundsException" (15 : Nat) ({ cls := "java/lang/StringBuilder", name := "append", desc := "(Ljava/lang/String;)Ljava/lang/StringBuilder;" } : Jvm.MethodName)) ∈ lw_all := lw_g (lw_at lw_m1 166 rfl) rfl
theorem q370 : (Jvm.Cond.methodLink "java/lang/StringIndexOutOfBoundsException" (19 : Nat) ({ cls := "java/lang/StringBuilder", name := "append", desc := "(I)Ljava/lang/StringBuilder;" } : Jvm.MethodName)) ∈ lw_all := lw_g (lw_at lw_m2 46 rfl) rfl
theorem q395 : (Jvm.Cond.methodLink "java/lang/StringIndexOutOfBoundsException" (22 : Nat) ({ cls := "java/lang/StringBuilder", name := "toString", desc := "()Ljava/lang/String;" } : Jvm.MethodName)) ∈ lw_all := lw_g (lw_at lw_m2 71 rfl) rfl
theorem q460 : (Jvm.Cond.selects "java/lang/StringIndexOutOfBoundsException" ({ cls := "java/lang/Throwable", name := "fillInStackTrace", desc := "()Ljava/lang/Throwable;" } : Jvm.MethodName) ({ cls := "java/lang/Throwable", name := "fillInStackTrace", desc := "()Ljava/lang/Throwable;" } : Jvm.MethodName)) ∈ lw_all := lw_g (lw_at lw_m2 136 rfl) rfl
theorem q522 : (Jvm.Cond.methodLink "java/lang/StringIndexOutOfBoundsException" (7 : Nat) ({ cls := "java/lang/IndexOutOfBoundsException", name := "<init>", desc := "(Ljava/lang/String;)V" } : Jvm.MethodName)) ∈ lw_all := lw_g (lw_at lw_m2 198 rfl) rfl
theorem q526 : (Jvm.Cond.lays "java/lang/StringIndexOutOfBoundsException" "java/lang/Throwable" "backtrace" "Ljava/lang/Object;") ∈ lw_all := lw_g (lw_at lw_m2 202 rfl) rfl
theorem q527 : (Jvm.Cond.lays "java/lang/StringIndexOutOfBoundsException" "java/lang/Throwable" "detailMessage" "Ljava/lang/String;") ∈ lw_all := lw_g (lw_at lw_m2 203 rfl) rfl
theorem q528 : (Jvm.Cond.lays "java/lang/StringIndexOutOfBoundsException" "java/lang/Throwable" "cause" "Ljava/lang/Throwable;") ∈ lw_all := lw_g (lw_at lw_m2 204 rfl) rfl
theorem q529 : (Jvm.Cond.lays "java/lang/StringIndexOutOfBoundsException" "java/lang/Throwable" "stackTrace" "[Ljava/lang/StackTraceElement;") ∈ lw_all := lw_g (lw_at lw_m2 205 rfl) rfl
theorem q530 : (Jvm.Cond.lays "java/lang/StringIndexOutOfBoundsException" "java/lang/Throwable" "depth" "I") ∈ lw_all := lw_g (lw_at lw_m2 206 rfl) rfl
theorem q531 : (Jvm.Cond.lays "java/lang/StringIndexOutOfBoundsException" "java/lang/Throwable" "suppressedExceptions" "Ljava/util/List;") ∈ lw_all := lw_g (lw_at lw_m2 207 rfl) rfl
theorem q532 : (Jvm.Cond.superclass "java/lang/StringIndexOutOfBoundsException" "java/lang/IndexOutOfBoundsException") ∈ lw_all := lw_g (lw_at lw_m2 208 rfl) rfl
theorem q913 : (Jvm.Cond.selects "java/lang/StringIndexOutOfBoundsException" ({ cls := "java/lang/Object", name := "getClass", desc := "()Ljava/lang/Class;" } : Jvm.MethodName) ({ cls := "java/lang/Object", name := "getClass", desc := "()Ljava/lang/Class;" } : Jvm.MethodName)) ∈ lw_all := lw_g (lw_at lw_m4 109 rfl) rfl
theorem q2278 : (Jvm.Cond.castable "java/lang/StringIndexOutOfBoundsException" "java/lang/IndexOutOfBoundsException") ∈ lw_tbl := lw_at lw_m10 34 rfl
theorem q2287 : (Jvm.Cond.castable "java/lang/StringIndexOutOfBoundsException" "java/lang/Object") ∈ lw_tbl := lw_at lw_m10 43 rfl
theorem in_J18 : ∀ w ∈ wsJ180, w ∈ lw_all := lw_in wsJ180 [526, 527, 528, 529, 530, 531] (by decide +kernel) (by decide +kernel)
/-! java/util/AbstractMap -/
set_option maxRecDepth 100000
def RJ19 : String := "java/util/AbstractMap"
abbrev cJ19_init : ByteArray := prog_41_method_1_code
def yJ19_init : MethodName := ⟨RJ19, "<init>", "()V"⟩
theorem dJ19_init_0 : decode cJ19_init 0 = .ok (.aload_n 0, 1) := by decide +kernel
theorem dJ19_init_1 : decode cJ19_init 1 = .ok (.invokespecial 1, 3) := by decide +kernel
theorem dJ19_init_4 : decode cJ19_init 4 = .ok (.return_, 1) := by decide +kernel
theorem q110 : (Jvm.Cond.initialized "java/util/AbstractMap") ∈ lw_all := lw_g (lw_at lw_m1 26 rfl) rfl
theorem q1276 : (Jvm.Cond.instanceMethod ({ cls := "java/util/AbstractMap", name := "<init>", desc := "()V" } : Jvm.MethodName)) ∈ lw_all := lw_g (lw_at lw_m5 232 rfl) rfl
theorem q1277 : (Jvm.Cond.code ({ cls := "java/util/AbstractMap", name := "<init>", desc := "()V" } : Jvm.MethodName) prog_41_method_1_code (1 : Nat) (Option.none : Option Jvm.ClassFile.FieldType)) ∈ lw_all := lw_g (lw_at lw_m5 233 rfl) rfl
theorem q1278 : (Jvm.Cond.methodLink "java/util/AbstractMap" (1 : Nat) ({ cls := "java/lang/Object", name := "<init>", desc := "()V" } : Jvm.MethodName)) ∈ lw_all := lw_g (lw_at lw_m5 234 rfl) rfl
theorem q1300 : (Jvm.Cond.soleField "java/util/AbstractMap" "keySet") ∈ lw_all := lw_g (lw_at lw_m6 16 rfl) rfl
theorem q1302 : (Jvm.Cond.soleField "java/util/AbstractMap" "values") ∈ lw_all := lw_g (lw_at lw_m6 18 rfl) rfl
