/-! DECODE ROWS BY BYTES: one lemma an opcode; a method's code is cut into short pieces once, and a row reads its own piece alone. -/
set_option maxRecDepth 100000
/-- the code has just these bytes from pc on -/
def DkAt (code : ByteArray) (pc : Nat) (bs : List UInt8) : Prop := ∀ (j : Nat) (b : UInt8), bs[j]? = some b → code.data.toList[pc + j]? = some b
/-- the piece W has the bytes bs from its place j on -/
def dkIn (W : List UInt8) (j : Nat) (bs : List UInt8) : Bool := decide ((W.drop j).take bs.length = bs)
theorem dk_seg {l W T : List UInt8} {o o2 : Nat} (h : l.drop o = W ++ T) (n : Nat) (hn : W.length = n) (ho : o + n = o2) : l.drop o2 = T := by
  subst ho
  rw [← List.drop_drop, h, List.drop_left' hn]
theorem dk_at {code : ByteArray} {W T bs : List UInt8} {o pc : Nat} (h : code.data.toList.drop o = W ++ T) (j : Nat) (hp : o + j = pc) (hw : dkIn W j bs = true) : DkAt code pc bs := by
  subst hp
  intro i b e
  have h1 := of_decide_eq_true hw
  have h2 : i < bs.length := (List.getElem?_eq_some_iff.mp e).1
  have h3 : W[j + i]? = some b := by
    rw [← h1, List.getElem?_take, if_pos h2, List.getElem?_drop] at e
    exact e
  have h4 : j + i < W.length := (List.getElem?_eq_some_iff.mp h3).1
  have h5 : (code.data.toList.drop o)[j + i]? = some b := by
    rw [h, List.getElem?_append_left h4]
    exact h3
  rw [List.getElem?_drop, ← Nat.add_assoc] at h5
  exact h5
theorem dk_u1 {A : ByteArray} {p : Nat} {b : UInt8} (h : A.data.toList[p]? = some b) : (Reader.u1 : Reader DecodeError Nat) A p = .ok (b.toNat, p + 1) := by
  obtain ⟨h1, h2⟩ := List.getElem?_eq_some_iff.mp h
  have h3 : p < A.size := by simpa using h1
  have h4 : A[p]'h3 = b := h2
  have e : (Reader.u1 : Reader DecodeError Nat) A p = (if h : p < A.size then .ok (A[p].toNat, p + 1) else .error (HasTruncated.truncated p)) := by
    show (do if h : p < A.size then do set (p + 1); Pure.pure A[p].toNat else MonadExcept.throw (HasTruncated.truncated p) : Reader DecodeError Nat) A p = _
    by_cases hi : p < A.size
    · rw [dif_pos hi, dif_pos hi]; rfl
    · rw [dif_neg hi, dif_neg hi]; rfl
  rw [e, dif_pos h3, h4]
theorem dk_bind {α β : Type} {r : Reader DecodeError α} {f : α → Reader DecodeError β} {A : ByteArray} {p s : Nat} {a : α} (h : r A p = .ok (a, s)) : (r >>= f) A p = f a A s := by
  show (do let (a, s) ← r A p; f a A s : Except DecodeError (β × Nat)) = _
  rw [h]
  rfl
theorem dk_map {α β : Type} {r : Reader DecodeError α} {g : α → β} {A : ByteArray} {p s : Nat} {a : α} (h : r A p = .ok (a, s)) : (g <$> r) A p = .ok (g a, s) := by
  show (do let (a, s) ← r A p; .ok (g a, s) : Except DecodeError (β × Nat)) = _
  rw [h]
  rfl
theorem dk_u2 {A : ByteArray} {p : Nat} {a b : UInt8} (h : A.data.toList[p]? = some a) (h2 : A.data.toList[p + 1]? = some b) : (Reader.u2 : Reader DecodeError Nat) A p = .ok (a.toNat * 256 + b.toNat, p + 2) := by
  show (Reader.u1 >>= fun hi => Reader.u1 >>= fun lo => Pure.pure (hi * 256 + lo) : Reader DecodeError Nat) A p = _
  rw [dk_bind (dk_u1 h), dk_bind (dk_u1 h2)]
  rfl
theorem dk_of {code : ByteArray} {pc n : Nat} {i : Instr} (h : Decoder.instr pc code pc = .ok (i, pc + n)) : decode code pc = .ok (i, n) := by
  have e : decode code pc = (match Decoder.instr pc code pc with | .error x => .error x | .ok (j, s) => .ok (j, s - pc)) := by
    show (do let (j, s) ← Decoder.instr pc code pc; Pure.pure (j, s - pc) : Except DecodeError (Instr × Nat)) = _
    cases Decoder.instr pc code pc <;> rfl
  rw [e, h]
  show Except.ok (i, pc + n - pc) = _
  rw [Nat.add_sub_cancel_left]
theorem dk_1 {code : ByteArray} {pc : Nat} (h : DkAt code pc [1]) : decode code pc = .ok (.aconst_null, 1) := dk_of ((dk_bind (dk_u1 (h 0 _ rfl))).trans rfl)
theorem dk_2 {code : ByteArray} {pc : Nat} (h : DkAt code pc [2]) : decode code pc = .ok (.iconst (-1), 1) := dk_of ((dk_bind (dk_u1 (h 0 _ rfl))).trans rfl)
theorem dk_3 {code : ByteArray} {pc : Nat} (h : DkAt code pc [3]) : decode code pc = .ok (.iconst 0, 1) := dk_of ((dk_bind (dk_u1 (h 0 _ rfl))).trans rfl)
theorem dk_4 {code : ByteArray} {pc : Nat} (h : DkAt code pc [4]) : decode code pc = .ok (.iconst 1, 1) := dk_of ((dk_bind (dk_u1 (h 0 _ rfl))).trans rfl)
theorem dk_5 {code : ByteArray} {pc : Nat} (h : DkAt code pc [5]) : decode code pc = .ok (.iconst 2, 1) := dk_of ((dk_bind (dk_u1 (h 0 _ rfl))).trans rfl)
theorem dk_6 {code : ByteArray} {pc : Nat} (h : DkAt code pc [6]) : decode code pc = .ok (.iconst 3, 1) := dk_of ((dk_bind (dk_u1 (h 0 _ rfl))).trans rfl)
theorem dk_7 {code : ByteArray} {pc : Nat} (h : DkAt code pc [7]) : decode code pc = .ok (.iconst 4, 1) := dk_of ((dk_bind (dk_u1 (h 0 _ rfl))).trans rfl)
theorem dk_8 {code : ByteArray} {pc : Nat} (h : DkAt code pc [8]) : decode code pc = .ok (.iconst 5, 1) := dk_of ((dk_bind (dk_u1 (h 0 _ rfl))).trans rfl)
theorem dk_9 {code : ByteArray} {pc : Nat} (h : DkAt code pc [9]) : decode code pc = .ok (.lconst 0, 1) := dk_of ((dk_bind (dk_u1 (h 0 _ rfl))).trans rfl)
theorem dk_16 {code : ByteArray} {pc : Nat} (a : UInt8) (h : DkAt code pc [16, a]) : decode code pc = .ok (.bipush (Reader.signed 8 a.toNat), 2) := dk_of ((dk_bind (dk_u1 (h 0 _ rfl))).trans ((dk_bind (dk_map (dk_u1 (h 1 _ rfl)))).trans rfl))
theorem dk_17 {code : ByteArray} {pc : Nat} (a b : UInt8) (h : DkAt code pc [17, a, b]) : decode code pc = .ok (.sipush (Reader.signed 16 (a.toNat * 256 + b.toNat)), 3) := dk_of ((dk_bind (dk_u1 (h 0 _ rfl))).trans ((dk_bind (dk_map (dk_u2 (h 1 _ rfl) (h 2 _ rfl)))).trans rfl))
theorem dk_18 {code : ByteArray} {pc : Nat} (a : UInt8) (h : DkAt code pc [18, a]) : decode code pc = .ok (.ldc a.toNat, 2) := dk_of ((dk_bind (dk_u1 (h 0 _ rfl))).trans ((dk_bind (dk_u1 (h 1 _ rfl))).trans rfl))
theorem dk_21 {code : ByteArray} {pc : Nat} (a : UInt8) (h : DkAt code pc [21, a]) : decode code pc = .ok (.iload a.toNat, 2) := dk_of ((dk_bind (dk_u1 (h 0 _ rfl))).trans ((dk_bind (dk_u1 (h 1 _ rfl))).trans rfl))
theorem dk_22 {code : ByteArray} {pc : Nat} (a : UInt8) (h : DkAt code pc [22, a]) : decode code pc = .ok (.lload a.toNat, 2) := dk_of ((dk_bind (dk_u1 (h 0 _ rfl))).trans ((dk_bind (dk_u1 (h 1 _ rfl))).trans rfl))
theorem dk_25 {code : ByteArray} {pc : Nat} (a : UInt8) (h : DkAt code pc [25, a]) : decode code pc = .ok (.aload a.toNat, 2) := dk_of ((dk_bind (dk_u1 (h 0 _ rfl))).trans ((dk_bind (dk_u1 (h 1 _ rfl))).trans rfl))
theorem dk_26 {code : ByteArray} {pc : Nat} (h : DkAt code pc [26]) : decode code pc = .ok (.iload_n 0, 1) := dk_of ((dk_bind (dk_u1 (h 0 _ rfl))).trans rfl)
theorem dk_27 {code : ByteArray} {pc : Nat} (h : DkAt code pc [27]) : decode code pc = .ok (.iload_n 1, 1) := dk_of ((dk_bind (dk_u1 (h 0 _ rfl))).trans rfl)
theorem dk_28 {code : ByteArray} {pc : Nat} (h : DkAt code pc [28]) : decode code pc = .ok (.iload_n 2, 1) := dk_of ((dk_bind (dk_u1 (h 0 _ rfl))).trans rfl)
theorem dk_29 {code : ByteArray} {pc : Nat} (h : DkAt code pc [29]) : decode code pc = .ok (.iload_n 3, 1) := dk_of ((dk_bind (dk_u1 (h 0 _ rfl))).trans rfl)
theorem dk_42 {code : ByteArray} {pc : Nat} (h : DkAt code pc [42]) : decode code pc = .ok (.aload_n 0, 1) := dk_of ((dk_bind (dk_u1 (h 0 _ rfl))).trans rfl)
theorem dk_43 {code : ByteArray} {pc : Nat} (h : DkAt code pc [43]) : decode code pc = .ok (.aload_n 1, 1) := dk_of ((dk_bind (dk_u1 (h 0 _ rfl))).trans rfl)
theorem dk_44 {code : ByteArray} {pc : Nat} (h : DkAt code pc [44]) : decode code pc = .ok (.aload_n 2, 1) := dk_of ((dk_bind (dk_u1 (h 0 _ rfl))).trans rfl)
theorem dk_45 {code : ByteArray} {pc : Nat} (h : DkAt code pc [45]) : decode code pc = .ok (.aload_n 3, 1) := dk_of ((dk_bind (dk_u1 (h 0 _ rfl))).trans rfl)
theorem dk_46 {code : ByteArray} {pc : Nat} (h : DkAt code pc [46]) : decode code pc = .ok (.iaload, 1) := dk_of ((dk_bind (dk_u1 (h 0 _ rfl))).trans rfl)
theorem dk_47 {code : ByteArray} {pc : Nat} (h : DkAt code pc [47]) : decode code pc = .ok (.laload, 1) := dk_of ((dk_bind (dk_u1 (h 0 _ rfl))).trans rfl)
theorem dk_50 {code : ByteArray} {pc : Nat} (h : DkAt code pc [50]) : decode code pc = .ok (.aaload, 1) := dk_of ((dk_bind (dk_u1 (h 0 _ rfl))).trans rfl)
theorem dk_51 {code : ByteArray} {pc : Nat} (h : DkAt code pc [51]) : decode code pc = .ok (.baload, 1) := dk_of ((dk_bind (dk_u1 (h 0 _ rfl))).trans rfl)
theorem dk_53 {code : ByteArray} {pc : Nat} (h : DkAt code pc [53]) : decode code pc = .ok (.saload, 1) := dk_of ((dk_bind (dk_u1 (h 0 _ rfl))).trans rfl)
theorem dk_54 {code : ByteArray} {pc : Nat} (a : UInt8) (h : DkAt code pc [54, a]) : decode code pc = .ok (.istore a.toNat, 2) := dk_of ((dk_bind (dk_u1 (h 0 _ rfl))).trans ((dk_bind (dk_u1 (h 1 _ rfl))).trans rfl))
theorem dk_55 {code : ByteArray} {pc : Nat} (a : UInt8) (h : DkAt code pc [55, a]) : decode code pc = .ok (.lstore a.toNat, 2) := dk_of ((dk_bind (dk_u1 (h 0 _ rfl))).trans ((dk_bind (dk_u1 (h 1 _ rfl))).trans rfl))
theorem dk_58 {code : ByteArray} {pc : Nat} (a : UInt8) (h : DkAt code pc [58, a]) : decode code pc = .ok (.astore a.toNat, 2) := dk_of ((dk_bind (dk_u1 (h 0 _ rfl))).trans ((dk_bind (dk_u1 (h 1 _ rfl))).trans rfl))
theorem dk_60 {code : ByteArray} {pc : Nat} (h : DkAt code pc [60]) : decode code pc = .ok (.istore_n 1, 1) := dk_of ((dk_bind (dk_u1 (h 0 _ rfl))).trans rfl)
theorem dk_61 {code : ByteArray} {pc : Nat} (h : DkAt code pc [61]) : decode code pc = .ok (.istore_n 2, 1) := dk_of ((dk_bind (dk_u1 (h 0 _ rfl))).trans rfl)
theorem dk_62 {code : ByteArray} {pc : Nat} (h : DkAt code pc [62]) : decode code pc = .ok (.istore_n 3, 1) := dk_of ((dk_bind (dk_u1 (h 0 _ rfl))).trans rfl)
theorem dk_76 {code : ByteArray} {pc : Nat} (h : DkAt code pc [76]) : decode code pc = .ok (.astore_n 1, 1) := dk_of ((dk_bind (dk_u1 (h 0 _ rfl))).trans rfl)
theorem dk_77 {code : ByteArray} {pc : Nat} (h : DkAt code pc [77]) : decode code pc = .ok (.astore_n 2, 1) := dk_of ((dk_bind (dk_u1 (h 0 _ rfl))).trans rfl)
theorem dk_78 {code : ByteArray} {pc : Nat} (h : DkAt code pc [78]) : decode code pc = .ok (.astore_n 3, 1) := dk_of ((dk_bind (dk_u1 (h 0 _ rfl))).trans rfl)
theorem dk_79 {code : ByteArray} {pc : Nat} (h : DkAt code pc [79]) : decode code pc = .ok (.iastore, 1) := dk_of ((dk_bind (dk_u1 (h 0 _ rfl))).trans rfl)
theorem dk_80 {code : ByteArray} {pc : Nat} (h : DkAt code pc [80]) : decode code pc = .ok (.lastore, 1) := dk_of ((dk_bind (dk_u1 (h 0 _ rfl))).trans rfl)
theorem dk_83 {code : ByteArray} {pc : Nat} (h : DkAt code pc [83]) : decode code pc = .ok (.aastore, 1) := dk_of ((dk_bind (dk_u1 (h 0 _ rfl))).trans rfl)
theorem dk_84 {code : ByteArray} {pc : Nat} (h : DkAt code pc [84]) : decode code pc = .ok (.bastore, 1) := dk_of ((dk_bind (dk_u1 (h 0 _ rfl))).trans rfl)
theorem dk_86 {code : ByteArray} {pc : Nat} (h : DkAt code pc [86]) : decode code pc = .ok (.sastore, 1) := dk_of ((dk_bind (dk_u1 (h 0 _ rfl))).trans rfl)
theorem dk_87 {code : ByteArray} {pc : Nat} (h : DkAt code pc [87]) : decode code pc = .ok (.pop, 1) := dk_of ((dk_bind (dk_u1 (h 0 _ rfl))).trans rfl)
theorem dk_89 {code : ByteArray} {pc : Nat} (h : DkAt code pc [89]) : decode code pc = .ok (.dup, 1) := dk_of ((dk_bind (dk_u1 (h 0 _ rfl))).trans rfl)
theorem dk_92 {code : ByteArray} {pc : Nat} (h : DkAt code pc [92]) : decode code pc = .ok (.dup2, 1) := dk_of ((dk_bind (dk_u1 (h 0 _ rfl))).trans rfl)
theorem dk_96 {code : ByteArray} {pc : Nat} (h : DkAt code pc [96]) : decode code pc = .ok (.iadd, 1) := dk_of ((dk_bind (dk_u1 (h 0 _ rfl))).trans rfl)
theorem dk_100 {code : ByteArray} {pc : Nat} (h : DkAt code pc [100]) : decode code pc = .ok (.isub, 1) := dk_of ((dk_bind (dk_u1 (h 0 _ rfl))).trans rfl)
theorem dk_104 {code : ByteArray} {pc : Nat} (h : DkAt code pc [104]) : decode code pc = .ok (.imul, 1) := dk_of ((dk_bind (dk_u1 (h 0 _ rfl))).trans rfl)
theorem dk_108 {code : ByteArray} {pc : Nat} (h : DkAt code pc [108]) : decode code pc = .ok (.idiv, 1) := dk_of ((dk_bind (dk_u1 (h 0 _ rfl))).trans rfl)
theorem dk_112 {code : ByteArray} {pc : Nat} (h : DkAt code pc [112]) : decode code pc = .ok (.irem, 1) := dk_of ((dk_bind (dk_u1 (h 0 _ rfl))).trans rfl)
theorem dk_116 {code : ByteArray} {pc : Nat} (h : DkAt code pc [116]) : decode code pc = .ok (.ineg, 1) := dk_of ((dk_bind (dk_u1 (h 0 _ rfl))).trans rfl)
theorem dk_120 {code : ByteArray} {pc : Nat} (h : DkAt code pc [120]) : decode code pc = .ok (.ishl, 1) := dk_of ((dk_bind (dk_u1 (h 0 _ rfl))).trans rfl)
theorem dk_122 {code : ByteArray} {pc : Nat} (h : DkAt code pc [122]) : decode code pc = .ok (.ishr, 1) := dk_of ((dk_bind (dk_u1 (h 0 _ rfl))).trans rfl)
theorem dk_126 {code : ByteArray} {pc : Nat} (h : DkAt code pc [126]) : decode code pc = .ok (.iand, 1) := dk_of ((dk_bind (dk_u1 (h 0 _ rfl))).trans rfl)
theorem dk_128 {code : ByteArray} {pc : Nat} (h : DkAt code pc [128]) : decode code pc = .ok (.ior, 1) := dk_of ((dk_bind (dk_u1 (h 0 _ rfl))).trans rfl)
theorem dk_132 {code : ByteArray} {pc : Nat} (a b : UInt8) (h : DkAt code pc [132, a, b]) : decode code pc = .ok (.iinc a.toNat (Reader.signed 8 b.toNat), 3) := dk_of ((dk_bind (dk_u1 (h 0 _ rfl))).trans ((dk_bind (dk_u1 (h 1 _ rfl))).trans ((dk_bind (dk_map (dk_u1 (h 2 _ rfl)))).trans rfl)))
theorem dk_133 {code : ByteArray} {pc : Nat} (h : DkAt code pc [133]) : decode code pc = .ok (.i2l, 1) := dk_of ((dk_bind (dk_u1 (h 0 _ rfl))).trans rfl)
theorem dk_145 {code : ByteArray} {pc : Nat} (h : DkAt code pc [145]) : decode code pc = .ok (.i2b, 1) := dk_of ((dk_bind (dk_u1 (h 0 _ rfl))).trans rfl)
theorem dk_147 {code : ByteArray} {pc : Nat} (h : DkAt code pc [147]) : decode code pc = .ok (.i2s, 1) := dk_of ((dk_bind (dk_u1 (h 0 _ rfl))).trans rfl)
theorem dk_148 {code : ByteArray} {pc : Nat} (h : DkAt code pc [148]) : decode code pc = .ok (.lcmp, 1) := dk_of ((dk_bind (dk_u1 (h 0 _ rfl))).trans rfl)
theorem dk_153 {code : ByteArray} {pc : Nat} (a b : UInt8) (h : DkAt code pc [153, a, b]) : decode code pc = .ok (.ifCond .eq (Reader.signed 16 (a.toNat * 256 + b.toNat)), 3) := dk_of ((dk_bind (dk_u1 (h 0 _ rfl))).trans ((dk_bind (dk_map (dk_u2 (h 1 _ rfl) (h 2 _ rfl)))).trans rfl))
theorem dk_154 {code : ByteArray} {pc : Nat} (a b : UInt8) (h : DkAt code pc [154, a, b]) : decode code pc = .ok (.ifCond .ne (Reader.signed 16 (a.toNat * 256 + b.toNat)), 3) := dk_of ((dk_bind (dk_u1 (h 0 _ rfl))).trans ((dk_bind (dk_map (dk_u2 (h 1 _ rfl) (h 2 _ rfl)))).trans rfl))
theorem dk_155 {code : ByteArray} {pc : Nat} (a b : UInt8) (h : DkAt code pc [155, a, b]) : decode code pc = .ok (.ifCond .lt (Reader.signed 16 (a.toNat * 256 + b.toNat)), 3) := dk_of ((dk_bind (dk_u1 (h 0 _ rfl))).trans ((dk_bind (dk_map (dk_u2 (h 1 _ rfl) (h 2 _ rfl)))).trans rfl))
theorem dk_156 {code : ByteArray} {pc : Nat} (a b : UInt8) (h : DkAt code pc [156, a, b]) : decode code pc = .ok (.ifCond .ge (Reader.signed 16 (a.toNat * 256 + b.toNat)), 3) := dk_of ((dk_bind (dk_u1 (h 0 _ rfl))).trans ((dk_bind (dk_map (dk_u2 (h 1 _ rfl) (h 2 _ rfl)))).trans rfl))
theorem dk_158 {code : ByteArray} {pc : Nat} (a b : UInt8) (h : DkAt code pc [158, a, b]) : decode code pc = .ok (.ifCond .le (Reader.signed 16 (a.toNat * 256 + b.toNat)), 3) := dk_of ((dk_bind (dk_u1 (h 0 _ rfl))).trans ((dk_bind (dk_map (dk_u2 (h 1 _ rfl) (h 2 _ rfl)))).trans rfl))
theorem dk_159 {code : ByteArray} {pc : Nat} (a b : UInt8) (h : DkAt code pc [159, a, b]) : decode code pc = .ok (.if_icmp .eq (Reader.signed 16 (a.toNat * 256 + b.toNat)), 3) := dk_of ((dk_bind (dk_u1 (h 0 _ rfl))).trans ((dk_bind (dk_map (dk_u2 (h 1 _ rfl) (h 2 _ rfl)))).trans rfl))
theorem dk_160 {code : ByteArray} {pc : Nat} (a b : UInt8) (h : DkAt code pc [160, a, b]) : decode code pc = .ok (.if_icmp .ne (Reader.signed 16 (a.toNat * 256 + b.toNat)), 3) := dk_of ((dk_bind (dk_u1 (h 0 _ rfl))).trans ((dk_bind (dk_map (dk_u2 (h 1 _ rfl) (h 2 _ rfl)))).trans rfl))
theorem dk_161 {code : ByteArray} {pc : Nat} (a b : UInt8) (h : DkAt code pc [161, a, b]) : decode code pc = .ok (.if_icmp .lt (Reader.signed 16 (a.toNat * 256 + b.toNat)), 3) := dk_of ((dk_bind (dk_u1 (h 0 _ rfl))).trans ((dk_bind (dk_map (dk_u2 (h 1 _ rfl) (h 2 _ rfl)))).trans rfl))
theorem dk_162 {code : ByteArray} {pc : Nat} (a b : UInt8) (h : DkAt code pc [162, a, b]) : decode code pc = .ok (.if_icmp .ge (Reader.signed 16 (a.toNat * 256 + b.toNat)), 3) := dk_of ((dk_bind (dk_u1 (h 0 _ rfl))).trans ((dk_bind (dk_map (dk_u2 (h 1 _ rfl) (h 2 _ rfl)))).trans rfl))
theorem dk_163 {code : ByteArray} {pc : Nat} (a b : UInt8) (h : DkAt code pc [163, a, b]) : decode code pc = .ok (.if_icmp .gt (Reader.signed 16 (a.toNat * 256 + b.toNat)), 3) := dk_of ((dk_bind (dk_u1 (h 0 _ rfl))).trans ((dk_bind (dk_map (dk_u2 (h 1 _ rfl) (h 2 _ rfl)))).trans rfl))
theorem dk_164 {code : ByteArray} {pc : Nat} (a b : UInt8) (h : DkAt code pc [164, a, b]) : decode code pc = .ok (.if_icmp .le (Reader.signed 16 (a.toNat * 256 + b.toNat)), 3) := dk_of ((dk_bind (dk_u1 (h 0 _ rfl))).trans ((dk_bind (dk_map (dk_u2 (h 1 _ rfl) (h 2 _ rfl)))).trans rfl))
theorem dk_167 {code : ByteArray} {pc : Nat} (a b : UInt8) (h : DkAt code pc [167, a, b]) : decode code pc = .ok (.goto (Reader.signed 16 (a.toNat * 256 + b.toNat)), 3) := dk_of ((dk_bind (dk_u1 (h 0 _ rfl))).trans ((dk_bind (dk_map (dk_u2 (h 1 _ rfl) (h 2 _ rfl)))).trans rfl))
theorem dk_172 {code : ByteArray} {pc : Nat} (h : DkAt code pc [172]) : decode code pc = .ok (.ireturn, 1) := dk_of ((dk_bind (dk_u1 (h 0 _ rfl))).trans rfl)
theorem dk_173 {code : ByteArray} {pc : Nat} (h : DkAt code pc [173]) : decode code pc = .ok (.lreturn, 1) := dk_of ((dk_bind (dk_u1 (h 0 _ rfl))).trans rfl)
theorem dk_176 {code : ByteArray} {pc : Nat} (h : DkAt code pc [176]) : decode code pc = .ok (.areturn, 1) := dk_of ((dk_bind (dk_u1 (h 0 _ rfl))).trans rfl)
theorem dk_177 {code : ByteArray} {pc : Nat} (h : DkAt code pc [177]) : decode code pc = .ok (.return_, 1) := dk_of ((dk_bind (dk_u1 (h 0 _ rfl))).trans rfl)
theorem dk_178 {code : ByteArray} {pc : Nat} (a b : UInt8) (h : DkAt code pc [178, a, b]) : decode code pc = .ok (.getstatic (a.toNat * 256 + b.toNat), 3) := dk_of ((dk_bind (dk_u1 (h 0 _ rfl))).trans ((dk_bind (dk_u2 (h 1 _ rfl) (h 2 _ rfl))).trans rfl))
theorem dk_180 {code : ByteArray} {pc : Nat} (a b : UInt8) (h : DkAt code pc [180, a, b]) : decode code pc = .ok (.getfield (a.toNat * 256 + b.toNat), 3) := dk_of ((dk_bind (dk_u1 (h 0 _ rfl))).trans ((dk_bind (dk_u2 (h 1 _ rfl) (h 2 _ rfl))).trans rfl))
theorem dk_181 {code : ByteArray} {pc : Nat} (a b : UInt8) (h : DkAt code pc [181, a, b]) : decode code pc = .ok (.putfield (a.toNat * 256 + b.toNat), 3) := dk_of ((dk_bind (dk_u1 (h 0 _ rfl))).trans ((dk_bind (dk_u2 (h 1 _ rfl) (h 2 _ rfl))).trans rfl))
theorem dk_182 {code : ByteArray} {pc : Nat} (a b : UInt8) (h : DkAt code pc [182, a, b]) : decode code pc = .ok (.invokevirtual (a.toNat * 256 + b.toNat), 3) := dk_of ((dk_bind (dk_u1 (h 0 _ rfl))).trans ((dk_bind (dk_u2 (h 1 _ rfl) (h 2 _ rfl))).trans rfl))
theorem dk_183 {code : ByteArray} {pc : Nat} (a b : UInt8) (h : DkAt code pc [183, a, b]) : decode code pc = .ok (.invokespecial (a.toNat * 256 + b.toNat), 3) := dk_of ((dk_bind (dk_u1 (h 0 _ rfl))).trans ((dk_bind (dk_u2 (h 1 _ rfl) (h 2 _ rfl))).trans rfl))
theorem dk_184 {code : ByteArray} {pc : Nat} (a b : UInt8) (h : DkAt code pc [184, a, b]) : decode code pc = .ok (.invokestatic (a.toNat * 256 + b.toNat), 3) := dk_of ((dk_bind (dk_u1 (h 0 _ rfl))).trans ((dk_bind (dk_u2 (h 1 _ rfl) (h 2 _ rfl))).trans rfl))
theorem dk_187 {code : ByteArray} {pc : Nat} (a b : UInt8) (h : DkAt code pc [187, a, b]) : decode code pc = .ok (.new (a.toNat * 256 + b.toNat), 3) := dk_of ((dk_bind (dk_u1 (h 0 _ rfl))).trans ((dk_bind (dk_u2 (h 1 _ rfl) (h 2 _ rfl))).trans rfl))
theorem dk_188_8 {code : ByteArray} {pc : Nat} (h : DkAt code pc [188, 8]) : decode code pc = .ok (.newarray .byte, 2) := dk_of ((dk_bind (dk_u1 (h 0 _ rfl))).trans ((dk_bind (dk_u1 (h 1 _ rfl))).trans rfl))
theorem dk_188_9 {code : ByteArray} {pc : Nat} (h : DkAt code pc [188, 9]) : decode code pc = .ok (.newarray .short, 2) := dk_of ((dk_bind (dk_u1 (h 0 _ rfl))).trans ((dk_bind (dk_u1 (h 1 _ rfl))).trans rfl))
theorem dk_188_10 {code : ByteArray} {pc : Nat} (h : DkAt code pc [188, 10]) : decode code pc = .ok (.newarray .int, 2) := dk_of ((dk_bind (dk_u1 (h 0 _ rfl))).trans ((dk_bind (dk_u1 (h 1 _ rfl))).trans rfl))
theorem dk_188_11 {code : ByteArray} {pc : Nat} (h : DkAt code pc [188, 11]) : decode code pc = .ok (.newarray .long, 2) := dk_of ((dk_bind (dk_u1 (h 0 _ rfl))).trans ((dk_bind (dk_u1 (h 1 _ rfl))).trans rfl))
theorem dk_189 {code : ByteArray} {pc : Nat} (a b : UInt8) (h : DkAt code pc [189, a, b]) : decode code pc = .ok (.anewarray (a.toNat * 256 + b.toNat), 3) := dk_of ((dk_bind (dk_u1 (h 0 _ rfl))).trans ((dk_bind (dk_u2 (h 1 _ rfl) (h 2 _ rfl))).trans rfl))
theorem dk_190 {code : ByteArray} {pc : Nat} (h : DkAt code pc [190]) : decode code pc = .ok (.arraylength, 1) := dk_of ((dk_bind (dk_u1 (h 0 _ rfl))).trans rfl)
theorem dk_191 {code : ByteArray} {pc : Nat} (h : DkAt code pc [191]) : decode code pc = .ok (.athrow, 1) := dk_of ((dk_bind (dk_u1 (h 0 _ rfl))).trans rfl)
theorem dk_192 {code : ByteArray} {pc : Nat} (a b : UInt8) (h : DkAt code pc [192, a, b]) : decode code pc = .ok (.checkcast (a.toNat * 256 + b.toNat), 3) := dk_of ((dk_bind (dk_u1 (h 0 _ rfl))).trans ((dk_bind (dk_u2 (h 1 _ rfl) (h 2 _ rfl))).trans rfl))
theorem dk_193 {code : ByteArray} {pc : Nat} (a b : UInt8) (h : DkAt code pc [193, a, b]) : decode code pc = .ok (.instanceof (a.toNat * 256 + b.toNat), 3) := dk_of ((dk_bind (dk_u1 (h 0 _ rfl))).trans ((dk_bind (dk_u2 (h 1 _ rfl) (h 2 _ rfl))).trans rfl))
theorem dk_198 {code : ByteArray} {pc : Nat} (a b : UInt8) (h : DkAt code pc [198, a, b]) : decode code pc = .ok (.ifnull (Reader.signed 16 (a.toNat * 256 + b.toNat)), 3) := dk_of ((dk_bind (dk_u1 (h 0 _ rfl))).trans ((dk_bind (dk_map (dk_u2 (h 1 _ rfl) (h 2 _ rfl)))).trans rfl))
theorem dk_199 {code : ByteArray} {pc : Nat} (a b : UInt8) (h : DkAt code pc [199, a, b]) : decode code pc = .ok (.ifnonnull (Reader.signed 16 (a.toNat * 256 + b.toNat)), 3) := dk_of ((dk_bind (dk_u1 (h 0 _ rfl))).trans ((dk_bind (dk_map (dk_u2 (h 1 _ rfl) (h 2 _ rfl)))).trans rfl))
/-! LookAtClockLaw -/
set_option maxRecDepth 100000
def RX0 : String := "LookAtClockLaw"
abbrev cX0_element : ByteArray := method_3_code
def yX0_element : MethodName := ⟨RX0, "element", "(LLookAtClock;II[J)I"⟩
def dkwX0_element_0 : List UInt8 := [45, 3, 42, 27, 28, 182, 0, 7, 80, 167, 0, 11, 58, 4, 4, 172, 58, 4, 5, 172, 3, 172]
abbrev dktX0_element_0 : List UInt8 := dkwX0_element_0 ++ []
theorem dksX0_element_0 : cX0_element.data.toList.drop 0 = dktX0_element_0 := by decide +kernel
theorem dX0_element_0 : decode cX0_element 0 = .ok (.aload_n 3, 1) := dk_45 (dk_at dksX0_element_0 0 rfl rfl)
theorem dX0_element_1 : decode cX0_element 1 = .ok (.iconst 0, 1) := dk_3 (dk_at dksX0_element_0 1 rfl rfl)
theorem dX0_element_2 : decode cX0_element 2 = .ok (.aload_n 0, 1) := dk_42 (dk_at dksX0_element_0 2 rfl rfl)
theorem dX0_element_3 : decode cX0_element 3 = .ok (.iload_n 1, 1) := dk_27 (dk_at dksX0_element_0 3 rfl rfl)
theorem dX0_element_4 : decode cX0_element 4 = .ok (.iload_n 2, 1) := dk_28 (dk_at dksX0_element_0 4 rfl rfl)
theorem dX0_element_5 : decode cX0_element 5 = .ok (.invokevirtual 7, 3) := dk_182 0 7 (dk_at dksX0_element_0 5 rfl rfl)
theorem dX0_element_8 : decode cX0_element 8 = .ok (.lastore, 1) := dk_80 (dk_at dksX0_element_0 8 rfl rfl)
theorem dX0_element_9 : decode cX0_element 9 = .ok (.goto 11, 3) := dk_167 0 11 (dk_at dksX0_element_0 9 rfl rfl)
theorem dX0_element_12 : decode cX0_element 12 = .ok (.astore 4, 2) := dk_58 4 (dk_at dksX0_element_0 12 rfl rfl)
theorem dX0_element_14 : decode cX0_element 14 = .ok (.iconst 1, 1) := dk_4 (dk_at dksX0_element_0 14 rfl rfl)
theorem dX0_element_15 : decode cX0_element 15 = .ok (.ireturn, 1) := dk_172 (dk_at dksX0_element_0 15 rfl rfl)
theorem dX0_element_16 : decode cX0_element 16 = .ok (.astore 4, 2) := dk_58 4 (dk_at dksX0_element_0 16 rfl rfl)
theorem dX0_element_18 : decode cX0_element 18 = .ok (.iconst 2, 1) := dk_5 (dk_at dksX0_element_0 18 rfl rfl)
theorem dX0_element_19 : decode cX0_element 19 = .ok (.ireturn, 1) := dk_172 (dk_at dksX0_element_0 19 rfl rfl)
theorem dX0_element_20 : decode cX0_element 20 = .ok (.iconst 0, 1) := dk_3 (dk_at dksX0_element_0 20 rfl rfl)
theorem dX0_element_21 : decode cX0_element 21 = .ok (.ireturn, 1) := dk_172 (dk_at dksX0_element_0 21 rfl rfl)
theorem q41 : (Jvm.Cond.initialized "LookAtClockLaw") ∈ lw_all := lw_g (lw_at lw_m1 0 rfl) rfl
theorem q71 : (Jvm.Cond.methodLink "LookAtClockLaw" (21 : Nat) ({ cls := "LookAtClock", name := "town", desc := "(I)I" } : Jvm.MethodName)) ∈ lw_all := lw_g (lw_at lw_m1 30 rfl) rfl
theorem q455 : (Jvm.Cond.methodLink "LookAtClockLaw" (26 : Nat) ({ cls := "LookAtClock", name := "price", desc := "(I)I" } : Jvm.MethodName)) ∈ lw_all := lw_g (lw_at lw_m2 174 rfl) rfl
theorem q462 : (Jvm.Cond.methodLink "LookAtClockLaw" (30 : Nat) ({ cls := "LookAtClock", name := "law", desc := "(I)I" } : Jvm.MethodName)) ∈ lw_all := lw_g (lw_at lw_m2 181 rfl) rfl
theorem q466 : (Jvm.Cond.methodLink "LookAtClockLaw" (34 : Nat) ({ cls := "LookAtClock", name := "work", desc := "(II)I" } : Jvm.MethodName)) ∈ lw_all := lw_g (lw_at lw_m2 185 rfl) rfl
theorem q474 : (Jvm.Cond.methodLink "LookAtClockLaw" (39 : Nat) ({ cls := "LookAtClock", name := "looker", desc := "(II)I" } : Jvm.MethodName)) ∈ lw_all := lw_g (lw_at lw_m2 193 rfl) rfl
theorem q524 : (Jvm.Cond.methodLink "LookAtClockLaw" (43 : Nat) ({ cls := "LookAtClock", name := "drift", desc := "(I)I" } : Jvm.MethodName)) ∈ lw_all := lw_g (lw_at lw_m3 3 rfl) rfl
theorem q529 : (Jvm.Cond.methodLink "LookAtClockLaw" (47 : Nat) ({ cls := "LookAtClock", name := "thinks", desc := "(III)I" } : Jvm.MethodName)) ∈ lw_all := lw_g (lw_at lw_m3 8 rfl) rfl
theorem q536 : (Jvm.Cond.methodLink "LookAtClockLaw" (52 : Nat) ({ cls := "LookAtClock", name := "day", desc := "(II)I" } : Jvm.MethodName)) ∈ lw_all := lw_g (lw_at lw_m3 15 rfl) rfl
theorem q644 : (Jvm.Cond.methodLink "LookAtClockLaw" (56 : Nat) ({ cls := "LookAtClock", name := "look", desc := "(II)I" } : Jvm.MethodName)) ∈ lw_all := lw_g (lw_at lw_m3 123 rfl) rfl
theorem q648 : (Jvm.Cond.methodLink "LookAtClockLaw" (60 : Nat) ({ cls := "LookAtClock", name := "comes", desc := "(II)I" } : Jvm.MethodName)) ∈ lw_all := lw_g (lw_at lw_m3 127 rfl) rfl
theorem q652 : (Jvm.Cond.methodLink "LookAtClockLaw" (64 : Nat) ({ cls := "LookAtClock", name := "bestFigure", desc := "(I)I" } : Jvm.MethodName)) ∈ lw_all := lw_g (lw_at lw_m3 131 rfl) rfl
theorem q660 : (Jvm.Cond.methodLink "LookAtClockLaw" (68 : Nat) ({ cls := "LookAtClock", name := "always", desc := "(I)I" } : Jvm.MethodName)) ∈ lw_all := lw_g (lw_at lw_m3 139 rfl) rfl
theorem q664 : (Jvm.Cond.methodLink "LookAtClockLaw" (72 : Nat) ({ cls := "LookAtClock", name := "pays", desc := "(I)I" } : Jvm.MethodName)) ∈ lw_all := lw_g (lw_at lw_m3 143 rfl) rfl
theorem q668 : (Jvm.Cond.methodLink "LookAtClockLaw" (76 : Nat) ({ cls := "LookAtClock", name := "bestKind", desc := "(I)I" } : Jvm.MethodName)) ∈ lw_all := lw_g (lw_at lw_m3 147 rfl) rfl
theorem q672 : (Jvm.Cond.methodLink "LookAtClockLaw" (80 : Nat) ({ cls := "LookAtClock", name := "edge", desc := "(II)I" } : Jvm.MethodName)) ∈ lw_all := lw_g (lw_at lw_m3 151 rfl) rfl
theorem q676 : (Jvm.Cond.methodLink "LookAtClockLaw" (84 : Nat) ({ cls := "LookAtClock", name := "waits", desc := "(II)I" } : Jvm.MethodName)) ∈ lw_all := lw_g (lw_at lw_m3 155 rfl) rfl
theorem q680 : (Jvm.Cond.methodLink "LookAtClockLaw" (88 : Nat) ({ cls := "LookAtClock", name := "learn", desc := "(II)I" } : Jvm.MethodName)) ∈ lw_all := lw_g (lw_at lw_m3 159 rfl) rfl
theorem q688 : (Jvm.Cond.methodLink "LookAtClockLaw" (92 : Nat) ({ cls := "LookAtClock", name := "shared", desc := "(II)I" } : Jvm.MethodName)) ∈ lw_all := lw_g (lw_at lw_m3 167 rfl) rfl
theorem q696 : (Jvm.Cond.methodLink "LookAtClockLaw" (96 : Nat) ({ cls := "LookAtClock", name := "nine", desc := "(II)I" } : Jvm.MethodName)) ∈ lw_all := lw_g (lw_at lw_m3 175 rfl) rfl
theorem q700 : (Jvm.Cond.methodLink "LookAtClockLaw" (100 : Nat) ({ cls := "LookAtClock", name := "buys", desc := "(IIII)I" } : Jvm.MethodName)) ∈ lw_all := lw_g (lw_at lw_m3 179 rfl) rfl
theorem q708 : (Jvm.Cond.methodLink "LookAtClockLaw" (105 : Nat) ({ cls := "LookAtClock", name := "rest", desc := "(III)I" } : Jvm.MethodName)) ∈ lw_all := lw_g (lw_at lw_m3 187 rfl) rfl
theorem q712 : (Jvm.Cond.methodLink "LookAtClockLaw" (109 : Nat) ({ cls := "LookAtClock", name := "cheaper", desc := "(I)I" } : Jvm.MethodName)) ∈ lw_all := lw_g (lw_at lw_m3 191 rfl) rfl
theorem q721 : (Jvm.Cond.methodLink "LookAtClockLaw" (113 : Nat) ({ cls := "LookAtClock", name := "otherCheaper", desc := "()I" } : Jvm.MethodName)) ∈ lw_all := lw_g (lw_at lw_m3 200 rfl) rfl
theorem q725 : (Jvm.Cond.methodLink "LookAtClockLaw" (118 : Nat) ({ cls := "LookAtClock", name := "byLaw", desc := "(II)I" } : Jvm.MethodName)) ∈ lw_all := lw_g (lw_at lw_m3 204 rfl) rfl
theorem q729 : (Jvm.Cond.methodLink "LookAtClockLaw" (122 : Nat) ({ cls := "LookAtClock", name := "sum", desc := "()I" } : Jvm.MethodName)) ∈ lw_all := lw_g (lw_at lw_m3 208 rfl) rfl
theorem q733 : (Jvm.Cond.methodLink "LookAtClockLaw" (126 : Nat) ({ cls := "LookAtClock", name := "order", desc := "()I" } : Jvm.MethodName)) ∈ lw_all := lw_g (lw_at lw_m3 212 rfl) rfl
theorem q737 : (Jvm.Cond.methodLink "LookAtClockLaw" (130 : Nat) ({ cls := "LookAtClock", name := "seeded", desc := "(IIII)I" } : Jvm.MethodName)) ∈ lw_all := lw_g (lw_at lw_m3 216 rfl) rfl
theorem q745 : (Jvm.Cond.methodLink "LookAtClockLaw" (134 : Nat) ({ cls := "LookAtClock", name := "judge", desc := "(II)I" } : Jvm.MethodName)) ∈ lw_all := lw_g (lw_at lw_m3 224 rfl) rfl
theorem q763 : (Jvm.Cond.methodLink "LookAtClockLaw" (138 : Nat) ({ cls := "LookAtClock", name := "image", desc := "()I" } : Jvm.MethodName)) ∈ lw_all := lw_g (lw_at lw_m4 2 rfl) rfl
theorem q767 : (Jvm.Cond.methodLink "LookAtClockLaw" (142 : Nat) ({ cls := "LookAtClock", name := "restore", desc := "()I" } : Jvm.MethodName)) ∈ lw_all := lw_g (lw_at lw_m4 6 rfl) rfl
theorem q771 : (Jvm.Cond.methodLink "LookAtClockLaw" (146 : Nat) ({ cls := "LookAtClock", name := "count", desc := "(I)I" } : Jvm.MethodName)) ∈ lw_all := lw_g (lw_at lw_m4 10 rfl) rfl
theorem q775 : (Jvm.Cond.classLink "LookAtClockLaw" (8 : Nat) "LookAtClock") ∈ lw_all := lw_g (lw_at lw_m4 14 rfl) rfl
theorem q776 : (Jvm.Cond.methodLink "LookAtClockLaw" (17 : Nat) ({ cls := "LookAtClock", name := "<init>", desc := "()V" } : Jvm.MethodName)) ∈ lw_all := lw_g (lw_at lw_m4 15 rfl) rfl
theorem q861 : (Jvm.Cond.methodLink "LookAtClockLaw" (150 : Nat) ({ cls := "LookAtClock", name := "keep", desc := "(III)I" } : Jvm.MethodName)) ∈ lw_all := lw_g (lw_at lw_m4 100 rfl) rfl
theorem q865 : (Jvm.Cond.methodLink "LookAtClockLaw" (154 : Nat) ({ cls := "LookAtClock", name := "row", desc := "(III)I" } : Jvm.MethodName)) ∈ lw_all := lw_g (lw_at lw_m4 104 rfl) rfl
theorem q898 : (Jvm.Cond.methodLink "LookAtClockLaw" (158 : Nat) ({ cls := "LookAtClock", name := "put", desc := "(III)I" } : Jvm.MethodName)) ∈ lw_all := lw_g (lw_at lw_m4 137 rfl) rfl
theorem q935 : (Jvm.Cond.methodLink "LookAtClockLaw" (171 : Nat) ({ cls := "LookAtClock", name := "copy", desc := "(IIIII)I" } : Jvm.MethodName)) ∈ lw_all := lw_g (lw_at lw_m4 174 rfl) rfl
theorem q941 : (Jvm.Cond.methodLink "LookAtClockLaw" (176 : Nat) ({ cls := "LookAtClock", name := "skill", desc := "(I)I" } : Jvm.MethodName)) ∈ lw_all := lw_g (lw_at lw_m4 180 rfl) rfl
theorem q994 : (Jvm.Cond.methodLink "LookAtClockLaw" (180 : Nat) ({ cls := "LookAtClock", name := "toss", desc := "(I)I" } : Jvm.MethodName)) ∈ lw_all := lw_g (lw_at lw_m4 233 rfl) rfl
theorem q1047 : (Jvm.Cond.methodLink "LookAtClockLaw" (162 : Nat) ({ cls := "LookAtClockLaw", name := "element", desc := "(LLookAtClock;II[J)I" } : Jvm.MethodName)) ∈ lw_all := lw_g (lw_at lw_m5 46 rfl) rfl
theorem q1048 : (Jvm.Cond.static ({ cls := "LookAtClockLaw", name := "element", desc := "(LLookAtClock;II[J)I" } : Jvm.MethodName)) ∈ lw_all := lw_g (lw_at lw_m5 47 rfl) rfl
theorem q1049 : (Jvm.Cond.codeWith ({ cls := "LookAtClockLaw", name := "element", desc := "(LLookAtClock;II[J)I" } : Jvm.MethodName) method_3_code (5 : Nat) (Option.some Jvm.ClassFile.FieldType.int) [((0 : Nat), (9 : Nat), (12 : Nat), (13 : Nat)), ((0 : Nat), (9 : Nat), (16 : Nat), (15 : Nat))]) ∈ lw_all := lw_g (lw_at lw_m5 48 rfl) rfl
theorem q1050 : (Jvm.Cond.classLink "LookAtClockLaw" (13 : Nat) "java/lang/IllegalArgumentException") ∈ lw_all := lw_g (lw_at lw_m5 49 rfl) rfl
theorem q1051 : (Jvm.Cond.classLink "LookAtClockLaw" (15 : Nat) "java/lang/IllegalStateException") ∈ lw_all := lw_g (lw_at lw_m5 50 rfl) rfl
theorem q1052 : (Jvm.Cond.methodLink "LookAtClockLaw" (7 : Nat) ({ cls := "LookAtClock", name := "element", desc := "(II)J" } : Jvm.MethodName)) ∈ lw_all := lw_g (lw_at lw_m5 51 rfl) rfl
theorem q1086 : (Jvm.Cond.classLink "LookAtClockLaw" (18 : Nat) "LookAtClockModel") ∈ lw_all := lw_g (lw_at lw_m5 85 rfl) rfl
theorem q1088 : (Jvm.Cond.methodLink "LookAtClockLaw" (20 : Nat) ({ cls := "LookAtClockModel", name := "<init>", desc := "()V" } : Jvm.MethodName)) ∈ lw_all := lw_g (lw_at lw_m5 87 rfl) rfl
theorem q1216 : (Jvm.Cond.methodLink "LookAtClockLaw" (141 : Nat) ({ cls := "LookAtClockModel", name := "image", desc := "()I" } : Jvm.MethodName)) ∈ lw_all := lw_g (lw_at lw_m5 215 rfl) rfl
theorem q1223 : (Jvm.Cond.methodLink "LookAtClockLaw" (145 : Nat) ({ cls := "LookAtClockModel", name := "restore", desc := "()I" } : Jvm.MethodName)) ∈ lw_all := lw_g (lw_at lw_m5 222 rfl) rfl
theorem q1227 : (Jvm.Cond.methodLink "LookAtClockLaw" (29 : Nat) ({ cls := "LookAtClockModel", name := "price", desc := "(I)I" } : Jvm.MethodName)) ∈ lw_all := lw_g (lw_at lw_m5 226 rfl) rfl
theorem q1240 : (Jvm.Cond.methodLink "LookAtClockLaw" (33 : Nat) ({ cls := "LookAtClockModel", name := "law", desc := "(I)I" } : Jvm.MethodName)) ∈ lw_all := lw_g (lw_at lw_m5 239 rfl) rfl
theorem q1244 : (Jvm.Cond.methodLink "LookAtClockLaw" (38 : Nat) ({ cls := "LookAtClockModel", name := "work", desc := "(II)I" } : Jvm.MethodName)) ∈ lw_all := lw_g (lw_at lw_m6 3 rfl) rfl
theorem q1252 : (Jvm.Cond.methodLink "LookAtClockLaw" (42 : Nat) ({ cls := "LookAtClockModel", name := "looker", desc := "(II)I" } : Jvm.MethodName)) ∈ lw_all := lw_g (lw_at lw_m6 11 rfl) rfl
theorem q1263 : (Jvm.Cond.methodLink "LookAtClockLaw" (46 : Nat) ({ cls := "LookAtClockModel", name := "drift", desc := "(I)I" } : Jvm.MethodName)) ∈ lw_all := lw_g (lw_at lw_m6 22 rfl) rfl
theorem q1268 : (Jvm.Cond.methodLink "LookAtClockLaw" (51 : Nat) ({ cls := "LookAtClockModel", name := "thinks", desc := "(III)I" } : Jvm.MethodName)) ∈ lw_all := lw_g (lw_at lw_m6 27 rfl) rfl
theorem q1275 : (Jvm.Cond.methodLink "LookAtClockLaw" (55 : Nat) ({ cls := "LookAtClockModel", name := "day", desc := "(II)I" } : Jvm.MethodName)) ∈ lw_all := lw_g (lw_at lw_m6 34 rfl) rfl
theorem q1303 : (Jvm.Cond.methodLink "LookAtClockLaw" (59 : Nat) ({ cls := "LookAtClockModel", name := "look", desc := "(II)I" } : Jvm.MethodName)) ∈ lw_all := lw_g (lw_at lw_m6 62 rfl) rfl
theorem q1307 : (Jvm.Cond.methodLink "LookAtClockLaw" (63 : Nat) ({ cls := "LookAtClockModel", name := "comes", desc := "(II)I" } : Jvm.MethodName)) ∈ lw_all := lw_g (lw_at lw_m6 66 rfl) rfl
theorem q1311 : (Jvm.Cond.methodLink "LookAtClockLaw" (67 : Nat) ({ cls := "LookAtClockModel", name := "bestFigure", desc := "(I)I" } : Jvm.MethodName)) ∈ lw_all := lw_g (lw_at lw_m6 70 rfl) rfl
theorem q1315 : (Jvm.Cond.methodLink "LookAtClockLaw" (71 : Nat) ({ cls := "LookAtClockModel", name := "always", desc := "(I)I" } : Jvm.MethodName)) ∈ lw_all := lw_g (lw_at lw_m6 74 rfl) rfl
theorem q1319 : (Jvm.Cond.methodLink "LookAtClockLaw" (75 : Nat) ({ cls := "LookAtClockModel", name := "pays", desc := "(I)I" } : Jvm.MethodName)) ∈ lw_all := lw_g (lw_at lw_m6 78 rfl) rfl
theorem q1323 : (Jvm.Cond.methodLink "LookAtClockLaw" (79 : Nat) ({ cls := "LookAtClockModel", name := "bestKind", desc := "(I)I" } : Jvm.MethodName)) ∈ lw_all := lw_g (lw_at lw_m6 82 rfl) rfl
theorem q1327 : (Jvm.Cond.methodLink "LookAtClockLaw" (83 : Nat) ({ cls := "LookAtClockModel", name := "edge", desc := "(II)I" } : Jvm.MethodName)) ∈ lw_all := lw_g (lw_at lw_m6 86 rfl) rfl
theorem q1331 : (Jvm.Cond.methodLink "LookAtClockLaw" (87 : Nat) ({ cls := "LookAtClockModel", name := "waits", desc := "(II)I" } : Jvm.MethodName)) ∈ lw_all := lw_g (lw_at lw_m6 90 rfl) rfl
theorem q1335 : (Jvm.Cond.methodLink "LookAtClockLaw" (91 : Nat) ({ cls := "LookAtClockModel", name := "learn", desc := "(II)I" } : Jvm.MethodName)) ∈ lw_all := lw_g (lw_at lw_m6 94 rfl) rfl
theorem q1339 : (Jvm.Cond.methodLink "LookAtClockLaw" (95 : Nat) ({ cls := "LookAtClockModel", name := "shared", desc := "(II)I" } : Jvm.MethodName)) ∈ lw_all := lw_g (lw_at lw_m6 98 rfl) rfl
theorem q1346 : (Jvm.Cond.methodLink "LookAtClockLaw" (99 : Nat) ({ cls := "LookAtClockModel", name := "nine", desc := "(II)I" } : Jvm.MethodName)) ∈ lw_all := lw_g (lw_at lw_m6 105 rfl) rfl
theorem q1350 : (Jvm.Cond.methodLink "LookAtClockLaw" (104 : Nat) ({ cls := "LookAtClockModel", name := "buys", desc := "(IIII)I" } : Jvm.MethodName)) ∈ lw_all := lw_g (lw_at lw_m6 109 rfl) rfl
theorem q1358 : (Jvm.Cond.methodLink "LookAtClockLaw" (108 : Nat) ({ cls := "LookAtClockModel", name := "rest", desc := "(III)I" } : Jvm.MethodName)) ∈ lw_all := lw_g (lw_at lw_m6 117 rfl) rfl
theorem q1362 : (Jvm.Cond.methodLink "LookAtClockLaw" (112 : Nat) ({ cls := "LookAtClockModel", name := "cheaper", desc := "(I)I" } : Jvm.MethodName)) ∈ lw_all := lw_g (lw_at lw_m6 121 rfl) rfl
theorem q1370 : (Jvm.Cond.methodLink "LookAtClockLaw" (117 : Nat) ({ cls := "LookAtClockModel", name := "otherCheaper", desc := "()I" } : Jvm.MethodName)) ∈ lw_all := lw_g (lw_at lw_m6 129 rfl) rfl
theorem q1374 : (Jvm.Cond.methodLink "LookAtClockLaw" (121 : Nat) ({ cls := "LookAtClockModel", name := "byLaw", desc := "(II)I" } : Jvm.MethodName)) ∈ lw_all := lw_g (lw_at lw_m6 133 rfl) rfl
theorem q1378 : (Jvm.Cond.methodLink "LookAtClockLaw" (125 : Nat) ({ cls := "LookAtClockModel", name := "sum", desc := "()I" } : Jvm.MethodName)) ∈ lw_all := lw_g (lw_at lw_m6 137 rfl) rfl
theorem q1382 : (Jvm.Cond.methodLink "LookAtClockLaw" (129 : Nat) ({ cls := "LookAtClockModel", name := "order", desc := "()I" } : Jvm.MethodName)) ∈ lw_all := lw_g (lw_at lw_m6 141 rfl) rfl
theorem q1386 : (Jvm.Cond.methodLink "LookAtClockLaw" (133 : Nat) ({ cls := "LookAtClockModel", name := "seeded", desc := "(IIII)I" } : Jvm.MethodName)) ∈ lw_all := lw_g (lw_at lw_m6 145 rfl) rfl
theorem q1393 : (Jvm.Cond.methodLink "LookAtClockLaw" (137 : Nat) ({ cls := "LookAtClockModel", name := "judge", desc := "(II)I" } : Jvm.MethodName)) ∈ lw_all := lw_g (lw_at lw_m6 152 rfl) rfl
theorem q1398 : (Jvm.Cond.methodLink "LookAtClockLaw" (149 : Nat) ({ cls := "LookAtClockModel", name := "count", desc := "(I)I" } : Jvm.MethodName)) ∈ lw_all := lw_g (lw_at lw_m6 157 rfl) rfl
theorem q1402 : (Jvm.Cond.methodLink "LookAtClockLaw" (25 : Nat) ({ cls := "LookAtClockModel", name := "town", desc := "(I)I" } : Jvm.MethodName)) ∈ lw_all := lw_g (lw_at lw_m6 161 rfl) rfl
theorem q1438 : (Jvm.Cond.methodLink "LookAtClockLaw" (153 : Nat) ({ cls := "LookAtClockModel", name := "keep", desc := "(III)I" } : Jvm.MethodName)) ∈ lw_all := lw_g (lw_at lw_m6 197 rfl) rfl
theorem q1442 : (Jvm.Cond.methodLink "LookAtClockLaw" (157 : Nat) ({ cls := "LookAtClockModel", name := "row", desc := "(III)I" } : Jvm.MethodName)) ∈ lw_all := lw_g (lw_at lw_m6 201 rfl) rfl
theorem q1446 : (Jvm.Cond.methodLink "LookAtClockLaw" (161 : Nat) ({ cls := "LookAtClockModel", name := "put", desc := "(III)I" } : Jvm.MethodName)) ∈ lw_all := lw_g (lw_at lw_m6 205 rfl) rfl
theorem q1450 : (Jvm.Cond.methodLink "LookAtClockLaw" (168 : Nat) ({ cls := "LookAtClockModel", name := "thrown", desc := "()I" } : Jvm.MethodName)) ∈ lw_all := lw_g (lw_at lw_m6 209 rfl) rfl
theorem q1454 : (Jvm.Cond.methodLink "LookAtClockLaw" (167 : Nat) ({ cls := "LookAtClockModel", name := "element", desc := "(II)J" } : Jvm.MethodName)) ∈ lw_all := lw_g (lw_at lw_m6 213 rfl) rfl
theorem q1458 : (Jvm.Cond.methodLink "LookAtClockLaw" (175 : Nat) ({ cls := "LookAtClockModel", name := "copy", desc := "(IIIII)I" } : Jvm.MethodName)) ∈ lw_all := lw_g (lw_at lw_m6 217 rfl) rfl
theorem q1462 : (Jvm.Cond.methodLink "LookAtClockLaw" (179 : Nat) ({ cls := "LookAtClockModel", name := "skill", desc := "(I)I" } : Jvm.MethodName)) ∈ lw_all := lw_g (lw_at lw_m6 221 rfl) rfl
theorem q1470 : (Jvm.Cond.methodLink "LookAtClockLaw" (183 : Nat) ({ cls := "LookAtClockModel", name := "toss", desc := "(I)I" } : Jvm.MethodName)) ∈ lw_all := lw_g (lw_at lw_m6 229 rfl) rfl
/-! LookAtClock$Town -/
set_option maxRecDepth 100000
def RX2 : String := "LookAtClock$Town"
def TX2 : u_T := fun k => match k with
  | 0 => ("LookAtClock$Town", "at", "[I", true)
  | 1 => ("LookAtClock$Town", "walk", "[I", true)
  | 2 => ("LookAtClock$Town", "late", "[I", true)
  | 3 => ("LookAtClock$Town", "works", "I", false)
  | 4 => ("LookAtClock$Town", "lookers", "[LLookAtClock$Looker;", true)
  | 5 => ("LookAtClock$Town", "many", "I", false)
  | 6 => ("LookAtClock$Town", "plan", "[I", true)
  | 7 => ("LookAtClock$Town", "planned", "I", false)
  | _ => ("LookAtClock$Town", "law", "I", false)
def tyX2 : Nat → FieldType := fun k => match k with
  | 0 => .array .int
  | 1 => .array .int
  | 2 => .array .int
  | 3 => .int
  | 4 => .array (.object "LookAtClock$Looker")
  | 5 => .int
  | 6 => .array .int
  | 7 => .int
  | _ => .int
abbrev wsX20 : List Cond := u_ws RX2 TX2 9
theorem nmX2 : ∀ a, a < 9 → ∀ b, b < 9 → a ≠ b → (TX2 a).2.1 ≠ (TX2 b).2.1 := by decide +kernel
theorem tyX2_ok : ∀ k, k < 9 → parseFieldDescriptor (TX2 k).2.2.1 = some (tyX2 k) := by decide +kernel
abbrev cX2_takes : ByteArray := prog_18_method_2_code
def yX2_takes : MethodName := ⟨RX2, "takes", "(LLookAtClock$Town;)V"⟩
def dkwX2_takes_4 : List UInt8 := [181, 0, 43, 42, 43, 180, 0, 46, 181, 0, 46, 177]
abbrev dktX2_takes_4 : List UInt8 := dkwX2_takes_4 ++ []
def dkwX2_takes_3 : List UInt8 := [181, 0, 40, 43, 180, 0, 27, 3, 42, 180, 0, 27, 3, 16, 8, 184, 0, 30, 42, 43, 180, 0, 43]
abbrev dktX2_takes_3 : List UInt8 := dkwX2_takes_3 ++ dktX2_takes_4
def dkwX2_takes_2 : List UInt8 := [181, 0, 36, 43, 180, 0, 23, 3, 42, 180, 0, 23, 3, 16, 6, 184, 0, 30, 42, 43, 180, 0, 40]
abbrev dktX2_takes_2 : List UInt8 := dkwX2_takes_2 ++ dktX2_takes_3
def dkwX2_takes_1 : List UInt8 := [8, 184, 0, 30, 43, 180, 0, 18, 3, 42, 180, 0, 18, 3, 8, 184, 0, 30, 42, 43, 180, 0, 36]
abbrev dktX2_takes_1 : List UInt8 := dkwX2_takes_1 ++ dktX2_takes_2
def dkwX2_takes_0 : List UInt8 := [43, 180, 0, 9, 3, 42, 180, 0, 9, 3, 8, 184, 0, 30, 43, 180, 0, 15, 3, 42, 180, 0, 15, 3]
abbrev dktX2_takes_0 : List UInt8 := dkwX2_takes_0 ++ dktX2_takes_1
theorem dksX2_takes_0 : cX2_takes.data.toList.drop 0 = dktX2_takes_0 := by decide +kernel
theorem dksX2_takes_1 : cX2_takes.data.toList.drop 24 = dktX2_takes_1 := dk_seg dksX2_takes_0 24 rfl rfl
theorem dksX2_takes_2 : cX2_takes.data.toList.drop 47 = dktX2_takes_2 := dk_seg dksX2_takes_1 23 rfl rfl
theorem dksX2_takes_3 : cX2_takes.data.toList.drop 70 = dktX2_takes_3 := dk_seg dksX2_takes_2 23 rfl rfl
theorem dksX2_takes_4 : cX2_takes.data.toList.drop 93 = dktX2_takes_4 := dk_seg dksX2_takes_3 23 rfl rfl
theorem dX2_takes_0 : decode cX2_takes 0 = .ok (.aload_n 1, 1) := dk_43 (dk_at dksX2_takes_0 0 rfl rfl)
theorem dX2_takes_1 : decode cX2_takes 1 = .ok (.getfield 9, 3) := dk_180 0 9 (dk_at dksX2_takes_0 1 rfl rfl)
theorem dX2_takes_4 : decode cX2_takes 4 = .ok (.iconst 0, 1) := dk_3 (dk_at dksX2_takes_0 4 rfl rfl)
theorem dX2_takes_5 : decode cX2_takes 5 = .ok (.aload_n 0, 1) := dk_42 (dk_at dksX2_takes_0 5 rfl rfl)
theorem dX2_takes_6 : decode cX2_takes 6 = .ok (.getfield 9, 3) := dk_180 0 9 (dk_at dksX2_takes_0 6 rfl rfl)
theorem dX2_takes_9 : decode cX2_takes 9 = .ok (.iconst 0, 1) := dk_3 (dk_at dksX2_takes_0 9 rfl rfl)
theorem dX2_takes_10 : decode cX2_takes 10 = .ok (.iconst 5, 1) := dk_8 (dk_at dksX2_takes_0 10 rfl rfl)
theorem dX2_takes_11 : decode cX2_takes 11 = .ok (.invokestatic 30, 3) := dk_184 0 30 (dk_at dksX2_takes_0 11 rfl rfl)
theorem dX2_takes_14 : decode cX2_takes 14 = .ok (.aload_n 1, 1) := dk_43 (dk_at dksX2_takes_0 14 rfl rfl)
theorem dX2_takes_15 : decode cX2_takes 15 = .ok (.getfield 15, 3) := dk_180 0 15 (dk_at dksX2_takes_0 15 rfl rfl)
theorem dX2_takes_18 : decode cX2_takes 18 = .ok (.iconst 0, 1) := dk_3 (dk_at dksX2_takes_0 18 rfl rfl)
theorem dX2_takes_19 : decode cX2_takes 19 = .ok (.aload_n 0, 1) := dk_42 (dk_at dksX2_takes_0 19 rfl rfl)
theorem dX2_takes_20 : decode cX2_takes 20 = .ok (.getfield 15, 3) := dk_180 0 15 (dk_at dksX2_takes_0 20 rfl rfl)
theorem dX2_takes_23 : decode cX2_takes 23 = .ok (.iconst 0, 1) := dk_3 (dk_at dksX2_takes_0 23 rfl rfl)
theorem dX2_takes_24 : decode cX2_takes 24 = .ok (.iconst 5, 1) := dk_8 (dk_at dksX2_takes_1 0 rfl rfl)
theorem dX2_takes_25 : decode cX2_takes 25 = .ok (.invokestatic 30, 3) := dk_184 0 30 (dk_at dksX2_takes_1 1 rfl rfl)
theorem dX2_takes_28 : decode cX2_takes 28 = .ok (.aload_n 1, 1) := dk_43 (dk_at dksX2_takes_1 4 rfl rfl)
theorem dX2_takes_29 : decode cX2_takes 29 = .ok (.getfield 18, 3) := dk_180 0 18 (dk_at dksX2_takes_1 5 rfl rfl)
theorem dX2_takes_32 : decode cX2_takes 32 = .ok (.iconst 0, 1) := dk_3 (dk_at dksX2_takes_1 8 rfl rfl)
theorem dX2_takes_33 : decode cX2_takes 33 = .ok (.aload_n 0, 1) := dk_42 (dk_at dksX2_takes_1 9 rfl rfl)
theorem dX2_takes_34 : decode cX2_takes 34 = .ok (.getfield 18, 3) := dk_180 0 18 (dk_at dksX2_takes_1 10 rfl rfl)
theorem dX2_takes_37 : decode cX2_takes 37 = .ok (.iconst 0, 1) := dk_3 (dk_at dksX2_takes_1 13 rfl rfl)
theorem dX2_takes_38 : decode cX2_takes 38 = .ok (.iconst 5, 1) := dk_8 (dk_at dksX2_takes_1 14 rfl rfl)
theorem dX2_takes_39 : decode cX2_takes 39 = .ok (.invokestatic 30, 3) := dk_184 0 30 (dk_at dksX2_takes_1 15 rfl rfl)
theorem dX2_takes_42 : decode cX2_takes 42 = .ok (.aload_n 0, 1) := dk_42 (dk_at dksX2_takes_1 18 rfl rfl)
theorem dX2_takes_43 : decode cX2_takes 43 = .ok (.aload_n 1, 1) := dk_43 (dk_at dksX2_takes_1 19 rfl rfl)
theorem dX2_takes_44 : decode cX2_takes 44 = .ok (.getfield 36, 3) := dk_180 0 36 (dk_at dksX2_takes_1 20 rfl rfl)
theorem dX2_takes_47 : decode cX2_takes 47 = .ok (.putfield 36, 3) := dk_181 0 36 (dk_at dksX2_takes_2 0 rfl rfl)
theorem dX2_takes_50 : decode cX2_takes 50 = .ok (.aload_n 1, 1) := dk_43 (dk_at dksX2_takes_2 3 rfl rfl)
theorem dX2_takes_51 : decode cX2_takes 51 = .ok (.getfield 23, 3) := dk_180 0 23 (dk_at dksX2_takes_2 4 rfl rfl)
theorem dX2_takes_54 : decode cX2_takes 54 = .ok (.iconst 0, 1) := dk_3 (dk_at dksX2_takes_2 7 rfl rfl)
theorem dX2_takes_55 : decode cX2_takes 55 = .ok (.aload_n 0, 1) := dk_42 (dk_at dksX2_takes_2 8 rfl rfl)
theorem dX2_takes_56 : decode cX2_takes 56 = .ok (.getfield 23, 3) := dk_180 0 23 (dk_at dksX2_takes_2 9 rfl rfl)
theorem dX2_takes_59 : decode cX2_takes 59 = .ok (.iconst 0, 1) := dk_3 (dk_at dksX2_takes_2 12 rfl rfl)
theorem dX2_takes_60 : decode cX2_takes 60 = .ok (.bipush 6, 2) := dk_16 6 (dk_at dksX2_takes_2 13 rfl rfl)
theorem dX2_takes_62 : decode cX2_takes 62 = .ok (.invokestatic 30, 3) := dk_184 0 30 (dk_at dksX2_takes_2 15 rfl rfl)
theorem dX2_takes_65 : decode cX2_takes 65 = .ok (.aload_n 0, 1) := dk_42 (dk_at dksX2_takes_2 18 rfl rfl)
theorem dX2_takes_66 : decode cX2_takes 66 = .ok (.aload_n 1, 1) := dk_43 (dk_at dksX2_takes_2 19 rfl rfl)
theorem dX2_takes_67 : decode cX2_takes 67 = .ok (.getfield 40, 3) := dk_180 0 40 (dk_at dksX2_takes_2 20 rfl rfl)
theorem dX2_takes_70 : decode cX2_takes 70 = .ok (.putfield 40, 3) := dk_181 0 40 (dk_at dksX2_takes_3 0 rfl rfl)
theorem dX2_takes_73 : decode cX2_takes 73 = .ok (.aload_n 1, 1) := dk_43 (dk_at dksX2_takes_3 3 rfl rfl)
theorem dX2_takes_74 : decode cX2_takes 74 = .ok (.getfield 27, 3) := dk_180 0 27 (dk_at dksX2_takes_3 4 rfl rfl)
theorem dX2_takes_77 : decode cX2_takes 77 = .ok (.iconst 0, 1) := dk_3 (dk_at dksX2_takes_3 7 rfl rfl)
theorem dX2_takes_78 : decode cX2_takes 78 = .ok (.aload_n 0, 1) := dk_42 (dk_at dksX2_takes_3 8 rfl rfl)
theorem dX2_takes_79 : decode cX2_takes 79 = .ok (.getfield 27, 3) := dk_180 0 27 (dk_at dksX2_takes_3 9 rfl rfl)
theorem dX2_takes_82 : decode cX2_takes 82 = .ok (.iconst 0, 1) := dk_3 (dk_at dksX2_takes_3 12 rfl rfl)
theorem dX2_takes_83 : decode cX2_takes 83 = .ok (.bipush 8, 2) := dk_16 8 (dk_at dksX2_takes_3 13 rfl rfl)
theorem dX2_takes_85 : decode cX2_takes 85 = .ok (.invokestatic 30, 3) := dk_184 0 30 (dk_at dksX2_takes_3 15 rfl rfl)
theorem dX2_takes_88 : decode cX2_takes 88 = .ok (.aload_n 0, 1) := dk_42 (dk_at dksX2_takes_3 18 rfl rfl)
theorem dX2_takes_89 : decode cX2_takes 89 = .ok (.aload_n 1, 1) := dk_43 (dk_at dksX2_takes_3 19 rfl rfl)
theorem dX2_takes_90 : decode cX2_takes 90 = .ok (.getfield 43, 3) := dk_180 0 43 (dk_at dksX2_takes_3 20 rfl rfl)
theorem dX2_takes_93 : decode cX2_takes 93 = .ok (.putfield 43, 3) := dk_181 0 43 (dk_at dksX2_takes_4 0 rfl rfl)
theorem dX2_takes_96 : decode cX2_takes 96 = .ok (.aload_n 0, 1) := dk_42 (dk_at dksX2_takes_4 3 rfl rfl)
theorem dX2_takes_97 : decode cX2_takes 97 = .ok (.aload_n 1, 1) := dk_43 (dk_at dksX2_takes_4 4 rfl rfl)
theorem dX2_takes_98 : decode cX2_takes 98 = .ok (.getfield 46, 3) := dk_180 0 46 (dk_at dksX2_takes_4 5 rfl rfl)
theorem dX2_takes_101 : decode cX2_takes 101 = .ok (.putfield 46, 3) := dk_181 0 46 (dk_at dksX2_takes_4 8 rfl rfl)
theorem dX2_takes_104 : decode cX2_takes 104 = .ok (.return_, 1) := dk_177 (dk_at dksX2_takes_4 11 rfl rfl)
abbrev cX2_isPlanned : ByteArray := prog_18_method_3_code
def yX2_isPlanned : MethodName := ⟨RX2, "isPlanned", "(I)Z"⟩
def dkwX2_isPlanned_1 : List UInt8 := [167, 0, 4, 3, 128, 61, 132, 3, 1, 167, 255, 227, 28, 172]
abbrev dktX2_isPlanned_1 : List UInt8 := dkwX2_isPlanned_1 ++ []
def dkwX2_isPlanned_0 : List UInt8 := [3, 61, 3, 62, 29, 42, 180, 0, 43, 162, 0, 27, 28, 42, 180, 0, 27, 29, 46, 27, 160, 0, 7, 4]
abbrev dktX2_isPlanned_0 : List UInt8 := dkwX2_isPlanned_0 ++ dktX2_isPlanned_1
theorem dksX2_isPlanned_0 : cX2_isPlanned.data.toList.drop 0 = dktX2_isPlanned_0 := by decide +kernel
theorem dksX2_isPlanned_1 : cX2_isPlanned.data.toList.drop 24 = dktX2_isPlanned_1 := dk_seg dksX2_isPlanned_0 24 rfl rfl
theorem dX2_isPlanned_0 : decode cX2_isPlanned 0 = .ok (.iconst 0, 1) := dk_3 (dk_at dksX2_isPlanned_0 0 rfl rfl)
theorem dX2_isPlanned_1 : decode cX2_isPlanned 1 = .ok (.istore_n 2, 1) := dk_61 (dk_at dksX2_isPlanned_0 1 rfl rfl)
theorem dX2_isPlanned_2 : decode cX2_isPlanned 2 = .ok (.iconst 0, 1) := dk_3 (dk_at dksX2_isPlanned_0 2 rfl rfl)
theorem dX2_isPlanned_3 : decode cX2_isPlanned 3 = .ok (.istore_n 3, 1) := dk_62 (dk_at dksX2_isPlanned_0 3 rfl rfl)
theorem dX2_isPlanned_4 : decode cX2_isPlanned 4 = .ok (.iload_n 3, 1) := dk_29 (dk_at dksX2_isPlanned_0 4 rfl rfl)
theorem dX2_isPlanned_5 : decode cX2_isPlanned 5 = .ok (.aload_n 0, 1) := dk_42 (dk_at dksX2_isPlanned_0 5 rfl rfl)
theorem dX2_isPlanned_6 : decode cX2_isPlanned 6 = .ok (.getfield 43, 3) := dk_180 0 43 (dk_at dksX2_isPlanned_0 6 rfl rfl)
theorem dX2_isPlanned_9 : decode cX2_isPlanned 9 = .ok (.if_icmp .ge 27, 3) := dk_162 0 27 (dk_at dksX2_isPlanned_0 9 rfl rfl)
theorem dX2_isPlanned_12 : decode cX2_isPlanned 12 = .ok (.iload_n 2, 1) := dk_28 (dk_at dksX2_isPlanned_0 12 rfl rfl)
theorem dX2_isPlanned_13 : decode cX2_isPlanned 13 = .ok (.aload_n 0, 1) := dk_42 (dk_at dksX2_isPlanned_0 13 rfl rfl)
theorem dX2_isPlanned_14 : decode cX2_isPlanned 14 = .ok (.getfield 27, 3) := dk_180 0 27 (dk_at dksX2_isPlanned_0 14 rfl rfl)
theorem dX2_isPlanned_17 : decode cX2_isPlanned 17 = .ok (.iload_n 3, 1) := dk_29 (dk_at dksX2_isPlanned_0 17 rfl rfl)
theorem dX2_isPlanned_18 : decode cX2_isPlanned 18 = .ok (.iaload, 1) := dk_46 (dk_at dksX2_isPlanned_0 18 rfl rfl)
theorem dX2_isPlanned_19 : decode cX2_isPlanned 19 = .ok (.iload_n 1, 1) := dk_27 (dk_at dksX2_isPlanned_0 19 rfl rfl)
theorem dX2_isPlanned_20 : decode cX2_isPlanned 20 = .ok (.if_icmp .ne 7, 3) := dk_160 0 7 (dk_at dksX2_isPlanned_0 20 rfl rfl)
theorem dX2_isPlanned_23 : decode cX2_isPlanned 23 = .ok (.iconst 1, 1) := dk_4 (dk_at dksX2_isPlanned_0 23 rfl rfl)
theorem dX2_isPlanned_24 : decode cX2_isPlanned 24 = .ok (.goto 4, 3) := dk_167 0 4 (dk_at dksX2_isPlanned_1 0 rfl rfl)
theorem dX2_isPlanned_27 : decode cX2_isPlanned 27 = .ok (.iconst 0, 1) := dk_3 (dk_at dksX2_isPlanned_1 3 rfl rfl)
theorem dX2_isPlanned_28 : decode cX2_isPlanned 28 = .ok (.ior, 1) := dk_128 (dk_at dksX2_isPlanned_1 4 rfl rfl)
theorem dX2_isPlanned_29 : decode cX2_isPlanned 29 = .ok (.istore_n 2, 1) := dk_61 (dk_at dksX2_isPlanned_1 5 rfl rfl)
theorem dX2_isPlanned_30 : decode cX2_isPlanned 30 = .ok (.iinc 3 1, 3) := dk_132 3 1 (dk_at dksX2_isPlanned_1 6 rfl rfl)
theorem dX2_isPlanned_33 : decode cX2_isPlanned 33 = .ok (.goto (-29), 3) := dk_167 255 227 (dk_at dksX2_isPlanned_1 9 rfl rfl)
theorem dX2_isPlanned_36 : decode cX2_isPlanned 36 = .ok (.iload_n 2, 1) := dk_28 (dk_at dksX2_isPlanned_1 12 rfl rfl)
theorem dX2_isPlanned_37 : decode cX2_isPlanned 37 = .ok (.ireturn, 1) := dk_172 (dk_at dksX2_isPlanned_1 13 rfl rfl)
abbrev cX2_init : ByteArray := prog_18_method_1_code
def yX2_init : MethodName := ⟨RX2, "<init>", "()V"⟩
def dkwX2_init_1 : List UInt8 := [181, 0, 18, 42, 16, 6, 189, 0, 21, 181, 0, 23, 42, 16, 8, 188, 10, 181, 0, 27, 177]
abbrev dktX2_init_1 : List UInt8 := dkwX2_init_1 ++ []
def dkwX2_init_0 : List UInt8 := [42, 183, 0, 3, 42, 8, 188, 10, 181, 0, 9, 42, 8, 188, 10, 181, 0, 15, 42, 8, 188, 10]
abbrev dktX2_init_0 : List UInt8 := dkwX2_init_0 ++ dktX2_init_1
theorem dksX2_init_0 : cX2_init.data.toList.drop 0 = dktX2_init_0 := by decide +kernel
theorem dksX2_init_1 : cX2_init.data.toList.drop 22 = dktX2_init_1 := dk_seg dksX2_init_0 22 rfl rfl
theorem dX2_init_0 : decode cX2_init 0 = .ok (.aload_n 0, 1) := dk_42 (dk_at dksX2_init_0 0 rfl rfl)
theorem dX2_init_1 : decode cX2_init 1 = .ok (.invokespecial 3, 3) := dk_183 0 3 (dk_at dksX2_init_0 1 rfl rfl)
theorem dX2_init_4 : decode cX2_init 4 = .ok (.aload_n 0, 1) := dk_42 (dk_at dksX2_init_0 4 rfl rfl)
theorem dX2_init_5 : decode cX2_init 5 = .ok (.iconst 5, 1) := dk_8 (dk_at dksX2_init_0 5 rfl rfl)
theorem dX2_init_6 : decode cX2_init 6 = .ok (.newarray .int, 2) := dk_188_10 (dk_at dksX2_init_0 6 rfl rfl)
theorem dX2_init_8 : decode cX2_init 8 = .ok (.putfield 9, 3) := dk_181 0 9 (dk_at dksX2_init_0 8 rfl rfl)
theorem dX2_init_11 : decode cX2_init 11 = .ok (.aload_n 0, 1) := dk_42 (dk_at dksX2_init_0 11 rfl rfl)
theorem dX2_init_12 : decode cX2_init 12 = .ok (.iconst 5, 1) := dk_8 (dk_at dksX2_init_0 12 rfl rfl)
theorem dX2_init_13 : decode cX2_init 13 = .ok (.newarray .int, 2) := dk_188_10 (dk_at dksX2_init_0 13 rfl rfl)
theorem dX2_init_15 : decode cX2_init 15 = .ok (.putfield 15, 3) := dk_181 0 15 (dk_at dksX2_init_0 15 rfl rfl)
theorem dX2_init_18 : decode cX2_init 18 = .ok (.aload_n 0, 1) := dk_42 (dk_at dksX2_init_0 18 rfl rfl)
theorem dX2_init_19 : decode cX2_init 19 = .ok (.iconst 5, 1) := dk_8 (dk_at dksX2_init_0 19 rfl rfl)
theorem dX2_init_20 : decode cX2_init 20 = .ok (.newarray .int, 2) := dk_188_10 (dk_at dksX2_init_0 20 rfl rfl)
theorem dX2_init_22 : decode cX2_init 22 = .ok (.putfield 18, 3) := dk_181 0 18 (dk_at dksX2_init_1 0 rfl rfl)
theorem dX2_init_25 : decode cX2_init 25 = .ok (.aload_n 0, 1) := dk_42 (dk_at dksX2_init_1 3 rfl rfl)
theorem dX2_init_26 : decode cX2_init 26 = .ok (.bipush 6, 2) := dk_16 6 (dk_at dksX2_init_1 4 rfl rfl)
theorem dX2_init_28 : decode cX2_init 28 = .ok (.anewarray 21, 3) := dk_189 0 21 (dk_at dksX2_init_1 6 rfl rfl)
theorem dX2_init_31 : decode cX2_init 31 = .ok (.putfield 23, 3) := dk_181 0 23 (dk_at dksX2_init_1 9 rfl rfl)
theorem dX2_init_34 : decode cX2_init 34 = .ok (.aload_n 0, 1) := dk_42 (dk_at dksX2_init_1 12 rfl rfl)
theorem dX2_init_35 : decode cX2_init 35 = .ok (.bipush 8, 2) := dk_16 8 (dk_at dksX2_init_1 13 rfl rfl)
theorem dX2_init_37 : decode cX2_init 37 = .ok (.newarray .int, 2) := dk_188_10 (dk_at dksX2_init_1 15 rfl rfl)
theorem dX2_init_39 : decode cX2_init 39 = .ok (.putfield 27, 3) := dk_181 0 27 (dk_at dksX2_init_1 17 rfl rfl)
theorem dX2_init_42 : decode cX2_init 42 = .ok (.return_, 1) := dk_177 (dk_at dksX2_init_1 20 rfl rfl)
theorem q43 : (Jvm.Cond.initialized "LookAtClock$Town") ∈ lw_all := lw_g (lw_at lw_m1 2 rfl) rfl
theorem q84 : (Jvm.Cond.instanceMethod ({ cls := "LookAtClock$Town", name := "takes", desc := "(LLookAtClock$Town;)V" } : Jvm.MethodName)) ∈ lw_all := lw_g (lw_at lw_m1 43 rfl) rfl
theorem q85 : (Jvm.Cond.selects "LookAtClock$Town" ({ cls := "LookAtClock$Town", name := "takes", desc := "(LLookAtClock$Town;)V" } : Jvm.MethodName) ({ cls := "LookAtClock$Town", name := "takes", desc := "(LLookAtClock$Town;)V" } : Jvm.MethodName)) ∈ lw_all := lw_g (lw_at lw_m1 44 rfl) rfl
theorem q86 : (Jvm.Cond.code ({ cls := "LookAtClock$Town", name := "takes", desc := "(LLookAtClock$Town;)V" } : Jvm.MethodName) prog_18_method_2_code (2 : Nat) (Option.none : Option Jvm.ClassFile.FieldType)) ∈ lw_all := lw_g (lw_at lw_m1 45 rfl) rfl
theorem q87 : (Jvm.Cond.methodLink "LookAtClock$Town" (30 : Nat) ({ cls := "java/lang/System", name := "arraycopy", desc := "(Ljava/lang/Object;ILjava/lang/Object;II)V" } : Jvm.MethodName)) ∈ lw_all := lw_g (lw_at lw_m1 46 rfl) rfl
theorem q603 : (Jvm.Cond.instanceMethod ({ cls := "LookAtClock$Town", name := "isPlanned", desc := "(I)Z" } : Jvm.MethodName)) ∈ lw_all := lw_g (lw_at lw_m3 82 rfl) rfl
theorem q604 : (Jvm.Cond.selects "LookAtClock$Town" ({ cls := "LookAtClock$Town", name := "isPlanned", desc := "(I)Z" } : Jvm.MethodName) ({ cls := "LookAtClock$Town", name := "isPlanned", desc := "(I)Z" } : Jvm.MethodName)) ∈ lw_all := lw_g (lw_at lw_m3 83 rfl) rfl
theorem q605 : (Jvm.Cond.code ({ cls := "LookAtClock$Town", name := "isPlanned", desc := "(I)Z" } : Jvm.MethodName) prog_18_method_3_code (4 : Nat) (Option.some Jvm.ClassFile.FieldType.boolean)) ∈ lw_all := lw_g (lw_at lw_m3 84 rfl) rfl
theorem q781 : (Jvm.Cond.instantiable "LookAtClock$Town" (9 : Nat)) ∈ lw_all := lw_g (lw_at lw_m4 20 rfl) rfl
theorem q783 : (Jvm.Cond.instanceMethod ({ cls := "LookAtClock$Town", name := "<init>", desc := "()V" } : Jvm.MethodName)) ∈ lw_all := lw_g (lw_at lw_m4 22 rfl) rfl
theorem q784 : (Jvm.Cond.code ({ cls := "LookAtClock$Town", name := "<init>", desc := "()V" } : Jvm.MethodName) prog_18_method_1_code (1 : Nat) (Option.none : Option Jvm.ClassFile.FieldType)) ∈ lw_all := lw_g (lw_at lw_m4 23 rfl) rfl
theorem q785 : (Jvm.Cond.methodLink "LookAtClock$Town" (3 : Nat) ({ cls := "java/lang/Object", name := "<init>", desc := "()V" } : Jvm.MethodName)) ∈ lw_all := lw_g (lw_at lw_m4 24 rfl) rfl
theorem q786 : (Jvm.Cond.classLink "LookAtClock$Town" (21 : Nat) "LookAtClock$Looker") ∈ lw_all := lw_g (lw_at lw_m4 25 rfl) rfl
theorem q788 : (Jvm.Cond.fieldLink "LookAtClock$Town" (9 : Nat) "LookAtClock$Town" "at" "[I") ∈ lw_all := lw_g (lw_at lw_m4 27 rfl) rfl
theorem q791 : (Jvm.Cond.fieldLink "LookAtClock$Town" (15 : Nat) "LookAtClock$Town" "walk" "[I") ∈ lw_all := lw_g (lw_at lw_m4 30 rfl) rfl
theorem q794 : (Jvm.Cond.fieldLink "LookAtClock$Town" (18 : Nat) "LookAtClock$Town" "late" "[I") ∈ lw_all := lw_g (lw_at lw_m4 33 rfl) rfl
theorem q797 : (Jvm.Cond.fieldLink "LookAtClock$Town" (36 : Nat) "LookAtClock$Town" "works" "I") ∈ lw_all := lw_g (lw_at lw_m4 36 rfl) rfl
theorem q800 : (Jvm.Cond.fieldLink "LookAtClock$Town" (23 : Nat) "LookAtClock$Town" "lookers" "[LLookAtClock$Looker;") ∈ lw_all := lw_g (lw_at lw_m4 39 rfl) rfl
theorem q802 : (Jvm.Cond.fieldLink "LookAtClock$Town" (40 : Nat) "LookAtClock$Town" "many" "I") ∈ lw_all := lw_g (lw_at lw_m4 41 rfl) rfl
theorem q804 : (Jvm.Cond.fieldLink "LookAtClock$Town" (27 : Nat) "LookAtClock$Town" "plan" "[I") ∈ lw_all := lw_g (lw_at lw_m4 43 rfl) rfl
theorem q806 : (Jvm.Cond.fieldLink "LookAtClock$Town" (43 : Nat) "LookAtClock$Town" "planned" "I") ∈ lw_all := lw_g (lw_at lw_m4 45 rfl) rfl
theorem q808 : (Jvm.Cond.fieldLink "LookAtClock$Town" (46 : Nat) "LookAtClock$Town" "law" "I") ∈ lw_all := lw_g (lw_at lw_m4 47 rfl) rfl
theorem q810 : (Jvm.Cond.laysFinal "LookAtClock$Town" "LookAtClock$Town" "at" "[I") ∈ lw_all := lw_g (lw_at lw_m4 49 rfl) rfl
theorem q811 : (Jvm.Cond.soleField "LookAtClock$Town" "at") ∈ lw_all := lw_g (lw_at lw_m4 50 rfl) rfl
theorem q812 : (Jvm.Cond.laysFinal "LookAtClock$Town" "LookAtClock$Town" "walk" "[I") ∈ lw_all := lw_g (lw_at lw_m4 51 rfl) rfl
theorem q813 : (Jvm.Cond.soleField "LookAtClock$Town" "walk") ∈ lw_all := lw_g (lw_at lw_m4 52 rfl) rfl
theorem q814 : (Jvm.Cond.laysFinal "LookAtClock$Town" "LookAtClock$Town" "late" "[I") ∈ lw_all := lw_g (lw_at lw_m4 53 rfl) rfl
theorem q815 : (Jvm.Cond.soleField "LookAtClock$Town" "late") ∈ lw_all := lw_g (lw_at lw_m4 54 rfl) rfl
theorem q816 : (Jvm.Cond.lays "LookAtClock$Town" "LookAtClock$Town" "works" "I") ∈ lw_all := lw_g (lw_at lw_m4 55 rfl) rfl
theorem q817 : (Jvm.Cond.soleField "LookAtClock$Town" "works") ∈ lw_all := lw_g (lw_at lw_m4 56 rfl) rfl
theorem q818 : (Jvm.Cond.laysFinal "LookAtClock$Town" "LookAtClock$Town" "lookers" "[LLookAtClock$Looker;") ∈ lw_all := lw_g (lw_at lw_m4 57 rfl) rfl
theorem q819 : (Jvm.Cond.soleField "LookAtClock$Town" "lookers") ∈ lw_all := lw_g (lw_at lw_m4 58 rfl) rfl
theorem q820 : (Jvm.Cond.lays "LookAtClock$Town" "LookAtClock$Town" "many" "I") ∈ lw_all := lw_g (lw_at lw_m4 59 rfl) rfl
theorem q821 : (Jvm.Cond.soleField "LookAtClock$Town" "many") ∈ lw_all := lw_g (lw_at lw_m4 60 rfl) rfl
theorem q822 : (Jvm.Cond.laysFinal "LookAtClock$Town" "LookAtClock$Town" "plan" "[I") ∈ lw_all := lw_g (lw_at lw_m4 61 rfl) rfl
theorem q823 : (Jvm.Cond.soleField "LookAtClock$Town" "plan") ∈ lw_all := lw_g (lw_at lw_m4 62 rfl) rfl
theorem q824 : (Jvm.Cond.lays "LookAtClock$Town" "LookAtClock$Town" "planned" "I") ∈ lw_all := lw_g (lw_at lw_m4 63 rfl) rfl
theorem q825 : (Jvm.Cond.soleField "LookAtClock$Town" "planned") ∈ lw_all := lw_g (lw_at lw_m4 64 rfl) rfl
theorem q826 : (Jvm.Cond.lays "LookAtClock$Town" "LookAtClock$Town" "law" "I") ∈ lw_all := lw_g (lw_at lw_m4 65 rfl) rfl
theorem q827 : (Jvm.Cond.soleField "LookAtClock$Town" "law") ∈ lw_all := lw_g (lw_at lw_m4 66 rfl) rfl
theorem q828 : (Jvm.Cond.superclass "LookAtClock$Town" "java/lang/Object") ∈ lw_all := lw_g (lw_at lw_m4 67 rfl) rfl
theorem in_X2 : ∀ w ∈ wsX20, w ∈ lw_all := lw_in wsX20 [810, 812, 814, 816, 818, 820, 822, 824, 826] (by decide +kernel) (by decide +kernel)
/-! LookAtClock$Day -/
set_option maxRecDepth 100000
def RX3 : String := "LookAtClock$Day"
def TX3 : u_T := fun k => match k with
  | 0 => ("LookAtClock$Day", "t", "LLookAtClock$Town;", false)
  | 1 => ("LookAtClock$Day", "who", "LLookAtClock$Looker;", false)
  | 2 => ("LookAtClock$Day", "drift", "I", false)
  | 3 => ("LookAtClock$Day", "law", "I", false)
  | 4 => ("LookAtClock$Day", "minute", "I", false)
  | 5 => ("LookAtClock$Day", "latest", "I", false)
  | 6 => ("LookAtClock$Day", "work", "I", false)
  | 7 => ("LookAtClock$Day", "hasLooked", "Z", false)
  | 8 => ("LookAtClock$Day", "looks", "[I", true)
  | 9 => ("LookAtClock$Day", "lookMany", "I", false)
  | 10 => ("LookAtClock$Day", "came", "[I", true)
  | 11 => ("LookAtClock$Day", "paid", "I", false)
  | 12 => ("LookAtClock$Day", "fines", "I", false)
  | 13 => ("LookAtClock$Day", "late", "I", false)
  | _ => ("LookAtClock$Day", "idle", "I", false)
def tyX3 : Nat → FieldType := fun k => match k with
  | 0 => .object "LookAtClock$Town"
  | 1 => .object "LookAtClock$Looker"
  | 2 => .int
  | 3 => .int
  | 4 => .int
  | 5 => .int
  | 6 => .int
  | 7 => .boolean
  | 8 => .array .int
  | 9 => .int
  | 10 => .array .int
  | 11 => .int
  | 12 => .int
  | 13 => .int
  | _ => .int
abbrev wsX30 : List Cond := u_ws RX3 TX3 15
set_option maxRecDepth 100000 in
theorem nmX3 : ∀ a, a < 15 → ∀ b, b < 15 → a ≠ b → (TX3 a).2.1 ≠ (TX3 b).2.1 := by decide +kernel
set_option maxRecDepth 100000 in
theorem tyX3_ok : ∀ k, k < 15 → parseFieldDescriptor (TX3 k).2.2.1 = some (tyX3 k) := by decide +kernel
abbrev cX3_init : ByteArray := prog_5_method_1_code
def yX3_init : MethodName := ⟨RX3, "<init>", "()V"⟩
def dkwX3_init_0 : List UInt8 := [42, 183, 0, 3, 42, 17, 2, 208, 188, 10, 181, 0, 9, 42, 8, 188, 10, 181, 0, 15, 177]
abbrev dktX3_init_0 : List UInt8 := dkwX3_init_0 ++ []
theorem dksX3_init_0 : cX3_init.data.toList.drop 0 = dktX3_init_0 := by decide +kernel
theorem dX3_init_0 : decode cX3_init 0 = .ok (.aload_n 0, 1) := dk_42 (dk_at dksX3_init_0 0 rfl rfl)
theorem dX3_init_1 : decode cX3_init 1 = .ok (.invokespecial 3, 3) := dk_183 0 3 (dk_at dksX3_init_0 1 rfl rfl)
theorem dX3_init_4 : decode cX3_init 4 = .ok (.aload_n 0, 1) := dk_42 (dk_at dksX3_init_0 4 rfl rfl)
theorem dX3_init_5 : decode cX3_init 5 = .ok (.sipush 720, 3) := dk_17 2 208 (dk_at dksX3_init_0 5 rfl rfl)
theorem dX3_init_8 : decode cX3_init 8 = .ok (.newarray .int, 2) := dk_188_10 (dk_at dksX3_init_0 8 rfl rfl)
theorem dX3_init_10 : decode cX3_init 10 = .ok (.putfield 9, 3) := dk_181 0 9 (dk_at dksX3_init_0 10 rfl rfl)
theorem dX3_init_13 : decode cX3_init 13 = .ok (.aload_n 0, 1) := dk_42 (dk_at dksX3_init_0 13 rfl rfl)
theorem dX3_init_14 : decode cX3_init 14 = .ok (.iconst 5, 1) := dk_8 (dk_at dksX3_init_0 14 rfl rfl)
theorem dX3_init_15 : decode cX3_init 15 = .ok (.newarray .int, 2) := dk_188_10 (dk_at dksX3_init_0 15 rfl rfl)
theorem dX3_init_17 : decode cX3_init 17 = .ok (.putfield 15, 3) := dk_181 0 15 (dk_at dksX3_init_0 17 rfl rfl)
theorem dX3_init_20 : decode cX3_init 20 = .ok (.return_, 1) := dk_177 (dk_at dksX3_init_0 20 rfl rfl)
abbrev cX3_goes : ByteArray := prog_5_method_8_code
def yX3_goes : MethodName := ⟨RX3, "goes", "(LLookAtClock$Town;LLookAtClock$Looker;II)LLookAtClock$Day;"⟩
def dkwX3_goes_5 : List UInt8 := [181, 0, 52, 167, 255, 204, 42, 176]
abbrev dktX3_goes_5 : List UInt8 := dkwX3_goes_5 ++ []
def dkwX3_goes_4 : List UInt8 := [180, 0, 52, 46, 44, 180, 0, 116, 161, 0, 7, 42, 182, 0, 122, 42, 89, 180, 0, 52, 4, 96]
abbrev dktX3_goes_4 : List UInt8 := dkwX3_goes_4 ++ dktX3_goes_5
def dkwX3_goes_3 : List UInt8 := [43, 180, 0, 119, 162, 0, 47, 42, 180, 0, 15, 42, 180, 0, 52, 16, 252, 79, 43, 180, 0, 47, 42]
abbrev dktX3_goes_3 : List UInt8 := dkwX3_goes_3 ++ dktX3_goes_4
def dkwX3_goes_2 : List UInt8 := [42, 3, 181, 0, 89, 42, 3, 181, 0, 86, 42, 3, 181, 0, 94, 42, 3, 181, 0, 52, 42, 180, 0, 52]
abbrev dktX3_goes_2 : List UInt8 := dkwX3_goes_2 ++ dktX3_goes_3
def dkwX3_goes_1 : List UInt8 := [180, 0, 116, 181, 0, 22, 42, 44, 180, 0, 116, 181, 0, 32, 42, 3, 181, 0, 58, 42, 3, 181, 0, 61]
abbrev dktX3_goes_1 : List UInt8 := dkwX3_goes_1 ++ dktX3_goes_2
def dkwX3_goes_0 : List UInt8 := [42, 43, 181, 0, 43, 42, 44, 181, 0, 64, 42, 29, 181, 0, 29, 42, 21, 4, 181, 0, 18, 42, 44]
abbrev dktX3_goes_0 : List UInt8 := dkwX3_goes_0 ++ dktX3_goes_1
theorem dksX3_goes_0 : cX3_goes.data.toList.drop 0 = dktX3_goes_0 := by decide +kernel
theorem dksX3_goes_1 : cX3_goes.data.toList.drop 23 = dktX3_goes_1 := dk_seg dksX3_goes_0 23 rfl rfl
theorem dksX3_goes_2 : cX3_goes.data.toList.drop 47 = dktX3_goes_2 := dk_seg dksX3_goes_1 24 rfl rfl
theorem dksX3_goes_3 : cX3_goes.data.toList.drop 71 = dktX3_goes_3 := dk_seg dksX3_goes_2 24 rfl rfl
theorem dksX3_goes_4 : cX3_goes.data.toList.drop 94 = dktX3_goes_4 := dk_seg dksX3_goes_3 23 rfl rfl
theorem dksX3_goes_5 : cX3_goes.data.toList.drop 116 = dktX3_goes_5 := dk_seg dksX3_goes_4 22 rfl rfl
theorem dX3_goes_0 : decode cX3_goes 0 = .ok (.aload_n 0, 1) := dk_42 (dk_at dksX3_goes_0 0 rfl rfl)
theorem dX3_goes_1 : decode cX3_goes 1 = .ok (.aload_n 1, 1) := dk_43 (dk_at dksX3_goes_0 1 rfl rfl)
theorem dX3_goes_2 : decode cX3_goes 2 = .ok (.putfield 43, 3) := dk_181 0 43 (dk_at dksX3_goes_0 2 rfl rfl)
theorem dX3_goes_5 : decode cX3_goes 5 = .ok (.aload_n 0, 1) := dk_42 (dk_at dksX3_goes_0 5 rfl rfl)
theorem dX3_goes_6 : decode cX3_goes 6 = .ok (.aload_n 2, 1) := dk_44 (dk_at dksX3_goes_0 6 rfl rfl)
theorem dX3_goes_7 : decode cX3_goes 7 = .ok (.putfield 64, 3) := dk_181 0 64 (dk_at dksX3_goes_0 7 rfl rfl)
theorem dX3_goes_10 : decode cX3_goes 10 = .ok (.aload_n 0, 1) := dk_42 (dk_at dksX3_goes_0 10 rfl rfl)
theorem dX3_goes_11 : decode cX3_goes 11 = .ok (.iload_n 3, 1) := dk_29 (dk_at dksX3_goes_0 11 rfl rfl)
theorem dX3_goes_12 : decode cX3_goes 12 = .ok (.putfield 29, 3) := dk_181 0 29 (dk_at dksX3_goes_0 12 rfl rfl)
theorem dX3_goes_15 : decode cX3_goes 15 = .ok (.aload_n 0, 1) := dk_42 (dk_at dksX3_goes_0 15 rfl rfl)
theorem dX3_goes_16 : decode cX3_goes 16 = .ok (.iload 4, 2) := dk_21 4 (dk_at dksX3_goes_0 16 rfl rfl)
theorem dX3_goes_18 : decode cX3_goes 18 = .ok (.putfield 18, 3) := dk_181 0 18 (dk_at dksX3_goes_0 18 rfl rfl)
theorem dX3_goes_21 : decode cX3_goes 21 = .ok (.aload_n 0, 1) := dk_42 (dk_at dksX3_goes_0 21 rfl rfl)
theorem dX3_goes_22 : decode cX3_goes 22 = .ok (.aload_n 2, 1) := dk_44 (dk_at dksX3_goes_0 22 rfl rfl)
theorem dX3_goes_23 : decode cX3_goes 23 = .ok (.getfield 116, 3) := dk_180 0 116 (dk_at dksX3_goes_1 0 rfl rfl)
theorem dX3_goes_26 : decode cX3_goes 26 = .ok (.putfield 22, 3) := dk_181 0 22 (dk_at dksX3_goes_1 3 rfl rfl)
theorem dX3_goes_29 : decode cX3_goes 29 = .ok (.aload_n 0, 1) := dk_42 (dk_at dksX3_goes_1 6 rfl rfl)
theorem dX3_goes_30 : decode cX3_goes 30 = .ok (.aload_n 2, 1) := dk_44 (dk_at dksX3_goes_1 7 rfl rfl)
theorem dX3_goes_31 : decode cX3_goes 31 = .ok (.getfield 116, 3) := dk_180 0 116 (dk_at dksX3_goes_1 8 rfl rfl)
theorem dX3_goes_34 : decode cX3_goes 34 = .ok (.putfield 32, 3) := dk_181 0 32 (dk_at dksX3_goes_1 11 rfl rfl)
theorem dX3_goes_37 : decode cX3_goes 37 = .ok (.aload_n 0, 1) := dk_42 (dk_at dksX3_goes_1 14 rfl rfl)
theorem dX3_goes_38 : decode cX3_goes 38 = .ok (.iconst 0, 1) := dk_3 (dk_at dksX3_goes_1 15 rfl rfl)
theorem dX3_goes_39 : decode cX3_goes 39 = .ok (.putfield 58, 3) := dk_181 0 58 (dk_at dksX3_goes_1 16 rfl rfl)
theorem dX3_goes_42 : decode cX3_goes 42 = .ok (.aload_n 0, 1) := dk_42 (dk_at dksX3_goes_1 19 rfl rfl)
theorem dX3_goes_43 : decode cX3_goes 43 = .ok (.iconst 0, 1) := dk_3 (dk_at dksX3_goes_1 20 rfl rfl)
theorem dX3_goes_44 : decode cX3_goes 44 = .ok (.putfield 61, 3) := dk_181 0 61 (dk_at dksX3_goes_1 21 rfl rfl)
theorem dX3_goes_47 : decode cX3_goes 47 = .ok (.aload_n 0, 1) := dk_42 (dk_at dksX3_goes_2 0 rfl rfl)
theorem dX3_goes_48 : decode cX3_goes 48 = .ok (.iconst 0, 1) := dk_3 (dk_at dksX3_goes_2 1 rfl rfl)
theorem dX3_goes_49 : decode cX3_goes 49 = .ok (.putfield 89, 3) := dk_181 0 89 (dk_at dksX3_goes_2 2 rfl rfl)
theorem dX3_goes_52 : decode cX3_goes 52 = .ok (.aload_n 0, 1) := dk_42 (dk_at dksX3_goes_2 5 rfl rfl)
theorem dX3_goes_53 : decode cX3_goes 53 = .ok (.iconst 0, 1) := dk_3 (dk_at dksX3_goes_2 6 rfl rfl)
theorem dX3_goes_54 : decode cX3_goes 54 = .ok (.putfield 86, 3) := dk_181 0 86 (dk_at dksX3_goes_2 7 rfl rfl)
theorem dX3_goes_57 : decode cX3_goes 57 = .ok (.aload_n 0, 1) := dk_42 (dk_at dksX3_goes_2 10 rfl rfl)
theorem dX3_goes_58 : decode cX3_goes 58 = .ok (.iconst 0, 1) := dk_3 (dk_at dksX3_goes_2 11 rfl rfl)
theorem dX3_goes_59 : decode cX3_goes 59 = .ok (.putfield 94, 3) := dk_181 0 94 (dk_at dksX3_goes_2 12 rfl rfl)
theorem dX3_goes_62 : decode cX3_goes 62 = .ok (.aload_n 0, 1) := dk_42 (dk_at dksX3_goes_2 15 rfl rfl)
theorem dX3_goes_63 : decode cX3_goes 63 = .ok (.iconst 0, 1) := dk_3 (dk_at dksX3_goes_2 16 rfl rfl)
theorem dX3_goes_64 : decode cX3_goes 64 = .ok (.putfield 52, 3) := dk_181 0 52 (dk_at dksX3_goes_2 17 rfl rfl)
theorem dX3_goes_67 : decode cX3_goes 67 = .ok (.aload_n 0, 1) := dk_42 (dk_at dksX3_goes_2 20 rfl rfl)
theorem dX3_goes_68 : decode cX3_goes 68 = .ok (.getfield 52, 3) := dk_180 0 52 (dk_at dksX3_goes_2 21 rfl rfl)
theorem dX3_goes_71 : decode cX3_goes 71 = .ok (.aload_n 1, 1) := dk_43 (dk_at dksX3_goes_3 0 rfl rfl)
theorem dX3_goes_72 : decode cX3_goes 72 = .ok (.getfield 119, 3) := dk_180 0 119 (dk_at dksX3_goes_3 1 rfl rfl)
theorem dX3_goes_75 : decode cX3_goes 75 = .ok (.if_icmp .ge 47, 3) := dk_162 0 47 (dk_at dksX3_goes_3 4 rfl rfl)
theorem dX3_goes_78 : decode cX3_goes 78 = .ok (.aload_n 0, 1) := dk_42 (dk_at dksX3_goes_3 7 rfl rfl)
theorem dX3_goes_79 : decode cX3_goes 79 = .ok (.getfield 15, 3) := dk_180 0 15 (dk_at dksX3_goes_3 8 rfl rfl)
theorem dX3_goes_82 : decode cX3_goes 82 = .ok (.aload_n 0, 1) := dk_42 (dk_at dksX3_goes_3 11 rfl rfl)
theorem dX3_goes_83 : decode cX3_goes 83 = .ok (.getfield 52, 3) := dk_180 0 52 (dk_at dksX3_goes_3 12 rfl rfl)
theorem dX3_goes_86 : decode cX3_goes 86 = .ok (.bipush (-4), 2) := dk_16 252 (dk_at dksX3_goes_3 15 rfl rfl)
theorem dX3_goes_88 : decode cX3_goes 88 = .ok (.iastore, 1) := dk_79 (dk_at dksX3_goes_3 17 rfl rfl)
theorem dX3_goes_89 : decode cX3_goes 89 = .ok (.aload_n 1, 1) := dk_43 (dk_at dksX3_goes_3 18 rfl rfl)
theorem dX3_goes_90 : decode cX3_goes 90 = .ok (.getfield 47, 3) := dk_180 0 47 (dk_at dksX3_goes_3 19 rfl rfl)
theorem dX3_goes_93 : decode cX3_goes 93 = .ok (.aload_n 0, 1) := dk_42 (dk_at dksX3_goes_3 22 rfl rfl)
theorem dX3_goes_94 : decode cX3_goes 94 = .ok (.getfield 52, 3) := dk_180 0 52 (dk_at dksX3_goes_4 0 rfl rfl)
theorem dX3_goes_97 : decode cX3_goes 97 = .ok (.iaload, 1) := dk_46 (dk_at dksX3_goes_4 3 rfl rfl)
theorem dX3_goes_98 : decode cX3_goes 98 = .ok (.aload_n 2, 1) := dk_44 (dk_at dksX3_goes_4 4 rfl rfl)
theorem dX3_goes_99 : decode cX3_goes 99 = .ok (.getfield 116, 3) := dk_180 0 116 (dk_at dksX3_goes_4 5 rfl rfl)
theorem dX3_goes_102 : decode cX3_goes 102 = .ok (.if_icmp .lt 7, 3) := dk_161 0 7 (dk_at dksX3_goes_4 8 rfl rfl)
theorem dX3_goes_105 : decode cX3_goes 105 = .ok (.aload_n 0, 1) := dk_42 (dk_at dksX3_goes_4 11 rfl rfl)
theorem dX3_goes_106 : decode cX3_goes 106 = .ok (.invokevirtual 122, 3) := dk_182 0 122 (dk_at dksX3_goes_4 12 rfl rfl)
theorem dX3_goes_109 : decode cX3_goes 109 = .ok (.aload_n 0, 1) := dk_42 (dk_at dksX3_goes_4 15 rfl rfl)
theorem dX3_goes_110 : decode cX3_goes 110 = .ok (.dup, 1) := dk_89 (dk_at dksX3_goes_4 16 rfl rfl)
theorem dX3_goes_111 : decode cX3_goes 111 = .ok (.getfield 52, 3) := dk_180 0 52 (dk_at dksX3_goes_4 17 rfl rfl)
theorem dX3_goes_114 : decode cX3_goes 114 = .ok (.iconst 1, 1) := dk_4 (dk_at dksX3_goes_4 20 rfl rfl)
theorem dX3_goes_115 : decode cX3_goes 115 = .ok (.iadd, 1) := dk_96 (dk_at dksX3_goes_4 21 rfl rfl)
theorem dX3_goes_116 : decode cX3_goes 116 = .ok (.putfield 52, 3) := dk_181 0 52 (dk_at dksX3_goes_5 0 rfl rfl)
theorem dX3_goes_119 : decode cX3_goes 119 = .ok (.goto (-52), 3) := dk_167 255 204 (dk_at dksX3_goes_5 3 rfl rfl)
theorem dX3_goes_122 : decode cX3_goes 122 = .ok (.aload_n 0, 1) := dk_42 (dk_at dksX3_goes_5 6 rfl rfl)
theorem dX3_goes_123 : decode cX3_goes 123 = .ok (.areturn, 1) := dk_176 (dk_at dksX3_goes_5 7 rfl rfl)
abbrev cX3_works : ByteArray := prog_5_method_7_code
def yX3_works : MethodName := ⟨RX3, "works", "()V"⟩
def dkwX3_works_2 : List UInt8 := [89, 180, 0, 22, 4, 96, 181, 0, 22, 167, 255, 204, 42, 182, 0, 113, 177]
abbrev dktX3_works_2 : List UInt8 := dkwX3_works_2 ++ []
def dkwX3_works_1 : List UInt8 := [17, 2, 207, 159, 0, 33, 42, 42, 180, 0, 64, 182, 0, 106, 182, 0, 109, 153, 0, 6, 167, 0, 16, 42]
abbrev dktX3_works_1 : List UInt8 := dkwX3_works_1 ++ dktX3_works_2
def dkwX3_works_0 : List UInt8 := [42, 3, 181, 0, 77, 42, 180, 0, 64, 42, 182, 0, 100, 153, 0, 7, 42, 182, 0, 104, 42, 180, 0, 22]
abbrev dktX3_works_0 : List UInt8 := dkwX3_works_0 ++ dktX3_works_1
theorem dksX3_works_0 : cX3_works.data.toList.drop 0 = dktX3_works_0 := by decide +kernel
theorem dksX3_works_1 : cX3_works.data.toList.drop 24 = dktX3_works_1 := dk_seg dksX3_works_0 24 rfl rfl
theorem dksX3_works_2 : cX3_works.data.toList.drop 48 = dktX3_works_2 := dk_seg dksX3_works_1 24 rfl rfl
theorem dX3_works_0 : decode cX3_works 0 = .ok (.aload_n 0, 1) := dk_42 (dk_at dksX3_works_0 0 rfl rfl)
theorem dX3_works_1 : decode cX3_works 1 = .ok (.iconst 0, 1) := dk_3 (dk_at dksX3_works_0 1 rfl rfl)
theorem dX3_works_2 : decode cX3_works 2 = .ok (.putfield 77, 3) := dk_181 0 77 (dk_at dksX3_works_0 2 rfl rfl)
theorem dX3_works_5 : decode cX3_works 5 = .ok (.aload_n 0, 1) := dk_42 (dk_at dksX3_works_0 5 rfl rfl)
theorem dX3_works_6 : decode cX3_works 6 = .ok (.getfield 64, 3) := dk_180 0 64 (dk_at dksX3_works_0 6 rfl rfl)
theorem dX3_works_9 : decode cX3_works 9 = .ok (.aload_n 0, 1) := dk_42 (dk_at dksX3_works_0 9 rfl rfl)
theorem dX3_works_10 : decode cX3_works 10 = .ok (.invokevirtual 100, 3) := dk_182 0 100 (dk_at dksX3_works_0 10 rfl rfl)
theorem dX3_works_13 : decode cX3_works 13 = .ok (.ifCond .eq 7, 3) := dk_153 0 7 (dk_at dksX3_works_0 13 rfl rfl)
theorem dX3_works_16 : decode cX3_works 16 = .ok (.aload_n 0, 1) := dk_42 (dk_at dksX3_works_0 16 rfl rfl)
theorem dX3_works_17 : decode cX3_works 17 = .ok (.invokevirtual 104, 3) := dk_182 0 104 (dk_at dksX3_works_0 17 rfl rfl)
theorem dX3_works_20 : decode cX3_works 20 = .ok (.aload_n 0, 1) := dk_42 (dk_at dksX3_works_0 20 rfl rfl)
theorem dX3_works_21 : decode cX3_works 21 = .ok (.getfield 22, 3) := dk_180 0 22 (dk_at dksX3_works_0 21 rfl rfl)
theorem dX3_works_24 : decode cX3_works 24 = .ok (.sipush 719, 3) := dk_17 2 207 (dk_at dksX3_works_1 0 rfl rfl)
theorem dX3_works_27 : decode cX3_works 27 = .ok (.if_icmp .eq 33, 3) := dk_159 0 33 (dk_at dksX3_works_1 3 rfl rfl)
theorem dX3_works_30 : decode cX3_works 30 = .ok (.aload_n 0, 1) := dk_42 (dk_at dksX3_works_1 6 rfl rfl)
theorem dX3_works_31 : decode cX3_works 31 = .ok (.aload_n 0, 1) := dk_42 (dk_at dksX3_works_1 7 rfl rfl)
theorem dX3_works_32 : decode cX3_works 32 = .ok (.getfield 64, 3) := dk_180 0 64 (dk_at dksX3_works_1 8 rfl rfl)
theorem dX3_works_35 : decode cX3_works 35 = .ok (.invokevirtual 106, 3) := dk_182 0 106 (dk_at dksX3_works_1 11 rfl rfl)
theorem dX3_works_38 : decode cX3_works 38 = .ok (.invokevirtual 109, 3) := dk_182 0 109 (dk_at dksX3_works_1 14 rfl rfl)
theorem dX3_works_41 : decode cX3_works 41 = .ok (.ifCond .eq 6, 3) := dk_153 0 6 (dk_at dksX3_works_1 17 rfl rfl)
theorem dX3_works_44 : decode cX3_works 44 = .ok (.goto 16, 3) := dk_167 0 16 (dk_at dksX3_works_1 20 rfl rfl)
theorem dX3_works_47 : decode cX3_works 47 = .ok (.aload_n 0, 1) := dk_42 (dk_at dksX3_works_1 23 rfl rfl)
theorem dX3_works_48 : decode cX3_works 48 = .ok (.dup, 1) := dk_89 (dk_at dksX3_works_2 0 rfl rfl)
theorem dX3_works_49 : decode cX3_works 49 = .ok (.getfield 22, 3) := dk_180 0 22 (dk_at dksX3_works_2 1 rfl rfl)
theorem dX3_works_52 : decode cX3_works 52 = .ok (.iconst 1, 1) := dk_4 (dk_at dksX3_works_2 4 rfl rfl)
theorem dX3_works_53 : decode cX3_works 53 = .ok (.iadd, 1) := dk_96 (dk_at dksX3_works_2 5 rfl rfl)
theorem dX3_works_54 : decode cX3_works 54 = .ok (.putfield 22, 3) := dk_181 0 22 (dk_at dksX3_works_2 6 rfl rfl)
theorem dX3_works_57 : decode cX3_works 57 = .ok (.goto (-52), 3) := dk_167 255 204 (dk_at dksX3_works_2 9 rfl rfl)
theorem dX3_works_60 : decode cX3_works 60 = .ok (.aload_n 0, 1) := dk_42 (dk_at dksX3_works_2 12 rfl rfl)
theorem dX3_works_61 : decode cX3_works 61 = .ok (.invokevirtual 113, 3) := dk_182 0 113 (dk_at dksX3_works_2 13 rfl rfl)
theorem dX3_works_64 : decode cX3_works 64 = .ok (.return_, 1) := dk_177 (dk_at dksX3_works_2 16 rfl rfl)
abbrev cX3_cost : ByteArray := prog_5_method_9_code
def yX3_cost : MethodName := ⟨RX3, "cost", "()I"⟩
def dkwX3_cost_0 : List UInt8 := [42, 180, 0, 61, 42, 180, 0, 89, 96, 172]
abbrev dktX3_cost_0 : List UInt8 := dkwX3_cost_0 ++ []
theorem dksX3_cost_0 : cX3_cost.data.toList.drop 0 = dktX3_cost_0 := by decide +kernel
theorem dX3_cost_0 : decode cX3_cost 0 = .ok (.aload_n 0, 1) := dk_42 (dk_at dksX3_cost_0 0 rfl rfl)
theorem dX3_cost_1 : decode cX3_cost 1 = .ok (.getfield 61, 3) := dk_180 0 61 (dk_at dksX3_cost_0 1 rfl rfl)
theorem dX3_cost_4 : decode cX3_cost 4 = .ok (.aload_n 0, 1) := dk_42 (dk_at dksX3_cost_0 4 rfl rfl)
theorem dX3_cost_5 : decode cX3_cost 5 = .ok (.getfield 89, 3) := dk_180 0 89 (dk_at dksX3_cost_0 5 rfl rfl)
theorem dX3_cost_8 : decode cX3_cost 8 = .ok (.iadd, 1) := dk_96 (dk_at dksX3_cost_0 8 rfl rfl)
theorem dX3_cost_9 : decode cX3_cost 9 = .ok (.ireturn, 1) := dk_172 (dk_at dksX3_cost_0 9 rfl rfl)
abbrev cX3_isDue : ByteArray := prog_5_method_4_code
def yX3_isDue : MethodName := ⟨RX3, "isDue", "(I)Z"⟩
def dkwX3_isDue_1 : List UInt8 := [180, 0, 52, 46, 100, 27, 100, 161, 0, 7, 4, 167, 0, 4, 3, 172]
abbrev dktX3_isDue_1 : List UInt8 := dkwX3_isDue_1 ++ []
def dkwX3_isDue_0 : List UInt8 := [42, 182, 0, 39, 42, 180, 0, 43, 180, 0, 47, 42, 180, 0, 52, 46, 42, 180, 0, 43, 180, 0, 55, 42]
abbrev dktX3_isDue_0 : List UInt8 := dkwX3_isDue_0 ++ dktX3_isDue_1
theorem dksX3_isDue_0 : cX3_isDue.data.toList.drop 0 = dktX3_isDue_0 := by decide +kernel
theorem dksX3_isDue_1 : cX3_isDue.data.toList.drop 24 = dktX3_isDue_1 := dk_seg dksX3_isDue_0 24 rfl rfl
theorem dX3_isDue_0 : decode cX3_isDue 0 = .ok (.aload_n 0, 1) := dk_42 (dk_at dksX3_isDue_0 0 rfl rfl)
theorem dX3_isDue_1 : decode cX3_isDue 1 = .ok (.invokevirtual 39, 3) := dk_182 0 39 (dk_at dksX3_isDue_0 1 rfl rfl)
theorem dX3_isDue_4 : decode cX3_isDue 4 = .ok (.aload_n 0, 1) := dk_42 (dk_at dksX3_isDue_0 4 rfl rfl)
theorem dX3_isDue_5 : decode cX3_isDue 5 = .ok (.getfield 43, 3) := dk_180 0 43 (dk_at dksX3_isDue_0 5 rfl rfl)
theorem dX3_isDue_8 : decode cX3_isDue 8 = .ok (.getfield 47, 3) := dk_180 0 47 (dk_at dksX3_isDue_0 8 rfl rfl)
theorem dX3_isDue_11 : decode cX3_isDue 11 = .ok (.aload_n 0, 1) := dk_42 (dk_at dksX3_isDue_0 11 rfl rfl)
theorem dX3_isDue_12 : decode cX3_isDue 12 = .ok (.getfield 52, 3) := dk_180 0 52 (dk_at dksX3_isDue_0 12 rfl rfl)
theorem dX3_isDue_15 : decode cX3_isDue 15 = .ok (.iaload, 1) := dk_46 (dk_at dksX3_isDue_0 15 rfl rfl)
theorem dX3_isDue_16 : decode cX3_isDue 16 = .ok (.aload_n 0, 1) := dk_42 (dk_at dksX3_isDue_0 16 rfl rfl)
theorem dX3_isDue_17 : decode cX3_isDue 17 = .ok (.getfield 43, 3) := dk_180 0 43 (dk_at dksX3_isDue_0 17 rfl rfl)
theorem dX3_isDue_20 : decode cX3_isDue 20 = .ok (.getfield 55, 3) := dk_180 0 55 (dk_at dksX3_isDue_0 20 rfl rfl)
theorem dX3_isDue_23 : decode cX3_isDue 23 = .ok (.aload_n 0, 1) := dk_42 (dk_at dksX3_isDue_0 23 rfl rfl)
theorem dX3_isDue_24 : decode cX3_isDue 24 = .ok (.getfield 52, 3) := dk_180 0 52 (dk_at dksX3_isDue_1 0 rfl rfl)
theorem dX3_isDue_27 : decode cX3_isDue 27 = .ok (.iaload, 1) := dk_46 (dk_at dksX3_isDue_1 3 rfl rfl)
theorem dX3_isDue_28 : decode cX3_isDue 28 = .ok (.isub, 1) := dk_100 (dk_at dksX3_isDue_1 4 rfl rfl)
theorem dX3_isDue_29 : decode cX3_isDue 29 = .ok (.iload_n 1, 1) := dk_27 (dk_at dksX3_isDue_1 5 rfl rfl)
theorem dX3_isDue_30 : decode cX3_isDue 30 = .ok (.isub, 1) := dk_100 (dk_at dksX3_isDue_1 6 rfl rfl)
theorem dX3_isDue_31 : decode cX3_isDue 31 = .ok (.if_icmp .lt 7, 3) := dk_161 0 7 (dk_at dksX3_isDue_1 7 rfl rfl)
theorem dX3_isDue_34 : decode cX3_isDue 34 = .ok (.iconst 1, 1) := dk_4 (dk_at dksX3_isDue_1 10 rfl rfl)
theorem dX3_isDue_35 : decode cX3_isDue 35 = .ok (.goto 4, 3) := dk_167 0 4 (dk_at dksX3_isDue_1 11 rfl rfl)
theorem dX3_isDue_38 : decode cX3_isDue 38 = .ok (.iconst 0, 1) := dk_3 (dk_at dksX3_isDue_1 14 rfl rfl)
theorem dX3_isDue_39 : decode cX3_isDue 39 = .ok (.ireturn, 1) := dk_172 (dk_at dksX3_isDue_1 15 rfl rfl)
abbrev cX3_thinks : ByteArray := prog_5_method_3_code
def yX3_thinks : MethodName := ⟨RX3, "thinks", "()I"⟩
def dkwX3_thinks_0 : List UInt8 := [42, 180, 0, 29, 42, 180, 0, 32, 42, 180, 0, 22, 184, 0, 35, 172]
abbrev dktX3_thinks_0 : List UInt8 := dkwX3_thinks_0 ++ []
theorem dksX3_thinks_0 : cX3_thinks.data.toList.drop 0 = dktX3_thinks_0 := by decide +kernel
theorem dX3_thinks_0 : decode cX3_thinks 0 = .ok (.aload_n 0, 1) := dk_42 (dk_at dksX3_thinks_0 0 rfl rfl)
theorem dX3_thinks_1 : decode cX3_thinks 1 = .ok (.getfield 29, 3) := dk_180 0 29 (dk_at dksX3_thinks_0 1 rfl rfl)
theorem dX3_thinks_4 : decode cX3_thinks 4 = .ok (.aload_n 0, 1) := dk_42 (dk_at dksX3_thinks_0 4 rfl rfl)
theorem dX3_thinks_5 : decode cX3_thinks 5 = .ok (.getfield 32, 3) := dk_180 0 32 (dk_at dksX3_thinks_0 5 rfl rfl)
theorem dX3_thinks_8 : decode cX3_thinks 8 = .ok (.aload_n 0, 1) := dk_42 (dk_at dksX3_thinks_0 8 rfl rfl)
theorem dX3_thinks_9 : decode cX3_thinks 9 = .ok (.getfield 22, 3) := dk_180 0 22 (dk_at dksX3_thinks_0 9 rfl rfl)
theorem dX3_thinks_12 : decode cX3_thinks 12 = .ok (.invokestatic 35, 3) := dk_184 0 35 (dk_at dksX3_thinks_0 12 rfl rfl)
theorem dX3_thinks_15 : decode cX3_thinks 15 = .ok (.ireturn, 1) := dk_172 (dk_at dksX3_thinks_0 15 rfl rfl)
abbrev cX3_price : ByteArray := prog_5_method_2_code
def yX3_price : MethodName := ⟨RX3, "price", "()I"⟩
def dkwX3_price_0 : List UInt8 := [42, 180, 0, 18, 42, 180, 0, 22, 184, 0, 25, 172]
abbrev dktX3_price_0 : List UInt8 := dkwX3_price_0 ++ []
theorem dksX3_price_0 : cX3_price.data.toList.drop 0 = dktX3_price_0 := by decide +kernel
theorem dX3_price_0 : decode cX3_price 0 = .ok (.aload_n 0, 1) := dk_42 (dk_at dksX3_price_0 0 rfl rfl)
theorem dX3_price_1 : decode cX3_price 1 = .ok (.getfield 18, 3) := dk_180 0 18 (dk_at dksX3_price_0 1 rfl rfl)
theorem dX3_price_4 : decode cX3_price 4 = .ok (.aload_n 0, 1) := dk_42 (dk_at dksX3_price_0 4 rfl rfl)
theorem dX3_price_5 : decode cX3_price 5 = .ok (.getfield 22, 3) := dk_180 0 22 (dk_at dksX3_price_0 5 rfl rfl)
theorem dX3_price_8 : decode cX3_price 8 = .ok (.invokestatic 25, 3) := dk_184 0 25 (dk_at dksX3_price_0 8 rfl rfl)
theorem dX3_price_11 : decode cX3_price 11 = .ok (.ireturn, 1) := dk_172 (dk_at dksX3_price_0 11 rfl rfl)
abbrev cX3_looks : ByteArray := prog_5_method_5_code
def yX3_looks : MethodName := ⟨RX3, "looks", "()V"⟩
def dkwX3_looks_2 : List UInt8 := [181, 0, 32, 42, 4, 181, 0, 77, 177]
abbrev dktX3_looks_2 : List UInt8 := dkwX3_looks_2 ++ []
def dkwX3_looks_1 : List UInt8 := [89, 180, 0, 61, 42, 180, 0, 64, 42, 182, 0, 68, 182, 0, 71, 96, 181, 0, 61, 42, 42, 180, 0, 22]
abbrev dktX3_looks_1 : List UInt8 := dkwX3_looks_1 ++ dktX3_looks_2
def dkwX3_looks_0 : List UInt8 := [42, 180, 0, 9, 42, 180, 0, 58, 42, 180, 0, 22, 79, 42, 89, 180, 0, 58, 4, 96, 181, 0, 58, 42]
abbrev dktX3_looks_0 : List UInt8 := dkwX3_looks_0 ++ dktX3_looks_1
theorem dksX3_looks_0 : cX3_looks.data.toList.drop 0 = dktX3_looks_0 := by decide +kernel
theorem dksX3_looks_1 : cX3_looks.data.toList.drop 24 = dktX3_looks_1 := dk_seg dksX3_looks_0 24 rfl rfl
theorem dksX3_looks_2 : cX3_looks.data.toList.drop 48 = dktX3_looks_2 := dk_seg dksX3_looks_1 24 rfl rfl
theorem dX3_looks_0 : decode cX3_looks 0 = .ok (.aload_n 0, 1) := dk_42 (dk_at dksX3_looks_0 0 rfl rfl)
theorem dX3_looks_1 : decode cX3_looks 1 = .ok (.getfield 9, 3) := dk_180 0 9 (dk_at dksX3_looks_0 1 rfl rfl)
theorem dX3_looks_4 : decode cX3_looks 4 = .ok (.aload_n 0, 1) := dk_42 (dk_at dksX3_looks_0 4 rfl rfl)
theorem dX3_looks_5 : decode cX3_looks 5 = .ok (.getfield 58, 3) := dk_180 0 58 (dk_at dksX3_looks_0 5 rfl rfl)
theorem dX3_looks_8 : decode cX3_looks 8 = .ok (.aload_n 0, 1) := dk_42 (dk_at dksX3_looks_0 8 rfl rfl)
theorem dX3_looks_9 : decode cX3_looks 9 = .ok (.getfield 22, 3) := dk_180 0 22 (dk_at dksX3_looks_0 9 rfl rfl)
theorem dX3_looks_12 : decode cX3_looks 12 = .ok (.iastore, 1) := dk_79 (dk_at dksX3_looks_0 12 rfl rfl)
theorem dX3_looks_13 : decode cX3_looks 13 = .ok (.aload_n 0, 1) := dk_42 (dk_at dksX3_looks_0 13 rfl rfl)
theorem dX3_looks_14 : decode cX3_looks 14 = .ok (.dup, 1) := dk_89 (dk_at dksX3_looks_0 14 rfl rfl)
theorem dX3_looks_15 : decode cX3_looks 15 = .ok (.getfield 58, 3) := dk_180 0 58 (dk_at dksX3_looks_0 15 rfl rfl)
theorem dX3_looks_18 : decode cX3_looks 18 = .ok (.iconst 1, 1) := dk_4 (dk_at dksX3_looks_0 18 rfl rfl)
theorem dX3_looks_19 : decode cX3_looks 19 = .ok (.iadd, 1) := dk_96 (dk_at dksX3_looks_0 19 rfl rfl)
theorem dX3_looks_20 : decode cX3_looks 20 = .ok (.putfield 58, 3) := dk_181 0 58 (dk_at dksX3_looks_0 20 rfl rfl)
theorem dX3_looks_23 : decode cX3_looks 23 = .ok (.aload_n 0, 1) := dk_42 (dk_at dksX3_looks_0 23 rfl rfl)
theorem dX3_looks_24 : decode cX3_looks 24 = .ok (.dup, 1) := dk_89 (dk_at dksX3_looks_1 0 rfl rfl)
theorem dX3_looks_25 : decode cX3_looks 25 = .ok (.getfield 61, 3) := dk_180 0 61 (dk_at dksX3_looks_1 1 rfl rfl)
theorem dX3_looks_28 : decode cX3_looks 28 = .ok (.aload_n 0, 1) := dk_42 (dk_at dksX3_looks_1 4 rfl rfl)
theorem dX3_looks_29 : decode cX3_looks 29 = .ok (.getfield 64, 3) := dk_180 0 64 (dk_at dksX3_looks_1 5 rfl rfl)
theorem dX3_looks_32 : decode cX3_looks 32 = .ok (.aload_n 0, 1) := dk_42 (dk_at dksX3_looks_1 8 rfl rfl)
theorem dX3_looks_33 : decode cX3_looks 33 = .ok (.invokevirtual 68, 3) := dk_182 0 68 (dk_at dksX3_looks_1 9 rfl rfl)
theorem dX3_looks_36 : decode cX3_looks 36 = .ok (.invokevirtual 71, 3) := dk_182 0 71 (dk_at dksX3_looks_1 12 rfl rfl)
theorem dX3_looks_39 : decode cX3_looks 39 = .ok (.iadd, 1) := dk_96 (dk_at dksX3_looks_1 15 rfl rfl)
theorem dX3_looks_40 : decode cX3_looks 40 = .ok (.putfield 61, 3) := dk_181 0 61 (dk_at dksX3_looks_1 16 rfl rfl)
theorem dX3_looks_43 : decode cX3_looks 43 = .ok (.aload_n 0, 1) := dk_42 (dk_at dksX3_looks_1 19 rfl rfl)
theorem dX3_looks_44 : decode cX3_looks 44 = .ok (.aload_n 0, 1) := dk_42 (dk_at dksX3_looks_1 20 rfl rfl)
theorem dX3_looks_45 : decode cX3_looks 45 = .ok (.getfield 22, 3) := dk_180 0 22 (dk_at dksX3_looks_1 21 rfl rfl)
theorem dX3_looks_48 : decode cX3_looks 48 = .ok (.putfield 32, 3) := dk_181 0 32 (dk_at dksX3_looks_2 0 rfl rfl)
theorem dX3_looks_51 : decode cX3_looks 51 = .ok (.aload_n 0, 1) := dk_42 (dk_at dksX3_looks_2 3 rfl rfl)
theorem dX3_looks_52 : decode cX3_looks 52 = .ok (.iconst 1, 1) := dk_4 (dk_at dksX3_looks_2 4 rfl rfl)
theorem dX3_looks_53 : decode cX3_looks 53 = .ok (.putfield 77, 3) := dk_181 0 77 (dk_at dksX3_looks_2 5 rfl rfl)
theorem dX3_looks_56 : decode cX3_looks 56 = .ok (.return_, 1) := dk_177 (dk_at dksX3_looks_2 8 rfl rfl)
abbrev cX3_goes_2 : ByteArray := prog_5_method_6_code
def yX3_goes_2 : MethodName := ⟨RX3, "goes", "()V"⟩
def dkwX3_goes_2_5 : List UInt8 := [180, 0, 47, 42, 180, 0, 52, 46, 184, 0, 81, 184, 0, 97, 181, 0, 22, 177]
abbrev dktX3_goes_2_5 : List UInt8 := dkwX3_goes_2_5 ++ []
def dkwX3_goes_2_4 : List UInt8 := [180, 0, 52, 46, 27, 100, 184, 0, 81, 96, 181, 0, 94, 42, 17, 2, 207, 27, 42, 180, 0, 43]
abbrev dktX3_goes_2_4 : List UInt8 := dkwX3_goes_2_4 ++ dktX3_goes_2_5
def dkwX3_goes_2_3 : List UInt8 := [180, 0, 52, 46, 104, 96, 181, 0, 89, 42, 89, 180, 0, 94, 3, 42, 180, 0, 43, 180, 0, 47, 42]
abbrev dktX3_goes_2_3 : List UInt8 := dkwX3_goes_2_3 ++ dktX3_goes_2_4
def dkwX3_goes_2_2 : List UInt8 := [42, 89, 180, 0, 86, 28, 96, 181, 0, 86, 42, 89, 180, 0, 89, 28, 42, 180, 0, 43, 180, 0, 92, 42]
abbrev dktX3_goes_2_2 : List UInt8 := dkwX3_goes_2_2 ++ dktX3_goes_2_3
def dkwX3_goes_2_1 : List UInt8 := [180, 0, 52, 27, 79, 3, 27, 42, 180, 0, 43, 180, 0, 47, 42, 180, 0, 52, 46, 100, 184, 0, 81, 61]
abbrev dktX3_goes_2_1 : List UInt8 := dkwX3_goes_2_1 ++ dktX3_goes_2_2
def dkwX3_goes_2_0 : List UInt8 := [42, 180, 0, 22, 42, 180, 0, 43, 180, 0, 55, 42, 180, 0, 52, 46, 96, 60, 42, 180, 0, 15, 42]
abbrev dktX3_goes_2_0 : List UInt8 := dkwX3_goes_2_0 ++ dktX3_goes_2_1
theorem dksX3_goes_2_0 : cX3_goes_2.data.toList.drop 0 = dktX3_goes_2_0 := by decide +kernel
theorem dksX3_goes_2_1 : cX3_goes_2.data.toList.drop 23 = dktX3_goes_2_1 := dk_seg dksX3_goes_2_0 23 rfl rfl
theorem dksX3_goes_2_2 : cX3_goes_2.data.toList.drop 47 = dktX3_goes_2_2 := dk_seg dksX3_goes_2_1 24 rfl rfl
theorem dksX3_goes_2_3 : cX3_goes_2.data.toList.drop 71 = dktX3_goes_2_3 := dk_seg dksX3_goes_2_2 24 rfl rfl
theorem dksX3_goes_2_4 : cX3_goes_2.data.toList.drop 94 = dktX3_goes_2_4 := dk_seg dksX3_goes_2_3 23 rfl rfl
theorem dksX3_goes_2_5 : cX3_goes_2.data.toList.drop 116 = dktX3_goes_2_5 := dk_seg dksX3_goes_2_4 22 rfl rfl
theorem dX3_goes_2_0 : decode cX3_goes_2 0 = .ok (.aload_n 0, 1) := dk_42 (dk_at dksX3_goes_2_0 0 rfl rfl)
theorem dX3_goes_2_1 : decode cX3_goes_2 1 = .ok (.getfield 22, 3) := dk_180 0 22 (dk_at dksX3_goes_2_0 1 rfl rfl)
theorem dX3_goes_2_4 : decode cX3_goes_2 4 = .ok (.aload_n 0, 1) := dk_42 (dk_at dksX3_goes_2_0 4 rfl rfl)
theorem dX3_goes_2_5 : decode cX3_goes_2 5 = .ok (.getfield 43, 3) := dk_180 0 43 (dk_at dksX3_goes_2_0 5 rfl rfl)
theorem dX3_goes_2_8 : decode cX3_goes_2 8 = .ok (.getfield 55, 3) := dk_180 0 55 (dk_at dksX3_goes_2_0 8 rfl rfl)
theorem dX3_goes_2_11 : decode cX3_goes_2 11 = .ok (.aload_n 0, 1) := dk_42 (dk_at dksX3_goes_2_0 11 rfl rfl)
theorem dX3_goes_2_12 : decode cX3_goes_2 12 = .ok (.getfield 52, 3) := dk_180 0 52 (dk_at dksX3_goes_2_0 12 rfl rfl)
theorem dX3_goes_2_15 : decode cX3_goes_2 15 = .ok (.iaload, 1) := dk_46 (dk_at dksX3_goes_2_0 15 rfl rfl)
theorem dX3_goes_2_16 : decode cX3_goes_2 16 = .ok (.iadd, 1) := dk_96 (dk_at dksX3_goes_2_0 16 rfl rfl)
theorem dX3_goes_2_17 : decode cX3_goes_2 17 = .ok (.istore_n 1, 1) := dk_60 (dk_at dksX3_goes_2_0 17 rfl rfl)
theorem dX3_goes_2_18 : decode cX3_goes_2 18 = .ok (.aload_n 0, 1) := dk_42 (dk_at dksX3_goes_2_0 18 rfl rfl)
theorem dX3_goes_2_19 : decode cX3_goes_2 19 = .ok (.getfield 15, 3) := dk_180 0 15 (dk_at dksX3_goes_2_0 19 rfl rfl)
theorem dX3_goes_2_22 : decode cX3_goes_2 22 = .ok (.aload_n 0, 1) := dk_42 (dk_at dksX3_goes_2_0 22 rfl rfl)
theorem dX3_goes_2_23 : decode cX3_goes_2 23 = .ok (.getfield 52, 3) := dk_180 0 52 (dk_at dksX3_goes_2_1 0 rfl rfl)
theorem dX3_goes_2_26 : decode cX3_goes_2 26 = .ok (.iload_n 1, 1) := dk_27 (dk_at dksX3_goes_2_1 3 rfl rfl)
theorem dX3_goes_2_27 : decode cX3_goes_2 27 = .ok (.iastore, 1) := dk_79 (dk_at dksX3_goes_2_1 4 rfl rfl)
theorem dX3_goes_2_28 : decode cX3_goes_2 28 = .ok (.iconst 0, 1) := dk_3 (dk_at dksX3_goes_2_1 5 rfl rfl)
theorem dX3_goes_2_29 : decode cX3_goes_2 29 = .ok (.iload_n 1, 1) := dk_27 (dk_at dksX3_goes_2_1 6 rfl rfl)
theorem dX3_goes_2_30 : decode cX3_goes_2 30 = .ok (.aload_n 0, 1) := dk_42 (dk_at dksX3_goes_2_1 7 rfl rfl)
theorem dX3_goes_2_31 : decode cX3_goes_2 31 = .ok (.getfield 43, 3) := dk_180 0 43 (dk_at dksX3_goes_2_1 8 rfl rfl)
theorem dX3_goes_2_34 : decode cX3_goes_2 34 = .ok (.getfield 47, 3) := dk_180 0 47 (dk_at dksX3_goes_2_1 11 rfl rfl)
theorem dX3_goes_2_37 : decode cX3_goes_2 37 = .ok (.aload_n 0, 1) := dk_42 (dk_at dksX3_goes_2_1 14 rfl rfl)
theorem dX3_goes_2_38 : decode cX3_goes_2 38 = .ok (.getfield 52, 3) := dk_180 0 52 (dk_at dksX3_goes_2_1 15 rfl rfl)
theorem dX3_goes_2_41 : decode cX3_goes_2 41 = .ok (.iaload, 1) := dk_46 (dk_at dksX3_goes_2_1 18 rfl rfl)
theorem dX3_goes_2_42 : decode cX3_goes_2 42 = .ok (.isub, 1) := dk_100 (dk_at dksX3_goes_2_1 19 rfl rfl)
theorem dX3_goes_2_43 : decode cX3_goes_2 43 = .ok (.invokestatic 81, 3) := dk_184 0 81 (dk_at dksX3_goes_2_1 20 rfl rfl)
theorem dX3_goes_2_46 : decode cX3_goes_2 46 = .ok (.istore_n 2, 1) := dk_61 (dk_at dksX3_goes_2_1 23 rfl rfl)
theorem dX3_goes_2_47 : decode cX3_goes_2 47 = .ok (.aload_n 0, 1) := dk_42 (dk_at dksX3_goes_2_2 0 rfl rfl)
theorem dX3_goes_2_48 : decode cX3_goes_2 48 = .ok (.dup, 1) := dk_89 (dk_at dksX3_goes_2_2 1 rfl rfl)
theorem dX3_goes_2_49 : decode cX3_goes_2 49 = .ok (.getfield 86, 3) := dk_180 0 86 (dk_at dksX3_goes_2_2 2 rfl rfl)
theorem dX3_goes_2_52 : decode cX3_goes_2 52 = .ok (.iload_n 2, 1) := dk_28 (dk_at dksX3_goes_2_2 5 rfl rfl)
theorem dX3_goes_2_53 : decode cX3_goes_2 53 = .ok (.iadd, 1) := dk_96 (dk_at dksX3_goes_2_2 6 rfl rfl)
theorem dX3_goes_2_54 : decode cX3_goes_2 54 = .ok (.putfield 86, 3) := dk_181 0 86 (dk_at dksX3_goes_2_2 7 rfl rfl)
theorem dX3_goes_2_57 : decode cX3_goes_2 57 = .ok (.aload_n 0, 1) := dk_42 (dk_at dksX3_goes_2_2 10 rfl rfl)
theorem dX3_goes_2_58 : decode cX3_goes_2 58 = .ok (.dup, 1) := dk_89 (dk_at dksX3_goes_2_2 11 rfl rfl)
theorem dX3_goes_2_59 : decode cX3_goes_2 59 = .ok (.getfield 89, 3) := dk_180 0 89 (dk_at dksX3_goes_2_2 12 rfl rfl)
theorem dX3_goes_2_62 : decode cX3_goes_2 62 = .ok (.iload_n 2, 1) := dk_28 (dk_at dksX3_goes_2_2 15 rfl rfl)
theorem dX3_goes_2_63 : decode cX3_goes_2 63 = .ok (.aload_n 0, 1) := dk_42 (dk_at dksX3_goes_2_2 16 rfl rfl)
theorem dX3_goes_2_64 : decode cX3_goes_2 64 = .ok (.getfield 43, 3) := dk_180 0 43 (dk_at dksX3_goes_2_2 17 rfl rfl)
theorem dX3_goes_2_67 : decode cX3_goes_2 67 = .ok (.getfield 92, 3) := dk_180 0 92 (dk_at dksX3_goes_2_2 20 rfl rfl)
theorem dX3_goes_2_70 : decode cX3_goes_2 70 = .ok (.aload_n 0, 1) := dk_42 (dk_at dksX3_goes_2_2 23 rfl rfl)
theorem dX3_goes_2_71 : decode cX3_goes_2 71 = .ok (.getfield 52, 3) := dk_180 0 52 (dk_at dksX3_goes_2_3 0 rfl rfl)
theorem dX3_goes_2_74 : decode cX3_goes_2 74 = .ok (.iaload, 1) := dk_46 (dk_at dksX3_goes_2_3 3 rfl rfl)
theorem dX3_goes_2_75 : decode cX3_goes_2 75 = .ok (.imul, 1) := dk_104 (dk_at dksX3_goes_2_3 4 rfl rfl)
theorem dX3_goes_2_76 : decode cX3_goes_2 76 = .ok (.iadd, 1) := dk_96 (dk_at dksX3_goes_2_3 5 rfl rfl)
theorem dX3_goes_2_77 : decode cX3_goes_2 77 = .ok (.putfield 89, 3) := dk_181 0 89 (dk_at dksX3_goes_2_3 6 rfl rfl)
theorem dX3_goes_2_80 : decode cX3_goes_2 80 = .ok (.aload_n 0, 1) := dk_42 (dk_at dksX3_goes_2_3 9 rfl rfl)
theorem dX3_goes_2_81 : decode cX3_goes_2 81 = .ok (.dup, 1) := dk_89 (dk_at dksX3_goes_2_3 10 rfl rfl)
theorem dX3_goes_2_82 : decode cX3_goes_2 82 = .ok (.getfield 94, 3) := dk_180 0 94 (dk_at dksX3_goes_2_3 11 rfl rfl)
theorem dX3_goes_2_85 : decode cX3_goes_2 85 = .ok (.iconst 0, 1) := dk_3 (dk_at dksX3_goes_2_3 14 rfl rfl)
theorem dX3_goes_2_86 : decode cX3_goes_2 86 = .ok (.aload_n 0, 1) := dk_42 (dk_at dksX3_goes_2_3 15 rfl rfl)
theorem dX3_goes_2_87 : decode cX3_goes_2 87 = .ok (.getfield 43, 3) := dk_180 0 43 (dk_at dksX3_goes_2_3 16 rfl rfl)
theorem dX3_goes_2_90 : decode cX3_goes_2 90 = .ok (.getfield 47, 3) := dk_180 0 47 (dk_at dksX3_goes_2_3 19 rfl rfl)
theorem dX3_goes_2_93 : decode cX3_goes_2 93 = .ok (.aload_n 0, 1) := dk_42 (dk_at dksX3_goes_2_3 22 rfl rfl)
theorem dX3_goes_2_94 : decode cX3_goes_2 94 = .ok (.getfield 52, 3) := dk_180 0 52 (dk_at dksX3_goes_2_4 0 rfl rfl)
theorem dX3_goes_2_97 : decode cX3_goes_2 97 = .ok (.iaload, 1) := dk_46 (dk_at dksX3_goes_2_4 3 rfl rfl)
theorem dX3_goes_2_98 : decode cX3_goes_2 98 = .ok (.iload_n 1, 1) := dk_27 (dk_at dksX3_goes_2_4 4 rfl rfl)
theorem dX3_goes_2_99 : decode cX3_goes_2 99 = .ok (.isub, 1) := dk_100 (dk_at dksX3_goes_2_4 5 rfl rfl)
theorem dX3_goes_2_100 : decode cX3_goes_2 100 = .ok (.invokestatic 81, 3) := dk_184 0 81 (dk_at dksX3_goes_2_4 6 rfl rfl)
theorem dX3_goes_2_103 : decode cX3_goes_2 103 = .ok (.iadd, 1) := dk_96 (dk_at dksX3_goes_2_4 9 rfl rfl)
theorem dX3_goes_2_104 : decode cX3_goes_2 104 = .ok (.putfield 94, 3) := dk_181 0 94 (dk_at dksX3_goes_2_4 10 rfl rfl)
theorem dX3_goes_2_107 : decode cX3_goes_2 107 = .ok (.aload_n 0, 1) := dk_42 (dk_at dksX3_goes_2_4 13 rfl rfl)
theorem dX3_goes_2_108 : decode cX3_goes_2 108 = .ok (.sipush 719, 3) := dk_17 2 207 (dk_at dksX3_goes_2_4 14 rfl rfl)
theorem dX3_goes_2_111 : decode cX3_goes_2 111 = .ok (.iload_n 1, 1) := dk_27 (dk_at dksX3_goes_2_4 17 rfl rfl)
theorem dX3_goes_2_112 : decode cX3_goes_2 112 = .ok (.aload_n 0, 1) := dk_42 (dk_at dksX3_goes_2_4 18 rfl rfl)
theorem dX3_goes_2_113 : decode cX3_goes_2 113 = .ok (.getfield 43, 3) := dk_180 0 43 (dk_at dksX3_goes_2_4 19 rfl rfl)
theorem dX3_goes_2_116 : decode cX3_goes_2 116 = .ok (.getfield 47, 3) := dk_180 0 47 (dk_at dksX3_goes_2_5 0 rfl rfl)
theorem dX3_goes_2_119 : decode cX3_goes_2 119 = .ok (.aload_n 0, 1) := dk_42 (dk_at dksX3_goes_2_5 3 rfl rfl)
theorem dX3_goes_2_120 : decode cX3_goes_2 120 = .ok (.getfield 52, 3) := dk_180 0 52 (dk_at dksX3_goes_2_5 4 rfl rfl)
theorem dX3_goes_2_123 : decode cX3_goes_2 123 = .ok (.iaload, 1) := dk_46 (dk_at dksX3_goes_2_5 7 rfl rfl)
theorem dX3_goes_2_124 : decode cX3_goes_2 124 = .ok (.invokestatic 81, 3) := dk_184 0 81 (dk_at dksX3_goes_2_5 8 rfl rfl)
theorem dX3_goes_2_127 : decode cX3_goes_2 127 = .ok (.invokestatic 97, 3) := dk_184 0 97 (dk_at dksX3_goes_2_5 11 rfl rfl)
theorem dX3_goes_2_130 : decode cX3_goes_2 130 = .ok (.putfield 22, 3) := dk_181 0 22 (dk_at dksX3_goes_2_5 14 rfl rfl)
theorem dX3_goes_2_133 : decode cX3_goes_2 133 = .ok (.return_, 1) := dk_177 (dk_at dksX3_goes_2_5 17 rfl rfl)
theorem q44 : (Jvm.Cond.initialized "LookAtClock$Day") ∈ lw_all := lw_g (lw_at lw_m1 3 rfl) rfl
theorem q290 : (Jvm.Cond.fieldLink "LookAtClock$Day" (116 : Nat) "LookAtClock$Looker" "wake" "I") ∈ lw_all := lw_g (lw_at lw_m2 9 rfl) rfl
theorem q341 : (Jvm.Cond.instantiable "LookAtClock$Day" (15 : Nat)) ∈ lw_all := lw_g (lw_at lw_m2 60 rfl) rfl
theorem q343 : (Jvm.Cond.instanceMethod ({ cls := "LookAtClock$Day", name := "<init>", desc := "()V" } : Jvm.MethodName)) ∈ lw_all := lw_g (lw_at lw_m2 62 rfl) rfl
theorem q344 : (Jvm.Cond.code ({ cls := "LookAtClock$Day", name := "<init>", desc := "()V" } : Jvm.MethodName) prog_5_method_1_code (1 : Nat) (Option.none : Option Jvm.ClassFile.FieldType)) ∈ lw_all := lw_g (lw_at lw_m2 63 rfl) rfl
theorem q345 : (Jvm.Cond.methodLink "LookAtClock$Day" (3 : Nat) ({ cls := "java/lang/Object", name := "<init>", desc := "()V" } : Jvm.MethodName)) ∈ lw_all := lw_g (lw_at lw_m2 64 rfl) rfl
theorem q347 : (Jvm.Cond.fieldLink "LookAtClock$Day" (43 : Nat) "LookAtClock$Day" "t" "LLookAtClock$Town;") ∈ lw_all := lw_g (lw_at lw_m2 66 rfl) rfl
theorem q349 : (Jvm.Cond.fieldLink "LookAtClock$Day" (64 : Nat) "LookAtClock$Day" "who" "LLookAtClock$Looker;") ∈ lw_all := lw_g (lw_at lw_m2 68 rfl) rfl
theorem q350 : (Jvm.Cond.fieldLink "LookAtClock$Day" (29 : Nat) "LookAtClock$Day" "drift" "I") ∈ lw_all := lw_g (lw_at lw_m2 69 rfl) rfl
theorem q352 : (Jvm.Cond.fieldLink "LookAtClock$Day" (18 : Nat) "LookAtClock$Day" "law" "I") ∈ lw_all := lw_g (lw_at lw_m2 71 rfl) rfl
theorem q354 : (Jvm.Cond.fieldLink "LookAtClock$Day" (22 : Nat) "LookAtClock$Day" "minute" "I") ∈ lw_all := lw_g (lw_at lw_m2 73 rfl) rfl
theorem q357 : (Jvm.Cond.fieldLink "LookAtClock$Day" (32 : Nat) "LookAtClock$Day" "latest" "I") ∈ lw_all := lw_g (lw_at lw_m2 76 rfl) rfl
theorem q358 : (Jvm.Cond.fieldLink "LookAtClock$Day" (52 : Nat) "LookAtClock$Day" "work" "I") ∈ lw_all := lw_g (lw_at lw_m2 77 rfl) rfl
theorem q360 : (Jvm.Cond.fieldLink "LookAtClock$Day" (77 : Nat) "LookAtClock$Day" "hasLooked" "Z") ∈ lw_all := lw_g (lw_at lw_m2 79 rfl) rfl
theorem q361 : (Jvm.Cond.fieldLink "LookAtClock$Day" (9 : Nat) "LookAtClock$Day" "looks" "[I") ∈ lw_all := lw_g (lw_at lw_m2 80 rfl) rfl
theorem q364 : (Jvm.Cond.fieldLink "LookAtClock$Day" (58 : Nat) "LookAtClock$Day" "lookMany" "I") ∈ lw_all := lw_g (lw_at lw_m2 83 rfl) rfl
theorem q366 : (Jvm.Cond.fieldLink "LookAtClock$Day" (15 : Nat) "LookAtClock$Day" "came" "[I") ∈ lw_all := lw_g (lw_at lw_m2 85 rfl) rfl
theorem q368 : (Jvm.Cond.fieldLink "LookAtClock$Day" (61 : Nat) "LookAtClock$Day" "paid" "I") ∈ lw_all := lw_g (lw_at lw_m2 87 rfl) rfl
theorem q370 : (Jvm.Cond.fieldLink "LookAtClock$Day" (89 : Nat) "LookAtClock$Day" "fines" "I") ∈ lw_all := lw_g (lw_at lw_m2 89 rfl) rfl
theorem q371 : (Jvm.Cond.fieldLink "LookAtClock$Day" (86 : Nat) "LookAtClock$Day" "late" "I") ∈ lw_all := lw_g (lw_at lw_m2 90 rfl) rfl
theorem q373 : (Jvm.Cond.fieldLink "LookAtClock$Day" (94 : Nat) "LookAtClock$Day" "idle" "I") ∈ lw_all := lw_g (lw_at lw_m2 92 rfl) rfl
theorem q375 : (Jvm.Cond.lays "LookAtClock$Day" "LookAtClock$Day" "t" "LLookAtClock$Town;") ∈ lw_all := lw_g (lw_at lw_m2 94 rfl) rfl
theorem q376 : (Jvm.Cond.soleField "LookAtClock$Day" "t") ∈ lw_all := lw_g (lw_at lw_m2 95 rfl) rfl
theorem q377 : (Jvm.Cond.lays "LookAtClock$Day" "LookAtClock$Day" "who" "LLookAtClock$Looker;") ∈ lw_all := lw_g (lw_at lw_m2 96 rfl) rfl
theorem q378 : (Jvm.Cond.soleField "LookAtClock$Day" "who") ∈ lw_all := lw_g (lw_at lw_m2 97 rfl) rfl
theorem q379 : (Jvm.Cond.lays "LookAtClock$Day" "LookAtClock$Day" "drift" "I") ∈ lw_all := lw_g (lw_at lw_m2 98 rfl) rfl
theorem q380 : (Jvm.Cond.soleField "LookAtClock$Day" "drift") ∈ lw_all := lw_g (lw_at lw_m2 99 rfl) rfl
theorem q381 : (Jvm.Cond.lays "LookAtClock$Day" "LookAtClock$Day" "law" "I") ∈ lw_all := lw_g (lw_at lw_m2 100 rfl) rfl
theorem q382 : (Jvm.Cond.soleField "LookAtClock$Day" "law") ∈ lw_all := lw_g (lw_at lw_m2 101 rfl) rfl
theorem q383 : (Jvm.Cond.lays "LookAtClock$Day" "LookAtClock$Day" "minute" "I") ∈ lw_all := lw_g (lw_at lw_m2 102 rfl) rfl
theorem q384 : (Jvm.Cond.soleField "LookAtClock$Day" "minute") ∈ lw_all := lw_g (lw_at lw_m2 103 rfl) rfl
theorem q385 : (Jvm.Cond.lays "LookAtClock$Day" "LookAtClock$Day" "latest" "I") ∈ lw_all := lw_g (lw_at lw_m2 104 rfl) rfl
theorem q386 : (Jvm.Cond.soleField "LookAtClock$Day" "latest") ∈ lw_all := lw_g (lw_at lw_m2 105 rfl) rfl
theorem q387 : (Jvm.Cond.lays "LookAtClock$Day" "LookAtClock$Day" "work" "I") ∈ lw_all := lw_g (lw_at lw_m2 106 rfl) rfl
theorem q388 : (Jvm.Cond.soleField "LookAtClock$Day" "work") ∈ lw_all := lw_g (lw_at lw_m2 107 rfl) rfl
theorem q389 : (Jvm.Cond.lays "LookAtClock$Day" "LookAtClock$Day" "hasLooked" "Z") ∈ lw_all := lw_g (lw_at lw_m2 108 rfl) rfl
theorem q390 : (Jvm.Cond.soleField "LookAtClock$Day" "hasLooked") ∈ lw_all := lw_g (lw_at lw_m2 109 rfl) rfl
theorem q391 : (Jvm.Cond.laysFinal "LookAtClock$Day" "LookAtClock$Day" "looks" "[I") ∈ lw_all := lw_g (lw_at lw_m2 110 rfl) rfl
theorem q392 : (Jvm.Cond.soleField "LookAtClock$Day" "looks") ∈ lw_all := lw_g (lw_at lw_m2 111 rfl) rfl
theorem q393 : (Jvm.Cond.lays "LookAtClock$Day" "LookAtClock$Day" "lookMany" "I") ∈ lw_all := lw_g (lw_at lw_m2 112 rfl) rfl
theorem q394 : (Jvm.Cond.soleField "LookAtClock$Day" "lookMany") ∈ lw_all := lw_g (lw_at lw_m2 113 rfl) rfl
theorem q395 : (Jvm.Cond.laysFinal "LookAtClock$Day" "LookAtClock$Day" "came" "[I") ∈ lw_all := lw_g (lw_at lw_m2 114 rfl) rfl
theorem q396 : (Jvm.Cond.soleField "LookAtClock$Day" "came") ∈ lw_all := lw_g (lw_at lw_m2 115 rfl) rfl
theorem q397 : (Jvm.Cond.lays "LookAtClock$Day" "LookAtClock$Day" "paid" "I") ∈ lw_all := lw_g (lw_at lw_m2 116 rfl) rfl
theorem q398 : (Jvm.Cond.soleField "LookAtClock$Day" "paid") ∈ lw_all := lw_g (lw_at lw_m2 117 rfl) rfl
theorem q399 : (Jvm.Cond.lays "LookAtClock$Day" "LookAtClock$Day" "fines" "I") ∈ lw_all := lw_g (lw_at lw_m2 118 rfl) rfl
theorem q400 : (Jvm.Cond.soleField "LookAtClock$Day" "fines") ∈ lw_all := lw_g (lw_at lw_m2 119 rfl) rfl
theorem q401 : (Jvm.Cond.lays "LookAtClock$Day" "LookAtClock$Day" "late" "I") ∈ lw_all := lw_g (lw_at lw_m2 120 rfl) rfl
theorem q402 : (Jvm.Cond.soleField "LookAtClock$Day" "late") ∈ lw_all := lw_g (lw_at lw_m2 121 rfl) rfl
theorem q403 : (Jvm.Cond.lays "LookAtClock$Day" "LookAtClock$Day" "idle" "I") ∈ lw_all := lw_g (lw_at lw_m2 122 rfl) rfl
theorem q404 : (Jvm.Cond.soleField "LookAtClock$Day" "idle") ∈ lw_all := lw_g (lw_at lw_m2 123 rfl) rfl
theorem q405 : (Jvm.Cond.superclass "LookAtClock$Day" "java/lang/Object") ∈ lw_all := lw_g (lw_at lw_m2 124 rfl) rfl
theorem q545 : (Jvm.Cond.instanceMethod ({ cls := "LookAtClock$Day", name := "goes", desc := "(LLookAtClock$Town;LLookAtClock$Looker;II)LLookAtClock$Day;" } : Jvm.MethodName)) ∈ lw_all := lw_g (lw_at lw_m3 24 rfl) rfl
theorem q546 : (Jvm.Cond.selects "LookAtClock$Day" ({ cls := "LookAtClock$Day", name := "goes", desc := "(LLookAtClock$Town;LLookAtClock$Looker;II)LLookAtClock$Day;" } : Jvm.MethodName) ({ cls := "LookAtClock$Day", name := "goes", desc := "(LLookAtClock$Town;LLookAtClock$Looker;II)LLookAtClock$Day;" } : Jvm.MethodName)) ∈ lw_all := lw_g (lw_at lw_m3 25 rfl) rfl
theorem q547 : (Jvm.Cond.code ({ cls := "LookAtClock$Day", name := "goes", desc := "(LLookAtClock$Town;LLookAtClock$Looker;II)LLookAtClock$Day;" } : Jvm.MethodName) prog_5_method_8_code (5 : Nat) (Option.some (Jvm.ClassFile.FieldType.object "LookAtClock$Day"))) ∈ lw_all := lw_g (lw_at lw_m3 26 rfl) rfl
theorem q548 : (Jvm.Cond.methodLink "LookAtClock$Day" (122 : Nat) ({ cls := "LookAtClock$Day", name := "works", desc := "()V" } : Jvm.MethodName)) ∈ lw_all := lw_g (lw_at lw_m3 27 rfl) rfl
theorem q549 : (Jvm.Cond.privateMethod ({ cls := "LookAtClock$Day", name := "works", desc := "()V" } : Jvm.MethodName)) ∈ lw_tbl := lw_at lw_m3 28 rfl
theorem q550 : (Jvm.Cond.instanceMethod ({ cls := "LookAtClock$Day", name := "works", desc := "()V" } : Jvm.MethodName)) ∈ lw_all := lw_g (lw_at lw_m3 29 rfl) rfl
theorem q551 : (Jvm.Cond.code ({ cls := "LookAtClock$Day", name := "works", desc := "()V" } : Jvm.MethodName) prog_5_method_7_code (1 : Nat) (Option.none : Option Jvm.ClassFile.FieldType)) ∈ lw_all := lw_g (lw_at lw_m3 30 rfl) rfl
theorem q570 : (Jvm.Cond.instanceMethod ({ cls := "LookAtClock$Day", name := "cost", desc := "()I" } : Jvm.MethodName)) ∈ lw_all := lw_g (lw_at lw_m3 49 rfl) rfl
theorem q571 : (Jvm.Cond.selects "LookAtClock$Day" ({ cls := "LookAtClock$Day", name := "cost", desc := "()I" } : Jvm.MethodName) ({ cls := "LookAtClock$Day", name := "cost", desc := "()I" } : Jvm.MethodName)) ∈ lw_all := lw_g (lw_at lw_m3 50 rfl) rfl
theorem q572 : (Jvm.Cond.code ({ cls := "LookAtClock$Day", name := "cost", desc := "()I" } : Jvm.MethodName) prog_5_method_9_code (1 : Nat) (Option.some Jvm.ClassFile.FieldType.int)) ∈ lw_all := lw_g (lw_at lw_m3 51 rfl) rfl
theorem q578 : (Jvm.Cond.instanceMethod ({ cls := "LookAtClock$Day", name := "isDue", desc := "(I)Z" } : Jvm.MethodName)) ∈ lw_all := lw_g (lw_at lw_m3 57 rfl) rfl
theorem q579 : (Jvm.Cond.selects "LookAtClock$Day" ({ cls := "LookAtClock$Day", name := "isDue", desc := "(I)Z" } : Jvm.MethodName) ({ cls := "LookAtClock$Day", name := "isDue", desc := "(I)Z" } : Jvm.MethodName)) ∈ lw_all := lw_g (lw_at lw_m3 58 rfl) rfl
theorem q580 : (Jvm.Cond.code ({ cls := "LookAtClock$Day", name := "isDue", desc := "(I)Z" } : Jvm.MethodName) prog_5_method_4_code (2 : Nat) (Option.some Jvm.ClassFile.FieldType.boolean)) ∈ lw_all := lw_g (lw_at lw_m3 59 rfl) rfl
theorem q581 : (Jvm.Cond.methodLink "LookAtClock$Day" (39 : Nat) ({ cls := "LookAtClock$Day", name := "thinks", desc := "()I" } : Jvm.MethodName)) ∈ lw_all := lw_g (lw_at lw_m3 60 rfl) rfl
theorem q582 : (Jvm.Cond.instanceMethod ({ cls := "LookAtClock$Day", name := "thinks", desc := "()I" } : Jvm.MethodName)) ∈ lw_all := lw_g (lw_at lw_m3 61 rfl) rfl
theorem q583 : (Jvm.Cond.selects "LookAtClock$Day" ({ cls := "LookAtClock$Day", name := "thinks", desc := "()I" } : Jvm.MethodName) ({ cls := "LookAtClock$Day", name := "thinks", desc := "()I" } : Jvm.MethodName)) ∈ lw_all := lw_g (lw_at lw_m3 62 rfl) rfl
theorem q584 : (Jvm.Cond.code ({ cls := "LookAtClock$Day", name := "thinks", desc := "()I" } : Jvm.MethodName) prog_5_method_3_code (1 : Nat) (Option.some Jvm.ClassFile.FieldType.int)) ∈ lw_all := lw_g (lw_at lw_m3 63 rfl) rfl
theorem q585 : (Jvm.Cond.methodLinkNest "LookAtClock$Day" (35 : Nat) ({ cls := "LookAtClock", name := "thought", desc := "(III)I" } : Jvm.MethodName) "LookAtClock") ∈ lw_tbl := lw_at lw_m3 64 rfl
theorem q591 : (Jvm.Cond.instanceMethod ({ cls := "LookAtClock$Day", name := "price", desc := "()I" } : Jvm.MethodName)) ∈ lw_all := lw_g (lw_at lw_m3 70 rfl) rfl
theorem q592 : (Jvm.Cond.selects "LookAtClock$Day" ({ cls := "LookAtClock$Day", name := "price", desc := "()I" } : Jvm.MethodName) ({ cls := "LookAtClock$Day", name := "price", desc := "()I" } : Jvm.MethodName)) ∈ lw_all := lw_g (lw_at lw_m3 71 rfl) rfl
theorem q593 : (Jvm.Cond.code ({ cls := "LookAtClock$Day", name := "price", desc := "()I" } : Jvm.MethodName) prog_5_method_2_code (1 : Nat) (Option.some Jvm.ClassFile.FieldType.int)) ∈ lw_all := lw_g (lw_at lw_m3 72 rfl) rfl
theorem q594 : (Jvm.Cond.methodLinkNest "LookAtClock$Day" (25 : Nat) ({ cls := "LookAtClock", name := "priceBy", desc := "(II)I" } : Jvm.MethodName) "LookAtClock") ∈ lw_tbl := lw_at lw_m3 73 rfl
theorem q610 : (Jvm.Cond.methodLink "LookAtClock$Day" (104 : Nat) ({ cls := "LookAtClock$Day", name := "looks", desc := "()V" } : Jvm.MethodName)) ∈ lw_all := lw_g (lw_at lw_m3 89 rfl) rfl
theorem q611 : (Jvm.Cond.privateMethod ({ cls := "LookAtClock$Day", name := "looks", desc := "()V" } : Jvm.MethodName)) ∈ lw_tbl := lw_at lw_m3 90 rfl
theorem q612 : (Jvm.Cond.instanceMethod ({ cls := "LookAtClock$Day", name := "looks", desc := "()V" } : Jvm.MethodName)) ∈ lw_all := lw_g (lw_at lw_m3 91 rfl) rfl
theorem q613 : (Jvm.Cond.code ({ cls := "LookAtClock$Day", name := "looks", desc := "()V" } : Jvm.MethodName) prog_5_method_5_code (1 : Nat) (Option.none : Option Jvm.ClassFile.FieldType)) ∈ lw_all := lw_g (lw_at lw_m3 92 rfl) rfl
theorem q614 : (Jvm.Cond.methodLink "LookAtClock$Day" (68 : Nat) ({ cls := "LookAtClock$Day", name := "price", desc := "()I" } : Jvm.MethodName)) ∈ lw_all := lw_g (lw_at lw_m3 93 rfl) rfl
theorem q634 : (Jvm.Cond.methodLink "LookAtClock$Day" (109 : Nat) ({ cls := "LookAtClock$Day", name := "isDue", desc := "(I)Z" } : Jvm.MethodName)) ∈ lw_all := lw_g (lw_at lw_m3 113 rfl) rfl
theorem q635 : (Jvm.Cond.methodLink "LookAtClock$Day" (113 : Nat) ({ cls := "LookAtClock$Day", name := "goes", desc := "()V" } : Jvm.MethodName)) ∈ lw_all := lw_g (lw_at lw_m3 114 rfl) rfl
theorem q636 : (Jvm.Cond.privateMethod ({ cls := "LookAtClock$Day", name := "goes", desc := "()V" } : Jvm.MethodName)) ∈ lw_tbl := lw_at lw_m3 115 rfl
theorem q637 : (Jvm.Cond.instanceMethod ({ cls := "LookAtClock$Day", name := "goes", desc := "()V" } : Jvm.MethodName)) ∈ lw_all := lw_g (lw_at lw_m3 116 rfl) rfl
theorem q638 : (Jvm.Cond.code ({ cls := "LookAtClock$Day", name := "goes", desc := "()V" } : Jvm.MethodName) prog_5_method_6_code (3 : Nat) (Option.none : Option Jvm.ClassFile.FieldType)) ∈ lw_all := lw_g (lw_at lw_m3 117 rfl) rfl
theorem q639 : (Jvm.Cond.methodLink "LookAtClock$Day" (81 : Nat) ({ cls := "java/lang/Math", name := "max", desc := "(II)I" } : Jvm.MethodName)) ∈ lw_all := lw_g (lw_at lw_m3 118 rfl) rfl
theorem q640 : (Jvm.Cond.methodLink "LookAtClock$Day" (97 : Nat) ({ cls := "java/lang/Math", name := "min", desc := "(II)I" } : Jvm.MethodName)) ∈ lw_all := lw_g (lw_at lw_m3 119 rfl) rfl
theorem q789 : (Jvm.Cond.fieldLink "LookAtClock$Day" (47 : Nat) "LookAtClock$Town" "at" "[I") ∈ lw_all := lw_g (lw_at lw_m4 28 rfl) rfl
theorem q792 : (Jvm.Cond.fieldLink "LookAtClock$Day" (55 : Nat) "LookAtClock$Town" "walk" "[I") ∈ lw_all := lw_g (lw_at lw_m4 31 rfl) rfl
theorem q795 : (Jvm.Cond.fieldLink "LookAtClock$Day" (92 : Nat) "LookAtClock$Town" "late" "[I") ∈ lw_all := lw_g (lw_at lw_m4 34 rfl) rfl
theorem q799 : (Jvm.Cond.fieldLink "LookAtClock$Day" (119 : Nat) "LookAtClock$Town" "works" "I") ∈ lw_all := lw_g (lw_at lw_m4 38 rfl) rfl
theorem in_X3 : ∀ w ∈ wsX30, w ∈ lw_all := lw_in wsX30 [375, 377, 379, 381, 383, 385, 387, 389, 391, 393, 395, 397, 399, 401, 403] (by decide +kernel) (by decide +kernel)
/-! LookAtClock$Shelf -/
set_option maxRecDepth 100000
def RX4 : String := "LookAtClock$Shelf"
def TX4 : u_T := fun k => match k with
  | _ => ("LookAtClock$Shelf", "held", "Ljava/lang/Object;", false)
def tyX4 : Nat → FieldType := fun k => match k with
  | _ => .object "java/lang/Object"
abbrev wsX40 : List Cond := u_ws RX4 TX4 1
theorem nmX4 : ∀ a, a < 1 → ∀ b, b < 1 → a ≠ b → (TX4 a).2.1 ≠ (TX4 b).2.1 := by decide +kernel
theorem tyX4_ok : ∀ k, k < 1 → parseFieldDescriptor (TX4 k).2.2.1 = some (tyX4 k) := by decide +kernel
abbrev cX4_init : ByteArray := prog_14_method_1_code
def yX4_init : MethodName := ⟨RX4, "<init>", "()V"⟩
theorem dX4_init_0 : decode cX4_init 0 = .ok (.aload_n 0, 1) := by decide +kernel
theorem dX4_init_1 : decode cX4_init 1 = .ok (.invokespecial 1, 3) := by decide +kernel
theorem dX4_init_4 : decode cX4_init 4 = .ok (.return_, 1) := by decide +kernel
theorem q45 : (Jvm.Cond.initialized "LookAtClock$Shelf") ∈ lw_all := lw_g (lw_at lw_m1 4 rfl) rfl
theorem q833 : (Jvm.Cond.instantiable "LookAtClock$Shelf" (1 : Nat)) ∈ lw_all := lw_g (lw_at lw_m4 72 rfl) rfl
theorem q835 : (Jvm.Cond.instanceMethod ({ cls := "LookAtClock$Shelf", name := "<init>", desc := "()V" } : Jvm.MethodName)) ∈ lw_all := lw_g (lw_at lw_m4 74 rfl) rfl
theorem q836 : (Jvm.Cond.code ({ cls := "LookAtClock$Shelf", name := "<init>", desc := "()V" } : Jvm.MethodName) prog_14_method_1_code (1 : Nat) (Option.none : Option Jvm.ClassFile.FieldType)) ∈ lw_all := lw_g (lw_at lw_m4 75 rfl) rfl
theorem q837 : (Jvm.Cond.methodLink "LookAtClock$Shelf" (1 : Nat) ({ cls := "java/lang/Object", name := "<init>", desc := "()V" } : Jvm.MethodName)) ∈ lw_all := lw_g (lw_at lw_m4 76 rfl) rfl
theorem q839 : (Jvm.Cond.lays "LookAtClock$Shelf" "LookAtClock$Shelf" "held" "Ljava/lang/Object;") ∈ lw_all := lw_g (lw_at lw_m4 78 rfl) rfl
theorem q840 : (Jvm.Cond.soleField "LookAtClock$Shelf" "held") ∈ lw_all := lw_g (lw_at lw_m4 79 rfl) rfl
theorem q841 : (Jvm.Cond.superclass "LookAtClock$Shelf" "java/lang/Object") ∈ lw_all := lw_g (lw_at lw_m4 80 rfl) rfl
theorem in_X4 : ∀ w ∈ wsX40, w ∈ lw_all := lw_in wsX40 [839] (by decide +kernel) (by decide +kernel)
/-! LookAtClock$Reader -/
set_option maxRecDepth 100000
def RX6 : String := "LookAtClock$Reader"
def TX6 : u_T := fun k => match k with
  | 0 => ("LookAtClock$Reader", "text", "[B", true)
  | 1 => ("LookAtClock$Reader", "at", "I", false)
  | 2 => ("LookAtClock$Reader", "letter", "[I", true)
  | 3 => ("LookAtClock$Reader", "place", "[I", true)
  | 4 => ("LookAtClock$Reader", "told", "[[I", true)
  | _ => ("LookAtClock$Reader", "statements", "I", false)
def tyX6 : Nat → FieldType := fun k => match k with
  | 0 => .array .byte
  | 1 => .int
  | 2 => .array .int
  | 3 => .array .int
  | 4 => .array (.array .int)
  | _ => .int
abbrev wsX60 : List Cond := u_ws RX6 TX6 6
theorem nmX6 : ∀ a, a < 6 → ∀ b, b < 6 → a ≠ b → (TX6 a).2.1 ≠ (TX6 b).2.1 := by decide +kernel
theorem tyX6_ok : ∀ k, k < 6 → parseFieldDescriptor (TX6 k).2.2.1 = some (tyX6 k) := by decide +kernel
abbrev cX6_init : ByteArray := prog_11_method_1_code
def yX6_init : MethodName := ⟨RX6, "<init>", "([B)V"⟩
def dkwX6_init_1 : List UInt8 := [197, 0, 18, 2, 181, 0, 20, 42, 43, 181, 0, 23, 177]
abbrev dktX6_init_1 : List UInt8 := dkwX6_init_1 ++ []
def dkwX6_init_0 : List UInt8 := [42, 183, 0, 3, 42, 16, 50, 188, 10, 181, 0, 9, 42, 16, 50, 188, 10, 181, 0, 15, 42, 16, 50, 7]
abbrev dktX6_init_0 : List UInt8 := dkwX6_init_0 ++ dktX6_init_1
theorem dksX6_init_0 : cX6_init.data.toList.drop 0 = dktX6_init_0 := by decide +kernel
theorem dksX6_init_1 : cX6_init.data.toList.drop 24 = dktX6_init_1 := dk_seg dksX6_init_0 24 rfl rfl
theorem dX6_init_0 : decode cX6_init 0 = .ok (.aload_n 0, 1) := dk_42 (dk_at dksX6_init_0 0 rfl rfl)
theorem dX6_init_1 : decode cX6_init 1 = .ok (.invokespecial 3, 3) := dk_183 0 3 (dk_at dksX6_init_0 1 rfl rfl)
theorem dX6_init_4 : decode cX6_init 4 = .ok (.aload_n 0, 1) := dk_42 (dk_at dksX6_init_0 4 rfl rfl)
theorem dX6_init_5 : decode cX6_init 5 = .ok (.bipush 50, 2) := dk_16 50 (dk_at dksX6_init_0 5 rfl rfl)
theorem dX6_init_7 : decode cX6_init 7 = .ok (.newarray .int, 2) := dk_188_10 (dk_at dksX6_init_0 7 rfl rfl)
theorem dX6_init_9 : decode cX6_init 9 = .ok (.putfield 9, 3) := dk_181 0 9 (dk_at dksX6_init_0 9 rfl rfl)
theorem dX6_init_12 : decode cX6_init 12 = .ok (.aload_n 0, 1) := dk_42 (dk_at dksX6_init_0 12 rfl rfl)
theorem dX6_init_13 : decode cX6_init 13 = .ok (.bipush 50, 2) := dk_16 50 (dk_at dksX6_init_0 13 rfl rfl)
theorem dX6_init_15 : decode cX6_init 15 = .ok (.newarray .int, 2) := dk_188_10 (dk_at dksX6_init_0 15 rfl rfl)
theorem dX6_init_17 : decode cX6_init 17 = .ok (.putfield 15, 3) := dk_181 0 15 (dk_at dksX6_init_0 17 rfl rfl)
theorem dX6_init_20 : decode cX6_init 20 = .ok (.aload_n 0, 1) := dk_42 (dk_at dksX6_init_0 20 rfl rfl)
theorem dX6_init_21 : decode cX6_init 21 = .ok (.bipush 50, 2) := dk_16 50 (dk_at dksX6_init_0 21 rfl rfl)
theorem dX6_init_23 : decode cX6_init 23 = .ok (.iconst 4, 1) := dk_7 (dk_at dksX6_init_0 23 rfl rfl)
theorem dX6_init_24 : decode cX6_init 24 = .ok (.multianewarray 18 2, 4) := by decide +kernel
theorem dX6_init_28 : decode cX6_init 28 = .ok (.putfield 20, 3) := dk_181 0 20 (dk_at dksX6_init_1 4 rfl rfl)
theorem dX6_init_31 : decode cX6_init 31 = .ok (.aload_n 0, 1) := dk_42 (dk_at dksX6_init_1 7 rfl rfl)
theorem dX6_init_32 : decode cX6_init 32 = .ok (.aload_n 1, 1) := dk_43 (dk_at dksX6_init_1 8 rfl rfl)
theorem dX6_init_33 : decode cX6_init 33 = .ok (.putfield 23, 3) := dk_181 0 23 (dk_at dksX6_init_1 9 rfl rfl)
theorem dX6_init_36 : decode cX6_init 36 = .ok (.return_, 1) := dk_177 (dk_at dksX6_init_1 12 rfl rfl)
abbrev cX6_reads : ByteArray := prog_11_method_9_code
def yX6_reads : MethodName := ⟨RX6, "reads", "()V"⟩
def dkwX6_reads_0 : List UInt8 := [42, 182, 0, 66, 42, 180, 0, 27, 42, 180, 0, 23, 190, 161, 255, 243, 177]
abbrev dktX6_reads_0 : List UInt8 := dkwX6_reads_0 ++ []
theorem dksX6_reads_0 : cX6_reads.data.toList.drop 0 = dktX6_reads_0 := by decide +kernel
theorem dX6_reads_0 : decode cX6_reads 0 = .ok (.aload_n 0, 1) := dk_42 (dk_at dksX6_reads_0 0 rfl rfl)
theorem dX6_reads_1 : decode cX6_reads 1 = .ok (.invokevirtual 66, 3) := dk_182 0 66 (dk_at dksX6_reads_0 1 rfl rfl)
theorem dX6_reads_4 : decode cX6_reads 4 = .ok (.aload_n 0, 1) := dk_42 (dk_at dksX6_reads_0 4 rfl rfl)
theorem dX6_reads_5 : decode cX6_reads 5 = .ok (.getfield 27, 3) := dk_180 0 27 (dk_at dksX6_reads_0 5 rfl rfl)
theorem dX6_reads_8 : decode cX6_reads 8 = .ok (.aload_n 0, 1) := dk_42 (dk_at dksX6_reads_0 8 rfl rfl)
theorem dX6_reads_9 : decode cX6_reads 9 = .ok (.getfield 23, 3) := dk_180 0 23 (dk_at dksX6_reads_0 9 rfl rfl)
theorem dX6_reads_12 : decode cX6_reads 12 = .ok (.arraylength, 1) := dk_190 (dk_at dksX6_reads_0 12 rfl rfl)
theorem dX6_reads_13 : decode cX6_reads 13 = .ok (.if_icmp .lt (-13), 3) := dk_161 255 243 (dk_at dksX6_reads_0 13 rfl rfl)
theorem dX6_reads_16 : decode cX6_reads 16 = .ok (.return_, 1) := dk_177 (dk_at dksX6_reads_0 16 rfl rfl)
abbrev cX6_statement : ByteArray := prog_11_method_8_code
def yX6_statement : MethodName := ⟨RX6, "statement", "()V"⟩
def dkwX6_statement_8 : List UInt8 := [181, 0, 59, 177]
abbrev dktX6_statement_8 : List UInt8 := dkwX6_statement_8 ++ []
def dkwX6_statement_7 : List UInt8 := [4, 42, 180, 0, 27, 4, 100, 183, 0, 41, 191, 42, 16, 59, 182, 0, 51, 42, 89, 180, 0, 59, 4, 96]
abbrev dktX6_statement_7 : List UInt8 := dkwX6_statement_7 ++ dktX6_statement_8
def dkwX6_statement_6 : List UInt8 := [3, 42, 182, 0, 48, 79, 167, 0, 29, 44, 3, 42, 6, 182, 0, 55, 79, 167, 0, 18, 187, 0, 39, 89]
abbrev dktX6_statement_6 : List UInt8 := dkwX6_statement_6 ++ dktX6_statement_7
def dkwX6_statement_5 : List UInt8 := [16, 32, 182, 0, 51, 44, 5, 42, 182, 0, 48, 79, 167, 0, 47, 42, 44, 182, 0, 62, 167, 0, 39, 44]
abbrev dktX6_statement_5 : List UInt8 := dkwX6_statement_5 ++ dktX6_statement_6
def dkwX6_statement_4 : List UInt8 := [44, 3, 42, 6, 182, 0, 55, 79, 42, 16, 32, 182, 0, 51, 44, 4, 42, 5, 182, 0, 55, 79, 42]
abbrev dktX6_statement_4 : List UInt8 := dkwX6_statement_4 ++ dktX6_statement_5
def dkwX6_statement_3 : List UInt8 := [171, 0, 0, 0, 0, 0, 110, 0, 0, 0, 4, 0, 0, 0, 107, 0, 0, 0, 81, 0, 0, 0, 108, 0, 0, 0, 89, 0, 0, 0, 112, 0, 0, 0, 99, 0, 0, 0, 119, 0, 0, 0, 43]
abbrev dktX6_statement_3 : List UInt8 := dkwX6_statement_3 ++ dktX6_statement_4
def dkwX6_statement_2 : List UInt8 := [27]
abbrev dktX6_statement_2 : List UInt8 := dkwX6_statement_2 ++ dktX6_statement_3
def dkwX6_statement_1 : List UInt8 := [79, 42, 180, 0, 15, 42, 180, 0, 59, 42, 180, 0, 27, 79, 42, 89, 180, 0, 27, 4, 96, 181, 0, 27]
abbrev dktX6_statement_1 : List UInt8 := dkwX6_statement_1 ++ dktX6_statement_2
def dkwX6_statement_0 : List UInt8 := [42, 182, 0, 31, 60, 42, 180, 0, 20, 42, 180, 0, 59, 50, 77, 42, 180, 0, 9, 42, 180, 0, 59, 27]
abbrev dktX6_statement_0 : List UInt8 := dkwX6_statement_0 ++ dktX6_statement_1
theorem dksX6_statement_0 : cX6_statement.data.toList.drop 0 = dktX6_statement_0 := by decide +kernel
theorem dksX6_statement_1 : cX6_statement.data.toList.drop 24 = dktX6_statement_1 := dk_seg dksX6_statement_0 24 rfl rfl
theorem dksX6_statement_2 : cX6_statement.data.toList.drop 48 = dktX6_statement_2 := dk_seg dksX6_statement_1 24 rfl rfl
theorem dksX6_statement_3 : cX6_statement.data.toList.drop 49 = dktX6_statement_3 := dk_seg dksX6_statement_2 1 rfl rfl
theorem dksX6_statement_4 : cX6_statement.data.toList.drop 92 = dktX6_statement_4 := dk_seg dksX6_statement_3 43 rfl rfl
theorem dksX6_statement_5 : cX6_statement.data.toList.drop 115 = dktX6_statement_5 := dk_seg dksX6_statement_4 23 rfl rfl
theorem dksX6_statement_6 : cX6_statement.data.toList.drop 139 = dktX6_statement_6 := dk_seg dksX6_statement_5 24 rfl rfl
theorem dksX6_statement_7 : cX6_statement.data.toList.drop 163 = dktX6_statement_7 := dk_seg dksX6_statement_6 24 rfl rfl
theorem dksX6_statement_8 : cX6_statement.data.toList.drop 187 = dktX6_statement_8 := dk_seg dksX6_statement_7 24 rfl rfl
theorem dX6_statement_0 : decode cX6_statement 0 = .ok (.aload_n 0, 1) := dk_42 (dk_at dksX6_statement_0 0 rfl rfl)
theorem dX6_statement_1 : decode cX6_statement 1 = .ok (.invokevirtual 31, 3) := dk_182 0 31 (dk_at dksX6_statement_0 1 rfl rfl)
theorem dX6_statement_4 : decode cX6_statement 4 = .ok (.istore_n 1, 1) := dk_60 (dk_at dksX6_statement_0 4 rfl rfl)
theorem dX6_statement_5 : decode cX6_statement 5 = .ok (.aload_n 0, 1) := dk_42 (dk_at dksX6_statement_0 5 rfl rfl)
theorem dX6_statement_6 : decode cX6_statement 6 = .ok (.getfield 20, 3) := dk_180 0 20 (dk_at dksX6_statement_0 6 rfl rfl)
theorem dX6_statement_9 : decode cX6_statement 9 = .ok (.aload_n 0, 1) := dk_42 (dk_at dksX6_statement_0 9 rfl rfl)
theorem dX6_statement_10 : decode cX6_statement 10 = .ok (.getfield 59, 3) := dk_180 0 59 (dk_at dksX6_statement_0 10 rfl rfl)
theorem dX6_statement_13 : decode cX6_statement 13 = .ok (.aaload, 1) := dk_50 (dk_at dksX6_statement_0 13 rfl rfl)
theorem dX6_statement_14 : decode cX6_statement 14 = .ok (.astore_n 2, 1) := dk_77 (dk_at dksX6_statement_0 14 rfl rfl)
theorem dX6_statement_15 : decode cX6_statement 15 = .ok (.aload_n 0, 1) := dk_42 (dk_at dksX6_statement_0 15 rfl rfl)
theorem dX6_statement_16 : decode cX6_statement 16 = .ok (.getfield 9, 3) := dk_180 0 9 (dk_at dksX6_statement_0 16 rfl rfl)
theorem dX6_statement_19 : decode cX6_statement 19 = .ok (.aload_n 0, 1) := dk_42 (dk_at dksX6_statement_0 19 rfl rfl)
theorem dX6_statement_20 : decode cX6_statement 20 = .ok (.getfield 59, 3) := dk_180 0 59 (dk_at dksX6_statement_0 20 rfl rfl)
theorem dX6_statement_23 : decode cX6_statement 23 = .ok (.iload_n 1, 1) := dk_27 (dk_at dksX6_statement_0 23 rfl rfl)
theorem dX6_statement_24 : decode cX6_statement 24 = .ok (.iastore, 1) := dk_79 (dk_at dksX6_statement_1 0 rfl rfl)
theorem dX6_statement_25 : decode cX6_statement 25 = .ok (.aload_n 0, 1) := dk_42 (dk_at dksX6_statement_1 1 rfl rfl)
theorem dX6_statement_26 : decode cX6_statement 26 = .ok (.getfield 15, 3) := dk_180 0 15 (dk_at dksX6_statement_1 2 rfl rfl)
theorem dX6_statement_29 : decode cX6_statement 29 = .ok (.aload_n 0, 1) := dk_42 (dk_at dksX6_statement_1 5 rfl rfl)
theorem dX6_statement_30 : decode cX6_statement 30 = .ok (.getfield 59, 3) := dk_180 0 59 (dk_at dksX6_statement_1 6 rfl rfl)
theorem dX6_statement_33 : decode cX6_statement 33 = .ok (.aload_n 0, 1) := dk_42 (dk_at dksX6_statement_1 9 rfl rfl)
theorem dX6_statement_34 : decode cX6_statement 34 = .ok (.getfield 27, 3) := dk_180 0 27 (dk_at dksX6_statement_1 10 rfl rfl)
theorem dX6_statement_37 : decode cX6_statement 37 = .ok (.iastore, 1) := dk_79 (dk_at dksX6_statement_1 13 rfl rfl)
theorem dX6_statement_38 : decode cX6_statement 38 = .ok (.aload_n 0, 1) := dk_42 (dk_at dksX6_statement_1 14 rfl rfl)
theorem dX6_statement_39 : decode cX6_statement 39 = .ok (.dup, 1) := dk_89 (dk_at dksX6_statement_1 15 rfl rfl)
theorem dX6_statement_40 : decode cX6_statement 40 = .ok (.getfield 27, 3) := dk_180 0 27 (dk_at dksX6_statement_1 16 rfl rfl)
theorem dX6_statement_43 : decode cX6_statement 43 = .ok (.iconst 1, 1) := dk_4 (dk_at dksX6_statement_1 19 rfl rfl)
theorem dX6_statement_44 : decode cX6_statement 44 = .ok (.iadd, 1) := dk_96 (dk_at dksX6_statement_1 20 rfl rfl)
theorem dX6_statement_45 : decode cX6_statement 45 = .ok (.putfield 27, 3) := dk_181 0 27 (dk_at dksX6_statement_1 21 rfl rfl)
theorem dX6_statement_48 : decode cX6_statement 48 = .ok (.iload_n 1, 1) := dk_27 (dk_at dksX6_statement_2 0 rfl rfl)
theorem dX6_statement_49 : decode cX6_statement 49 = .ok (.lookupswitch 110 #[(107, 81), (108, 89), (112, 99), (119, 43)], 43) := by decide +kernel
theorem dX6_statement_92 : decode cX6_statement 92 = .ok (.aload_n 2, 1) := dk_44 (dk_at dksX6_statement_4 0 rfl rfl)
theorem dX6_statement_93 : decode cX6_statement 93 = .ok (.iconst 0, 1) := dk_3 (dk_at dksX6_statement_4 1 rfl rfl)
theorem dX6_statement_94 : decode cX6_statement 94 = .ok (.aload_n 0, 1) := dk_42 (dk_at dksX6_statement_4 2 rfl rfl)
theorem dX6_statement_95 : decode cX6_statement 95 = .ok (.iconst 3, 1) := dk_6 (dk_at dksX6_statement_4 3 rfl rfl)
theorem dX6_statement_96 : decode cX6_statement 96 = .ok (.invokevirtual 55, 3) := dk_182 0 55 (dk_at dksX6_statement_4 4 rfl rfl)
theorem dX6_statement_99 : decode cX6_statement 99 = .ok (.iastore, 1) := dk_79 (dk_at dksX6_statement_4 7 rfl rfl)
theorem dX6_statement_100 : decode cX6_statement 100 = .ok (.aload_n 0, 1) := dk_42 (dk_at dksX6_statement_4 8 rfl rfl)
theorem dX6_statement_101 : decode cX6_statement 101 = .ok (.bipush 32, 2) := dk_16 32 (dk_at dksX6_statement_4 9 rfl rfl)
theorem dX6_statement_103 : decode cX6_statement 103 = .ok (.invokevirtual 51, 3) := dk_182 0 51 (dk_at dksX6_statement_4 11 rfl rfl)
theorem dX6_statement_106 : decode cX6_statement 106 = .ok (.aload_n 2, 1) := dk_44 (dk_at dksX6_statement_4 14 rfl rfl)
theorem dX6_statement_107 : decode cX6_statement 107 = .ok (.iconst 1, 1) := dk_4 (dk_at dksX6_statement_4 15 rfl rfl)
theorem dX6_statement_108 : decode cX6_statement 108 = .ok (.aload_n 0, 1) := dk_42 (dk_at dksX6_statement_4 16 rfl rfl)
theorem dX6_statement_109 : decode cX6_statement 109 = .ok (.iconst 2, 1) := dk_5 (dk_at dksX6_statement_4 17 rfl rfl)
theorem dX6_statement_110 : decode cX6_statement 110 = .ok (.invokevirtual 55, 3) := dk_182 0 55 (dk_at dksX6_statement_4 18 rfl rfl)
theorem dX6_statement_113 : decode cX6_statement 113 = .ok (.iastore, 1) := dk_79 (dk_at dksX6_statement_4 21 rfl rfl)
theorem dX6_statement_114 : decode cX6_statement 114 = .ok (.aload_n 0, 1) := dk_42 (dk_at dksX6_statement_4 22 rfl rfl)
theorem dX6_statement_115 : decode cX6_statement 115 = .ok (.bipush 32, 2) := dk_16 32 (dk_at dksX6_statement_5 0 rfl rfl)
theorem dX6_statement_117 : decode cX6_statement 117 = .ok (.invokevirtual 51, 3) := dk_182 0 51 (dk_at dksX6_statement_5 2 rfl rfl)
theorem dX6_statement_120 : decode cX6_statement 120 = .ok (.aload_n 2, 1) := dk_44 (dk_at dksX6_statement_5 5 rfl rfl)
theorem dX6_statement_121 : decode cX6_statement 121 = .ok (.iconst 2, 1) := dk_5 (dk_at dksX6_statement_5 6 rfl rfl)
theorem dX6_statement_122 : decode cX6_statement 122 = .ok (.aload_n 0, 1) := dk_42 (dk_at dksX6_statement_5 7 rfl rfl)
theorem dX6_statement_123 : decode cX6_statement 123 = .ok (.invokevirtual 48, 3) := dk_182 0 48 (dk_at dksX6_statement_5 8 rfl rfl)
theorem dX6_statement_126 : decode cX6_statement 126 = .ok (.iastore, 1) := dk_79 (dk_at dksX6_statement_5 11 rfl rfl)
theorem dX6_statement_127 : decode cX6_statement 127 = .ok (.goto 47, 3) := dk_167 0 47 (dk_at dksX6_statement_5 12 rfl rfl)
theorem dX6_statement_130 : decode cX6_statement 130 = .ok (.aload_n 0, 1) := dk_42 (dk_at dksX6_statement_5 15 rfl rfl)
theorem dX6_statement_131 : decode cX6_statement 131 = .ok (.aload_n 2, 1) := dk_44 (dk_at dksX6_statement_5 16 rfl rfl)
theorem dX6_statement_132 : decode cX6_statement 132 = .ok (.invokevirtual 62, 3) := dk_182 0 62 (dk_at dksX6_statement_5 17 rfl rfl)
theorem dX6_statement_135 : decode cX6_statement 135 = .ok (.goto 39, 3) := dk_167 0 39 (dk_at dksX6_statement_5 20 rfl rfl)
theorem dX6_statement_138 : decode cX6_statement 138 = .ok (.aload_n 2, 1) := dk_44 (dk_at dksX6_statement_5 23 rfl rfl)
theorem dX6_statement_139 : decode cX6_statement 139 = .ok (.iconst 0, 1) := dk_3 (dk_at dksX6_statement_6 0 rfl rfl)
theorem dX6_statement_140 : decode cX6_statement 140 = .ok (.aload_n 0, 1) := dk_42 (dk_at dksX6_statement_6 1 rfl rfl)
theorem dX6_statement_141 : decode cX6_statement 141 = .ok (.invokevirtual 48, 3) := dk_182 0 48 (dk_at dksX6_statement_6 2 rfl rfl)
theorem dX6_statement_144 : decode cX6_statement 144 = .ok (.iastore, 1) := dk_79 (dk_at dksX6_statement_6 5 rfl rfl)
theorem dX6_statement_145 : decode cX6_statement 145 = .ok (.goto 29, 3) := dk_167 0 29 (dk_at dksX6_statement_6 6 rfl rfl)
theorem dX6_statement_148 : decode cX6_statement 148 = .ok (.aload_n 2, 1) := dk_44 (dk_at dksX6_statement_6 9 rfl rfl)
theorem dX6_statement_149 : decode cX6_statement 149 = .ok (.iconst 0, 1) := dk_3 (dk_at dksX6_statement_6 10 rfl rfl)
theorem dX6_statement_150 : decode cX6_statement 150 = .ok (.aload_n 0, 1) := dk_42 (dk_at dksX6_statement_6 11 rfl rfl)
theorem dX6_statement_151 : decode cX6_statement 151 = .ok (.iconst 3, 1) := dk_6 (dk_at dksX6_statement_6 12 rfl rfl)
theorem dX6_statement_152 : decode cX6_statement 152 = .ok (.invokevirtual 55, 3) := dk_182 0 55 (dk_at dksX6_statement_6 13 rfl rfl)
theorem dX6_statement_155 : decode cX6_statement 155 = .ok (.iastore, 1) := dk_79 (dk_at dksX6_statement_6 16 rfl rfl)
theorem dX6_statement_156 : decode cX6_statement 156 = .ok (.goto 18, 3) := dk_167 0 18 (dk_at dksX6_statement_6 17 rfl rfl)
theorem dX6_statement_159 : decode cX6_statement 159 = .ok (.new 39, 3) := dk_187 0 39 (dk_at dksX6_statement_6 20 rfl rfl)
theorem dX6_statement_162 : decode cX6_statement 162 = .ok (.dup, 1) := dk_89 (dk_at dksX6_statement_6 23 rfl rfl)
theorem dX6_statement_163 : decode cX6_statement 163 = .ok (.iconst 1, 1) := dk_4 (dk_at dksX6_statement_7 0 rfl rfl)
theorem dX6_statement_164 : decode cX6_statement 164 = .ok (.aload_n 0, 1) := dk_42 (dk_at dksX6_statement_7 1 rfl rfl)
theorem dX6_statement_165 : decode cX6_statement 165 = .ok (.getfield 27, 3) := dk_180 0 27 (dk_at dksX6_statement_7 2 rfl rfl)
theorem dX6_statement_168 : decode cX6_statement 168 = .ok (.iconst 1, 1) := dk_4 (dk_at dksX6_statement_7 5 rfl rfl)
theorem dX6_statement_169 : decode cX6_statement 169 = .ok (.isub, 1) := dk_100 (dk_at dksX6_statement_7 6 rfl rfl)
theorem dX6_statement_170 : decode cX6_statement 170 = .ok (.invokespecial 41, 3) := dk_183 0 41 (dk_at dksX6_statement_7 7 rfl rfl)
theorem dX6_statement_173 : decode cX6_statement 173 = .ok (.athrow, 1) := dk_191 (dk_at dksX6_statement_7 10 rfl rfl)
theorem dX6_statement_174 : decode cX6_statement 174 = .ok (.aload_n 0, 1) := dk_42 (dk_at dksX6_statement_7 11 rfl rfl)
theorem dX6_statement_175 : decode cX6_statement 175 = .ok (.bipush 59, 2) := dk_16 59 (dk_at dksX6_statement_7 12 rfl rfl)
theorem dX6_statement_177 : decode cX6_statement 177 = .ok (.invokevirtual 51, 3) := dk_182 0 51 (dk_at dksX6_statement_7 14 rfl rfl)
theorem dX6_statement_180 : decode cX6_statement 180 = .ok (.aload_n 0, 1) := dk_42 (dk_at dksX6_statement_7 17 rfl rfl)
theorem dX6_statement_181 : decode cX6_statement 181 = .ok (.dup, 1) := dk_89 (dk_at dksX6_statement_7 18 rfl rfl)
theorem dX6_statement_182 : decode cX6_statement 182 = .ok (.getfield 59, 3) := dk_180 0 59 (dk_at dksX6_statement_7 19 rfl rfl)
theorem dX6_statement_185 : decode cX6_statement 185 = .ok (.iconst 1, 1) := dk_4 (dk_at dksX6_statement_7 22 rfl rfl)
theorem dX6_statement_186 : decode cX6_statement 186 = .ok (.iadd, 1) := dk_96 (dk_at dksX6_statement_7 23 rfl rfl)
theorem dX6_statement_187 : decode cX6_statement 187 = .ok (.putfield 59, 3) := dk_181 0 59 (dk_at dksX6_statement_8 0 rfl rfl)
theorem dX6_statement_190 : decode cX6_statement 190 = .ok (.return_, 1) := dk_177 (dk_at dksX6_statement_8 3 rfl rfl)
abbrev cX6_sign : ByteArray := prog_11_method_2_code
def yX6_sign : MethodName := ⟨RX6, "sign", "()I"⟩
def dkwX6_sign_1 : List UInt8 := [2, 172]
abbrev dktX6_sign_1 : List UInt8 := dkwX6_sign_1 ++ []
def dkwX6_sign_0 : List UInt8 := [42, 180, 0, 27, 42, 180, 0, 23, 190, 162, 0, 15, 42, 180, 0, 23, 42, 180, 0, 27, 51, 167, 0, 4]
abbrev dktX6_sign_0 : List UInt8 := dkwX6_sign_0 ++ dktX6_sign_1
theorem dksX6_sign_0 : cX6_sign.data.toList.drop 0 = dktX6_sign_0 := by decide +kernel
theorem dksX6_sign_1 : cX6_sign.data.toList.drop 24 = dktX6_sign_1 := dk_seg dksX6_sign_0 24 rfl rfl
theorem dX6_sign_0 : decode cX6_sign 0 = .ok (.aload_n 0, 1) := dk_42 (dk_at dksX6_sign_0 0 rfl rfl)
theorem dX6_sign_1 : decode cX6_sign 1 = .ok (.getfield 27, 3) := dk_180 0 27 (dk_at dksX6_sign_0 1 rfl rfl)
theorem dX6_sign_4 : decode cX6_sign 4 = .ok (.aload_n 0, 1) := dk_42 (dk_at dksX6_sign_0 4 rfl rfl)
theorem dX6_sign_5 : decode cX6_sign 5 = .ok (.getfield 23, 3) := dk_180 0 23 (dk_at dksX6_sign_0 5 rfl rfl)
theorem dX6_sign_8 : decode cX6_sign 8 = .ok (.arraylength, 1) := dk_190 (dk_at dksX6_sign_0 8 rfl rfl)
theorem dX6_sign_9 : decode cX6_sign 9 = .ok (.if_icmp .ge 15, 3) := dk_162 0 15 (dk_at dksX6_sign_0 9 rfl rfl)
theorem dX6_sign_12 : decode cX6_sign 12 = .ok (.aload_n 0, 1) := dk_42 (dk_at dksX6_sign_0 12 rfl rfl)
theorem dX6_sign_13 : decode cX6_sign 13 = .ok (.getfield 23, 3) := dk_180 0 23 (dk_at dksX6_sign_0 13 rfl rfl)
theorem dX6_sign_16 : decode cX6_sign 16 = .ok (.aload_n 0, 1) := dk_42 (dk_at dksX6_sign_0 16 rfl rfl)
theorem dX6_sign_17 : decode cX6_sign 17 = .ok (.getfield 27, 3) := dk_180 0 27 (dk_at dksX6_sign_0 17 rfl rfl)
theorem dX6_sign_20 : decode cX6_sign 20 = .ok (.baload, 1) := dk_51 (dk_at dksX6_sign_0 20 rfl rfl)
theorem dX6_sign_21 : decode cX6_sign 21 = .ok (.goto 4, 3) := dk_167 0 4 (dk_at dksX6_sign_0 21 rfl rfl)
theorem dX6_sign_24 : decode cX6_sign 24 = .ok (.iconst (-1), 1) := dk_2 (dk_at dksX6_sign_1 0 rfl rfl)
theorem dX6_sign_25 : decode cX6_sign 25 = .ok (.ireturn, 1) := dk_172 (dk_at dksX6_sign_1 1 rfl rfl)
abbrev cX6_number : ByteArray := prog_11_method_6_code
def yX6_number : MethodName := ⟨RX6, "number", "(I)I"⟩
def dkwX6_number_1 : List UInt8 := [184, 0, 44, 153, 0, 19, 16, 10, 28, 104, 42, 182, 0, 48, 96, 61, 132, 3, 1, 167, 255, 220, 28, 172]
abbrev dktX6_number_1 : List UInt8 := dkwX6_number_1 ++ []
def dkwX6_number_0 : List UInt8 := [42, 182, 0, 48, 61, 4, 62, 29, 27, 162, 0, 37, 28, 158, 0, 33, 42, 182, 0, 31, 16, 48, 16, 57]
abbrev dktX6_number_0 : List UInt8 := dkwX6_number_0 ++ dktX6_number_1
theorem dksX6_number_0 : cX6_number.data.toList.drop 0 = dktX6_number_0 := by decide +kernel
theorem dksX6_number_1 : cX6_number.data.toList.drop 24 = dktX6_number_1 := dk_seg dksX6_number_0 24 rfl rfl
theorem dX6_number_0 : decode cX6_number 0 = .ok (.aload_n 0, 1) := dk_42 (dk_at dksX6_number_0 0 rfl rfl)
theorem dX6_number_1 : decode cX6_number 1 = .ok (.invokevirtual 48, 3) := dk_182 0 48 (dk_at dksX6_number_0 1 rfl rfl)
theorem dX6_number_4 : decode cX6_number 4 = .ok (.istore_n 2, 1) := dk_61 (dk_at dksX6_number_0 4 rfl rfl)
theorem dX6_number_5 : decode cX6_number 5 = .ok (.iconst 1, 1) := dk_4 (dk_at dksX6_number_0 5 rfl rfl)
theorem dX6_number_6 : decode cX6_number 6 = .ok (.istore_n 3, 1) := dk_62 (dk_at dksX6_number_0 6 rfl rfl)
theorem dX6_number_7 : decode cX6_number 7 = .ok (.iload_n 3, 1) := dk_29 (dk_at dksX6_number_0 7 rfl rfl)
theorem dX6_number_8 : decode cX6_number 8 = .ok (.iload_n 1, 1) := dk_27 (dk_at dksX6_number_0 8 rfl rfl)
theorem dX6_number_9 : decode cX6_number 9 = .ok (.if_icmp .ge 37, 3) := dk_162 0 37 (dk_at dksX6_number_0 9 rfl rfl)
theorem dX6_number_12 : decode cX6_number 12 = .ok (.iload_n 2, 1) := dk_28 (dk_at dksX6_number_0 12 rfl rfl)
theorem dX6_number_13 : decode cX6_number 13 = .ok (.ifCond .le 33, 3) := dk_158 0 33 (dk_at dksX6_number_0 13 rfl rfl)
theorem dX6_number_16 : decode cX6_number 16 = .ok (.aload_n 0, 1) := dk_42 (dk_at dksX6_number_0 16 rfl rfl)
theorem dX6_number_17 : decode cX6_number 17 = .ok (.invokevirtual 31, 3) := dk_182 0 31 (dk_at dksX6_number_0 17 rfl rfl)
theorem dX6_number_20 : decode cX6_number 20 = .ok (.bipush 48, 2) := dk_16 48 (dk_at dksX6_number_0 20 rfl rfl)
theorem dX6_number_22 : decode cX6_number 22 = .ok (.bipush 57, 2) := dk_16 57 (dk_at dksX6_number_0 22 rfl rfl)
theorem dX6_number_24 : decode cX6_number 24 = .ok (.invokestatic 44, 3) := dk_184 0 44 (dk_at dksX6_number_1 0 rfl rfl)
theorem dX6_number_27 : decode cX6_number 27 = .ok (.ifCond .eq 19, 3) := dk_153 0 19 (dk_at dksX6_number_1 3 rfl rfl)
theorem dX6_number_30 : decode cX6_number 30 = .ok (.bipush 10, 2) := dk_16 10 (dk_at dksX6_number_1 6 rfl rfl)
theorem dX6_number_32 : decode cX6_number 32 = .ok (.iload_n 2, 1) := dk_28 (dk_at dksX6_number_1 8 rfl rfl)
theorem dX6_number_33 : decode cX6_number 33 = .ok (.imul, 1) := dk_104 (dk_at dksX6_number_1 9 rfl rfl)
theorem dX6_number_34 : decode cX6_number 34 = .ok (.aload_n 0, 1) := dk_42 (dk_at dksX6_number_1 10 rfl rfl)
theorem dX6_number_35 : decode cX6_number 35 = .ok (.invokevirtual 48, 3) := dk_182 0 48 (dk_at dksX6_number_1 11 rfl rfl)
theorem dX6_number_38 : decode cX6_number 38 = .ok (.iadd, 1) := dk_96 (dk_at dksX6_number_1 14 rfl rfl)
theorem dX6_number_39 : decode cX6_number 39 = .ok (.istore_n 2, 1) := dk_61 (dk_at dksX6_number_1 15 rfl rfl)
theorem dX6_number_40 : decode cX6_number 40 = .ok (.iinc 3 1, 3) := dk_132 3 1 (dk_at dksX6_number_1 16 rfl rfl)
theorem dX6_number_43 : decode cX6_number 43 = .ok (.goto (-36), 3) := dk_167 255 220 (dk_at dksX6_number_1 19 rfl rfl)
theorem dX6_number_46 : decode cX6_number 46 = .ok (.iload_n 2, 1) := dk_28 (dk_at dksX6_number_1 22 rfl rfl)
theorem dX6_number_47 : decode cX6_number 47 = .ok (.ireturn, 1) := dk_172 (dk_at dksX6_number_1 23 rfl rfl)
abbrev cX6_digit : ByteArray := prog_11_method_5_code
def yX6_digit : MethodName := ⟨RX6, "digit", "()I"⟩
def dkwX6_digit_1 : List UInt8 := [180, 0, 27, 183, 0, 41, 191, 42, 89, 180, 0, 27, 4, 96, 181, 0, 27, 27, 172]
abbrev dktX6_digit_1 : List UInt8 := dkwX6_digit_1 ++ []
def dkwX6_digit_0 : List UInt8 := [42, 182, 0, 31, 16, 48, 100, 60, 27, 3, 16, 9, 184, 0, 44, 154, 0, 16, 187, 0, 39, 89, 4, 42]
abbrev dktX6_digit_0 : List UInt8 := dkwX6_digit_0 ++ dktX6_digit_1
theorem dksX6_digit_0 : cX6_digit.data.toList.drop 0 = dktX6_digit_0 := by decide +kernel
theorem dksX6_digit_1 : cX6_digit.data.toList.drop 24 = dktX6_digit_1 := dk_seg dksX6_digit_0 24 rfl rfl
theorem dX6_digit_0 : decode cX6_digit 0 = .ok (.aload_n 0, 1) := dk_42 (dk_at dksX6_digit_0 0 rfl rfl)
theorem dX6_digit_1 : decode cX6_digit 1 = .ok (.invokevirtual 31, 3) := dk_182 0 31 (dk_at dksX6_digit_0 1 rfl rfl)
theorem dX6_digit_4 : decode cX6_digit 4 = .ok (.bipush 48, 2) := dk_16 48 (dk_at dksX6_digit_0 4 rfl rfl)
theorem dX6_digit_6 : decode cX6_digit 6 = .ok (.isub, 1) := dk_100 (dk_at dksX6_digit_0 6 rfl rfl)
theorem dX6_digit_7 : decode cX6_digit 7 = .ok (.istore_n 1, 1) := dk_60 (dk_at dksX6_digit_0 7 rfl rfl)
theorem dX6_digit_8 : decode cX6_digit 8 = .ok (.iload_n 1, 1) := dk_27 (dk_at dksX6_digit_0 8 rfl rfl)
theorem dX6_digit_9 : decode cX6_digit 9 = .ok (.iconst 0, 1) := dk_3 (dk_at dksX6_digit_0 9 rfl rfl)
theorem dX6_digit_10 : decode cX6_digit 10 = .ok (.bipush 9, 2) := dk_16 9 (dk_at dksX6_digit_0 10 rfl rfl)
theorem dX6_digit_12 : decode cX6_digit 12 = .ok (.invokestatic 44, 3) := dk_184 0 44 (dk_at dksX6_digit_0 12 rfl rfl)
theorem dX6_digit_15 : decode cX6_digit 15 = .ok (.ifCond .ne 16, 3) := dk_154 0 16 (dk_at dksX6_digit_0 15 rfl rfl)
theorem dX6_digit_18 : decode cX6_digit 18 = .ok (.new 39, 3) := dk_187 0 39 (dk_at dksX6_digit_0 18 rfl rfl)
theorem dX6_digit_21 : decode cX6_digit 21 = .ok (.dup, 1) := dk_89 (dk_at dksX6_digit_0 21 rfl rfl)
theorem dX6_digit_22 : decode cX6_digit 22 = .ok (.iconst 1, 1) := dk_4 (dk_at dksX6_digit_0 22 rfl rfl)
theorem dX6_digit_23 : decode cX6_digit 23 = .ok (.aload_n 0, 1) := dk_42 (dk_at dksX6_digit_0 23 rfl rfl)
theorem dX6_digit_24 : decode cX6_digit 24 = .ok (.getfield 27, 3) := dk_180 0 27 (dk_at dksX6_digit_1 0 rfl rfl)
theorem dX6_digit_27 : decode cX6_digit 27 = .ok (.invokespecial 41, 3) := dk_183 0 41 (dk_at dksX6_digit_1 3 rfl rfl)
theorem dX6_digit_30 : decode cX6_digit 30 = .ok (.athrow, 1) := dk_191 (dk_at dksX6_digit_1 6 rfl rfl)
theorem dX6_digit_31 : decode cX6_digit 31 = .ok (.aload_n 0, 1) := dk_42 (dk_at dksX6_digit_1 7 rfl rfl)
theorem dX6_digit_32 : decode cX6_digit 32 = .ok (.dup, 1) := dk_89 (dk_at dksX6_digit_1 8 rfl rfl)
theorem dX6_digit_33 : decode cX6_digit 33 = .ok (.getfield 27, 3) := dk_180 0 27 (dk_at dksX6_digit_1 9 rfl rfl)
theorem dX6_digit_36 : decode cX6_digit 36 = .ok (.iconst 1, 1) := dk_4 (dk_at dksX6_digit_1 12 rfl rfl)
theorem dX6_digit_37 : decode cX6_digit 37 = .ok (.iadd, 1) := dk_96 (dk_at dksX6_digit_1 13 rfl rfl)
theorem dX6_digit_38 : decode cX6_digit 38 = .ok (.putfield 27, 3) := dk_181 0 27 (dk_at dksX6_digit_1 14 rfl rfl)
theorem dX6_digit_41 : decode cX6_digit 41 = .ok (.iload_n 1, 1) := dk_27 (dk_at dksX6_digit_1 17 rfl rfl)
theorem dX6_digit_42 : decode cX6_digit 42 = .ok (.ireturn, 1) := dk_172 (dk_at dksX6_digit_1 18 rfl rfl)
abbrev cX6_wants : ByteArray := prog_11_method_4_code
def yX6_wants : MethodName := ⟨RX6, "wants", "(I)V"⟩
def dkwX6_wants_0 : List UInt8 := [42, 27, 182, 0, 35, 154, 0, 16, 187, 0, 39, 89, 4, 42, 180, 0, 27, 183, 0, 41, 191, 177]
abbrev dktX6_wants_0 : List UInt8 := dkwX6_wants_0 ++ []
theorem dksX6_wants_0 : cX6_wants.data.toList.drop 0 = dktX6_wants_0 := by decide +kernel
theorem dX6_wants_0 : decode cX6_wants 0 = .ok (.aload_n 0, 1) := dk_42 (dk_at dksX6_wants_0 0 rfl rfl)
theorem dX6_wants_1 : decode cX6_wants 1 = .ok (.iload_n 1, 1) := dk_27 (dk_at dksX6_wants_0 1 rfl rfl)
theorem dX6_wants_2 : decode cX6_wants 2 = .ok (.invokevirtual 35, 3) := dk_182 0 35 (dk_at dksX6_wants_0 2 rfl rfl)
theorem dX6_wants_5 : decode cX6_wants 5 = .ok (.ifCond .ne 16, 3) := dk_154 0 16 (dk_at dksX6_wants_0 5 rfl rfl)
theorem dX6_wants_8 : decode cX6_wants 8 = .ok (.new 39, 3) := dk_187 0 39 (dk_at dksX6_wants_0 8 rfl rfl)
theorem dX6_wants_11 : decode cX6_wants 11 = .ok (.dup, 1) := dk_89 (dk_at dksX6_wants_0 11 rfl rfl)
theorem dX6_wants_12 : decode cX6_wants 12 = .ok (.iconst 1, 1) := dk_4 (dk_at dksX6_wants_0 12 rfl rfl)
theorem dX6_wants_13 : decode cX6_wants 13 = .ok (.aload_n 0, 1) := dk_42 (dk_at dksX6_wants_0 13 rfl rfl)
theorem dX6_wants_14 : decode cX6_wants 14 = .ok (.getfield 27, 3) := dk_180 0 27 (dk_at dksX6_wants_0 14 rfl rfl)
theorem dX6_wants_17 : decode cX6_wants 17 = .ok (.invokespecial 41, 3) := dk_183 0 41 (dk_at dksX6_wants_0 17 rfl rfl)
theorem dX6_wants_20 : decode cX6_wants 20 = .ok (.athrow, 1) := dk_191 (dk_at dksX6_wants_0 20 rfl rfl)
theorem dX6_wants_21 : decode cX6_wants 21 = .ok (.return_, 1) := dk_177 (dk_at dksX6_wants_0 21 rfl rfl)
abbrev cX6_takes : ByteArray := prog_11_method_3_code
def yX6_takes : MethodName := ⟨RX6, "takes", "(I)Z"⟩
def dkwX6_takes_0 : List UInt8 := [42, 182, 0, 31, 27, 159, 0, 5, 3, 172, 42, 89, 180, 0, 27, 4, 96, 181, 0, 27, 4, 172]
abbrev dktX6_takes_0 : List UInt8 := dkwX6_takes_0 ++ []
theorem dksX6_takes_0 : cX6_takes.data.toList.drop 0 = dktX6_takes_0 := by decide +kernel
theorem dX6_takes_0 : decode cX6_takes 0 = .ok (.aload_n 0, 1) := dk_42 (dk_at dksX6_takes_0 0 rfl rfl)
theorem dX6_takes_1 : decode cX6_takes 1 = .ok (.invokevirtual 31, 3) := dk_182 0 31 (dk_at dksX6_takes_0 1 rfl rfl)
theorem dX6_takes_4 : decode cX6_takes 4 = .ok (.iload_n 1, 1) := dk_27 (dk_at dksX6_takes_0 4 rfl rfl)
theorem dX6_takes_5 : decode cX6_takes 5 = .ok (.if_icmp .eq 5, 3) := dk_159 0 5 (dk_at dksX6_takes_0 5 rfl rfl)
theorem dX6_takes_8 : decode cX6_takes 8 = .ok (.iconst 0, 1) := dk_3 (dk_at dksX6_takes_0 8 rfl rfl)
theorem dX6_takes_9 : decode cX6_takes 9 = .ok (.ireturn, 1) := dk_172 (dk_at dksX6_takes_0 9 rfl rfl)
theorem dX6_takes_10 : decode cX6_takes 10 = .ok (.aload_n 0, 1) := dk_42 (dk_at dksX6_takes_0 10 rfl rfl)
theorem dX6_takes_11 : decode cX6_takes 11 = .ok (.dup, 1) := dk_89 (dk_at dksX6_takes_0 11 rfl rfl)
theorem dX6_takes_12 : decode cX6_takes 12 = .ok (.getfield 27, 3) := dk_180 0 27 (dk_at dksX6_takes_0 12 rfl rfl)
theorem dX6_takes_15 : decode cX6_takes 15 = .ok (.iconst 1, 1) := dk_4 (dk_at dksX6_takes_0 15 rfl rfl)
theorem dX6_takes_16 : decode cX6_takes 16 = .ok (.iadd, 1) := dk_96 (dk_at dksX6_takes_0 16 rfl rfl)
theorem dX6_takes_17 : decode cX6_takes 17 = .ok (.putfield 27, 3) := dk_181 0 27 (dk_at dksX6_takes_0 17 rfl rfl)
theorem dX6_takes_20 : decode cX6_takes 20 = .ok (.iconst 1, 1) := dk_4 (dk_at dksX6_takes_0 20 rfl rfl)
theorem dX6_takes_21 : decode cX6_takes 21 = .ok (.ireturn, 1) := dk_172 (dk_at dksX6_takes_0 21 rfl rfl)
abbrev cX6_looker : ByteArray := prog_11_method_7_code
def yX6_looker : MethodName := ⟨RX6, "looker", "([I)V"⟩
def dkwX6_looker_2 : List UInt8 := [42, 5, 182, 0, 55, 79, 42, 16, 32, 182, 0, 51, 43, 6, 42, 6, 182, 0, 55, 79, 177]
abbrev dktX6_looker_2 : List UInt8 := dkwX6_looker_2 ++ []
def dkwX6_looker_1 : List UInt8 := [154, 0, 9, 42, 16, 43, 182, 0, 51, 43, 5, 28, 153, 0, 12, 42, 5, 182, 0, 55, 116, 167, 0, 8]
abbrev dktX6_looker_1 : List UInt8 := dkwX6_looker_1 ++ dktX6_looker_2
def dkwX6_looker_0 : List UInt8 := [43, 3, 42, 182, 0, 48, 79, 43, 4, 42, 182, 0, 48, 79, 42, 16, 45, 182, 0, 35, 61, 28]
abbrev dktX6_looker_0 : List UInt8 := dkwX6_looker_0 ++ dktX6_looker_1
theorem dksX6_looker_0 : cX6_looker.data.toList.drop 0 = dktX6_looker_0 := by decide +kernel
theorem dksX6_looker_1 : cX6_looker.data.toList.drop 22 = dktX6_looker_1 := dk_seg dksX6_looker_0 22 rfl rfl
theorem dksX6_looker_2 : cX6_looker.data.toList.drop 46 = dktX6_looker_2 := dk_seg dksX6_looker_1 24 rfl rfl
theorem dX6_looker_0 : decode cX6_looker 0 = .ok (.aload_n 1, 1) := dk_43 (dk_at dksX6_looker_0 0 rfl rfl)
theorem dX6_looker_1 : decode cX6_looker 1 = .ok (.iconst 0, 1) := dk_3 (dk_at dksX6_looker_0 1 rfl rfl)
theorem dX6_looker_2 : decode cX6_looker 2 = .ok (.aload_n 0, 1) := dk_42 (dk_at dksX6_looker_0 2 rfl rfl)
theorem dX6_looker_3 : decode cX6_looker 3 = .ok (.invokevirtual 48, 3) := dk_182 0 48 (dk_at dksX6_looker_0 3 rfl rfl)
theorem dX6_looker_6 : decode cX6_looker 6 = .ok (.iastore, 1) := dk_79 (dk_at dksX6_looker_0 6 rfl rfl)
theorem dX6_looker_7 : decode cX6_looker 7 = .ok (.aload_n 1, 1) := dk_43 (dk_at dksX6_looker_0 7 rfl rfl)
theorem dX6_looker_8 : decode cX6_looker 8 = .ok (.iconst 1, 1) := dk_4 (dk_at dksX6_looker_0 8 rfl rfl)
theorem dX6_looker_9 : decode cX6_looker 9 = .ok (.aload_n 0, 1) := dk_42 (dk_at dksX6_looker_0 9 rfl rfl)
theorem dX6_looker_10 : decode cX6_looker 10 = .ok (.invokevirtual 48, 3) := dk_182 0 48 (dk_at dksX6_looker_0 10 rfl rfl)
theorem dX6_looker_13 : decode cX6_looker 13 = .ok (.iastore, 1) := dk_79 (dk_at dksX6_looker_0 13 rfl rfl)
theorem dX6_looker_14 : decode cX6_looker 14 = .ok (.aload_n 0, 1) := dk_42 (dk_at dksX6_looker_0 14 rfl rfl)
theorem dX6_looker_15 : decode cX6_looker 15 = .ok (.bipush 45, 2) := dk_16 45 (dk_at dksX6_looker_0 15 rfl rfl)
theorem dX6_looker_17 : decode cX6_looker 17 = .ok (.invokevirtual 35, 3) := dk_182 0 35 (dk_at dksX6_looker_0 17 rfl rfl)
theorem dX6_looker_20 : decode cX6_looker 20 = .ok (.istore_n 2, 1) := dk_61 (dk_at dksX6_looker_0 20 rfl rfl)
theorem dX6_looker_21 : decode cX6_looker 21 = .ok (.iload_n 2, 1) := dk_28 (dk_at dksX6_looker_0 21 rfl rfl)
theorem dX6_looker_22 : decode cX6_looker 22 = .ok (.ifCond .ne 9, 3) := dk_154 0 9 (dk_at dksX6_looker_1 0 rfl rfl)
theorem dX6_looker_25 : decode cX6_looker 25 = .ok (.aload_n 0, 1) := dk_42 (dk_at dksX6_looker_1 3 rfl rfl)
theorem dX6_looker_26 : decode cX6_looker 26 = .ok (.bipush 43, 2) := dk_16 43 (dk_at dksX6_looker_1 4 rfl rfl)
theorem dX6_looker_28 : decode cX6_looker 28 = .ok (.invokevirtual 51, 3) := dk_182 0 51 (dk_at dksX6_looker_1 6 rfl rfl)
theorem dX6_looker_31 : decode cX6_looker 31 = .ok (.aload_n 1, 1) := dk_43 (dk_at dksX6_looker_1 9 rfl rfl)
theorem dX6_looker_32 : decode cX6_looker 32 = .ok (.iconst 2, 1) := dk_5 (dk_at dksX6_looker_1 10 rfl rfl)
theorem dX6_looker_33 : decode cX6_looker 33 = .ok (.iload_n 2, 1) := dk_28 (dk_at dksX6_looker_1 11 rfl rfl)
theorem dX6_looker_34 : decode cX6_looker 34 = .ok (.ifCond .eq 12, 3) := dk_153 0 12 (dk_at dksX6_looker_1 12 rfl rfl)
theorem dX6_looker_37 : decode cX6_looker 37 = .ok (.aload_n 0, 1) := dk_42 (dk_at dksX6_looker_1 15 rfl rfl)
theorem dX6_looker_38 : decode cX6_looker 38 = .ok (.iconst 2, 1) := dk_5 (dk_at dksX6_looker_1 16 rfl rfl)
theorem dX6_looker_39 : decode cX6_looker 39 = .ok (.invokevirtual 55, 3) := dk_182 0 55 (dk_at dksX6_looker_1 17 rfl rfl)
theorem dX6_looker_42 : decode cX6_looker 42 = .ok (.ineg, 1) := dk_116 (dk_at dksX6_looker_1 20 rfl rfl)
theorem dX6_looker_43 : decode cX6_looker 43 = .ok (.goto 8, 3) := dk_167 0 8 (dk_at dksX6_looker_1 21 rfl rfl)
theorem dX6_looker_46 : decode cX6_looker 46 = .ok (.aload_n 0, 1) := dk_42 (dk_at dksX6_looker_2 0 rfl rfl)
theorem dX6_looker_47 : decode cX6_looker 47 = .ok (.iconst 2, 1) := dk_5 (dk_at dksX6_looker_2 1 rfl rfl)
theorem dX6_looker_48 : decode cX6_looker 48 = .ok (.invokevirtual 55, 3) := dk_182 0 55 (dk_at dksX6_looker_2 2 rfl rfl)
theorem dX6_looker_51 : decode cX6_looker 51 = .ok (.iastore, 1) := dk_79 (dk_at dksX6_looker_2 5 rfl rfl)
theorem dX6_looker_52 : decode cX6_looker 52 = .ok (.aload_n 0, 1) := dk_42 (dk_at dksX6_looker_2 6 rfl rfl)
theorem dX6_looker_53 : decode cX6_looker 53 = .ok (.bipush 32, 2) := dk_16 32 (dk_at dksX6_looker_2 7 rfl rfl)
theorem dX6_looker_55 : decode cX6_looker 55 = .ok (.invokevirtual 51, 3) := dk_182 0 51 (dk_at dksX6_looker_2 9 rfl rfl)
theorem dX6_looker_58 : decode cX6_looker 58 = .ok (.aload_n 1, 1) := dk_43 (dk_at dksX6_looker_2 12 rfl rfl)
theorem dX6_looker_59 : decode cX6_looker 59 = .ok (.iconst 3, 1) := dk_6 (dk_at dksX6_looker_2 13 rfl rfl)
theorem dX6_looker_60 : decode cX6_looker 60 = .ok (.aload_n 0, 1) := dk_42 (dk_at dksX6_looker_2 14 rfl rfl)
theorem dX6_looker_61 : decode cX6_looker 61 = .ok (.iconst 3, 1) := dk_6 (dk_at dksX6_looker_2 15 rfl rfl)
theorem dX6_looker_62 : decode cX6_looker 62 = .ok (.invokevirtual 55, 3) := dk_182 0 55 (dk_at dksX6_looker_2 16 rfl rfl)
theorem dX6_looker_65 : decode cX6_looker 65 = .ok (.iastore, 1) := dk_79 (dk_at dksX6_looker_2 19 rfl rfl)
theorem dX6_looker_66 : decode cX6_looker 66 = .ok (.return_, 1) := dk_177 (dk_at dksX6_looker_2 20 rfl rfl)
theorem q48 : (Jvm.Cond.initialized "LookAtClock$Reader") ∈ lw_all := lw_g (lw_at lw_m1 7 rfl) rfl
theorem q91 : (Jvm.Cond.instantiable "LookAtClock$Reader" (6 : Nat)) ∈ lw_all := lw_g (lw_at lw_m1 50 rfl) rfl
theorem q93 : (Jvm.Cond.instanceMethod ({ cls := "LookAtClock$Reader", name := "<init>", desc := "([B)V" } : Jvm.MethodName)) ∈ lw_all := lw_g (lw_at lw_m1 52 rfl) rfl
theorem q94 : (Jvm.Cond.code ({ cls := "LookAtClock$Reader", name := "<init>", desc := "([B)V" } : Jvm.MethodName) prog_11_method_1_code (2 : Nat) (Option.none : Option Jvm.ClassFile.FieldType)) ∈ lw_all := lw_g (lw_at lw_m1 53 rfl) rfl
theorem q95 : (Jvm.Cond.methodLink "LookAtClock$Reader" (3 : Nat) ({ cls := "java/lang/Object", name := "<init>", desc := "()V" } : Jvm.MethodName)) ∈ lw_all := lw_g (lw_at lw_m1 54 rfl) rfl
theorem q98 : (Jvm.Cond.classLink "LookAtClock$Reader" (18 : Nat) "[[I") ∈ lw_all := lw_g (lw_at lw_m1 57 rfl) rfl
theorem q100 : (Jvm.Cond.fieldLink "LookAtClock$Reader" (23 : Nat) "LookAtClock$Reader" "text" "[B") ∈ lw_all := lw_g (lw_at lw_m1 59 rfl) rfl
theorem q101 : (Jvm.Cond.fieldLink "LookAtClock$Reader" (27 : Nat) "LookAtClock$Reader" "at" "I") ∈ lw_all := lw_g (lw_at lw_m1 60 rfl) rfl
theorem q102 : (Jvm.Cond.fieldLink "LookAtClock$Reader" (9 : Nat) "LookAtClock$Reader" "letter" "[I") ∈ lw_all := lw_g (lw_at lw_m1 61 rfl) rfl
theorem q104 : (Jvm.Cond.fieldLink "LookAtClock$Reader" (15 : Nat) "LookAtClock$Reader" "place" "[I") ∈ lw_all := lw_g (lw_at lw_m1 63 rfl) rfl
theorem q106 : (Jvm.Cond.fieldLink "LookAtClock$Reader" (20 : Nat) "LookAtClock$Reader" "told" "[[I") ∈ lw_all := lw_g (lw_at lw_m1 65 rfl) rfl
theorem q108 : (Jvm.Cond.fieldLink "LookAtClock$Reader" (59 : Nat) "LookAtClock$Reader" "statements" "I") ∈ lw_all := lw_g (lw_at lw_m1 67 rfl) rfl
theorem q110 : (Jvm.Cond.laysFinal "LookAtClock$Reader" "LookAtClock$Reader" "text" "[B") ∈ lw_all := lw_g (lw_at lw_m1 69 rfl) rfl
theorem q111 : (Jvm.Cond.soleField "LookAtClock$Reader" "text") ∈ lw_all := lw_g (lw_at lw_m1 70 rfl) rfl
theorem q112 : (Jvm.Cond.lays "LookAtClock$Reader" "LookAtClock$Reader" "at" "I") ∈ lw_all := lw_g (lw_at lw_m1 71 rfl) rfl
theorem q113 : (Jvm.Cond.soleField "LookAtClock$Reader" "at") ∈ lw_all := lw_g (lw_at lw_m1 72 rfl) rfl
theorem q114 : (Jvm.Cond.laysFinal "LookAtClock$Reader" "LookAtClock$Reader" "letter" "[I") ∈ lw_all := lw_g (lw_at lw_m1 73 rfl) rfl
theorem q115 : (Jvm.Cond.soleField "LookAtClock$Reader" "letter") ∈ lw_all := lw_g (lw_at lw_m1 74 rfl) rfl
theorem q116 : (Jvm.Cond.laysFinal "LookAtClock$Reader" "LookAtClock$Reader" "place" "[I") ∈ lw_all := lw_g (lw_at lw_m1 75 rfl) rfl
theorem q117 : (Jvm.Cond.soleField "LookAtClock$Reader" "place") ∈ lw_all := lw_g (lw_at lw_m1 76 rfl) rfl
theorem q118 : (Jvm.Cond.laysFinal "LookAtClock$Reader" "LookAtClock$Reader" "told" "[[I") ∈ lw_all := lw_g (lw_at lw_m1 77 rfl) rfl
theorem q119 : (Jvm.Cond.soleField "LookAtClock$Reader" "told") ∈ lw_all := lw_g (lw_at lw_m1 78 rfl) rfl
theorem q120 : (Jvm.Cond.lays "LookAtClock$Reader" "LookAtClock$Reader" "statements" "I") ∈ lw_all := lw_g (lw_at lw_m1 79 rfl) rfl
theorem q121 : (Jvm.Cond.soleField "LookAtClock$Reader" "statements") ∈ lw_all := lw_g (lw_at lw_m1 80 rfl) rfl
theorem q122 : (Jvm.Cond.superclass "LookAtClock$Reader" "java/lang/Object") ∈ lw_all := lw_g (lw_at lw_m1 81 rfl) rfl
theorem q125 : (Jvm.Cond.instanceMethod ({ cls := "LookAtClock$Reader", name := "reads", desc := "()V" } : Jvm.MethodName)) ∈ lw_all := lw_g (lw_at lw_m1 84 rfl) rfl
theorem q126 : (Jvm.Cond.selects "LookAtClock$Reader" ({ cls := "LookAtClock$Reader", name := "reads", desc := "()V" } : Jvm.MethodName) ({ cls := "LookAtClock$Reader", name := "reads", desc := "()V" } : Jvm.MethodName)) ∈ lw_all := lw_g (lw_at lw_m1 85 rfl) rfl
theorem q127 : (Jvm.Cond.code ({ cls := "LookAtClock$Reader", name := "reads", desc := "()V" } : Jvm.MethodName) prog_11_method_9_code (1 : Nat) (Option.none : Option Jvm.ClassFile.FieldType)) ∈ lw_all := lw_g (lw_at lw_m1 86 rfl) rfl
theorem q128 : (Jvm.Cond.methodLink "LookAtClock$Reader" (66 : Nat) ({ cls := "LookAtClock$Reader", name := "statement", desc := "()V" } : Jvm.MethodName)) ∈ lw_all := lw_g (lw_at lw_m1 87 rfl) rfl
theorem q129 : (Jvm.Cond.privateMethod ({ cls := "LookAtClock$Reader", name := "statement", desc := "()V" } : Jvm.MethodName)) ∈ lw_tbl := lw_at lw_m1 88 rfl
theorem q130 : (Jvm.Cond.instanceMethod ({ cls := "LookAtClock$Reader", name := "statement", desc := "()V" } : Jvm.MethodName)) ∈ lw_all := lw_g (lw_at lw_m1 89 rfl) rfl
theorem q131 : (Jvm.Cond.code ({ cls := "LookAtClock$Reader", name := "statement", desc := "()V" } : Jvm.MethodName) prog_11_method_8_code (3 : Nat) (Option.none : Option Jvm.ClassFile.FieldType)) ∈ lw_all := lw_g (lw_at lw_m1 90 rfl) rfl
theorem q132 : (Jvm.Cond.methodLink "LookAtClock$Reader" (31 : Nat) ({ cls := "LookAtClock$Reader", name := "sign", desc := "()I" } : Jvm.MethodName)) ∈ lw_all := lw_g (lw_at lw_m1 91 rfl) rfl
theorem q133 : (Jvm.Cond.privateMethod ({ cls := "LookAtClock$Reader", name := "sign", desc := "()I" } : Jvm.MethodName)) ∈ lw_tbl := lw_at lw_m1 92 rfl
theorem q134 : (Jvm.Cond.instanceMethod ({ cls := "LookAtClock$Reader", name := "sign", desc := "()I" } : Jvm.MethodName)) ∈ lw_all := lw_g (lw_at lw_m1 93 rfl) rfl
theorem q135 : (Jvm.Cond.code ({ cls := "LookAtClock$Reader", name := "sign", desc := "()I" } : Jvm.MethodName) prog_11_method_2_code (1 : Nat) (Option.some Jvm.ClassFile.FieldType.int)) ∈ lw_all := lw_g (lw_at lw_m1 94 rfl) rfl
theorem q136 : (Jvm.Cond.methodLink "LookAtClock$Reader" (55 : Nat) ({ cls := "LookAtClock$Reader", name := "number", desc := "(I)I" } : Jvm.MethodName)) ∈ lw_all := lw_g (lw_at lw_m1 95 rfl) rfl
theorem q137 : (Jvm.Cond.privateMethod ({ cls := "LookAtClock$Reader", name := "number", desc := "(I)I" } : Jvm.MethodName)) ∈ lw_tbl := lw_at lw_m1 96 rfl
theorem q138 : (Jvm.Cond.instanceMethod ({ cls := "LookAtClock$Reader", name := "number", desc := "(I)I" } : Jvm.MethodName)) ∈ lw_all := lw_g (lw_at lw_m1 97 rfl) rfl
theorem q139 : (Jvm.Cond.code ({ cls := "LookAtClock$Reader", name := "number", desc := "(I)I" } : Jvm.MethodName) prog_11_method_6_code (4 : Nat) (Option.some Jvm.ClassFile.FieldType.int)) ∈ lw_all := lw_g (lw_at lw_m1 98 rfl) rfl
theorem q140 : (Jvm.Cond.methodLink "LookAtClock$Reader" (48 : Nat) ({ cls := "LookAtClock$Reader", name := "digit", desc := "()I" } : Jvm.MethodName)) ∈ lw_all := lw_g (lw_at lw_m1 99 rfl) rfl
theorem q141 : (Jvm.Cond.privateMethod ({ cls := "LookAtClock$Reader", name := "digit", desc := "()I" } : Jvm.MethodName)) ∈ lw_tbl := lw_at lw_m1 100 rfl
theorem q142 : (Jvm.Cond.instanceMethod ({ cls := "LookAtClock$Reader", name := "digit", desc := "()I" } : Jvm.MethodName)) ∈ lw_all := lw_g (lw_at lw_m1 101 rfl) rfl
theorem q143 : (Jvm.Cond.code ({ cls := "LookAtClock$Reader", name := "digit", desc := "()I" } : Jvm.MethodName) prog_11_method_5_code (2 : Nat) (Option.some Jvm.ClassFile.FieldType.int)) ∈ lw_all := lw_g (lw_at lw_m1 102 rfl) rfl
theorem q144 : (Jvm.Cond.methodLinkNest "LookAtClock$Reader" (44 : Nat) ({ cls := "LookAtClock", name := "isIn", desc := "(III)Z" } : Jvm.MethodName) "LookAtClock") ∈ lw_tbl := lw_at lw_m1 103 rfl
theorem q145 : (Jvm.Cond.classLink "LookAtClock$Reader" (39 : Nat) "LookAtClock$Broken") ∈ lw_all := lw_g (lw_at lw_m1 104 rfl) rfl
theorem q204 : (Jvm.Cond.methodLink "LookAtClock$Reader" (41 : Nat) ({ cls := "LookAtClock$Broken", name := "<init>", desc := "(II)V" } : Jvm.MethodName)) ∈ lw_all := lw_g (lw_at lw_m1 163 rfl) rfl
theorem q235 : (Jvm.Cond.methodLink "LookAtClock$Reader" (51 : Nat) ({ cls := "LookAtClock$Reader", name := "wants", desc := "(I)V" } : Jvm.MethodName)) ∈ lw_all := lw_g (lw_at lw_m1 194 rfl) rfl
theorem q236 : (Jvm.Cond.privateMethod ({ cls := "LookAtClock$Reader", name := "wants", desc := "(I)V" } : Jvm.MethodName)) ∈ lw_tbl := lw_at lw_m1 195 rfl
theorem q237 : (Jvm.Cond.instanceMethod ({ cls := "LookAtClock$Reader", name := "wants", desc := "(I)V" } : Jvm.MethodName)) ∈ lw_all := lw_g (lw_at lw_m1 196 rfl) rfl
theorem q238 : (Jvm.Cond.code ({ cls := "LookAtClock$Reader", name := "wants", desc := "(I)V" } : Jvm.MethodName) prog_11_method_4_code (2 : Nat) (Option.none : Option Jvm.ClassFile.FieldType)) ∈ lw_all := lw_g (lw_at lw_m1 197 rfl) rfl
theorem q239 : (Jvm.Cond.methodLink "LookAtClock$Reader" (35 : Nat) ({ cls := "LookAtClock$Reader", name := "takes", desc := "(I)Z" } : Jvm.MethodName)) ∈ lw_all := lw_g (lw_at lw_m1 198 rfl) rfl
theorem q240 : (Jvm.Cond.privateMethod ({ cls := "LookAtClock$Reader", name := "takes", desc := "(I)Z" } : Jvm.MethodName)) ∈ lw_tbl := lw_at lw_m1 199 rfl
theorem q241 : (Jvm.Cond.instanceMethod ({ cls := "LookAtClock$Reader", name := "takes", desc := "(I)Z" } : Jvm.MethodName)) ∈ lw_all := lw_g (lw_at lw_m1 200 rfl) rfl
theorem q242 : (Jvm.Cond.code ({ cls := "LookAtClock$Reader", name := "takes", desc := "(I)Z" } : Jvm.MethodName) prog_11_method_3_code (2 : Nat) (Option.some Jvm.ClassFile.FieldType.boolean)) ∈ lw_all := lw_g (lw_at lw_m1 201 rfl) rfl
theorem q243 : (Jvm.Cond.methodLink "LookAtClock$Reader" (62 : Nat) ({ cls := "LookAtClock$Reader", name := "looker", desc := "([I)V" } : Jvm.MethodName)) ∈ lw_all := lw_g (lw_at lw_m1 202 rfl) rfl
theorem q244 : (Jvm.Cond.privateMethod ({ cls := "LookAtClock$Reader", name := "looker", desc := "([I)V" } : Jvm.MethodName)) ∈ lw_tbl := lw_at lw_m1 203 rfl
theorem q245 : (Jvm.Cond.instanceMethod ({ cls := "LookAtClock$Reader", name := "looker", desc := "([I)V" } : Jvm.MethodName)) ∈ lw_all := lw_g (lw_at lw_m1 204 rfl) rfl
theorem q246 : (Jvm.Cond.code ({ cls := "LookAtClock$Reader", name := "looker", desc := "([I)V" } : Jvm.MethodName) prog_11_method_7_code (3 : Nat) (Option.none : Option Jvm.ClassFile.FieldType)) ∈ lw_all := lw_g (lw_at lw_m1 205 rfl) rfl
theorem in_X6 : ∀ w ∈ wsX60, w ∈ lw_all := lw_in wsX60 [110, 112, 114, 116, 118, 120] (by decide +kernel) (by decide +kernel)
/-! LookAtClock$Broken -/
set_option maxRecDepth 100000
def RX7 : String := "LookAtClock$Broken"
def TX7 : u_T := fun k => match k with
  | 0 => ("java/lang/Throwable", "cause", "Ljava/lang/Throwable;", false)
  | 1 => ("java/lang/Throwable", "stackTrace", "[Ljava/lang/StackTraceElement;", false)
  | 2 => ("java/lang/Throwable", "suppressedExceptions", "Ljava/util/List;", false)
  | 3 => ("java/lang/Throwable", "detailMessage", "Ljava/lang/String;", false)
  | 4 => ("java/lang/Throwable", "backtrace", "Ljava/lang/Object;", false)
  | 5 => ("java/lang/Throwable", "depth", "I", false)
  | 6 => ("LookAtClock$Broken", "kind", "I", true)
  | _ => ("LookAtClock$Broken", "place", "I", true)
def tyX7 : Nat → FieldType := fun k => match k with
  | 0 => .object "java/lang/Throwable"
  | 1 => .array (.object "java/lang/StackTraceElement")
  | 2 => .object "java/util/List"
  | 3 => .object "java/lang/String"
  | 4 => .object "java/lang/Object"
  | 5 => .int
  | 6 => .int
  | _ => .int
abbrev wsX70 : List Cond := u_ws RX7 TX7 8
theorem nmX7 : ∀ a, a < 8 → ∀ b, b < 8 → a ≠ b → (TX7 a).2.1 ≠ (TX7 b).2.1 := by decide +kernel
theorem tyX7_ok : ∀ k, k < 8 → parseFieldDescriptor (TX7 k).2.2.1 = some (tyX7 k) := by decide +kernel
abbrev cX7_init : ByteArray := prog_3_method_1_code
def yX7_init : MethodName := ⟨RX7, "<init>", "(II)V"⟩
def dkwX7_init_0 : List UInt8 := [42, 183, 0, 1, 42, 27, 181, 0, 7, 42, 28, 181, 0, 13, 177]
abbrev dktX7_init_0 : List UInt8 := dkwX7_init_0 ++ []
theorem dksX7_init_0 : cX7_init.data.toList.drop 0 = dktX7_init_0 := by decide +kernel
theorem dX7_init_0 : decode cX7_init 0 = .ok (.aload_n 0, 1) := dk_42 (dk_at dksX7_init_0 0 rfl rfl)
theorem dX7_init_1 : decode cX7_init 1 = .ok (.invokespecial 1, 3) := dk_183 0 1 (dk_at dksX7_init_0 1 rfl rfl)
theorem dX7_init_4 : decode cX7_init 4 = .ok (.aload_n 0, 1) := dk_42 (dk_at dksX7_init_0 4 rfl rfl)
theorem dX7_init_5 : decode cX7_init 5 = .ok (.iload_n 1, 1) := dk_27 (dk_at dksX7_init_0 5 rfl rfl)
theorem dX7_init_6 : decode cX7_init 6 = .ok (.putfield 7, 3) := dk_181 0 7 (dk_at dksX7_init_0 6 rfl rfl)
theorem dX7_init_9 : decode cX7_init 9 = .ok (.aload_n 0, 1) := dk_42 (dk_at dksX7_init_0 9 rfl rfl)
theorem dX7_init_10 : decode cX7_init 10 = .ok (.iload_n 2, 1) := dk_28 (dk_at dksX7_init_0 10 rfl rfl)
theorem dX7_init_11 : decode cX7_init 11 = .ok (.putfield 13, 3) := dk_181 0 13 (dk_at dksX7_init_0 11 rfl rfl)
theorem dX7_init_14 : decode cX7_init 14 = .ok (.return_, 1) := dk_177 (dk_at dksX7_init_0 14 rfl rfl)
theorem q52 : (Jvm.Cond.initialized "LookAtClock$Broken") ∈ lw_all := lw_g (lw_at lw_m1 11 rfl) rfl
theorem q146 : (Jvm.Cond.instantiable "LookAtClock$Broken" (8 : Nat)) ∈ lw_all := lw_g (lw_at lw_m1 105 rfl) rfl
theorem q147 : (Jvm.Cond.castable "LookAtClock$Broken" "LookAtClock$Broken") ∈ lw_tbl := lw_at lw_m1 106 rfl
theorem q154 : (Jvm.Cond.selects "LookAtClock$Broken" ({ cls := "java/lang/Throwable", name := "fillInStackTrace", desc := "(I)Ljava/lang/Throwable;" } : Jvm.MethodName) ({ cls := "java/lang/Throwable", name := "fillInStackTrace", desc := "(I)Ljava/lang/Throwable;" } : Jvm.MethodName)) ∈ lw_all := lw_g (lw_at lw_m1 113 rfl) rfl
theorem q155 : (Jvm.Cond.selects "LookAtClock$Broken" ({ cls := "java/lang/Throwable", name := "fillInStackTrace", desc := "()Ljava/lang/Throwable;" } : Jvm.MethodName) ({ cls := "java/lang/Throwable", name := "fillInStackTrace", desc := "()Ljava/lang/Throwable;" } : Jvm.MethodName)) ∈ lw_all := lw_g (lw_at lw_m1 114 rfl) rfl
theorem q156 : (Jvm.Cond.lays "LookAtClock$Broken" "java/lang/Throwable" "cause" "Ljava/lang/Throwable;") ∈ lw_all := lw_g (lw_at lw_m1 115 rfl) rfl
theorem q158 : (Jvm.Cond.lays "LookAtClock$Broken" "java/lang/Throwable" "stackTrace" "[Ljava/lang/StackTraceElement;") ∈ lw_all := lw_g (lw_at lw_m1 117 rfl) rfl
theorem q160 : (Jvm.Cond.lays "LookAtClock$Broken" "java/lang/Throwable" "suppressedExceptions" "Ljava/util/List;") ∈ lw_all := lw_g (lw_at lw_m1 119 rfl) rfl
theorem q162 : (Jvm.Cond.lays "LookAtClock$Broken" "java/lang/Throwable" "detailMessage" "Ljava/lang/String;") ∈ lw_all := lw_g (lw_at lw_m1 121 rfl) rfl
theorem q164 : (Jvm.Cond.lays "LookAtClock$Broken" "java/lang/Throwable" "backtrace" "Ljava/lang/Object;") ∈ lw_all := lw_g (lw_at lw_m1 123 rfl) rfl
theorem q205 : (Jvm.Cond.instanceMethod ({ cls := "LookAtClock$Broken", name := "<init>", desc := "(II)V" } : Jvm.MethodName)) ∈ lw_all := lw_g (lw_at lw_m1 164 rfl) rfl
theorem q206 : (Jvm.Cond.code ({ cls := "LookAtClock$Broken", name := "<init>", desc := "(II)V" } : Jvm.MethodName) prog_3_method_1_code (3 : Nat) (Option.none : Option Jvm.ClassFile.FieldType)) ∈ lw_all := lw_g (lw_at lw_m1 165 rfl) rfl
theorem q207 : (Jvm.Cond.methodLink "LookAtClock$Broken" (1 : Nat) ({ cls := "java/lang/RuntimeException", name := "<init>", desc := "()V" } : Jvm.MethodName)) ∈ lw_all := lw_g (lw_at lw_m1 166 rfl) rfl
theorem q214 : (Jvm.Cond.fieldLink "LookAtClock$Broken" (7 : Nat) "LookAtClock$Broken" "kind" "I") ∈ lw_all := lw_g (lw_at lw_m1 173 rfl) rfl
theorem q216 : (Jvm.Cond.fieldLink "LookAtClock$Broken" (13 : Nat) "LookAtClock$Broken" "place" "I") ∈ lw_all := lw_g (lw_at lw_m1 175 rfl) rfl
theorem q223 : (Jvm.Cond.laysFinal "LookAtClock$Broken" "LookAtClock$Broken" "kind" "I") ∈ lw_all := lw_g (lw_at lw_m1 182 rfl) rfl
theorem q224 : (Jvm.Cond.soleField "LookAtClock$Broken" "kind") ∈ lw_all := lw_g (lw_at lw_m1 183 rfl) rfl
theorem q225 : (Jvm.Cond.laysFinal "LookAtClock$Broken" "LookAtClock$Broken" "place" "I") ∈ lw_all := lw_g (lw_at lw_m1 184 rfl) rfl
theorem q226 : (Jvm.Cond.soleField "LookAtClock$Broken" "place") ∈ lw_all := lw_g (lw_at lw_m1 185 rfl) rfl
theorem q231 : (Jvm.Cond.lays "LookAtClock$Broken" "java/lang/Throwable" "depth" "I") ∈ lw_all := lw_g (lw_at lw_m1 190 rfl) rfl
theorem q234 : (Jvm.Cond.superclass "LookAtClock$Broken" "java/lang/RuntimeException") ∈ lw_all := lw_g (lw_at lw_m1 193 rfl) rfl
theorem in_X7 : ∀ w ∈ wsX70, w ∈ lw_all := lw_in wsX70 [156, 158, 160, 162, 164, 231, 223, 225] (by decide +kernel) (by decide +kernel)
/-! LookAtClock$Looker -/
set_option maxRecDepth 100000
def RX8 : String := "LookAtClock$Looker"
def TX8 : u_T := fun k => match k with
  | 0 => ("LookAtClock$Looker", "number", "I", true)
  | 1 => ("LookAtClock$Looker", "figure", "I", true)
  | 2 => ("LookAtClock$Looker", "drift", "I", true)
  | _ => ("LookAtClock$Looker", "wake", "I", true)
def tyX8 : Nat → FieldType := fun k => match k with
  | 0 => .int
  | 1 => .int
  | 2 => .int
  | _ => .int
abbrev wsX80 : List Cond := u_ws RX8 TX8 4
theorem nmX8 : ∀ a, a < 4 → ∀ b, b < 4 → a ≠ b → (TX8 a).2.1 ≠ (TX8 b).2.1 := by decide +kernel
theorem tyX8_ok : ∀ k, k < 4 → parseFieldDescriptor (TX8 k).2.2.1 = some (tyX8 k) := by decide +kernel
abbrev cX8_init : ByteArray := prog_7_method_1_code
def yX8_init : MethodName := ⟨RX8, "<init>", "(IIII)V"⟩
def dkwX8_init_1 : List UInt8 := [181, 0, 19, 177]
abbrev dktX8_init_1 : List UInt8 := dkwX8_init_1 ++ []
def dkwX8_init_0 : List UInt8 := [42, 183, 0, 1, 42, 27, 181, 0, 7, 42, 28, 181, 0, 13, 42, 29, 181, 0, 16, 42, 21, 4]
abbrev dktX8_init_0 : List UInt8 := dkwX8_init_0 ++ dktX8_init_1
theorem dksX8_init_0 : cX8_init.data.toList.drop 0 = dktX8_init_0 := by decide +kernel
theorem dksX8_init_1 : cX8_init.data.toList.drop 22 = dktX8_init_1 := dk_seg dksX8_init_0 22 rfl rfl
theorem dX8_init_0 : decode cX8_init 0 = .ok (.aload_n 0, 1) := dk_42 (dk_at dksX8_init_0 0 rfl rfl)
theorem dX8_init_1 : decode cX8_init 1 = .ok (.invokespecial 1, 3) := dk_183 0 1 (dk_at dksX8_init_0 1 rfl rfl)
theorem dX8_init_4 : decode cX8_init 4 = .ok (.aload_n 0, 1) := dk_42 (dk_at dksX8_init_0 4 rfl rfl)
theorem dX8_init_5 : decode cX8_init 5 = .ok (.iload_n 1, 1) := dk_27 (dk_at dksX8_init_0 5 rfl rfl)
theorem dX8_init_6 : decode cX8_init 6 = .ok (.putfield 7, 3) := dk_181 0 7 (dk_at dksX8_init_0 6 rfl rfl)
theorem dX8_init_9 : decode cX8_init 9 = .ok (.aload_n 0, 1) := dk_42 (dk_at dksX8_init_0 9 rfl rfl)
theorem dX8_init_10 : decode cX8_init 10 = .ok (.iload_n 2, 1) := dk_28 (dk_at dksX8_init_0 10 rfl rfl)
theorem dX8_init_11 : decode cX8_init 11 = .ok (.putfield 13, 3) := dk_181 0 13 (dk_at dksX8_init_0 11 rfl rfl)
theorem dX8_init_14 : decode cX8_init 14 = .ok (.aload_n 0, 1) := dk_42 (dk_at dksX8_init_0 14 rfl rfl)
theorem dX8_init_15 : decode cX8_init 15 = .ok (.iload_n 3, 1) := dk_29 (dk_at dksX8_init_0 15 rfl rfl)
theorem dX8_init_16 : decode cX8_init 16 = .ok (.putfield 16, 3) := dk_181 0 16 (dk_at dksX8_init_0 16 rfl rfl)
theorem dX8_init_19 : decode cX8_init 19 = .ok (.aload_n 0, 1) := dk_42 (dk_at dksX8_init_0 19 rfl rfl)
theorem dX8_init_20 : decode cX8_init 20 = .ok (.iload 4, 2) := dk_21 4 (dk_at dksX8_init_0 20 rfl rfl)
theorem dX8_init_22 : decode cX8_init 22 = .ok (.putfield 19, 3) := dk_181 0 19 (dk_at dksX8_init_1 0 rfl rfl)
theorem dX8_init_25 : decode cX8_init 25 = .ok (.return_, 1) := dk_177 (dk_at dksX8_init_1 3 rfl rfl)
abbrev cX8_kind : ByteArray := prog_7_method_2_code
def yX8_kind : MethodName := ⟨RX8, "kind", "()I"⟩
theorem dX8_kind_0 : decode cX8_kind 0 = .ok (.iconst 0, 1) := by decide +kernel
theorem dX8_kind_1 : decode cX8_kind 1 = .ok (.ireturn, 1) := by decide +kernel
abbrev cX8_failure : ByteArray := prog_7_method_3_code
def yX8_failure : MethodName := ⟨RX8, "failure", "()LLookAtClock$Tossed;"⟩
def dkwX8_failure_0 : List UInt8 := [42, 180, 0, 13, 154, 0, 7, 1, 167, 0, 14, 187, 0, 22, 89, 42, 180, 0, 7, 183, 0, 24, 176]
abbrev dktX8_failure_0 : List UInt8 := dkwX8_failure_0 ++ []
theorem dksX8_failure_0 : cX8_failure.data.toList.drop 0 = dktX8_failure_0 := by decide +kernel
theorem dX8_failure_0 : decode cX8_failure 0 = .ok (.aload_n 0, 1) := dk_42 (dk_at dksX8_failure_0 0 rfl rfl)
theorem dX8_failure_1 : decode cX8_failure 1 = .ok (.getfield 13, 3) := dk_180 0 13 (dk_at dksX8_failure_0 1 rfl rfl)
theorem dX8_failure_4 : decode cX8_failure 4 = .ok (.ifCond .ne 7, 3) := dk_154 0 7 (dk_at dksX8_failure_0 4 rfl rfl)
theorem dX8_failure_7 : decode cX8_failure 7 = .ok (.aconst_null, 1) := dk_1 (dk_at dksX8_failure_0 7 rfl rfl)
theorem dX8_failure_8 : decode cX8_failure 8 = .ok (.goto 14, 3) := dk_167 0 14 (dk_at dksX8_failure_0 8 rfl rfl)
theorem dX8_failure_11 : decode cX8_failure 11 = .ok (.new 22, 3) := dk_187 0 22 (dk_at dksX8_failure_0 11 rfl rfl)
theorem dX8_failure_14 : decode cX8_failure 14 = .ok (.dup, 1) := dk_89 (dk_at dksX8_failure_0 14 rfl rfl)
theorem dX8_failure_15 : decode cX8_failure 15 = .ok (.aload_n 0, 1) := dk_42 (dk_at dksX8_failure_0 15 rfl rfl)
theorem dX8_failure_16 : decode cX8_failure 16 = .ok (.getfield 7, 3) := dk_180 0 7 (dk_at dksX8_failure_0 16 rfl rfl)
theorem dX8_failure_19 : decode cX8_failure 19 = .ok (.invokespecial 24, 3) := dk_183 0 24 (dk_at dksX8_failure_0 19 rfl rfl)
theorem dX8_failure_22 : decode cX8_failure 22 = .ok (.areturn, 1) := dk_176 (dk_at dksX8_failure_0 22 rfl rfl)
theorem q53 : (Jvm.Cond.initialized "LookAtClock$Looker") ∈ lw_all := lw_g (lw_at lw_m1 12 rfl) rfl
theorem q267 : (Jvm.Cond.instantiable "LookAtClock$Looker" (4 : Nat)) ∈ lw_all := lw_g (lw_at lw_m1 226 rfl) rfl
theorem q269 : (Jvm.Cond.instanceMethod ({ cls := "LookAtClock$Looker", name := "<init>", desc := "(IIII)V" } : Jvm.MethodName)) ∈ lw_all := lw_g (lw_at lw_m1 228 rfl) rfl
theorem q270 : (Jvm.Cond.code ({ cls := "LookAtClock$Looker", name := "<init>", desc := "(IIII)V" } : Jvm.MethodName) prog_7_method_1_code (5 : Nat) (Option.none : Option Jvm.ClassFile.FieldType)) ∈ lw_all := lw_g (lw_at lw_m1 229 rfl) rfl
theorem q271 : (Jvm.Cond.methodLink "LookAtClock$Looker" (1 : Nat) ({ cls := "java/lang/Object", name := "<init>", desc := "()V" } : Jvm.MethodName)) ∈ lw_all := lw_g (lw_at lw_m1 230 rfl) rfl
theorem q272 : (Jvm.Cond.fieldLink "LookAtClock$Looker" (7 : Nat) "LookAtClock$Looker" "number" "I") ∈ lw_all := lw_g (lw_at lw_m1 231 rfl) rfl
theorem q275 : (Jvm.Cond.fieldLink "LookAtClock$Looker" (13 : Nat) "LookAtClock$Looker" "figure" "I") ∈ lw_all := lw_g (lw_at lw_m1 234 rfl) rfl
theorem q285 : (Jvm.Cond.fieldLink "LookAtClock$Looker" (16 : Nat) "LookAtClock$Looker" "drift" "I") ∈ lw_all := lw_g (lw_at lw_m2 4 rfl) rfl
theorem q287 : (Jvm.Cond.fieldLink "LookAtClock$Looker" (19 : Nat) "LookAtClock$Looker" "wake" "I") ∈ lw_all := lw_g (lw_at lw_m2 6 rfl) rfl
theorem q292 : (Jvm.Cond.laysFinal "LookAtClock$Looker" "LookAtClock$Looker" "number" "I") ∈ lw_all := lw_g (lw_at lw_m2 11 rfl) rfl
theorem q293 : (Jvm.Cond.soleField "LookAtClock$Looker" "number") ∈ lw_all := lw_g (lw_at lw_m2 12 rfl) rfl
theorem q294 : (Jvm.Cond.laysFinal "LookAtClock$Looker" "LookAtClock$Looker" "figure" "I") ∈ lw_all := lw_g (lw_at lw_m2 13 rfl) rfl
theorem q295 : (Jvm.Cond.soleField "LookAtClock$Looker" "figure") ∈ lw_all := lw_g (lw_at lw_m2 14 rfl) rfl
theorem q296 : (Jvm.Cond.laysFinal "LookAtClock$Looker" "LookAtClock$Looker" "drift" "I") ∈ lw_all := lw_g (lw_at lw_m2 15 rfl) rfl
theorem q297 : (Jvm.Cond.soleField "LookAtClock$Looker" "drift") ∈ lw_all := lw_g (lw_at lw_m2 16 rfl) rfl
theorem q298 : (Jvm.Cond.laysFinal "LookAtClock$Looker" "LookAtClock$Looker" "wake" "I") ∈ lw_all := lw_g (lw_at lw_m2 17 rfl) rfl
theorem q299 : (Jvm.Cond.soleField "LookAtClock$Looker" "wake") ∈ lw_all := lw_g (lw_at lw_m2 18 rfl) rfl
theorem q300 : (Jvm.Cond.superclass "LookAtClock$Looker" "java/lang/Object") ∈ lw_all := lw_g (lw_at lw_m2 19 rfl) rfl
theorem q483 : (Jvm.Cond.instanceMethod ({ cls := "LookAtClock$Looker", name := "kind", desc := "()I" } : Jvm.MethodName)) ∈ lw_all := lw_g (lw_at lw_m2 202 rfl) rfl
theorem q484 : (Jvm.Cond.selects "LookAtClock$Looker" ({ cls := "LookAtClock$Looker", name := "kind", desc := "()I" } : Jvm.MethodName) ({ cls := "LookAtClock$Looker", name := "kind", desc := "()I" } : Jvm.MethodName)) ∈ lw_all := lw_g (lw_at lw_m2 203 rfl) rfl
theorem q485 : (Jvm.Cond.sameMethod "LookAtClock$Looker" "LookAtClock$Looker" "kind" "()I") ∈ lw_all := lw_g (lw_at lw_m2 204 rfl) rfl
theorem q507 : (Jvm.Cond.code ({ cls := "LookAtClock$Looker", name := "kind", desc := "()I" } : Jvm.MethodName) prog_7_method_2_code (1 : Nat) (Option.some Jvm.ClassFile.FieldType.int)) ∈ lw_all := lw_g (lw_at lw_m2 226 rfl) rfl
theorem q511 : (Jvm.Cond.unhidden "LookAtClock$Looker" "early" "()I") ∈ lw_tbl := lw_at lw_m2 230 rfl
theorem q595 : (Jvm.Cond.unhidden "LookAtClock$Looker" "looksNow" "(LLookAtClock$Day;)Z") ∈ lw_tbl := lw_at lw_m3 74 rfl
theorem q618 : (Jvm.Cond.unhidden "LookAtClock$Looker" "pays" "(I)I") ∈ lw_tbl := lw_at lw_m3 97 rfl
theorem q977 : (Jvm.Cond.unhidden "LookAtClock$Looker" "skill" "()I") ∈ lw_tbl := lw_at lw_m4 216 rfl
theorem q1000 : (Jvm.Cond.instanceMethod ({ cls := "LookAtClock$Looker", name := "failure", desc := "()LLookAtClock$Tossed;" } : Jvm.MethodName)) ∈ lw_all := lw_g (lw_at lw_m4 239 rfl) rfl
theorem q1001 : (Jvm.Cond.selects "LookAtClock$Looker" ({ cls := "LookAtClock$Looker", name := "failure", desc := "()LLookAtClock$Tossed;" } : Jvm.MethodName) ({ cls := "LookAtClock$Looker", name := "failure", desc := "()LLookAtClock$Tossed;" } : Jvm.MethodName)) ∈ lw_all := lw_g (lw_at lw_m5 0 rfl) rfl
theorem q1002 : (Jvm.Cond.sameMethod "LookAtClock$Looker" "LookAtClock$Looker" "failure" "()LLookAtClock$Tossed;") ∈ lw_all := lw_g (lw_at lw_m5 1 rfl) rfl
theorem q1008 : (Jvm.Cond.declares ({ cls := "LookAtClock$Looker", name := "failure", desc := "()LLookAtClock$Tossed;" } : Jvm.MethodName)) ∈ lw_tbl := lw_at lw_m5 7 rfl
theorem q1009 : (Jvm.Cond.code ({ cls := "LookAtClock$Looker", name := "failure", desc := "()LLookAtClock$Tossed;" } : Jvm.MethodName) prog_7_method_3_code (1 : Nat) (Option.some (Jvm.ClassFile.FieldType.object "LookAtClock$Tossed"))) ∈ lw_all := lw_g (lw_at lw_m5 8 rfl) rfl
theorem q1010 : (Jvm.Cond.classLink "LookAtClock$Looker" (22 : Nat) "LookAtClock$Tossed") ∈ lw_all := lw_g (lw_at lw_m5 9 rfl) rfl
theorem q1019 : (Jvm.Cond.methodLink "LookAtClock$Looker" (24 : Nat) ({ cls := "LookAtClock$Tossed", name := "<init>", desc := "(I)V" } : Jvm.MethodName)) ∈ lw_all := lw_g (lw_at lw_m5 18 rfl) rfl
theorem in_X8 : ∀ w ∈ wsX80, w ∈ lw_all := lw_in wsX80 [292, 294, 296, 298] (by decide +kernel) (by decide +kernel)
/-! LookAtClock$Never -/
set_option maxRecDepth 100000
def RX9 : String := "LookAtClock$Never"
def TX9 : u_T := fun k => match k with
  | 0 => ("LookAtClock$Looker", "number", "I", true)
  | 1 => ("LookAtClock$Looker", "figure", "I", true)
  | 2 => ("LookAtClock$Looker", "drift", "I", true)
  | _ => ("LookAtClock$Looker", "wake", "I", true)
def tyX9 : Nat → FieldType := fun k => match k with
  | 0 => .int
  | 1 => .int
  | 2 => .int
  | _ => .int
abbrev wsX90 : List Cond := u_ws RX9 TX9 4
theorem nmX9 : ∀ a, a < 4 → ∀ b, b < 4 → a ≠ b → (TX9 a).2.1 ≠ (TX9 b).2.1 := by decide +kernel
theorem tyX9_ok : ∀ k, k < 4 → parseFieldDescriptor (TX9 k).2.2.1 = some (tyX9 k) := by decide +kernel
abbrev cX9_init : ByteArray := prog_9_method_1_code
def yX9_init : MethodName := ⟨RX9, "<init>", "(IIII)V"⟩
def dkwX9_init_0 : List UInt8 := [42, 27, 28, 29, 21, 4, 183, 0, 1, 177]
abbrev dktX9_init_0 : List UInt8 := dkwX9_init_0 ++ []
theorem dksX9_init_0 : cX9_init.data.toList.drop 0 = dktX9_init_0 := by decide +kernel
theorem dX9_init_0 : decode cX9_init 0 = .ok (.aload_n 0, 1) := dk_42 (dk_at dksX9_init_0 0 rfl rfl)
theorem dX9_init_1 : decode cX9_init 1 = .ok (.iload_n 1, 1) := dk_27 (dk_at dksX9_init_0 1 rfl rfl)
theorem dX9_init_2 : decode cX9_init 2 = .ok (.iload_n 2, 1) := dk_28 (dk_at dksX9_init_0 2 rfl rfl)
theorem dX9_init_3 : decode cX9_init 3 = .ok (.iload_n 3, 1) := dk_29 (dk_at dksX9_init_0 3 rfl rfl)
theorem dX9_init_4 : decode cX9_init 4 = .ok (.iload 4, 2) := dk_21 4 (dk_at dksX9_init_0 4 rfl rfl)
theorem dX9_init_6 : decode cX9_init 6 = .ok (.invokespecial 1, 3) := dk_183 0 1 (dk_at dksX9_init_0 6 rfl rfl)
theorem dX9_init_9 : decode cX9_init 9 = .ok (.return_, 1) := dk_177 (dk_at dksX9_init_0 9 rfl rfl)
abbrev cX9_kind : ByteArray := prog_9_method_2_code
def yX9_kind : MethodName := ⟨RX9, "kind", "()I"⟩
theorem dX9_kind_0 : decode cX9_kind 0 = .ok (.iconst 1, 1) := by decide +kernel
theorem dX9_kind_1 : decode cX9_kind 1 = .ok (.ireturn, 1) := by decide +kernel
abbrev cX9_early : ByteArray := prog_9_method_3_code
def yX9_early : MethodName := ⟨RX9, "early", "()I"⟩
def dkwX9_early_0 : List UInt8 := [42, 183, 0, 7, 5, 42, 180, 0, 11, 104, 96, 172]
abbrev dktX9_early_0 : List UInt8 := dkwX9_early_0 ++ []
theorem dksX9_early_0 : cX9_early.data.toList.drop 0 = dktX9_early_0 := by decide +kernel
theorem dX9_early_0 : decode cX9_early 0 = .ok (.aload_n 0, 1) := dk_42 (dk_at dksX9_early_0 0 rfl rfl)
theorem dX9_early_1 : decode cX9_early 1 = .ok (.invokespecial 7, 3) := dk_183 0 7 (dk_at dksX9_early_0 1 rfl rfl)
theorem dX9_early_4 : decode cX9_early 4 = .ok (.iconst 2, 1) := dk_5 (dk_at dksX9_early_0 4 rfl rfl)
theorem dX9_early_5 : decode cX9_early 5 = .ok (.aload_n 0, 1) := dk_42 (dk_at dksX9_early_0 5 rfl rfl)
theorem dX9_early_6 : decode cX9_early 6 = .ok (.getfield 11, 3) := dk_180 0 11 (dk_at dksX9_early_0 6 rfl rfl)
theorem dX9_early_9 : decode cX9_early 9 = .ok (.imul, 1) := dk_104 (dk_at dksX9_early_0 9 rfl rfl)
theorem dX9_early_10 : decode cX9_early 10 = .ok (.iadd, 1) := dk_96 (dk_at dksX9_early_0 10 rfl rfl)
theorem dX9_early_11 : decode cX9_early 11 = .ok (.ireturn, 1) := dk_172 (dk_at dksX9_early_0 11 rfl rfl)
abbrev cX9_skill : ByteArray := prog_9_method_4_code
def yX9_skill : MethodName := ⟨RX9, "skill", "()I"⟩
def dkwX9_skill_0 : List UInt8 := [42, 183, 0, 17, 42, 180, 0, 11, 96, 172]
abbrev dktX9_skill_0 : List UInt8 := dkwX9_skill_0 ++ []
theorem dksX9_skill_0 : cX9_skill.data.toList.drop 0 = dktX9_skill_0 := by decide +kernel
theorem dX9_skill_0 : decode cX9_skill 0 = .ok (.aload_n 0, 1) := dk_42 (dk_at dksX9_skill_0 0 rfl rfl)
theorem dX9_skill_1 : decode cX9_skill 1 = .ok (.invokespecial 17, 3) := dk_183 0 17 (dk_at dksX9_skill_0 1 rfl rfl)
theorem dX9_skill_4 : decode cX9_skill 4 = .ok (.aload_n 0, 1) := dk_42 (dk_at dksX9_skill_0 4 rfl rfl)
theorem dX9_skill_5 : decode cX9_skill 5 = .ok (.getfield 11, 3) := dk_180 0 11 (dk_at dksX9_skill_0 5 rfl rfl)
theorem dX9_skill_8 : decode cX9_skill 8 = .ok (.iadd, 1) := dk_96 (dk_at dksX9_skill_0 8 rfl rfl)
theorem dX9_skill_9 : decode cX9_skill 9 = .ok (.ireturn, 1) := dk_172 (dk_at dksX9_skill_0 9 rfl rfl)
theorem q54 : (Jvm.Cond.initialized "LookAtClock$Never") ∈ lw_all := lw_g (lw_at lw_m1 13 rfl) rfl
theorem q278 : (Jvm.Cond.fieldLink "LookAtClock$Never" (11 : Nat) "LookAtClock$Never" "figure" "I") ∈ lw_all := lw_g (lw_at lw_m1 237 rfl) rfl
theorem q279 : (Jvm.Cond.sameField "LookAtClock$Never" "LookAtClock$Looker" "figure" "I") ∈ lw_all := lw_g (lw_at lw_m1 238 rfl) rfl
theorem q302 : (Jvm.Cond.instantiable "LookAtClock$Never" (4 : Nat)) ∈ lw_all := lw_g (lw_at lw_m2 21 rfl) rfl
theorem q304 : (Jvm.Cond.instanceMethod ({ cls := "LookAtClock$Never", name := "<init>", desc := "(IIII)V" } : Jvm.MethodName)) ∈ lw_all := lw_g (lw_at lw_m2 23 rfl) rfl
theorem q305 : (Jvm.Cond.code ({ cls := "LookAtClock$Never", name := "<init>", desc := "(IIII)V" } : Jvm.MethodName) prog_9_method_1_code (5 : Nat) (Option.none : Option Jvm.ClassFile.FieldType)) ∈ lw_all := lw_g (lw_at lw_m2 24 rfl) rfl
theorem q306 : (Jvm.Cond.methodLink "LookAtClock$Never" (1 : Nat) ({ cls := "LookAtClock$Looker", name := "<init>", desc := "(IIII)V" } : Jvm.MethodName)) ∈ lw_all := lw_g (lw_at lw_m2 25 rfl) rfl
theorem q307 : (Jvm.Cond.laysFinal "LookAtClock$Never" "LookAtClock$Looker" "number" "I") ∈ lw_all := lw_g (lw_at lw_m2 26 rfl) rfl
theorem q308 : (Jvm.Cond.laysFinal "LookAtClock$Never" "LookAtClock$Looker" "figure" "I") ∈ lw_all := lw_g (lw_at lw_m2 27 rfl) rfl
theorem q309 : (Jvm.Cond.laysFinal "LookAtClock$Never" "LookAtClock$Looker" "drift" "I") ∈ lw_all := lw_g (lw_at lw_m2 28 rfl) rfl
theorem q310 : (Jvm.Cond.laysFinal "LookAtClock$Never" "LookAtClock$Looker" "wake" "I") ∈ lw_all := lw_g (lw_at lw_m2 29 rfl) rfl
theorem q311 : (Jvm.Cond.superclass "LookAtClock$Never" "LookAtClock$Looker") ∈ lw_all := lw_g (lw_at lw_m2 30 rfl) rfl
theorem q492 : (Jvm.Cond.selects "LookAtClock$Never" ({ cls := "LookAtClock$Looker", name := "kind", desc := "()I" } : Jvm.MethodName) ({ cls := "LookAtClock$Never", name := "kind", desc := "()I" } : Jvm.MethodName)) ∈ lw_all := lw_g (lw_at lw_m2 211 rfl) rfl
theorem q493 : (Jvm.Cond.instanceMethod ({ cls := "LookAtClock$Never", name := "kind", desc := "()I" } : Jvm.MethodName)) ∈ lw_all := lw_g (lw_at lw_m2 212 rfl) rfl
theorem q494 : (Jvm.Cond.code ({ cls := "LookAtClock$Never", name := "kind", desc := "()I" } : Jvm.MethodName) prog_9_method_2_code (1 : Nat) (Option.some Jvm.ClassFile.FieldType.int)) ∈ lw_all := lw_g (lw_at lw_m2 213 rfl) rfl
theorem q512 : (Jvm.Cond.selects "LookAtClock$Never" ({ cls := "LookAtClock$Looks", name := "early", desc := "()I" } : Jvm.MethodName) ({ cls := "LookAtClock$Never", name := "early", desc := "()I" } : Jvm.MethodName)) ∈ lw_all := lw_g (lw_at lw_m2 231 rfl) rfl
theorem q513 : (Jvm.Cond.instanceMethod ({ cls := "LookAtClock$Never", name := "early", desc := "()I" } : Jvm.MethodName)) ∈ lw_all := lw_g (lw_at lw_m2 232 rfl) rfl
theorem q514 : (Jvm.Cond.code ({ cls := "LookAtClock$Never", name := "early", desc := "()I" } : Jvm.MethodName) prog_9_method_3_code (1 : Nat) (Option.some Jvm.ClassFile.FieldType.int)) ∈ lw_all := lw_g (lw_at lw_m2 233 rfl) rfl
theorem q596 : (Jvm.Cond.unhidden "LookAtClock$Never" "looksNow" "(LLookAtClock$Day;)Z") ∈ lw_tbl := lw_at lw_m3 75 rfl
theorem q619 : (Jvm.Cond.unhidden "LookAtClock$Never" "pays" "(I)I") ∈ lw_tbl := lw_at lw_m3 98 rfl
theorem q978 : (Jvm.Cond.selects "LookAtClock$Never" ({ cls := "LookAtClock$Skilled", name := "skill", desc := "()I" } : Jvm.MethodName) ({ cls := "LookAtClock$Never", name := "skill", desc := "()I" } : Jvm.MethodName)) ∈ lw_all := lw_g (lw_at lw_m4 217 rfl) rfl
theorem q979 : (Jvm.Cond.instanceMethod ({ cls := "LookAtClock$Never", name := "skill", desc := "()I" } : Jvm.MethodName)) ∈ lw_all := lw_g (lw_at lw_m4 218 rfl) rfl
theorem q980 : (Jvm.Cond.code ({ cls := "LookAtClock$Never", name := "skill", desc := "()I" } : Jvm.MethodName) prog_9_method_4_code (1 : Nat) (Option.some Jvm.ClassFile.FieldType.int)) ∈ lw_all := lw_g (lw_at lw_m4 219 rfl) rfl
theorem q1033 : (Jvm.Cond.selects "LookAtClock$Never" ({ cls := "LookAtClock$Looker", name := "failure", desc := "()LLookAtClock$Tossed;" } : Jvm.MethodName) ({ cls := "LookAtClock$Looker", name := "failure", desc := "()LLookAtClock$Tossed;" } : Jvm.MethodName)) ∈ lw_all := lw_g (lw_at lw_m5 32 rfl) rfl
theorem q1486 : (Jvm.Cond.castable "LookAtClock$Never" "LookAtClock$Looker") ∈ lw_tbl := lw_at lw_m7 5 rfl
theorem in_X9 : ∀ w ∈ wsX90, w ∈ lw_all := lw_in wsX90 [307, 308, 309, 310] (by decide +kernel) (by decide +kernel)
/-! LookAtClock$Watcher -/
set_option maxRecDepth 100000
def RX10 : String := "LookAtClock$Watcher"
def TX10 : u_T := fun k => match k with
  | 0 => ("LookAtClock$Looker", "number", "I", true)
  | 1 => ("LookAtClock$Looker", "figure", "I", true)
  | 2 => ("LookAtClock$Looker", "drift", "I", true)
  | _ => ("LookAtClock$Looker", "wake", "I", true)
def tyX10 : Nat → FieldType := fun k => match k with
  | 0 => .int
  | 1 => .int
  | 2 => .int
  | _ => .int
abbrev wsX100 : List Cond := u_ws RX10 TX10 4
theorem nmX10 : ∀ a, a < 4 → ∀ b, b < 4 → a ≠ b → (TX10 a).2.1 ≠ (TX10 b).2.1 := by decide +kernel
theorem tyX10_ok : ∀ k, k < 4 → parseFieldDescriptor (TX10 k).2.2.1 = some (tyX10 k) := by decide +kernel
abbrev cX10_init : ByteArray := prog_19_method_1_code
def yX10_init : MethodName := ⟨RX10, "<init>", "(IIII)V"⟩
def dkwX10_init_0 : List UInt8 := [42, 27, 28, 29, 21, 4, 183, 0, 1, 177]
abbrev dktX10_init_0 : List UInt8 := dkwX10_init_0 ++ []
theorem dksX10_init_0 : cX10_init.data.toList.drop 0 = dktX10_init_0 := by decide +kernel
theorem dX10_init_0 : decode cX10_init 0 = .ok (.aload_n 0, 1) := dk_42 (dk_at dksX10_init_0 0 rfl rfl)
theorem dX10_init_1 : decode cX10_init 1 = .ok (.iload_n 1, 1) := dk_27 (dk_at dksX10_init_0 1 rfl rfl)
theorem dX10_init_2 : decode cX10_init 2 = .ok (.iload_n 2, 1) := dk_28 (dk_at dksX10_init_0 2 rfl rfl)
theorem dX10_init_3 : decode cX10_init 3 = .ok (.iload_n 3, 1) := dk_29 (dk_at dksX10_init_0 3 rfl rfl)
theorem dX10_init_4 : decode cX10_init 4 = .ok (.iload 4, 2) := dk_21 4 (dk_at dksX10_init_0 4 rfl rfl)
theorem dX10_init_6 : decode cX10_init 6 = .ok (.invokespecial 1, 3) := dk_183 0 1 (dk_at dksX10_init_0 6 rfl rfl)
theorem dX10_init_9 : decode cX10_init 9 = .ok (.return_, 1) := dk_177 (dk_at dksX10_init_0 9 rfl rfl)
abbrev cX10_kind : ByteArray := prog_19_method_2_code
def yX10_kind : MethodName := ⟨RX10, "kind", "()I"⟩
theorem dX10_kind_0 : decode cX10_kind 0 = .ok (.iconst 2, 1) := by decide +kernel
theorem dX10_kind_1 : decode cX10_kind 1 = .ok (.ireturn, 1) := by decide +kernel
abbrev cX10_looksNow : ByteArray := prog_19_method_4_code
def yX10_looksNow : MethodName := ⟨RX10, "looksNow", "(LLookAtClock$Day;)Z"⟩
def dkwX10_looksNow_1 : List UInt8 := [167, 0, 4, 3, 172]
abbrev dktX10_looksNow_1 : List UInt8 := dkwX10_looksNow_1 ++ []
def dkwX10_looksNow_0 : List UInt8 := [43, 180, 0, 13, 154, 0, 21, 43, 8, 42, 43, 182, 0, 19, 104, 182, 0, 23, 153, 0, 7, 4]
abbrev dktX10_looksNow_0 : List UInt8 := dkwX10_looksNow_0 ++ dktX10_looksNow_1
theorem dksX10_looksNow_0 : cX10_looksNow.data.toList.drop 0 = dktX10_looksNow_0 := by decide +kernel
theorem dksX10_looksNow_1 : cX10_looksNow.data.toList.drop 22 = dktX10_looksNow_1 := dk_seg dksX10_looksNow_0 22 rfl rfl
theorem dX10_looksNow_0 : decode cX10_looksNow 0 = .ok (.aload_n 1, 1) := dk_43 (dk_at dksX10_looksNow_0 0 rfl rfl)
theorem dX10_looksNow_1 : decode cX10_looksNow 1 = .ok (.getfield 13, 3) := dk_180 0 13 (dk_at dksX10_looksNow_0 1 rfl rfl)
theorem dX10_looksNow_4 : decode cX10_looksNow 4 = .ok (.ifCond .ne 21, 3) := dk_154 0 21 (dk_at dksX10_looksNow_0 4 rfl rfl)
theorem dX10_looksNow_7 : decode cX10_looksNow 7 = .ok (.aload_n 1, 1) := dk_43 (dk_at dksX10_looksNow_0 7 rfl rfl)
theorem dX10_looksNow_8 : decode cX10_looksNow 8 = .ok (.iconst 5, 1) := dk_8 (dk_at dksX10_looksNow_0 8 rfl rfl)
theorem dX10_looksNow_9 : decode cX10_looksNow 9 = .ok (.aload_n 0, 1) := dk_42 (dk_at dksX10_looksNow_0 9 rfl rfl)
theorem dX10_looksNow_10 : decode cX10_looksNow 10 = .ok (.aload_n 1, 1) := dk_43 (dk_at dksX10_looksNow_0 10 rfl rfl)
theorem dX10_looksNow_11 : decode cX10_looksNow 11 = .ok (.invokevirtual 19, 3) := dk_182 0 19 (dk_at dksX10_looksNow_0 11 rfl rfl)
theorem dX10_looksNow_14 : decode cX10_looksNow 14 = .ok (.imul, 1) := dk_104 (dk_at dksX10_looksNow_0 14 rfl rfl)
theorem dX10_looksNow_15 : decode cX10_looksNow 15 = .ok (.invokevirtual 23, 3) := dk_182 0 23 (dk_at dksX10_looksNow_0 15 rfl rfl)
theorem dX10_looksNow_18 : decode cX10_looksNow 18 = .ok (.ifCond .eq 7, 3) := dk_153 0 7 (dk_at dksX10_looksNow_0 18 rfl rfl)
theorem dX10_looksNow_21 : decode cX10_looksNow 21 = .ok (.iconst 1, 1) := dk_4 (dk_at dksX10_looksNow_0 21 rfl rfl)
theorem dX10_looksNow_22 : decode cX10_looksNow 22 = .ok (.goto 4, 3) := dk_167 0 4 (dk_at dksX10_looksNow_1 0 rfl rfl)
theorem dX10_looksNow_25 : decode cX10_looksNow 25 = .ok (.iconst 0, 1) := dk_3 (dk_at dksX10_looksNow_1 3 rfl rfl)
theorem dX10_looksNow_26 : decode cX10_looksNow 26 = .ok (.ireturn, 1) := dk_172 (dk_at dksX10_looksNow_1 4 rfl rfl)
abbrev cX10_looksBy : ByteArray := prog_19_method_3_code
def yX10_looksBy : MethodName := ⟨RX10, "looksBy", "(LLookAtClock$Day;)I"⟩
theorem dX10_looksBy_0 : decode cX10_looksBy 0 = .ok (.aload_n 0, 1) := by decide +kernel
theorem dX10_looksBy_1 : decode cX10_looksBy 1 = .ok (.getfield 7, 3) := by decide +kernel
theorem dX10_looksBy_4 : decode cX10_looksBy 4 = .ok (.ireturn, 1) := by decide +kernel
abbrev cX10_skill : ByteArray := prog_19_method_5_code
def yX10_skill : MethodName := ⟨RX10, "skill", "()I"⟩
def dkwX10_skill_0 : List UInt8 := [42, 183, 0, 27, 7, 96, 172]
abbrev dktX10_skill_0 : List UInt8 := dkwX10_skill_0 ++ []
theorem dksX10_skill_0 : cX10_skill.data.toList.drop 0 = dktX10_skill_0 := by decide +kernel
theorem dX10_skill_0 : decode cX10_skill 0 = .ok (.aload_n 0, 1) := dk_42 (dk_at dksX10_skill_0 0 rfl rfl)
theorem dX10_skill_1 : decode cX10_skill 1 = .ok (.invokespecial 27, 3) := dk_183 0 27 (dk_at dksX10_skill_0 1 rfl rfl)
theorem dX10_skill_4 : decode cX10_skill 4 = .ok (.iconst 4, 1) := dk_7 (dk_at dksX10_skill_0 4 rfl rfl)
theorem dX10_skill_5 : decode cX10_skill 5 = .ok (.iadd, 1) := dk_96 (dk_at dksX10_skill_0 5 rfl rfl)
theorem dX10_skill_6 : decode cX10_skill 6 = .ok (.ireturn, 1) := dk_172 (dk_at dksX10_skill_0 6 rfl rfl)
theorem q55 : (Jvm.Cond.initialized "LookAtClock$Watcher") ∈ lw_all := lw_g (lw_at lw_m1 14 rfl) rfl
theorem q276 : (Jvm.Cond.fieldLink "LookAtClock$Watcher" (7 : Nat) "LookAtClock$Watcher" "figure" "I") ∈ lw_all := lw_g (lw_at lw_m1 235 rfl) rfl
theorem q277 : (Jvm.Cond.sameField "LookAtClock$Watcher" "LookAtClock$Looker" "figure" "I") ∈ lw_all := lw_g (lw_at lw_m1 236 rfl) rfl
theorem q313 : (Jvm.Cond.instantiable "LookAtClock$Watcher" (4 : Nat)) ∈ lw_all := lw_g (lw_at lw_m2 32 rfl) rfl
theorem q315 : (Jvm.Cond.instanceMethod ({ cls := "LookAtClock$Watcher", name := "<init>", desc := "(IIII)V" } : Jvm.MethodName)) ∈ lw_all := lw_g (lw_at lw_m2 34 rfl) rfl
theorem q316 : (Jvm.Cond.code ({ cls := "LookAtClock$Watcher", name := "<init>", desc := "(IIII)V" } : Jvm.MethodName) prog_19_method_1_code (5 : Nat) (Option.none : Option Jvm.ClassFile.FieldType)) ∈ lw_all := lw_g (lw_at lw_m2 35 rfl) rfl
theorem q317 : (Jvm.Cond.methodLink "LookAtClock$Watcher" (1 : Nat) ({ cls := "LookAtClock$Looker", name := "<init>", desc := "(IIII)V" } : Jvm.MethodName)) ∈ lw_all := lw_g (lw_at lw_m2 36 rfl) rfl
theorem q318 : (Jvm.Cond.laysFinal "LookAtClock$Watcher" "LookAtClock$Looker" "number" "I") ∈ lw_all := lw_g (lw_at lw_m2 37 rfl) rfl
theorem q319 : (Jvm.Cond.laysFinal "LookAtClock$Watcher" "LookAtClock$Looker" "figure" "I") ∈ lw_all := lw_g (lw_at lw_m2 38 rfl) rfl
theorem q320 : (Jvm.Cond.laysFinal "LookAtClock$Watcher" "LookAtClock$Looker" "drift" "I") ∈ lw_all := lw_g (lw_at lw_m2 39 rfl) rfl
theorem q321 : (Jvm.Cond.laysFinal "LookAtClock$Watcher" "LookAtClock$Looker" "wake" "I") ∈ lw_all := lw_g (lw_at lw_m2 40 rfl) rfl
theorem q322 : (Jvm.Cond.superclass "LookAtClock$Watcher" "LookAtClock$Looker") ∈ lw_all := lw_g (lw_at lw_m2 41 rfl) rfl
theorem q359 : (Jvm.Cond.fieldLink "LookAtClock$Watcher" (13 : Nat) "LookAtClock$Day" "hasLooked" "Z") ∈ lw_all := lw_g (lw_at lw_m2 78 rfl) rfl
theorem q504 : (Jvm.Cond.selects "LookAtClock$Watcher" ({ cls := "LookAtClock$Looker", name := "kind", desc := "()I" } : Jvm.MethodName) ({ cls := "LookAtClock$Watcher", name := "kind", desc := "()I" } : Jvm.MethodName)) ∈ lw_all := lw_g (lw_at lw_m2 223 rfl) rfl
theorem q505 : (Jvm.Cond.instanceMethod ({ cls := "LookAtClock$Watcher", name := "kind", desc := "()I" } : Jvm.MethodName)) ∈ lw_all := lw_g (lw_at lw_m2 224 rfl) rfl
theorem q506 : (Jvm.Cond.code ({ cls := "LookAtClock$Watcher", name := "kind", desc := "()I" } : Jvm.MethodName) prog_19_method_2_code (1 : Nat) (Option.some Jvm.ClassFile.FieldType.int)) ∈ lw_all := lw_g (lw_at lw_m2 225 rfl) rfl
theorem q522 : (Jvm.Cond.unhidden "LookAtClock$Watcher" "early" "()I") ∈ lw_tbl := lw_at lw_m3 1 rfl
theorem q554 : (Jvm.Cond.instanceMethod ({ cls := "LookAtClock$Watcher", name := "looksNow", desc := "(LLookAtClock$Day;)Z" } : Jvm.MethodName)) ∈ lw_all := lw_g (lw_at lw_m3 33 rfl) rfl
theorem q555 : (Jvm.Cond.code ({ cls := "LookAtClock$Watcher", name := "looksNow", desc := "(LLookAtClock$Day;)Z" } : Jvm.MethodName) prog_19_method_4_code (2 : Nat) (Option.some Jvm.ClassFile.FieldType.boolean)) ∈ lw_all := lw_g (lw_at lw_m3 34 rfl) rfl
theorem q556 : (Jvm.Cond.methodLink "LookAtClock$Watcher" (19 : Nat) ({ cls := "LookAtClock$Watcher", name := "looksBy", desc := "(LLookAtClock$Day;)I" } : Jvm.MethodName)) ∈ lw_all := lw_g (lw_at lw_m3 35 rfl) rfl
theorem q557 : (Jvm.Cond.instanceMethod ({ cls := "LookAtClock$Watcher", name := "looksBy", desc := "(LLookAtClock$Day;)I" } : Jvm.MethodName)) ∈ lw_all := lw_g (lw_at lw_m3 36 rfl) rfl
theorem q558 : (Jvm.Cond.selects "LookAtClock$Watcher" ({ cls := "LookAtClock$Watcher", name := "looksBy", desc := "(LLookAtClock$Day;)I" } : Jvm.MethodName) ({ cls := "LookAtClock$Watcher", name := "looksBy", desc := "(LLookAtClock$Day;)I" } : Jvm.MethodName)) ∈ lw_all := lw_g (lw_at lw_m3 37 rfl) rfl
theorem q559 : (Jvm.Cond.sameMethod "LookAtClock$Watcher" "LookAtClock$Watcher" "looksBy" "(LLookAtClock$Day;)I") ∈ lw_all := lw_g (lw_at lw_m3 38 rfl) rfl
theorem q576 : (Jvm.Cond.code ({ cls := "LookAtClock$Watcher", name := "looksBy", desc := "(LLookAtClock$Day;)I" } : Jvm.MethodName) prog_19_method_3_code (2 : Nat) (Option.some Jvm.ClassFile.FieldType.int)) ∈ lw_all := lw_g (lw_at lw_m3 55 rfl) rfl
theorem q577 : (Jvm.Cond.methodLink "LookAtClock$Watcher" (23 : Nat) ({ cls := "LookAtClock$Day", name := "isDue", desc := "(I)Z" } : Jvm.MethodName)) ∈ lw_all := lw_g (lw_at lw_m3 56 rfl) rfl
theorem q606 : (Jvm.Cond.selects "LookAtClock$Watcher" ({ cls := "LookAtClock$Looks", name := "looksNow", desc := "(LLookAtClock$Day;)Z" } : Jvm.MethodName) ({ cls := "LookAtClock$Watcher", name := "looksNow", desc := "(LLookAtClock$Day;)Z" } : Jvm.MethodName)) ∈ lw_all := lw_g (lw_at lw_m3 85 rfl) rfl
theorem q632 : (Jvm.Cond.unhidden "LookAtClock$Watcher" "pays" "(I)I") ∈ lw_tbl := lw_at lw_m3 111 rfl
theorem q969 : (Jvm.Cond.instanceMethod ({ cls := "LookAtClock$Watcher", name := "skill", desc := "()I" } : Jvm.MethodName)) ∈ lw_all := lw_g (lw_at lw_m4 208 rfl) rfl
theorem q970 : (Jvm.Cond.code ({ cls := "LookAtClock$Watcher", name := "skill", desc := "()I" } : Jvm.MethodName) prog_19_method_5_code (1 : Nat) (Option.some Jvm.ClassFile.FieldType.int)) ∈ lw_all := lw_g (lw_at lw_m4 209 rfl) rfl
theorem q992 : (Jvm.Cond.selects "LookAtClock$Watcher" ({ cls := "LookAtClock$Skilled", name := "skill", desc := "()I" } : Jvm.MethodName) ({ cls := "LookAtClock$Watcher", name := "skill", desc := "()I" } : Jvm.MethodName)) ∈ lw_all := lw_g (lw_at lw_m4 231 rfl) rfl
theorem q1007 : (Jvm.Cond.sameMethod "LookAtClock$Watcher" "LookAtClock$Looker" "failure" "()LLookAtClock$Tossed;") ∈ lw_all := lw_g (lw_at lw_m5 6 rfl) rfl
theorem q1046 : (Jvm.Cond.selects "LookAtClock$Watcher" ({ cls := "LookAtClock$Looker", name := "failure", desc := "()LLookAtClock$Tossed;" } : Jvm.MethodName) ({ cls := "LookAtClock$Looker", name := "failure", desc := "()LLookAtClock$Tossed;" } : Jvm.MethodName)) ∈ lw_all := lw_g (lw_at lw_m5 45 rfl) rfl
theorem q1476 : (Jvm.Cond.sameMethod "LookAtClock$Watcher" "LookAtClock$Watcher" "looksNow" "(LLookAtClock$Day;)Z") ∈ lw_all := lw_g (lw_at lw_m6 235 rfl) rfl
theorem q1477 : (Jvm.Cond.sameMethod "LookAtClock$Watcher" "LookAtClock$Watcher" "skill" "()I") ∈ lw_all := lw_g (lw_at lw_m6 236 rfl) rfl
theorem q1490 : (Jvm.Cond.castable "LookAtClock$Watcher" "LookAtClock$Looker") ∈ lw_tbl := lw_at lw_m7 9 rfl
theorem in_X10 : ∀ w ∈ wsX100, w ∈ lw_all := lw_in wsX100 [318, 319, 320, 321] (by decide +kernel) (by decide +kernel)
/-! LookAtClock$Cheap -/
set_option maxRecDepth 100000
def RX11 : String := "LookAtClock$Cheap"
def TX11 : u_T := fun k => match k with
  | 0 => ("LookAtClock$Looker", "number", "I", true)
  | 1 => ("LookAtClock$Looker", "figure", "I", true)
  | 2 => ("LookAtClock$Looker", "drift", "I", true)
  | _ => ("LookAtClock$Looker", "wake", "I", true)
def tyX11 : Nat → FieldType := fun k => match k with
  | 0 => .int
  | 1 => .int
  | 2 => .int
  | _ => .int
abbrev wsX110 : List Cond := u_ws RX11 TX11 4
theorem nmX11 : ∀ a, a < 4 → ∀ b, b < 4 → a ≠ b → (TX11 a).2.1 ≠ (TX11 b).2.1 := by decide +kernel
theorem tyX11_ok : ∀ k, k < 4 → parseFieldDescriptor (TX11 k).2.2.1 = some (tyX11 k) := by decide +kernel
abbrev cX11_init : ByteArray := prog_4_method_1_code
def yX11_init : MethodName := ⟨RX11, "<init>", "(IIII)V"⟩
def dkwX11_init_0 : List UInt8 := [42, 27, 28, 29, 21, 4, 183, 0, 1, 177]
abbrev dktX11_init_0 : List UInt8 := dkwX11_init_0 ++ []
theorem dksX11_init_0 : cX11_init.data.toList.drop 0 = dktX11_init_0 := by decide +kernel
theorem dX11_init_0 : decode cX11_init 0 = .ok (.aload_n 0, 1) := dk_42 (dk_at dksX11_init_0 0 rfl rfl)
theorem dX11_init_1 : decode cX11_init 1 = .ok (.iload_n 1, 1) := dk_27 (dk_at dksX11_init_0 1 rfl rfl)
theorem dX11_init_2 : decode cX11_init 2 = .ok (.iload_n 2, 1) := dk_28 (dk_at dksX11_init_0 2 rfl rfl)
theorem dX11_init_3 : decode cX11_init 3 = .ok (.iload_n 3, 1) := dk_29 (dk_at dksX11_init_0 3 rfl rfl)
theorem dX11_init_4 : decode cX11_init 4 = .ok (.iload 4, 2) := dk_21 4 (dk_at dksX11_init_0 4 rfl rfl)
theorem dX11_init_6 : decode cX11_init 6 = .ok (.invokespecial 1, 3) := dk_183 0 1 (dk_at dksX11_init_0 6 rfl rfl)
theorem dX11_init_9 : decode cX11_init 9 = .ok (.return_, 1) := dk_177 (dk_at dksX11_init_0 9 rfl rfl)
abbrev cX11_kind : ByteArray := prog_4_method_2_code
def yX11_kind : MethodName := ⟨RX11, "kind", "()I"⟩
theorem dX11_kind_0 : decode cX11_kind 0 = .ok (.iconst 3, 1) := by decide +kernel
theorem dX11_kind_1 : decode cX11_kind 1 = .ok (.ireturn, 1) := by decide +kernel
abbrev cX11_looksNow : ByteArray := prog_4_method_3_code
def yX11_looksNow : MethodName := ⟨RX11, "looksNow", "(LLookAtClock$Day;)Z"⟩
def dkwX11_looksNow_1 : List UInt8 := [172]
abbrev dktX11_looksNow_1 : List UInt8 := dkwX11_looksNow_1 ++ []
def dkwX11_looksNow_0 : List UInt8 := [42, 43, 183, 0, 7, 153, 0, 18, 43, 182, 0, 11, 42, 180, 0, 17, 163, 0, 7, 4, 167, 0, 4, 3]
abbrev dktX11_looksNow_0 : List UInt8 := dkwX11_looksNow_0 ++ dktX11_looksNow_1
theorem dksX11_looksNow_0 : cX11_looksNow.data.toList.drop 0 = dktX11_looksNow_0 := by decide +kernel
theorem dksX11_looksNow_1 : cX11_looksNow.data.toList.drop 24 = dktX11_looksNow_1 := dk_seg dksX11_looksNow_0 24 rfl rfl
theorem dX11_looksNow_0 : decode cX11_looksNow 0 = .ok (.aload_n 0, 1) := dk_42 (dk_at dksX11_looksNow_0 0 rfl rfl)
theorem dX11_looksNow_1 : decode cX11_looksNow 1 = .ok (.aload_n 1, 1) := dk_43 (dk_at dksX11_looksNow_0 1 rfl rfl)
theorem dX11_looksNow_2 : decode cX11_looksNow 2 = .ok (.invokespecial 7, 3) := dk_183 0 7 (dk_at dksX11_looksNow_0 2 rfl rfl)
theorem dX11_looksNow_5 : decode cX11_looksNow 5 = .ok (.ifCond .eq 18, 3) := dk_153 0 18 (dk_at dksX11_looksNow_0 5 rfl rfl)
theorem dX11_looksNow_8 : decode cX11_looksNow 8 = .ok (.aload_n 1, 1) := dk_43 (dk_at dksX11_looksNow_0 8 rfl rfl)
theorem dX11_looksNow_9 : decode cX11_looksNow 9 = .ok (.invokevirtual 11, 3) := dk_182 0 11 (dk_at dksX11_looksNow_0 9 rfl rfl)
theorem dX11_looksNow_12 : decode cX11_looksNow 12 = .ok (.aload_n 0, 1) := dk_42 (dk_at dksX11_looksNow_0 12 rfl rfl)
theorem dX11_looksNow_13 : decode cX11_looksNow 13 = .ok (.getfield 17, 3) := dk_180 0 17 (dk_at dksX11_looksNow_0 13 rfl rfl)
theorem dX11_looksNow_16 : decode cX11_looksNow 16 = .ok (.if_icmp .gt 7, 3) := dk_163 0 7 (dk_at dksX11_looksNow_0 16 rfl rfl)
theorem dX11_looksNow_19 : decode cX11_looksNow 19 = .ok (.iconst 1, 1) := dk_4 (dk_at dksX11_looksNow_0 19 rfl rfl)
theorem dX11_looksNow_20 : decode cX11_looksNow 20 = .ok (.goto 4, 3) := dk_167 0 4 (dk_at dksX11_looksNow_0 20 rfl rfl)
theorem dX11_looksNow_23 : decode cX11_looksNow 23 = .ok (.iconst 0, 1) := dk_3 (dk_at dksX11_looksNow_0 23 rfl rfl)
theorem dX11_looksNow_24 : decode cX11_looksNow 24 = .ok (.ireturn, 1) := dk_172 (dk_at dksX11_looksNow_1 0 rfl rfl)
abbrev cX11_skill : ByteArray := prog_4_method_4_code
def yX11_skill : MethodName := ⟨RX11, "skill", "()I"⟩
def dkwX11_skill_0 : List UInt8 := [42, 183, 0, 23, 42, 180, 0, 17, 104, 172]
abbrev dktX11_skill_0 : List UInt8 := dkwX11_skill_0 ++ []
theorem dksX11_skill_0 : cX11_skill.data.toList.drop 0 = dktX11_skill_0 := by decide +kernel
theorem dX11_skill_0 : decode cX11_skill 0 = .ok (.aload_n 0, 1) := dk_42 (dk_at dksX11_skill_0 0 rfl rfl)
theorem dX11_skill_1 : decode cX11_skill 1 = .ok (.invokespecial 23, 3) := dk_183 0 23 (dk_at dksX11_skill_0 1 rfl rfl)
theorem dX11_skill_4 : decode cX11_skill 4 = .ok (.aload_n 0, 1) := dk_42 (dk_at dksX11_skill_0 4 rfl rfl)
theorem dX11_skill_5 : decode cX11_skill 5 = .ok (.getfield 17, 3) := dk_180 0 17 (dk_at dksX11_skill_0 5 rfl rfl)
theorem dX11_skill_8 : decode cX11_skill 8 = .ok (.imul, 1) := dk_104 (dk_at dksX11_skill_0 8 rfl rfl)
theorem dX11_skill_9 : decode cX11_skill 9 = .ok (.ireturn, 1) := dk_172 (dk_at dksX11_skill_0 9 rfl rfl)
theorem q56 : (Jvm.Cond.initialized "LookAtClock$Cheap") ∈ lw_all := lw_g (lw_at lw_m1 15 rfl) rfl
theorem q280 : (Jvm.Cond.fieldLink "LookAtClock$Cheap" (17 : Nat) "LookAtClock$Cheap" "figure" "I") ∈ lw_all := lw_g (lw_at lw_m1 239 rfl) rfl
theorem q281 : (Jvm.Cond.sameField "LookAtClock$Cheap" "LookAtClock$Looker" "figure" "I") ∈ lw_all := lw_g (lw_at lw_m2 0 rfl) rfl
theorem q324 : (Jvm.Cond.instantiable "LookAtClock$Cheap" (4 : Nat)) ∈ lw_all := lw_g (lw_at lw_m2 43 rfl) rfl
theorem q326 : (Jvm.Cond.instanceMethod ({ cls := "LookAtClock$Cheap", name := "<init>", desc := "(IIII)V" } : Jvm.MethodName)) ∈ lw_all := lw_g (lw_at lw_m2 45 rfl) rfl
theorem q327 : (Jvm.Cond.code ({ cls := "LookAtClock$Cheap", name := "<init>", desc := "(IIII)V" } : Jvm.MethodName) prog_4_method_1_code (5 : Nat) (Option.none : Option Jvm.ClassFile.FieldType)) ∈ lw_all := lw_g (lw_at lw_m2 46 rfl) rfl
theorem q328 : (Jvm.Cond.methodLink "LookAtClock$Cheap" (1 : Nat) ({ cls := "LookAtClock$Watcher", name := "<init>", desc := "(IIII)V" } : Jvm.MethodName)) ∈ lw_all := lw_g (lw_at lw_m2 47 rfl) rfl
theorem q329 : (Jvm.Cond.laysFinal "LookAtClock$Cheap" "LookAtClock$Looker" "number" "I") ∈ lw_all := lw_g (lw_at lw_m2 48 rfl) rfl
theorem q330 : (Jvm.Cond.laysFinal "LookAtClock$Cheap" "LookAtClock$Looker" "figure" "I") ∈ lw_all := lw_g (lw_at lw_m2 49 rfl) rfl
theorem q331 : (Jvm.Cond.laysFinal "LookAtClock$Cheap" "LookAtClock$Looker" "drift" "I") ∈ lw_all := lw_g (lw_at lw_m2 50 rfl) rfl
theorem q332 : (Jvm.Cond.laysFinal "LookAtClock$Cheap" "LookAtClock$Looker" "wake" "I") ∈ lw_all := lw_g (lw_at lw_m2 51 rfl) rfl
theorem q333 : (Jvm.Cond.superclass "LookAtClock$Cheap" "LookAtClock$Watcher") ∈ lw_all := lw_g (lw_at lw_m2 52 rfl) rfl
theorem q489 : (Jvm.Cond.selects "LookAtClock$Cheap" ({ cls := "LookAtClock$Looker", name := "kind", desc := "()I" } : Jvm.MethodName) ({ cls := "LookAtClock$Cheap", name := "kind", desc := "()I" } : Jvm.MethodName)) ∈ lw_all := lw_g (lw_at lw_m2 208 rfl) rfl
theorem q490 : (Jvm.Cond.instanceMethod ({ cls := "LookAtClock$Cheap", name := "kind", desc := "()I" } : Jvm.MethodName)) ∈ lw_all := lw_g (lw_at lw_m2 209 rfl) rfl
theorem q491 : (Jvm.Cond.code ({ cls := "LookAtClock$Cheap", name := "kind", desc := "()I" } : Jvm.MethodName) prog_4_method_2_code (1 : Nat) (Option.some Jvm.ClassFile.FieldType.int)) ∈ lw_all := lw_g (lw_at lw_m2 210 rfl) rfl
theorem q510 : (Jvm.Cond.unhidden "LookAtClock$Cheap" "early" "()I") ∈ lw_tbl := lw_at lw_m2 229 rfl
theorem q573 : (Jvm.Cond.selects "LookAtClock$Cheap" ({ cls := "LookAtClock$Watcher", name := "looksBy", desc := "(LLookAtClock$Day;)I" } : Jvm.MethodName) ({ cls := "LookAtClock$Watcher", name := "looksBy", desc := "(LLookAtClock$Day;)I" } : Jvm.MethodName)) ∈ lw_all := lw_g (lw_at lw_m3 52 rfl) rfl
theorem q586 : (Jvm.Cond.selects "LookAtClock$Cheap" ({ cls := "LookAtClock$Looks", name := "looksNow", desc := "(LLookAtClock$Day;)Z" } : Jvm.MethodName) ({ cls := "LookAtClock$Cheap", name := "looksNow", desc := "(LLookAtClock$Day;)Z" } : Jvm.MethodName)) ∈ lw_all := lw_g (lw_at lw_m3 65 rfl) rfl
theorem q587 : (Jvm.Cond.instanceMethod ({ cls := "LookAtClock$Cheap", name := "looksNow", desc := "(LLookAtClock$Day;)Z" } : Jvm.MethodName)) ∈ lw_all := lw_g (lw_at lw_m3 66 rfl) rfl
theorem q588 : (Jvm.Cond.code ({ cls := "LookAtClock$Cheap", name := "looksNow", desc := "(LLookAtClock$Day;)Z" } : Jvm.MethodName) prog_4_method_3_code (2 : Nat) (Option.some Jvm.ClassFile.FieldType.boolean)) ∈ lw_all := lw_g (lw_at lw_m3 67 rfl) rfl
theorem q589 : (Jvm.Cond.methodLink "LookAtClock$Cheap" (7 : Nat) ({ cls := "LookAtClock$Watcher", name := "looksNow", desc := "(LLookAtClock$Day;)Z" } : Jvm.MethodName)) ∈ lw_all := lw_g (lw_at lw_m3 68 rfl) rfl
theorem q590 : (Jvm.Cond.methodLink "LookAtClock$Cheap" (11 : Nat) ({ cls := "LookAtClock$Day", name := "price", desc := "()I" } : Jvm.MethodName)) ∈ lw_all := lw_g (lw_at lw_m3 69 rfl) rfl
theorem q617 : (Jvm.Cond.unhidden "LookAtClock$Cheap" "pays" "(I)I") ∈ lw_tbl := lw_at lw_m3 96 rfl
theorem q973 : (Jvm.Cond.selects "LookAtClock$Cheap" ({ cls := "LookAtClock$Skilled", name := "skill", desc := "()I" } : Jvm.MethodName) ({ cls := "LookAtClock$Cheap", name := "skill", desc := "()I" } : Jvm.MethodName)) ∈ lw_all := lw_g (lw_at lw_m4 212 rfl) rfl
theorem q974 : (Jvm.Cond.instanceMethod ({ cls := "LookAtClock$Cheap", name := "skill", desc := "()I" } : Jvm.MethodName)) ∈ lw_all := lw_g (lw_at lw_m4 213 rfl) rfl
theorem q975 : (Jvm.Cond.code ({ cls := "LookAtClock$Cheap", name := "skill", desc := "()I" } : Jvm.MethodName) prog_4_method_4_code (1 : Nat) (Option.some Jvm.ClassFile.FieldType.int)) ∈ lw_all := lw_g (lw_at lw_m4 214 rfl) rfl
theorem q976 : (Jvm.Cond.methodLink "LookAtClock$Cheap" (23 : Nat) ({ cls := "LookAtClock$Watcher", name := "skill", desc := "()I" } : Jvm.MethodName)) ∈ lw_all := lw_g (lw_at lw_m4 215 rfl) rfl
theorem q1032 : (Jvm.Cond.selects "LookAtClock$Cheap" ({ cls := "LookAtClock$Looker", name := "failure", desc := "()LLookAtClock$Tossed;" } : Jvm.MethodName) ({ cls := "LookAtClock$Looker", name := "failure", desc := "()LLookAtClock$Tossed;" } : Jvm.MethodName)) ∈ lw_all := lw_g (lw_at lw_m5 31 rfl) rfl
theorem q1038 : (Jvm.Cond.sameMethod "LookAtClock$Cheap" "LookAtClock$Looker" "failure" "()LLookAtClock$Tossed;") ∈ lw_all := lw_g (lw_at lw_m5 37 rfl) rfl
theorem q1478 : (Jvm.Cond.sameMethod "LookAtClock$Cheap" "LookAtClock$Cheap" "skill" "()I") ∈ lw_all := lw_g (lw_at lw_m6 237 rfl) rfl
theorem q1485 : (Jvm.Cond.castable "LookAtClock$Cheap" "LookAtClock$Looker") ∈ lw_tbl := lw_at lw_m7 4 rfl
theorem in_X11 : ∀ w ∈ wsX110, w ∈ lw_all := lw_in wsX110 [329, 330, 331, 332] (by decide +kernel) (by decide +kernel)
/-! LookAtClock$Best -/
set_option maxRecDepth 100000
def RX12 : String := "LookAtClock$Best"
def TX12 : u_T := fun k => match k with
  | 0 => ("LookAtClock$Looker", "number", "I", true)
  | 1 => ("LookAtClock$Looker", "figure", "I", true)
  | 2 => ("LookAtClock$Looker", "drift", "I", true)
  | 3 => ("LookAtClock$Looker", "wake", "I", true)
  | 4 => ("LookAtClock$Best", "mind", "LLookAtClock$Day;", true)
  | _ => ("LookAtClock$Best", "found", "I", false)
def tyX12 : Nat → FieldType := fun k => match k with
  | 0 => .int
  | 1 => .int
  | 2 => .int
  | 3 => .int
  | 4 => .object "LookAtClock$Day"
  | _ => .int
abbrev wsX120 : List Cond := u_ws RX12 TX12 6
theorem nmX12 : ∀ a, a < 6 → ∀ b, b < 6 → a ≠ b → (TX12 a).2.1 ≠ (TX12 b).2.1 := by decide +kernel
theorem tyX12_ok : ∀ k, k < 6 → parseFieldDescriptor (TX12 k).2.2.1 = some (tyX12 k) := by decide +kernel
abbrev cX12_init : ByteArray := prog_2_method_1_code
def yX12_init : MethodName := ⟨RX12, "<init>", "(IIII)V"⟩
def dkwX12_init_0 : List UInt8 := [42, 27, 28, 29, 21, 4, 183, 0, 3, 42, 187, 0, 9, 89, 183, 0, 11, 181, 0, 14, 177]
abbrev dktX12_init_0 : List UInt8 := dkwX12_init_0 ++ []
theorem dksX12_init_0 : cX12_init.data.toList.drop 0 = dktX12_init_0 := by decide +kernel
theorem dX12_init_0 : decode cX12_init 0 = .ok (.aload_n 0, 1) := dk_42 (dk_at dksX12_init_0 0 rfl rfl)
theorem dX12_init_1 : decode cX12_init 1 = .ok (.iload_n 1, 1) := dk_27 (dk_at dksX12_init_0 1 rfl rfl)
theorem dX12_init_2 : decode cX12_init 2 = .ok (.iload_n 2, 1) := dk_28 (dk_at dksX12_init_0 2 rfl rfl)
theorem dX12_init_3 : decode cX12_init 3 = .ok (.iload_n 3, 1) := dk_29 (dk_at dksX12_init_0 3 rfl rfl)
theorem dX12_init_4 : decode cX12_init 4 = .ok (.iload 4, 2) := dk_21 4 (dk_at dksX12_init_0 4 rfl rfl)
theorem dX12_init_6 : decode cX12_init 6 = .ok (.invokespecial 3, 3) := dk_183 0 3 (dk_at dksX12_init_0 6 rfl rfl)
theorem dX12_init_9 : decode cX12_init 9 = .ok (.aload_n 0, 1) := dk_42 (dk_at dksX12_init_0 9 rfl rfl)
theorem dX12_init_10 : decode cX12_init 10 = .ok (.new 9, 3) := dk_187 0 9 (dk_at dksX12_init_0 10 rfl rfl)
theorem dX12_init_13 : decode cX12_init 13 = .ok (.dup, 1) := dk_89 (dk_at dksX12_init_0 13 rfl rfl)
theorem dX12_init_14 : decode cX12_init 14 = .ok (.invokespecial 11, 3) := dk_183 0 11 (dk_at dksX12_init_0 14 rfl rfl)
theorem dX12_init_17 : decode cX12_init 17 = .ok (.putfield 14, 3) := dk_181 0 14 (dk_at dksX12_init_0 17 rfl rfl)
theorem dX12_init_20 : decode cX12_init 20 = .ok (.return_, 1) := dk_177 (dk_at dksX12_init_0 20 rfl rfl)
abbrev cX12_kind : ByteArray := prog_2_method_2_code
def yX12_kind : MethodName := ⟨RX12, "kind", "()I"⟩
theorem dX12_kind_0 : decode cX12_kind 0 = .ok (.iconst 4, 1) := by decide +kernel
theorem dX12_kind_1 : decode cX12_kind 1 = .ok (.ireturn, 1) := by decide +kernel
abbrev cX12_looksBy : ByteArray := prog_2_method_4_code
def yX12_looksBy : MethodName := ⟨RX12, "looksBy", "(LLookAtClock$Day;)I"⟩
def dkwX12_looksBy_1 : List UInt8 := [43, 180, 0, 45, 43, 180, 0, 48, 182, 0, 51, 181, 0, 55, 42, 180, 0, 55, 172]
abbrev dktX12_looksBy_1 : List UInt8 := dkwX12_looksBy_1 ++ []
def dkwX12_looksBy_0 : List UInt8 := [43, 180, 0, 35, 42, 180, 0, 24, 160, 0, 30, 43, 180, 0, 38, 154, 0, 23, 42, 42, 43, 180, 0, 41]
abbrev dktX12_looksBy_0 : List UInt8 := dkwX12_looksBy_0 ++ dktX12_looksBy_1
theorem dksX12_looksBy_0 : cX12_looksBy.data.toList.drop 0 = dktX12_looksBy_0 := by decide +kernel
theorem dksX12_looksBy_1 : cX12_looksBy.data.toList.drop 24 = dktX12_looksBy_1 := dk_seg dksX12_looksBy_0 24 rfl rfl
theorem dX12_looksBy_0 : decode cX12_looksBy 0 = .ok (.aload_n 1, 1) := dk_43 (dk_at dksX12_looksBy_0 0 rfl rfl)
theorem dX12_looksBy_1 : decode cX12_looksBy 1 = .ok (.getfield 35, 3) := dk_180 0 35 (dk_at dksX12_looksBy_0 1 rfl rfl)
theorem dX12_looksBy_4 : decode cX12_looksBy 4 = .ok (.aload_n 0, 1) := dk_42 (dk_at dksX12_looksBy_0 4 rfl rfl)
theorem dX12_looksBy_5 : decode cX12_looksBy 5 = .ok (.getfield 24, 3) := dk_180 0 24 (dk_at dksX12_looksBy_0 5 rfl rfl)
theorem dX12_looksBy_8 : decode cX12_looksBy 8 = .ok (.if_icmp .ne 30, 3) := dk_160 0 30 (dk_at dksX12_looksBy_0 8 rfl rfl)
theorem dX12_looksBy_11 : decode cX12_looksBy 11 = .ok (.aload_n 1, 1) := dk_43 (dk_at dksX12_looksBy_0 11 rfl rfl)
theorem dX12_looksBy_12 : decode cX12_looksBy 12 = .ok (.getfield 38, 3) := dk_180 0 38 (dk_at dksX12_looksBy_0 12 rfl rfl)
theorem dX12_looksBy_15 : decode cX12_looksBy 15 = .ok (.ifCond .ne 23, 3) := dk_154 0 23 (dk_at dksX12_looksBy_0 15 rfl rfl)
theorem dX12_looksBy_18 : decode cX12_looksBy 18 = .ok (.aload_n 0, 1) := dk_42 (dk_at dksX12_looksBy_0 18 rfl rfl)
theorem dX12_looksBy_19 : decode cX12_looksBy 19 = .ok (.aload_n 0, 1) := dk_42 (dk_at dksX12_looksBy_0 19 rfl rfl)
theorem dX12_looksBy_20 : decode cX12_looksBy 20 = .ok (.aload_n 1, 1) := dk_43 (dk_at dksX12_looksBy_0 20 rfl rfl)
theorem dX12_looksBy_21 : decode cX12_looksBy 21 = .ok (.getfield 41, 3) := dk_180 0 41 (dk_at dksX12_looksBy_0 21 rfl rfl)
theorem dX12_looksBy_24 : decode cX12_looksBy 24 = .ok (.aload_n 1, 1) := dk_43 (dk_at dksX12_looksBy_1 0 rfl rfl)
theorem dX12_looksBy_25 : decode cX12_looksBy 25 = .ok (.getfield 45, 3) := dk_180 0 45 (dk_at dksX12_looksBy_1 1 rfl rfl)
theorem dX12_looksBy_28 : decode cX12_looksBy 28 = .ok (.aload_n 1, 1) := dk_43 (dk_at dksX12_looksBy_1 4 rfl rfl)
theorem dX12_looksBy_29 : decode cX12_looksBy 29 = .ok (.getfield 48, 3) := dk_180 0 48 (dk_at dksX12_looksBy_1 5 rfl rfl)
theorem dX12_looksBy_32 : decode cX12_looksBy 32 = .ok (.invokevirtual 51, 3) := dk_182 0 51 (dk_at dksX12_looksBy_1 8 rfl rfl)
theorem dX12_looksBy_35 : decode cX12_looksBy 35 = .ok (.putfield 55, 3) := dk_181 0 55 (dk_at dksX12_looksBy_1 11 rfl rfl)
theorem dX12_looksBy_38 : decode cX12_looksBy 38 = .ok (.aload_n 0, 1) := dk_42 (dk_at dksX12_looksBy_1 14 rfl rfl)
theorem dX12_looksBy_39 : decode cX12_looksBy 39 = .ok (.getfield 55, 3) := dk_180 0 55 (dk_at dksX12_looksBy_1 15 rfl rfl)
theorem dX12_looksBy_42 : decode cX12_looksBy 42 = .ok (.ireturn, 1) := dk_172 (dk_at dksX12_looksBy_1 18 rfl rfl)
abbrev cX12_finds : ByteArray := prog_2_method_3_code
def yX12_finds : MethodName := ⟨RX12, "finds", "(LLookAtClock$Town;II)I"⟩
def dkwX12_finds_3 : List UInt8 := [54, 5, 132, 6, 1, 167, 255, 190, 21, 4, 172]
abbrev dktX12_finds_3 : List UInt8 := dkwX12_finds_3 ++ []
def dkwX12_finds_2 : List UInt8 := [54, 7, 21, 6, 158, 0, 13, 21, 7, 21, 5, 161, 0, 6, 167, 0, 11, 21, 6, 54, 4, 21, 7]
abbrev dktX12_finds_2 : List UInt8 := dkwX12_finds_2 ++ dktX12_finds_3
def dkwX12_finds_1 : List UInt8 := [89, 42, 180, 0, 20, 21, 6, 28, 42, 180, 0, 24, 183, 0, 3, 28, 29, 182, 0, 27, 182, 0, 31]
abbrev dktX12_finds_1 : List UInt8 := dkwX12_finds_1 ++ dktX12_finds_2
def dkwX12_finds_0 : List UInt8 := [3, 54, 4, 3, 54, 5, 3, 54, 6, 21, 6, 16, 9, 163, 0, 65, 42, 180, 0, 14, 43, 187, 0, 4]
abbrev dktX12_finds_0 : List UInt8 := dkwX12_finds_0 ++ dktX12_finds_1
theorem dksX12_finds_0 : cX12_finds.data.toList.drop 0 = dktX12_finds_0 := by decide +kernel
theorem dksX12_finds_1 : cX12_finds.data.toList.drop 24 = dktX12_finds_1 := dk_seg dksX12_finds_0 24 rfl rfl
theorem dksX12_finds_2 : cX12_finds.data.toList.drop 47 = dktX12_finds_2 := dk_seg dksX12_finds_1 23 rfl rfl
theorem dksX12_finds_3 : cX12_finds.data.toList.drop 70 = dktX12_finds_3 := dk_seg dksX12_finds_2 23 rfl rfl
theorem dX12_finds_0 : decode cX12_finds 0 = .ok (.iconst 0, 1) := dk_3 (dk_at dksX12_finds_0 0 rfl rfl)
theorem dX12_finds_1 : decode cX12_finds 1 = .ok (.istore 4, 2) := dk_54 4 (dk_at dksX12_finds_0 1 rfl rfl)
theorem dX12_finds_3 : decode cX12_finds 3 = .ok (.iconst 0, 1) := dk_3 (dk_at dksX12_finds_0 3 rfl rfl)
theorem dX12_finds_4 : decode cX12_finds 4 = .ok (.istore 5, 2) := dk_54 5 (dk_at dksX12_finds_0 4 rfl rfl)
theorem dX12_finds_6 : decode cX12_finds 6 = .ok (.iconst 0, 1) := dk_3 (dk_at dksX12_finds_0 6 rfl rfl)
theorem dX12_finds_7 : decode cX12_finds 7 = .ok (.istore 6, 2) := dk_54 6 (dk_at dksX12_finds_0 7 rfl rfl)
theorem dX12_finds_9 : decode cX12_finds 9 = .ok (.iload 6, 2) := dk_21 6 (dk_at dksX12_finds_0 9 rfl rfl)
theorem dX12_finds_11 : decode cX12_finds 11 = .ok (.bipush 9, 2) := dk_16 9 (dk_at dksX12_finds_0 11 rfl rfl)
theorem dX12_finds_13 : decode cX12_finds 13 = .ok (.if_icmp .gt 65, 3) := dk_163 0 65 (dk_at dksX12_finds_0 13 rfl rfl)
theorem dX12_finds_16 : decode cX12_finds 16 = .ok (.aload_n 0, 1) := dk_42 (dk_at dksX12_finds_0 16 rfl rfl)
theorem dX12_finds_17 : decode cX12_finds 17 = .ok (.getfield 14, 3) := dk_180 0 14 (dk_at dksX12_finds_0 17 rfl rfl)
theorem dX12_finds_20 : decode cX12_finds 20 = .ok (.aload_n 1, 1) := dk_43 (dk_at dksX12_finds_0 20 rfl rfl)
theorem dX12_finds_21 : decode cX12_finds 21 = .ok (.new 4, 3) := dk_187 0 4 (dk_at dksX12_finds_0 21 rfl rfl)
theorem dX12_finds_24 : decode cX12_finds 24 = .ok (.dup, 1) := dk_89 (dk_at dksX12_finds_1 0 rfl rfl)
theorem dX12_finds_25 : decode cX12_finds 25 = .ok (.aload_n 0, 1) := dk_42 (dk_at dksX12_finds_1 1 rfl rfl)
theorem dX12_finds_26 : decode cX12_finds 26 = .ok (.getfield 20, 3) := dk_180 0 20 (dk_at dksX12_finds_1 2 rfl rfl)
theorem dX12_finds_29 : decode cX12_finds 29 = .ok (.iload 6, 2) := dk_21 6 (dk_at dksX12_finds_1 5 rfl rfl)
theorem dX12_finds_31 : decode cX12_finds 31 = .ok (.iload_n 2, 1) := dk_28 (dk_at dksX12_finds_1 7 rfl rfl)
theorem dX12_finds_32 : decode cX12_finds 32 = .ok (.aload_n 0, 1) := dk_42 (dk_at dksX12_finds_1 8 rfl rfl)
theorem dX12_finds_33 : decode cX12_finds 33 = .ok (.getfield 24, 3) := dk_180 0 24 (dk_at dksX12_finds_1 9 rfl rfl)
theorem dX12_finds_36 : decode cX12_finds 36 = .ok (.invokespecial 3, 3) := dk_183 0 3 (dk_at dksX12_finds_1 12 rfl rfl)
theorem dX12_finds_39 : decode cX12_finds 39 = .ok (.iload_n 2, 1) := dk_28 (dk_at dksX12_finds_1 15 rfl rfl)
theorem dX12_finds_40 : decode cX12_finds 40 = .ok (.iload_n 3, 1) := dk_29 (dk_at dksX12_finds_1 16 rfl rfl)
theorem dX12_finds_41 : decode cX12_finds 41 = .ok (.invokevirtual 27, 3) := dk_182 0 27 (dk_at dksX12_finds_1 17 rfl rfl)
theorem dX12_finds_44 : decode cX12_finds 44 = .ok (.invokevirtual 31, 3) := dk_182 0 31 (dk_at dksX12_finds_1 20 rfl rfl)
theorem dX12_finds_47 : decode cX12_finds 47 = .ok (.istore 7, 2) := dk_54 7 (dk_at dksX12_finds_2 0 rfl rfl)
theorem dX12_finds_49 : decode cX12_finds 49 = .ok (.iload 6, 2) := dk_21 6 (dk_at dksX12_finds_2 2 rfl rfl)
theorem dX12_finds_51 : decode cX12_finds 51 = .ok (.ifCond .le 13, 3) := dk_158 0 13 (dk_at dksX12_finds_2 4 rfl rfl)
theorem dX12_finds_54 : decode cX12_finds 54 = .ok (.iload 7, 2) := dk_21 7 (dk_at dksX12_finds_2 7 rfl rfl)
theorem dX12_finds_56 : decode cX12_finds 56 = .ok (.iload 5, 2) := dk_21 5 (dk_at dksX12_finds_2 9 rfl rfl)
theorem dX12_finds_58 : decode cX12_finds 58 = .ok (.if_icmp .lt 6, 3) := dk_161 0 6 (dk_at dksX12_finds_2 11 rfl rfl)
theorem dX12_finds_61 : decode cX12_finds 61 = .ok (.goto 11, 3) := dk_167 0 11 (dk_at dksX12_finds_2 14 rfl rfl)
theorem dX12_finds_64 : decode cX12_finds 64 = .ok (.iload 6, 2) := dk_21 6 (dk_at dksX12_finds_2 17 rfl rfl)
theorem dX12_finds_66 : decode cX12_finds 66 = .ok (.istore 4, 2) := dk_54 4 (dk_at dksX12_finds_2 19 rfl rfl)
theorem dX12_finds_68 : decode cX12_finds 68 = .ok (.iload 7, 2) := dk_21 7 (dk_at dksX12_finds_2 21 rfl rfl)
theorem dX12_finds_70 : decode cX12_finds 70 = .ok (.istore 5, 2) := dk_54 5 (dk_at dksX12_finds_3 0 rfl rfl)
theorem dX12_finds_72 : decode cX12_finds 72 = .ok (.iinc 6 1, 3) := dk_132 6 1 (dk_at dksX12_finds_3 2 rfl rfl)
theorem dX12_finds_75 : decode cX12_finds 75 = .ok (.goto (-66), 3) := dk_167 255 190 (dk_at dksX12_finds_3 5 rfl rfl)
theorem dX12_finds_78 : decode cX12_finds 78 = .ok (.iload 4, 2) := dk_21 4 (dk_at dksX12_finds_3 8 rfl rfl)
theorem dX12_finds_80 : decode cX12_finds 80 = .ok (.ireturn, 1) := dk_172 (dk_at dksX12_finds_3 10 rfl rfl)
abbrev cX12_skill : ByteArray := prog_2_method_5_code
def yX12_skill : MethodName := ⟨RX12, "skill", "()I"⟩
def dkwX12_skill_0 : List UInt8 := [6, 42, 183, 0, 58, 104, 172]
abbrev dktX12_skill_0 : List UInt8 := dkwX12_skill_0 ++ []
theorem dksX12_skill_0 : cX12_skill.data.toList.drop 0 = dktX12_skill_0 := by decide +kernel
theorem dX12_skill_0 : decode cX12_skill 0 = .ok (.iconst 3, 1) := dk_6 (dk_at dksX12_skill_0 0 rfl rfl)
theorem dX12_skill_1 : decode cX12_skill 1 = .ok (.aload_n 0, 1) := dk_42 (dk_at dksX12_skill_0 1 rfl rfl)
theorem dX12_skill_2 : decode cX12_skill 2 = .ok (.invokespecial 58, 3) := dk_183 0 58 (dk_at dksX12_skill_0 2 rfl rfl)
theorem dX12_skill_5 : decode cX12_skill 5 = .ok (.imul, 1) := dk_104 (dk_at dksX12_skill_0 5 rfl rfl)
theorem dX12_skill_6 : decode cX12_skill 6 = .ok (.ireturn, 1) := dk_172 (dk_at dksX12_skill_0 6 rfl rfl)
abbrev cX12_failure : ByteArray := prog_2_method_6_code
def yX12_failure : MethodName := ⟨RX12, "failure", "()LLookAtClock$Tossed;"⟩
def dkwX12_failure_1 : List UInt8 := [183, 0, 70, 176]
abbrev dktX12_failure_1 : List UInt8 := dkwX12_failure_1 ++ []
def dkwX12_failure_0 : List UInt8 := [42, 183, 0, 61, 76, 43, 199, 0, 7, 1, 167, 0, 17, 187, 0, 65, 89, 43, 180, 0, 67, 16, 100, 96]
abbrev dktX12_failure_0 : List UInt8 := dkwX12_failure_0 ++ dktX12_failure_1
theorem dksX12_failure_0 : cX12_failure.data.toList.drop 0 = dktX12_failure_0 := by decide +kernel
theorem dksX12_failure_1 : cX12_failure.data.toList.drop 24 = dktX12_failure_1 := dk_seg dksX12_failure_0 24 rfl rfl
theorem dX12_failure_0 : decode cX12_failure 0 = .ok (.aload_n 0, 1) := dk_42 (dk_at dksX12_failure_0 0 rfl rfl)
theorem dX12_failure_1 : decode cX12_failure 1 = .ok (.invokespecial 61, 3) := dk_183 0 61 (dk_at dksX12_failure_0 1 rfl rfl)
theorem dX12_failure_4 : decode cX12_failure 4 = .ok (.astore_n 1, 1) := dk_76 (dk_at dksX12_failure_0 4 rfl rfl)
theorem dX12_failure_5 : decode cX12_failure 5 = .ok (.aload_n 1, 1) := dk_43 (dk_at dksX12_failure_0 5 rfl rfl)
theorem dX12_failure_6 : decode cX12_failure 6 = .ok (.ifnonnull 7, 3) := dk_199 0 7 (dk_at dksX12_failure_0 6 rfl rfl)
theorem dX12_failure_9 : decode cX12_failure 9 = .ok (.aconst_null, 1) := dk_1 (dk_at dksX12_failure_0 9 rfl rfl)
theorem dX12_failure_10 : decode cX12_failure 10 = .ok (.goto 17, 3) := dk_167 0 17 (dk_at dksX12_failure_0 10 rfl rfl)
theorem dX12_failure_13 : decode cX12_failure 13 = .ok (.new 65, 3) := dk_187 0 65 (dk_at dksX12_failure_0 13 rfl rfl)
theorem dX12_failure_16 : decode cX12_failure 16 = .ok (.dup, 1) := dk_89 (dk_at dksX12_failure_0 16 rfl rfl)
theorem dX12_failure_17 : decode cX12_failure 17 = .ok (.aload_n 1, 1) := dk_43 (dk_at dksX12_failure_0 17 rfl rfl)
theorem dX12_failure_18 : decode cX12_failure 18 = .ok (.getfield 67, 3) := dk_180 0 67 (dk_at dksX12_failure_0 18 rfl rfl)
theorem dX12_failure_21 : decode cX12_failure 21 = .ok (.bipush 100, 2) := dk_16 100 (dk_at dksX12_failure_0 21 rfl rfl)
theorem dX12_failure_23 : decode cX12_failure 23 = .ok (.iadd, 1) := dk_96 (dk_at dksX12_failure_0 23 rfl rfl)
theorem dX12_failure_24 : decode cX12_failure 24 = .ok (.invokespecial 70, 3) := dk_183 0 70 (dk_at dksX12_failure_1 0 rfl rfl)
theorem dX12_failure_27 : decode cX12_failure 27 = .ok (.areturn, 1) := dk_176 (dk_at dksX12_failure_1 3 rfl rfl)
theorem q57 : (Jvm.Cond.initialized "LookAtClock$Best") ∈ lw_all := lw_g (lw_at lw_m1 16 rfl) rfl
theorem q273 : (Jvm.Cond.fieldLink "LookAtClock$Best" (20 : Nat) "LookAtClock$Best" "number" "I") ∈ lw_all := lw_g (lw_at lw_m1 232 rfl) rfl
theorem q274 : (Jvm.Cond.sameField "LookAtClock$Best" "LookAtClock$Looker" "number" "I") ∈ lw_all := lw_g (lw_at lw_m1 233 rfl) rfl
theorem q288 : (Jvm.Cond.fieldLink "LookAtClock$Best" (24 : Nat) "LookAtClock$Best" "wake" "I") ∈ lw_all := lw_g (lw_at lw_m2 7 rfl) rfl
theorem q289 : (Jvm.Cond.sameField "LookAtClock$Best" "LookAtClock$Looker" "wake" "I") ∈ lw_all := lw_g (lw_at lw_m2 8 rfl) rfl
theorem q335 : (Jvm.Cond.instantiable "LookAtClock$Best" (6 : Nat)) ∈ lw_all := lw_g (lw_at lw_m2 54 rfl) rfl
theorem q337 : (Jvm.Cond.instanceMethod ({ cls := "LookAtClock$Best", name := "<init>", desc := "(IIII)V" } : Jvm.MethodName)) ∈ lw_all := lw_g (lw_at lw_m2 56 rfl) rfl
theorem q338 : (Jvm.Cond.code ({ cls := "LookAtClock$Best", name := "<init>", desc := "(IIII)V" } : Jvm.MethodName) prog_2_method_1_code (5 : Nat) (Option.none : Option Jvm.ClassFile.FieldType)) ∈ lw_all := lw_g (lw_at lw_m2 57 rfl) rfl
theorem q339 : (Jvm.Cond.methodLink "LookAtClock$Best" (3 : Nat) ({ cls := "LookAtClock$Watcher", name := "<init>", desc := "(IIII)V" } : Jvm.MethodName)) ∈ lw_all := lw_g (lw_at lw_m2 58 rfl) rfl
theorem q340 : (Jvm.Cond.classLink "LookAtClock$Best" (9 : Nat) "LookAtClock$Day") ∈ lw_all := lw_g (lw_at lw_m2 59 rfl) rfl
theorem q342 : (Jvm.Cond.methodLinkNest "LookAtClock$Best" (11 : Nat) ({ cls := "LookAtClock$Day", name := "<init>", desc := "()V" } : Jvm.MethodName) "LookAtClock") ∈ lw_tbl := lw_at lw_m2 61 rfl
theorem q348 : (Jvm.Cond.fieldLink "LookAtClock$Best" (41 : Nat) "LookAtClock$Day" "t" "LLookAtClock$Town;") ∈ lw_all := lw_g (lw_at lw_m2 67 rfl) rfl
theorem q351 : (Jvm.Cond.fieldLink "LookAtClock$Best" (45 : Nat) "LookAtClock$Day" "drift" "I") ∈ lw_all := lw_g (lw_at lw_m2 70 rfl) rfl
theorem q353 : (Jvm.Cond.fieldLink "LookAtClock$Best" (48 : Nat) "LookAtClock$Day" "law" "I") ∈ lw_all := lw_g (lw_at lw_m2 72 rfl) rfl
theorem q356 : (Jvm.Cond.fieldLink "LookAtClock$Best" (35 : Nat) "LookAtClock$Day" "minute" "I") ∈ lw_all := lw_g (lw_at lw_m2 75 rfl) rfl
theorem q363 : (Jvm.Cond.fieldLink "LookAtClock$Best" (38 : Nat) "LookAtClock$Day" "lookMany" "I") ∈ lw_all := lw_g (lw_at lw_m2 82 rfl) rfl
theorem q406 : (Jvm.Cond.fieldLink "LookAtClock$Best" (14 : Nat) "LookAtClock$Best" "mind" "LLookAtClock$Day;") ∈ lw_all := lw_g (lw_at lw_m2 125 rfl) rfl
theorem q407 : (Jvm.Cond.fieldLink "LookAtClock$Best" (55 : Nat) "LookAtClock$Best" "found" "I") ∈ lw_all := lw_g (lw_at lw_m2 126 rfl) rfl
theorem q408 : (Jvm.Cond.laysFinal "LookAtClock$Best" "LookAtClock$Best" "mind" "LLookAtClock$Day;") ∈ lw_all := lw_g (lw_at lw_m2 127 rfl) rfl
theorem q409 : (Jvm.Cond.soleField "LookAtClock$Best" "mind") ∈ lw_all := lw_g (lw_at lw_m2 128 rfl) rfl
theorem q410 : (Jvm.Cond.lays "LookAtClock$Best" "LookAtClock$Best" "found" "I") ∈ lw_all := lw_g (lw_at lw_m2 129 rfl) rfl
theorem q411 : (Jvm.Cond.soleField "LookAtClock$Best" "found") ∈ lw_all := lw_g (lw_at lw_m2 130 rfl) rfl
theorem q412 : (Jvm.Cond.laysFinal "LookAtClock$Best" "LookAtClock$Looker" "number" "I") ∈ lw_all := lw_g (lw_at lw_m2 131 rfl) rfl
theorem q413 : (Jvm.Cond.laysFinal "LookAtClock$Best" "LookAtClock$Looker" "figure" "I") ∈ lw_all := lw_g (lw_at lw_m2 132 rfl) rfl
theorem q414 : (Jvm.Cond.laysFinal "LookAtClock$Best" "LookAtClock$Looker" "drift" "I") ∈ lw_all := lw_g (lw_at lw_m2 133 rfl) rfl
theorem q415 : (Jvm.Cond.laysFinal "LookAtClock$Best" "LookAtClock$Looker" "wake" "I") ∈ lw_all := lw_g (lw_at lw_m2 134 rfl) rfl
theorem q416 : (Jvm.Cond.superclass "LookAtClock$Best" "LookAtClock$Watcher") ∈ lw_all := lw_g (lw_at lw_m2 135 rfl) rfl
theorem q486 : (Jvm.Cond.selects "LookAtClock$Best" ({ cls := "LookAtClock$Looker", name := "kind", desc := "()I" } : Jvm.MethodName) ({ cls := "LookAtClock$Best", name := "kind", desc := "()I" } : Jvm.MethodName)) ∈ lw_all := lw_g (lw_at lw_m2 205 rfl) rfl
theorem q487 : (Jvm.Cond.instanceMethod ({ cls := "LookAtClock$Best", name := "kind", desc := "()I" } : Jvm.MethodName)) ∈ lw_all := lw_g (lw_at lw_m2 206 rfl) rfl
theorem q488 : (Jvm.Cond.code ({ cls := "LookAtClock$Best", name := "kind", desc := "()I" } : Jvm.MethodName) prog_2_method_2_code (1 : Nat) (Option.some Jvm.ClassFile.FieldType.int)) ∈ lw_all := lw_g (lw_at lw_m2 207 rfl) rfl
theorem q509 : (Jvm.Cond.unhidden "LookAtClock$Best" "early" "()I") ∈ lw_tbl := lw_at lw_m2 228 rfl
theorem q553 : (Jvm.Cond.selects "LookAtClock$Best" ({ cls := "LookAtClock$Looks", name := "looksNow", desc := "(LLookAtClock$Day;)Z" } : Jvm.MethodName) ({ cls := "LookAtClock$Watcher", name := "looksNow", desc := "(LLookAtClock$Day;)Z" } : Jvm.MethodName)) ∈ lw_all := lw_g (lw_at lw_m3 32 rfl) rfl
theorem q560 : (Jvm.Cond.selects "LookAtClock$Best" ({ cls := "LookAtClock$Watcher", name := "looksBy", desc := "(LLookAtClock$Day;)I" } : Jvm.MethodName) ({ cls := "LookAtClock$Best", name := "looksBy", desc := "(LLookAtClock$Day;)I" } : Jvm.MethodName)) ∈ lw_all := lw_g (lw_at lw_m3 39 rfl) rfl
theorem q561 : (Jvm.Cond.instanceMethod ({ cls := "LookAtClock$Best", name := "looksBy", desc := "(LLookAtClock$Day;)I" } : Jvm.MethodName)) ∈ lw_all := lw_g (lw_at lw_m3 40 rfl) rfl
theorem q562 : (Jvm.Cond.code ({ cls := "LookAtClock$Best", name := "looksBy", desc := "(LLookAtClock$Day;)I" } : Jvm.MethodName) prog_2_method_4_code (2 : Nat) (Option.some Jvm.ClassFile.FieldType.int)) ∈ lw_all := lw_g (lw_at lw_m3 41 rfl) rfl
theorem q563 : (Jvm.Cond.methodLink "LookAtClock$Best" (51 : Nat) ({ cls := "LookAtClock$Best", name := "finds", desc := "(LLookAtClock$Town;II)I" } : Jvm.MethodName)) ∈ lw_all := lw_g (lw_at lw_m3 42 rfl) rfl
theorem q564 : (Jvm.Cond.privateMethod ({ cls := "LookAtClock$Best", name := "finds", desc := "(LLookAtClock$Town;II)I" } : Jvm.MethodName)) ∈ lw_tbl := lw_at lw_m3 43 rfl
theorem q565 : (Jvm.Cond.instanceMethod ({ cls := "LookAtClock$Best", name := "finds", desc := "(LLookAtClock$Town;II)I" } : Jvm.MethodName)) ∈ lw_all := lw_g (lw_at lw_m3 44 rfl) rfl
theorem q566 : (Jvm.Cond.code ({ cls := "LookAtClock$Best", name := "finds", desc := "(LLookAtClock$Town;II)I" } : Jvm.MethodName) prog_2_method_3_code (8 : Nat) (Option.some Jvm.ClassFile.FieldType.int)) ∈ lw_all := lw_g (lw_at lw_m3 45 rfl) rfl
theorem q567 : (Jvm.Cond.classLink "LookAtClock$Best" (4 : Nat) "LookAtClock$Watcher") ∈ lw_all := lw_g (lw_at lw_m3 46 rfl) rfl
theorem q568 : (Jvm.Cond.methodLink "LookAtClock$Best" (27 : Nat) ({ cls := "LookAtClock$Day", name := "goes", desc := "(LLookAtClock$Town;LLookAtClock$Looker;II)LLookAtClock$Day;" } : Jvm.MethodName)) ∈ lw_all := lw_g (lw_at lw_m3 47 rfl) rfl
theorem q569 : (Jvm.Cond.methodLink "LookAtClock$Best" (31 : Nat) ({ cls := "LookAtClock$Day", name := "cost", desc := "()I" } : Jvm.MethodName)) ∈ lw_all := lw_g (lw_at lw_m3 48 rfl) rfl
theorem q616 : (Jvm.Cond.unhidden "LookAtClock$Best" "pays" "(I)I") ∈ lw_tbl := lw_at lw_m3 95 rfl
theorem q965 : (Jvm.Cond.selects "LookAtClock$Best" ({ cls := "LookAtClock$Skilled", name := "skill", desc := "()I" } : Jvm.MethodName) ({ cls := "LookAtClock$Best", name := "skill", desc := "()I" } : Jvm.MethodName)) ∈ lw_all := lw_g (lw_at lw_m4 204 rfl) rfl
theorem q966 : (Jvm.Cond.instanceMethod ({ cls := "LookAtClock$Best", name := "skill", desc := "()I" } : Jvm.MethodName)) ∈ lw_all := lw_g (lw_at lw_m4 205 rfl) rfl
theorem q967 : (Jvm.Cond.code ({ cls := "LookAtClock$Best", name := "skill", desc := "()I" } : Jvm.MethodName) prog_2_method_5_code (1 : Nat) (Option.some Jvm.ClassFile.FieldType.int)) ∈ lw_all := lw_g (lw_at lw_m4 206 rfl) rfl
theorem q968 : (Jvm.Cond.methodLink "LookAtClock$Best" (58 : Nat) ({ cls := "LookAtClock$Watcher", name := "skill", desc := "()I" } : Jvm.MethodName)) ∈ lw_all := lw_g (lw_at lw_m4 207 rfl) rfl
theorem q1003 : (Jvm.Cond.selects "LookAtClock$Best" ({ cls := "LookAtClock$Looker", name := "failure", desc := "()LLookAtClock$Tossed;" } : Jvm.MethodName) ({ cls := "LookAtClock$Best", name := "failure", desc := "()LLookAtClock$Tossed;" } : Jvm.MethodName)) ∈ lw_all := lw_g (lw_at lw_m5 2 rfl) rfl
theorem q1004 : (Jvm.Cond.instanceMethod ({ cls := "LookAtClock$Best", name := "failure", desc := "()LLookAtClock$Tossed;" } : Jvm.MethodName)) ∈ lw_all := lw_g (lw_at lw_m5 3 rfl) rfl
theorem q1005 : (Jvm.Cond.code ({ cls := "LookAtClock$Best", name := "failure", desc := "()LLookAtClock$Tossed;" } : Jvm.MethodName) prog_2_method_6_code (2 : Nat) (Option.some (Jvm.ClassFile.FieldType.object "LookAtClock$Tossed"))) ∈ lw_all := lw_g (lw_at lw_m5 4 rfl) rfl
theorem q1006 : (Jvm.Cond.methodLink "LookAtClock$Best" (61 : Nat) ({ cls := "LookAtClock$Watcher", name := "failure", desc := "()LLookAtClock$Tossed;" } : Jvm.MethodName)) ∈ lw_all := lw_g (lw_at lw_m5 5 rfl) rfl
theorem q1024 : (Jvm.Cond.fieldLink "LookAtClock$Best" (67 : Nat) "LookAtClock$Tossed" "n" "I") ∈ lw_all := lw_g (lw_at lw_m5 23 rfl) rfl
theorem q1030 : (Jvm.Cond.classLink "LookAtClock$Best" (65 : Nat) "LookAtClock$Tossed") ∈ lw_all := lw_g (lw_at lw_m5 29 rfl) rfl
theorem q1031 : (Jvm.Cond.methodLink "LookAtClock$Best" (70 : Nat) ({ cls := "LookAtClock$Tossed", name := "<init>", desc := "(I)V" } : Jvm.MethodName)) ∈ lw_all := lw_g (lw_at lw_m5 30 rfl) rfl
theorem q1484 : (Jvm.Cond.castable "LookAtClock$Best" "LookAtClock$Looker") ∈ lw_tbl := lw_at lw_m7 3 rfl
theorem in_X12 : ∀ w ∈ wsX120, w ∈ lw_all := lw_in wsX120 [412, 413, 414, 415, 408, 410] (by decide +kernel) (by decide +kernel)
/-! LookAtClock$Share -/
set_option maxRecDepth 100000
def RX13 : String := "LookAtClock$Share"
def TX13 : u_T := fun k => match k with
  | 0 => ("LookAtClock$Looker", "number", "I", true)
  | 1 => ("LookAtClock$Looker", "figure", "I", true)
  | 2 => ("LookAtClock$Looker", "drift", "I", true)
  | _ => ("LookAtClock$Looker", "wake", "I", true)
def tyX13 : Nat → FieldType := fun k => match k with
  | 0 => .int
  | 1 => .int
  | 2 => .int
  | _ => .int
abbrev wsX130 : List Cond := u_ws RX13 TX13 4
theorem nmX13 : ∀ a, a < 4 → ∀ b, b < 4 → a ≠ b → (TX13 a).2.1 ≠ (TX13 b).2.1 := by decide +kernel
theorem tyX13_ok : ∀ k, k < 4 → parseFieldDescriptor (TX13 k).2.2.1 = some (tyX13 k) := by decide +kernel
abbrev cX13_init : ByteArray := prog_13_method_1_code
def yX13_init : MethodName := ⟨RX13, "<init>", "(IIII)V"⟩
def dkwX13_init_0 : List UInt8 := [42, 27, 28, 29, 21, 4, 183, 0, 1, 177]
abbrev dktX13_init_0 : List UInt8 := dkwX13_init_0 ++ []
theorem dksX13_init_0 : cX13_init.data.toList.drop 0 = dktX13_init_0 := by decide +kernel
theorem dX13_init_0 : decode cX13_init 0 = .ok (.aload_n 0, 1) := dk_42 (dk_at dksX13_init_0 0 rfl rfl)
theorem dX13_init_1 : decode cX13_init 1 = .ok (.iload_n 1, 1) := dk_27 (dk_at dksX13_init_0 1 rfl rfl)
theorem dX13_init_2 : decode cX13_init 2 = .ok (.iload_n 2, 1) := dk_28 (dk_at dksX13_init_0 2 rfl rfl)
theorem dX13_init_3 : decode cX13_init 3 = .ok (.iload_n 3, 1) := dk_29 (dk_at dksX13_init_0 3 rfl rfl)
theorem dX13_init_4 : decode cX13_init 4 = .ok (.iload 4, 2) := dk_21 4 (dk_at dksX13_init_0 4 rfl rfl)
theorem dX13_init_6 : decode cX13_init 6 = .ok (.invokespecial 1, 3) := dk_183 0 1 (dk_at dksX13_init_0 6 rfl rfl)
theorem dX13_init_9 : decode cX13_init 9 = .ok (.return_, 1) := dk_177 (dk_at dksX13_init_0 9 rfl rfl)
abbrev cX13_kind : ByteArray := prog_13_method_2_code
def yX13_kind : MethodName := ⟨RX13, "kind", "()I"⟩
theorem dX13_kind_0 : decode cX13_kind 0 = .ok (.iconst 5, 1) := by decide +kernel
theorem dX13_kind_1 : decode cX13_kind 1 = .ok (.ireturn, 1) := by decide +kernel
abbrev cX13_pays : ByteArray := prog_13_method_3_code
def yX13_pays : MethodName := ⟨RX13, "pays", "(I)I"⟩
def dkwX13_pays_0 : List UInt8 := [42, 27, 183, 0, 7, 4, 96, 5, 108, 172]
abbrev dktX13_pays_0 : List UInt8 := dkwX13_pays_0 ++ []
theorem dksX13_pays_0 : cX13_pays.data.toList.drop 0 = dktX13_pays_0 := by decide +kernel
theorem dX13_pays_0 : decode cX13_pays 0 = .ok (.aload_n 0, 1) := dk_42 (dk_at dksX13_pays_0 0 rfl rfl)
theorem dX13_pays_1 : decode cX13_pays 1 = .ok (.iload_n 1, 1) := dk_27 (dk_at dksX13_pays_0 1 rfl rfl)
theorem dX13_pays_2 : decode cX13_pays 2 = .ok (.invokespecial 7, 3) := dk_183 0 7 (dk_at dksX13_pays_0 2 rfl rfl)
theorem dX13_pays_5 : decode cX13_pays 5 = .ok (.iconst 1, 1) := dk_4 (dk_at dksX13_pays_0 5 rfl rfl)
theorem dX13_pays_6 : decode cX13_pays 6 = .ok (.iadd, 1) := dk_96 (dk_at dksX13_pays_0 6 rfl rfl)
theorem dX13_pays_7 : decode cX13_pays 7 = .ok (.iconst 2, 1) := dk_5 (dk_at dksX13_pays_0 7 rfl rfl)
theorem dX13_pays_8 : decode cX13_pays 8 = .ok (.idiv, 1) := dk_108 (dk_at dksX13_pays_0 8 rfl rfl)
theorem dX13_pays_9 : decode cX13_pays 9 = .ok (.ireturn, 1) := dk_172 (dk_at dksX13_pays_0 9 rfl rfl)
abbrev cX13_skill : ByteArray := prog_13_method_4_code
def yX13_skill : MethodName := ⟨RX13, "skill", "()I"⟩
def dkwX13_skill_0 : List UInt8 := [42, 183, 0, 11, 5, 100, 172]
abbrev dktX13_skill_0 : List UInt8 := dkwX13_skill_0 ++ []
theorem dksX13_skill_0 : cX13_skill.data.toList.drop 0 = dktX13_skill_0 := by decide +kernel
theorem dX13_skill_0 : decode cX13_skill 0 = .ok (.aload_n 0, 1) := dk_42 (dk_at dksX13_skill_0 0 rfl rfl)
theorem dX13_skill_1 : decode cX13_skill 1 = .ok (.invokespecial 11, 3) := dk_183 0 11 (dk_at dksX13_skill_0 1 rfl rfl)
theorem dX13_skill_4 : decode cX13_skill 4 = .ok (.iconst 2, 1) := dk_5 (dk_at dksX13_skill_0 4 rfl rfl)
theorem dX13_skill_5 : decode cX13_skill 5 = .ok (.isub, 1) := dk_100 (dk_at dksX13_skill_0 5 rfl rfl)
theorem dX13_skill_6 : decode cX13_skill 6 = .ok (.ireturn, 1) := dk_172 (dk_at dksX13_skill_0 6 rfl rfl)
theorem q58 : (Jvm.Cond.initialized "LookAtClock$Share") ∈ lw_all := lw_g (lw_at lw_m1 17 rfl) rfl
theorem q418 : (Jvm.Cond.instantiable "LookAtClock$Share" (4 : Nat)) ∈ lw_all := lw_g (lw_at lw_m2 137 rfl) rfl
theorem q420 : (Jvm.Cond.instanceMethod ({ cls := "LookAtClock$Share", name := "<init>", desc := "(IIII)V" } : Jvm.MethodName)) ∈ lw_all := lw_g (lw_at lw_m2 139 rfl) rfl
theorem q421 : (Jvm.Cond.code ({ cls := "LookAtClock$Share", name := "<init>", desc := "(IIII)V" } : Jvm.MethodName) prog_13_method_1_code (5 : Nat) (Option.none : Option Jvm.ClassFile.FieldType)) ∈ lw_all := lw_g (lw_at lw_m2 140 rfl) rfl
theorem q422 : (Jvm.Cond.methodLink "LookAtClock$Share" (1 : Nat) ({ cls := "LookAtClock$Watcher", name := "<init>", desc := "(IIII)V" } : Jvm.MethodName)) ∈ lw_all := lw_g (lw_at lw_m2 141 rfl) rfl
theorem q423 : (Jvm.Cond.laysFinal "LookAtClock$Share" "LookAtClock$Looker" "number" "I") ∈ lw_all := lw_g (lw_at lw_m2 142 rfl) rfl
theorem q424 : (Jvm.Cond.laysFinal "LookAtClock$Share" "LookAtClock$Looker" "figure" "I") ∈ lw_all := lw_g (lw_at lw_m2 143 rfl) rfl
theorem q425 : (Jvm.Cond.laysFinal "LookAtClock$Share" "LookAtClock$Looker" "drift" "I") ∈ lw_all := lw_g (lw_at lw_m2 144 rfl) rfl
theorem q426 : (Jvm.Cond.laysFinal "LookAtClock$Share" "LookAtClock$Looker" "wake" "I") ∈ lw_all := lw_g (lw_at lw_m2 145 rfl) rfl
theorem q427 : (Jvm.Cond.superclass "LookAtClock$Share" "LookAtClock$Watcher") ∈ lw_all := lw_g (lw_at lw_m2 146 rfl) rfl
theorem q498 : (Jvm.Cond.selects "LookAtClock$Share" ({ cls := "LookAtClock$Looker", name := "kind", desc := "()I" } : Jvm.MethodName) ({ cls := "LookAtClock$Share", name := "kind", desc := "()I" } : Jvm.MethodName)) ∈ lw_all := lw_g (lw_at lw_m2 217 rfl) rfl
theorem q499 : (Jvm.Cond.instanceMethod ({ cls := "LookAtClock$Share", name := "kind", desc := "()I" } : Jvm.MethodName)) ∈ lw_all := lw_g (lw_at lw_m2 218 rfl) rfl
theorem q500 : (Jvm.Cond.code ({ cls := "LookAtClock$Share", name := "kind", desc := "()I" } : Jvm.MethodName) prog_13_method_2_code (1 : Nat) (Option.some Jvm.ClassFile.FieldType.int)) ∈ lw_all := lw_g (lw_at lw_m2 219 rfl) rfl
theorem q518 : (Jvm.Cond.unhidden "LookAtClock$Share" "early" "()I") ∈ lw_tbl := lw_at lw_m2 237 rfl
theorem q575 : (Jvm.Cond.selects "LookAtClock$Share" ({ cls := "LookAtClock$Watcher", name := "looksBy", desc := "(LLookAtClock$Day;)I" } : Jvm.MethodName) ({ cls := "LookAtClock$Watcher", name := "looksBy", desc := "(LLookAtClock$Day;)I" } : Jvm.MethodName)) ∈ lw_all := lw_g (lw_at lw_m3 54 rfl) rfl
theorem q598 : (Jvm.Cond.selects "LookAtClock$Share" ({ cls := "LookAtClock$Looks", name := "looksNow", desc := "(LLookAtClock$Day;)Z" } : Jvm.MethodName) ({ cls := "LookAtClock$Watcher", name := "looksNow", desc := "(LLookAtClock$Day;)Z" } : Jvm.MethodName)) ∈ lw_all := lw_g (lw_at lw_m3 77 rfl) rfl
theorem q628 : (Jvm.Cond.selects "LookAtClock$Share" ({ cls := "LookAtClock$Pays", name := "pays", desc := "(I)I" } : Jvm.MethodName) ({ cls := "LookAtClock$Share", name := "pays", desc := "(I)I" } : Jvm.MethodName)) ∈ lw_all := lw_g (lw_at lw_m3 107 rfl) rfl
theorem q629 : (Jvm.Cond.instanceMethod ({ cls := "LookAtClock$Share", name := "pays", desc := "(I)I" } : Jvm.MethodName)) ∈ lw_all := lw_g (lw_at lw_m3 108 rfl) rfl
theorem q630 : (Jvm.Cond.code ({ cls := "LookAtClock$Share", name := "pays", desc := "(I)I" } : Jvm.MethodName) prog_13_method_3_code (2 : Nat) (Option.some Jvm.ClassFile.FieldType.int)) ∈ lw_all := lw_g (lw_at lw_m3 109 rfl) rfl
theorem q985 : (Jvm.Cond.selects "LookAtClock$Share" ({ cls := "LookAtClock$Skilled", name := "skill", desc := "()I" } : Jvm.MethodName) ({ cls := "LookAtClock$Share", name := "skill", desc := "()I" } : Jvm.MethodName)) ∈ lw_all := lw_g (lw_at lw_m4 224 rfl) rfl
theorem q986 : (Jvm.Cond.instanceMethod ({ cls := "LookAtClock$Share", name := "skill", desc := "()I" } : Jvm.MethodName)) ∈ lw_all := lw_g (lw_at lw_m4 225 rfl) rfl
theorem q987 : (Jvm.Cond.code ({ cls := "LookAtClock$Share", name := "skill", desc := "()I" } : Jvm.MethodName) prog_13_method_4_code (1 : Nat) (Option.some Jvm.ClassFile.FieldType.int)) ∈ lw_all := lw_g (lw_at lw_m4 226 rfl) rfl
theorem q988 : (Jvm.Cond.methodLink "LookAtClock$Share" (11 : Nat) ({ cls := "LookAtClock$Watcher", name := "skill", desc := "()I" } : Jvm.MethodName)) ∈ lw_all := lw_g (lw_at lw_m4 227 rfl) rfl
theorem q1042 : (Jvm.Cond.selects "LookAtClock$Share" ({ cls := "LookAtClock$Looker", name := "failure", desc := "()LLookAtClock$Tossed;" } : Jvm.MethodName) ({ cls := "LookAtClock$Looker", name := "failure", desc := "()LLookAtClock$Tossed;" } : Jvm.MethodName)) ∈ lw_all := lw_g (lw_at lw_m5 41 rfl) rfl
theorem q1488 : (Jvm.Cond.castable "LookAtClock$Share" "LookAtClock$Looker") ∈ lw_tbl := lw_at lw_m7 7 rfl
theorem in_X13 : ∀ w ∈ wsX130, w ∈ lw_all := lw_in wsX130 [423, 424, 425, 426] (by decide +kernel) (by decide +kernel)
/-! LookAtClock$Told -/
set_option maxRecDepth 100000
def RX14 : String := "LookAtClock$Told"
def TX14 : u_T := fun k => match k with
  | 0 => ("LookAtClock$Looker", "number", "I", true)
  | 1 => ("LookAtClock$Looker", "figure", "I", true)
  | 2 => ("LookAtClock$Looker", "drift", "I", true)
  | _ => ("LookAtClock$Looker", "wake", "I", true)
def tyX14 : Nat → FieldType := fun k => match k with
  | 0 => .int
  | 1 => .int
  | 2 => .int
  | _ => .int
abbrev wsX140 : List Cond := u_ws RX14 TX14 4
theorem nmX14 : ∀ a, a < 4 → ∀ b, b < 4 → a ≠ b → (TX14 a).2.1 ≠ (TX14 b).2.1 := by decide +kernel
theorem tyX14_ok : ∀ k, k < 4 → parseFieldDescriptor (TX14 k).2.2.1 = some (tyX14 k) := by decide +kernel
abbrev cX14_init : ByteArray := prog_16_method_1_code
def yX14_init : MethodName := ⟨RX14, "<init>", "(IIII)V"⟩
def dkwX14_init_0 : List UInt8 := [42, 27, 28, 29, 21, 4, 183, 0, 1, 177]
abbrev dktX14_init_0 : List UInt8 := dkwX14_init_0 ++ []
theorem dksX14_init_0 : cX14_init.data.toList.drop 0 = dktX14_init_0 := by decide +kernel
theorem dX14_init_0 : decode cX14_init 0 = .ok (.aload_n 0, 1) := dk_42 (dk_at dksX14_init_0 0 rfl rfl)
theorem dX14_init_1 : decode cX14_init 1 = .ok (.iload_n 1, 1) := dk_27 (dk_at dksX14_init_0 1 rfl rfl)
theorem dX14_init_2 : decode cX14_init 2 = .ok (.iload_n 2, 1) := dk_28 (dk_at dksX14_init_0 2 rfl rfl)
theorem dX14_init_3 : decode cX14_init 3 = .ok (.iload_n 3, 1) := dk_29 (dk_at dksX14_init_0 3 rfl rfl)
theorem dX14_init_4 : decode cX14_init 4 = .ok (.iload 4, 2) := dk_21 4 (dk_at dksX14_init_0 4 rfl rfl)
theorem dX14_init_6 : decode cX14_init 6 = .ok (.invokespecial 1, 3) := dk_183 0 1 (dk_at dksX14_init_0 6 rfl rfl)
theorem dX14_init_9 : decode cX14_init 9 = .ok (.return_, 1) := dk_177 (dk_at dksX14_init_0 9 rfl rfl)
abbrev cX14_kind : ByteArray := prog_16_method_2_code
def yX14_kind : MethodName := ⟨RX14, "kind", "()I"⟩
theorem dX14_kind_0 : decode cX14_kind 0 = .ok (.bipush 6, 2) := by decide +kernel
theorem dX14_kind_2 : decode cX14_kind 2 = .ok (.ireturn, 1) := by decide +kernel
abbrev cX14_early : ByteArray := prog_16_method_4_code
def yX14_early : MethodName := ⟨RX14, "early", "()I"⟩
def dkwX14_early_0 : List UInt8 := [42, 183, 0, 23, 42, 180, 0, 27, 96, 172]
abbrev dktX14_early_0 : List UInt8 := dkwX14_early_0 ++ []
theorem dksX14_early_0 : cX14_early.data.toList.drop 0 = dktX14_early_0 := by decide +kernel
theorem dX14_early_0 : decode cX14_early 0 = .ok (.aload_n 0, 1) := dk_42 (dk_at dksX14_early_0 0 rfl rfl)
theorem dX14_early_1 : decode cX14_early 1 = .ok (.invokespecial 23, 3) := dk_183 0 23 (dk_at dksX14_early_0 1 rfl rfl)
theorem dX14_early_4 : decode cX14_early 4 = .ok (.aload_n 0, 1) := dk_42 (dk_at dksX14_early_0 4 rfl rfl)
theorem dX14_early_5 : decode cX14_early 5 = .ok (.getfield 27, 3) := dk_180 0 27 (dk_at dksX14_early_0 5 rfl rfl)
theorem dX14_early_8 : decode cX14_early 8 = .ok (.iadd, 1) := dk_96 (dk_at dksX14_early_0 8 rfl rfl)
theorem dX14_early_9 : decode cX14_early 9 = .ok (.ireturn, 1) := dk_172 (dk_at dksX14_early_0 9 rfl rfl)
abbrev cX14_looksNow : ByteArray := prog_16_method_3_code
def yX14_looksNow : MethodName := ⟨RX14, "looksNow", "(LLookAtClock$Day;)Z"⟩
def dkwX14_looksNow_0 : List UInt8 := [43, 180, 0, 7, 43, 180, 0, 13, 182, 0, 17, 172]
abbrev dktX14_looksNow_0 : List UInt8 := dkwX14_looksNow_0 ++ []
theorem dksX14_looksNow_0 : cX14_looksNow.data.toList.drop 0 = dktX14_looksNow_0 := by decide +kernel
theorem dX14_looksNow_0 : decode cX14_looksNow 0 = .ok (.aload_n 1, 1) := dk_43 (dk_at dksX14_looksNow_0 0 rfl rfl)
theorem dX14_looksNow_1 : decode cX14_looksNow 1 = .ok (.getfield 7, 3) := dk_180 0 7 (dk_at dksX14_looksNow_0 1 rfl rfl)
theorem dX14_looksNow_4 : decode cX14_looksNow 4 = .ok (.aload_n 1, 1) := dk_43 (dk_at dksX14_looksNow_0 4 rfl rfl)
theorem dX14_looksNow_5 : decode cX14_looksNow 5 = .ok (.getfield 13, 3) := dk_180 0 13 (dk_at dksX14_looksNow_0 5 rfl rfl)
theorem dX14_looksNow_8 : decode cX14_looksNow 8 = .ok (.invokevirtual 17, 3) := dk_182 0 17 (dk_at dksX14_looksNow_0 8 rfl rfl)
theorem dX14_looksNow_11 : decode cX14_looksNow 11 = .ok (.ireturn, 1) := dk_172 (dk_at dksX14_looksNow_0 11 rfl rfl)
abbrev cX14_skill : ByteArray := prog_16_method_5_code
def yX14_skill : MethodName := ⟨RX14, "skill", "()I"⟩
def dkwX14_skill_0 : List UInt8 := [42, 183, 0, 32, 4, 100, 172]
abbrev dktX14_skill_0 : List UInt8 := dkwX14_skill_0 ++ []
theorem dksX14_skill_0 : cX14_skill.data.toList.drop 0 = dktX14_skill_0 := by decide +kernel
theorem dX14_skill_0 : decode cX14_skill 0 = .ok (.aload_n 0, 1) := dk_42 (dk_at dksX14_skill_0 0 rfl rfl)
theorem dX14_skill_1 : decode cX14_skill 1 = .ok (.invokespecial 32, 3) := dk_183 0 32 (dk_at dksX14_skill_0 1 rfl rfl)
theorem dX14_skill_4 : decode cX14_skill 4 = .ok (.iconst 1, 1) := dk_4 (dk_at dksX14_skill_0 4 rfl rfl)
theorem dX14_skill_5 : decode cX14_skill 5 = .ok (.isub, 1) := dk_100 (dk_at dksX14_skill_0 5 rfl rfl)
theorem dX14_skill_6 : decode cX14_skill 6 = .ok (.ireturn, 1) := dk_172 (dk_at dksX14_skill_0 6 rfl rfl)
abbrev cX14_failure : ByteArray := prog_16_method_6_code
def yX14_failure : MethodName := ⟨RX14, "failure", "()LLookAtClock$Tossed;"⟩
theorem dX14_failure_0 : decode cX14_failure 0 = .ok (.aconst_null, 1) := by decide +kernel
theorem dX14_failure_1 : decode cX14_failure 1 = .ok (.areturn, 1) := by decide +kernel
theorem q59 : (Jvm.Cond.initialized "LookAtClock$Told") ∈ lw_all := lw_g (lw_at lw_m1 18 rfl) rfl
theorem q282 : (Jvm.Cond.fieldLink "LookAtClock$Told" (27 : Nat) "LookAtClock$Told" "figure" "I") ∈ lw_all := lw_g (lw_at lw_m2 1 rfl) rfl
theorem q283 : (Jvm.Cond.sameField "LookAtClock$Told" "LookAtClock$Looker" "figure" "I") ∈ lw_all := lw_g (lw_at lw_m2 2 rfl) rfl
theorem q346 : (Jvm.Cond.fieldLink "LookAtClock$Told" (7 : Nat) "LookAtClock$Day" "t" "LLookAtClock$Town;") ∈ lw_all := lw_g (lw_at lw_m2 65 rfl) rfl
theorem q355 : (Jvm.Cond.fieldLink "LookAtClock$Told" (13 : Nat) "LookAtClock$Day" "minute" "I") ∈ lw_all := lw_g (lw_at lw_m2 74 rfl) rfl
theorem q429 : (Jvm.Cond.instantiable "LookAtClock$Told" (4 : Nat)) ∈ lw_all := lw_g (lw_at lw_m2 148 rfl) rfl
theorem q431 : (Jvm.Cond.instanceMethod ({ cls := "LookAtClock$Told", name := "<init>", desc := "(IIII)V" } : Jvm.MethodName)) ∈ lw_all := lw_g (lw_at lw_m2 150 rfl) rfl
theorem q432 : (Jvm.Cond.code ({ cls := "LookAtClock$Told", name := "<init>", desc := "(IIII)V" } : Jvm.MethodName) prog_16_method_1_code (5 : Nat) (Option.none : Option Jvm.ClassFile.FieldType)) ∈ lw_all := lw_g (lw_at lw_m2 151 rfl) rfl
theorem q433 : (Jvm.Cond.methodLink "LookAtClock$Told" (1 : Nat) ({ cls := "LookAtClock$Looker", name := "<init>", desc := "(IIII)V" } : Jvm.MethodName)) ∈ lw_all := lw_g (lw_at lw_m2 152 rfl) rfl
theorem q434 : (Jvm.Cond.laysFinal "LookAtClock$Told" "LookAtClock$Looker" "number" "I") ∈ lw_all := lw_g (lw_at lw_m2 153 rfl) rfl
theorem q435 : (Jvm.Cond.laysFinal "LookAtClock$Told" "LookAtClock$Looker" "figure" "I") ∈ lw_all := lw_g (lw_at lw_m2 154 rfl) rfl
theorem q436 : (Jvm.Cond.laysFinal "LookAtClock$Told" "LookAtClock$Looker" "drift" "I") ∈ lw_all := lw_g (lw_at lw_m2 155 rfl) rfl
theorem q437 : (Jvm.Cond.laysFinal "LookAtClock$Told" "LookAtClock$Looker" "wake" "I") ∈ lw_all := lw_g (lw_at lw_m2 156 rfl) rfl
theorem q438 : (Jvm.Cond.superclass "LookAtClock$Told" "LookAtClock$Looker") ∈ lw_all := lw_g (lw_at lw_m2 157 rfl) rfl
theorem q501 : (Jvm.Cond.selects "LookAtClock$Told" ({ cls := "LookAtClock$Looker", name := "kind", desc := "()I" } : Jvm.MethodName) ({ cls := "LookAtClock$Told", name := "kind", desc := "()I" } : Jvm.MethodName)) ∈ lw_all := lw_g (lw_at lw_m2 220 rfl) rfl
theorem q502 : (Jvm.Cond.instanceMethod ({ cls := "LookAtClock$Told", name := "kind", desc := "()I" } : Jvm.MethodName)) ∈ lw_all := lw_g (lw_at lw_m2 221 rfl) rfl
theorem q503 : (Jvm.Cond.code ({ cls := "LookAtClock$Told", name := "kind", desc := "()I" } : Jvm.MethodName) prog_16_method_2_code (1 : Nat) (Option.some Jvm.ClassFile.FieldType.int)) ∈ lw_all := lw_g (lw_at lw_m2 222 rfl) rfl
theorem q519 : (Jvm.Cond.selects "LookAtClock$Told" ({ cls := "LookAtClock$Looks", name := "early", desc := "()I" } : Jvm.MethodName) ({ cls := "LookAtClock$Told", name := "early", desc := "()I" } : Jvm.MethodName)) ∈ lw_all := lw_g (lw_at lw_m2 238 rfl) rfl
theorem q520 : (Jvm.Cond.instanceMethod ({ cls := "LookAtClock$Told", name := "early", desc := "()I" } : Jvm.MethodName)) ∈ lw_all := lw_g (lw_at lw_m2 239 rfl) rfl
theorem q521 : (Jvm.Cond.code ({ cls := "LookAtClock$Told", name := "early", desc := "()I" } : Jvm.MethodName) prog_16_method_4_code (1 : Nat) (Option.some Jvm.ClassFile.FieldType.int)) ∈ lw_all := lw_g (lw_at lw_m3 0 rfl) rfl
theorem q599 : (Jvm.Cond.selects "LookAtClock$Told" ({ cls := "LookAtClock$Looks", name := "looksNow", desc := "(LLookAtClock$Day;)Z" } : Jvm.MethodName) ({ cls := "LookAtClock$Told", name := "looksNow", desc := "(LLookAtClock$Day;)Z" } : Jvm.MethodName)) ∈ lw_all := lw_g (lw_at lw_m3 78 rfl) rfl
theorem q600 : (Jvm.Cond.instanceMethod ({ cls := "LookAtClock$Told", name := "looksNow", desc := "(LLookAtClock$Day;)Z" } : Jvm.MethodName)) ∈ lw_all := lw_g (lw_at lw_m3 79 rfl) rfl
theorem q601 : (Jvm.Cond.code ({ cls := "LookAtClock$Told", name := "looksNow", desc := "(LLookAtClock$Day;)Z" } : Jvm.MethodName) prog_16_method_3_code (2 : Nat) (Option.some Jvm.ClassFile.FieldType.boolean)) ∈ lw_all := lw_g (lw_at lw_m3 80 rfl) rfl
theorem q602 : (Jvm.Cond.methodLink "LookAtClock$Told" (17 : Nat) ({ cls := "LookAtClock$Town", name := "isPlanned", desc := "(I)Z" } : Jvm.MethodName)) ∈ lw_all := lw_g (lw_at lw_m3 81 rfl) rfl
theorem q631 : (Jvm.Cond.unhidden "LookAtClock$Told" "pays" "(I)I") ∈ lw_tbl := lw_at lw_m3 110 rfl
theorem q989 : (Jvm.Cond.selects "LookAtClock$Told" ({ cls := "LookAtClock$Skilled", name := "skill", desc := "()I" } : Jvm.MethodName) ({ cls := "LookAtClock$Told", name := "skill", desc := "()I" } : Jvm.MethodName)) ∈ lw_all := lw_g (lw_at lw_m4 228 rfl) rfl
theorem q990 : (Jvm.Cond.instanceMethod ({ cls := "LookAtClock$Told", name := "skill", desc := "()I" } : Jvm.MethodName)) ∈ lw_all := lw_g (lw_at lw_m4 229 rfl) rfl
theorem q991 : (Jvm.Cond.code ({ cls := "LookAtClock$Told", name := "skill", desc := "()I" } : Jvm.MethodName) prog_16_method_5_code (1 : Nat) (Option.some Jvm.ClassFile.FieldType.int)) ∈ lw_all := lw_g (lw_at lw_m4 230 rfl) rfl
theorem q1043 : (Jvm.Cond.selects "LookAtClock$Told" ({ cls := "LookAtClock$Looker", name := "failure", desc := "()LLookAtClock$Tossed;" } : Jvm.MethodName) ({ cls := "LookAtClock$Told", name := "failure", desc := "()LLookAtClock$Tossed;" } : Jvm.MethodName)) ∈ lw_all := lw_g (lw_at lw_m5 42 rfl) rfl
theorem q1044 : (Jvm.Cond.instanceMethod ({ cls := "LookAtClock$Told", name := "failure", desc := "()LLookAtClock$Tossed;" } : Jvm.MethodName)) ∈ lw_all := lw_g (lw_at lw_m5 43 rfl) rfl
theorem q1045 : (Jvm.Cond.code ({ cls := "LookAtClock$Told", name := "failure", desc := "()LLookAtClock$Tossed;" } : Jvm.MethodName) prog_16_method_6_code (1 : Nat) (Option.some (Jvm.ClassFile.FieldType.object "LookAtClock$Tossed"))) ∈ lw_all := lw_g (lw_at lw_m5 44 rfl) rfl
theorem q1489 : (Jvm.Cond.castable "LookAtClock$Told" "LookAtClock$Looker") ∈ lw_tbl := lw_at lw_m7 8 rfl
theorem in_X14 : ∀ w ∈ wsX140, w ∈ lw_all := lw_in wsX140 [434, 435, 436, 437] (by decide +kernel) (by decide +kernel)
/-! LookAtClock$Seller -/
set_option maxRecDepth 100000
def RX15 : String := "LookAtClock$Seller"
def TX15 : u_T := fun k => match k with
  | 0 => ("LookAtClock$Looker", "number", "I", true)
  | 1 => ("LookAtClock$Looker", "figure", "I", true)
  | 2 => ("LookAtClock$Looker", "drift", "I", true)
  | _ => ("LookAtClock$Looker", "wake", "I", true)
def tyX15 : Nat → FieldType := fun k => match k with
  | 0 => .int
  | 1 => .int
  | 2 => .int
  | _ => .int
abbrev wsX150 : List Cond := u_ws RX15 TX15 4
theorem nmX15 : ∀ a, a < 4 → ∀ b, b < 4 → a ≠ b → (TX15 a).2.1 ≠ (TX15 b).2.1 := by decide +kernel
theorem tyX15_ok : ∀ k, k < 4 → parseFieldDescriptor (TX15 k).2.2.1 = some (tyX15 k) := by decide +kernel
abbrev cX15_init : ByteArray := prog_12_method_1_code
def yX15_init : MethodName := ⟨RX15, "<init>", "(IIII)V"⟩
def dkwX15_init_0 : List UInt8 := [42, 27, 28, 29, 21, 4, 183, 0, 1, 177]
abbrev dktX15_init_0 : List UInt8 := dkwX15_init_0 ++ []
theorem dksX15_init_0 : cX15_init.data.toList.drop 0 = dktX15_init_0 := by decide +kernel
theorem dX15_init_0 : decode cX15_init 0 = .ok (.aload_n 0, 1) := dk_42 (dk_at dksX15_init_0 0 rfl rfl)
theorem dX15_init_1 : decode cX15_init 1 = .ok (.iload_n 1, 1) := dk_27 (dk_at dksX15_init_0 1 rfl rfl)
theorem dX15_init_2 : decode cX15_init 2 = .ok (.iload_n 2, 1) := dk_28 (dk_at dksX15_init_0 2 rfl rfl)
theorem dX15_init_3 : decode cX15_init 3 = .ok (.iload_n 3, 1) := dk_29 (dk_at dksX15_init_0 3 rfl rfl)
theorem dX15_init_4 : decode cX15_init 4 = .ok (.iload 4, 2) := dk_21 4 (dk_at dksX15_init_0 4 rfl rfl)
theorem dX15_init_6 : decode cX15_init 6 = .ok (.invokespecial 1, 3) := dk_183 0 1 (dk_at dksX15_init_0 6 rfl rfl)
theorem dX15_init_9 : decode cX15_init 9 = .ok (.return_, 1) := dk_177 (dk_at dksX15_init_0 9 rfl rfl)
abbrev cX15_kind : ByteArray := prog_12_method_2_code
def yX15_kind : MethodName := ⟨RX15, "kind", "()I"⟩
theorem dX15_kind_0 : decode cX15_kind 0 = .ok (.bipush 7, 2) := by decide +kernel
theorem dX15_kind_2 : decode cX15_kind 2 = .ok (.ireturn, 1) := by decide +kernel
abbrev cX15_pays : ByteArray := prog_12_method_3_code
def yX15_pays : MethodName := ⟨RX15, "pays", "(I)I"⟩
def dkwX15_pays_0 : List UInt8 := [3, 42, 27, 183, 0, 7, 5, 100, 184, 0, 11, 172]
abbrev dktX15_pays_0 : List UInt8 := dkwX15_pays_0 ++ []
theorem dksX15_pays_0 : cX15_pays.data.toList.drop 0 = dktX15_pays_0 := by decide +kernel
theorem dX15_pays_0 : decode cX15_pays 0 = .ok (.iconst 0, 1) := dk_3 (dk_at dksX15_pays_0 0 rfl rfl)
theorem dX15_pays_1 : decode cX15_pays 1 = .ok (.aload_n 0, 1) := dk_42 (dk_at dksX15_pays_0 1 rfl rfl)
theorem dX15_pays_2 : decode cX15_pays 2 = .ok (.iload_n 1, 1) := dk_27 (dk_at dksX15_pays_0 2 rfl rfl)
theorem dX15_pays_3 : decode cX15_pays 3 = .ok (.invokespecial 7, 3) := dk_183 0 7 (dk_at dksX15_pays_0 3 rfl rfl)
theorem dX15_pays_6 : decode cX15_pays 6 = .ok (.iconst 2, 1) := dk_5 (dk_at dksX15_pays_0 6 rfl rfl)
theorem dX15_pays_7 : decode cX15_pays 7 = .ok (.isub, 1) := dk_100 (dk_at dksX15_pays_0 7 rfl rfl)
theorem dX15_pays_8 : decode cX15_pays 8 = .ok (.invokestatic 11, 3) := dk_184 0 11 (dk_at dksX15_pays_0 8 rfl rfl)
theorem dX15_pays_11 : decode cX15_pays 11 = .ok (.ireturn, 1) := dk_172 (dk_at dksX15_pays_0 11 rfl rfl)
abbrev cX15_skill : ByteArray := prog_12_method_4_code
def yX15_skill : MethodName := ⟨RX15, "skill", "()I"⟩
def dkwX15_skill_0 : List UInt8 := [42, 183, 0, 17, 16, 9, 96, 172]
abbrev dktX15_skill_0 : List UInt8 := dkwX15_skill_0 ++ []
theorem dksX15_skill_0 : cX15_skill.data.toList.drop 0 = dktX15_skill_0 := by decide +kernel
theorem dX15_skill_0 : decode cX15_skill 0 = .ok (.aload_n 0, 1) := dk_42 (dk_at dksX15_skill_0 0 rfl rfl)
theorem dX15_skill_1 : decode cX15_skill 1 = .ok (.invokespecial 17, 3) := dk_183 0 17 (dk_at dksX15_skill_0 1 rfl rfl)
theorem dX15_skill_4 : decode cX15_skill 4 = .ok (.bipush 9, 2) := dk_16 9 (dk_at dksX15_skill_0 4 rfl rfl)
theorem dX15_skill_6 : decode cX15_skill 6 = .ok (.iadd, 1) := dk_96 (dk_at dksX15_skill_0 6 rfl rfl)
theorem dX15_skill_7 : decode cX15_skill 7 = .ok (.ireturn, 1) := dk_172 (dk_at dksX15_skill_0 7 rfl rfl)
abbrev cX15_failure : ByteArray := prog_12_method_5_code
def yX15_failure : MethodName := ⟨RX15, "failure", "()LLookAtClock$Tossed;"⟩
def dkwX15_failure_1 : List UInt8 := [183, 0, 30, 176]
abbrev dktX15_failure_1 : List UInt8 := dkwX15_failure_1 ++ []
def dkwX15_failure_0 : List UInt8 := [42, 183, 0, 21, 199, 0, 7, 1, 167, 0, 18, 187, 0, 25, 89, 17, 0, 200, 42, 182, 0, 27, 96]
abbrev dktX15_failure_0 : List UInt8 := dkwX15_failure_0 ++ dktX15_failure_1
theorem dksX15_failure_0 : cX15_failure.data.toList.drop 0 = dktX15_failure_0 := by decide +kernel
theorem dksX15_failure_1 : cX15_failure.data.toList.drop 23 = dktX15_failure_1 := dk_seg dksX15_failure_0 23 rfl rfl
theorem dX15_failure_0 : decode cX15_failure 0 = .ok (.aload_n 0, 1) := dk_42 (dk_at dksX15_failure_0 0 rfl rfl)
theorem dX15_failure_1 : decode cX15_failure 1 = .ok (.invokespecial 21, 3) := dk_183 0 21 (dk_at dksX15_failure_0 1 rfl rfl)
theorem dX15_failure_4 : decode cX15_failure 4 = .ok (.ifnonnull 7, 3) := dk_199 0 7 (dk_at dksX15_failure_0 4 rfl rfl)
theorem dX15_failure_7 : decode cX15_failure 7 = .ok (.aconst_null, 1) := dk_1 (dk_at dksX15_failure_0 7 rfl rfl)
theorem dX15_failure_8 : decode cX15_failure 8 = .ok (.goto 18, 3) := dk_167 0 18 (dk_at dksX15_failure_0 8 rfl rfl)
theorem dX15_failure_11 : decode cX15_failure 11 = .ok (.new 25, 3) := dk_187 0 25 (dk_at dksX15_failure_0 11 rfl rfl)
theorem dX15_failure_14 : decode cX15_failure 14 = .ok (.dup, 1) := dk_89 (dk_at dksX15_failure_0 14 rfl rfl)
theorem dX15_failure_15 : decode cX15_failure 15 = .ok (.sipush 200, 3) := dk_17 0 200 (dk_at dksX15_failure_0 15 rfl rfl)
theorem dX15_failure_18 : decode cX15_failure 18 = .ok (.aload_n 0, 1) := dk_42 (dk_at dksX15_failure_0 18 rfl rfl)
theorem dX15_failure_19 : decode cX15_failure 19 = .ok (.invokevirtual 27, 3) := dk_182 0 27 (dk_at dksX15_failure_0 19 rfl rfl)
theorem dX15_failure_22 : decode cX15_failure 22 = .ok (.iadd, 1) := dk_96 (dk_at dksX15_failure_0 22 rfl rfl)
theorem dX15_failure_23 : decode cX15_failure 23 = .ok (.invokespecial 30, 3) := dk_183 0 30 (dk_at dksX15_failure_1 0 rfl rfl)
theorem dX15_failure_26 : decode cX15_failure 26 = .ok (.areturn, 1) := dk_176 (dk_at dksX15_failure_1 3 rfl rfl)
theorem q60 : (Jvm.Cond.initialized "LookAtClock$Seller") ∈ lw_all := lw_g (lw_at lw_m1 19 rfl) rfl
theorem q440 : (Jvm.Cond.instantiable "LookAtClock$Seller" (4 : Nat)) ∈ lw_all := lw_g (lw_at lw_m2 159 rfl) rfl
theorem q442 : (Jvm.Cond.instanceMethod ({ cls := "LookAtClock$Seller", name := "<init>", desc := "(IIII)V" } : Jvm.MethodName)) ∈ lw_all := lw_g (lw_at lw_m2 161 rfl) rfl
theorem q443 : (Jvm.Cond.code ({ cls := "LookAtClock$Seller", name := "<init>", desc := "(IIII)V" } : Jvm.MethodName) prog_12_method_1_code (5 : Nat) (Option.none : Option Jvm.ClassFile.FieldType)) ∈ lw_all := lw_g (lw_at lw_m2 162 rfl) rfl
theorem q444 : (Jvm.Cond.methodLink "LookAtClock$Seller" (1 : Nat) ({ cls := "LookAtClock$Cheap", name := "<init>", desc := "(IIII)V" } : Jvm.MethodName)) ∈ lw_all := lw_g (lw_at lw_m2 163 rfl) rfl
theorem q445 : (Jvm.Cond.laysFinal "LookAtClock$Seller" "LookAtClock$Looker" "number" "I") ∈ lw_all := lw_g (lw_at lw_m2 164 rfl) rfl
theorem q446 : (Jvm.Cond.laysFinal "LookAtClock$Seller" "LookAtClock$Looker" "figure" "I") ∈ lw_all := lw_g (lw_at lw_m2 165 rfl) rfl
theorem q447 : (Jvm.Cond.laysFinal "LookAtClock$Seller" "LookAtClock$Looker" "drift" "I") ∈ lw_all := lw_g (lw_at lw_m2 166 rfl) rfl
theorem q448 : (Jvm.Cond.laysFinal "LookAtClock$Seller" "LookAtClock$Looker" "wake" "I") ∈ lw_all := lw_g (lw_at lw_m2 167 rfl) rfl
theorem q449 : (Jvm.Cond.superclass "LookAtClock$Seller" "LookAtClock$Cheap") ∈ lw_all := lw_g (lw_at lw_m2 168 rfl) rfl
theorem q495 : (Jvm.Cond.selects "LookAtClock$Seller" ({ cls := "LookAtClock$Looker", name := "kind", desc := "()I" } : Jvm.MethodName) ({ cls := "LookAtClock$Seller", name := "kind", desc := "()I" } : Jvm.MethodName)) ∈ lw_all := lw_g (lw_at lw_m2 214 rfl) rfl
theorem q496 : (Jvm.Cond.instanceMethod ({ cls := "LookAtClock$Seller", name := "kind", desc := "()I" } : Jvm.MethodName)) ∈ lw_all := lw_g (lw_at lw_m2 215 rfl) rfl
theorem q497 : (Jvm.Cond.code ({ cls := "LookAtClock$Seller", name := "kind", desc := "()I" } : Jvm.MethodName) prog_12_method_2_code (1 : Nat) (Option.some Jvm.ClassFile.FieldType.int)) ∈ lw_all := lw_g (lw_at lw_m2 216 rfl) rfl
theorem q517 : (Jvm.Cond.unhidden "LookAtClock$Seller" "early" "()I") ∈ lw_tbl := lw_at lw_m2 236 rfl
theorem q574 : (Jvm.Cond.selects "LookAtClock$Seller" ({ cls := "LookAtClock$Watcher", name := "looksBy", desc := "(LLookAtClock$Day;)I" } : Jvm.MethodName) ({ cls := "LookAtClock$Watcher", name := "looksBy", desc := "(LLookAtClock$Day;)I" } : Jvm.MethodName)) ∈ lw_all := lw_g (lw_at lw_m3 53 rfl) rfl
theorem q597 : (Jvm.Cond.selects "LookAtClock$Seller" ({ cls := "LookAtClock$Looks", name := "looksNow", desc := "(LLookAtClock$Day;)Z" } : Jvm.MethodName) ({ cls := "LookAtClock$Cheap", name := "looksNow", desc := "(LLookAtClock$Day;)Z" } : Jvm.MethodName)) ∈ lw_all := lw_g (lw_at lw_m3 76 rfl) rfl
theorem q620 : (Jvm.Cond.selects "LookAtClock$Seller" ({ cls := "LookAtClock$Pays", name := "pays", desc := "(I)I" } : Jvm.MethodName) ({ cls := "LookAtClock$Seller", name := "pays", desc := "(I)I" } : Jvm.MethodName)) ∈ lw_all := lw_g (lw_at lw_m3 99 rfl) rfl
theorem q621 : (Jvm.Cond.instanceMethod ({ cls := "LookAtClock$Seller", name := "pays", desc := "(I)I" } : Jvm.MethodName)) ∈ lw_all := lw_g (lw_at lw_m3 100 rfl) rfl
theorem q622 : (Jvm.Cond.code ({ cls := "LookAtClock$Seller", name := "pays", desc := "(I)I" } : Jvm.MethodName) prog_12_method_3_code (2 : Nat) (Option.some Jvm.ClassFile.FieldType.int)) ∈ lw_all := lw_g (lw_at lw_m3 101 rfl) rfl
theorem q625 : (Jvm.Cond.methodLink "LookAtClock$Seller" (11 : Nat) ({ cls := "java/lang/Math", name := "max", desc := "(II)I" } : Jvm.MethodName)) ∈ lw_all := lw_g (lw_at lw_m3 104 rfl) rfl
theorem q981 : (Jvm.Cond.selects "LookAtClock$Seller" ({ cls := "LookAtClock$Skilled", name := "skill", desc := "()I" } : Jvm.MethodName) ({ cls := "LookAtClock$Seller", name := "skill", desc := "()I" } : Jvm.MethodName)) ∈ lw_all := lw_g (lw_at lw_m4 220 rfl) rfl
theorem q982 : (Jvm.Cond.instanceMethod ({ cls := "LookAtClock$Seller", name := "skill", desc := "()I" } : Jvm.MethodName)) ∈ lw_all := lw_g (lw_at lw_m4 221 rfl) rfl
theorem q983 : (Jvm.Cond.code ({ cls := "LookAtClock$Seller", name := "skill", desc := "()I" } : Jvm.MethodName) prog_12_method_4_code (1 : Nat) (Option.some Jvm.ClassFile.FieldType.int)) ∈ lw_all := lw_g (lw_at lw_m4 222 rfl) rfl
theorem q984 : (Jvm.Cond.methodLink "LookAtClock$Seller" (17 : Nat) ({ cls := "LookAtClock$Cheap", name := "skill", desc := "()I" } : Jvm.MethodName)) ∈ lw_all := lw_g (lw_at lw_m4 223 rfl) rfl
theorem q1034 : (Jvm.Cond.selects "LookAtClock$Seller" ({ cls := "LookAtClock$Looker", name := "failure", desc := "()LLookAtClock$Tossed;" } : Jvm.MethodName) ({ cls := "LookAtClock$Seller", name := "failure", desc := "()LLookAtClock$Tossed;" } : Jvm.MethodName)) ∈ lw_all := lw_g (lw_at lw_m5 33 rfl) rfl
theorem q1035 : (Jvm.Cond.instanceMethod ({ cls := "LookAtClock$Seller", name := "failure", desc := "()LLookAtClock$Tossed;" } : Jvm.MethodName)) ∈ lw_all := lw_g (lw_at lw_m5 34 rfl) rfl
theorem q1036 : (Jvm.Cond.code ({ cls := "LookAtClock$Seller", name := "failure", desc := "()LLookAtClock$Tossed;" } : Jvm.MethodName) prog_12_method_5_code (1 : Nat) (Option.some (Jvm.ClassFile.FieldType.object "LookAtClock$Tossed"))) ∈ lw_all := lw_g (lw_at lw_m5 35 rfl) rfl
theorem q1037 : (Jvm.Cond.methodLink "LookAtClock$Seller" (21 : Nat) ({ cls := "LookAtClock$Cheap", name := "failure", desc := "()LLookAtClock$Tossed;" } : Jvm.MethodName)) ∈ lw_all := lw_g (lw_at lw_m5 36 rfl) rfl
theorem q1039 : (Jvm.Cond.classLink "LookAtClock$Seller" (25 : Nat) "LookAtClock$Tossed") ∈ lw_all := lw_g (lw_at lw_m5 38 rfl) rfl
theorem q1040 : (Jvm.Cond.methodLink "LookAtClock$Seller" (27 : Nat) ({ cls := "LookAtClock$Seller", name := "skill", desc := "()I" } : Jvm.MethodName)) ∈ lw_all := lw_g (lw_at lw_m5 39 rfl) rfl
theorem q1041 : (Jvm.Cond.methodLink "LookAtClock$Seller" (30 : Nat) ({ cls := "LookAtClock$Tossed", name := "<init>", desc := "(I)V" } : Jvm.MethodName)) ∈ lw_all := lw_g (lw_at lw_m5 40 rfl) rfl
theorem q1479 : (Jvm.Cond.selects "LookAtClock$Seller" ({ cls := "LookAtClock$Seller", name := "skill", desc := "()I" } : Jvm.MethodName) ({ cls := "LookAtClock$Seller", name := "skill", desc := "()I" } : Jvm.MethodName)) ∈ lw_all := lw_g (lw_at lw_m6 238 rfl) rfl
theorem q1487 : (Jvm.Cond.castable "LookAtClock$Seller" "LookAtClock$Looker") ∈ lw_tbl := lw_at lw_m7 6 rfl
theorem in_X15 : ∀ w ∈ wsX150, w ∈ lw_all := lw_in wsX150 [445, 446, 447, 448] (by decide +kernel) (by decide +kernel)
/-! LookAtClock$Tossed -/
set_option maxRecDepth 100000
def RX16 : String := "LookAtClock$Tossed"
def TX16 : u_T := fun k => match k with
  | 0 => ("java/lang/Throwable", "cause", "Ljava/lang/Throwable;", false)
  | 1 => ("java/lang/Throwable", "stackTrace", "[Ljava/lang/StackTraceElement;", false)
  | 2 => ("java/lang/Throwable", "suppressedExceptions", "Ljava/util/List;", false)
  | 3 => ("java/lang/Throwable", "detailMessage", "Ljava/lang/String;", false)
  | 4 => ("java/lang/Throwable", "backtrace", "Ljava/lang/Object;", false)
  | 5 => ("java/lang/Throwable", "depth", "I", false)
  | _ => ("LookAtClock$Tossed", "n", "I", true)
def tyX16 : Nat → FieldType := fun k => match k with
  | 0 => .object "java/lang/Throwable"
  | 1 => .array (.object "java/lang/StackTraceElement")
  | 2 => .object "java/util/List"
  | 3 => .object "java/lang/String"
  | 4 => .object "java/lang/Object"
  | 5 => .int
  | _ => .int
abbrev wsX160 : List Cond := u_ws RX16 TX16 7
theorem nmX16 : ∀ a, a < 7 → ∀ b, b < 7 → a ≠ b → (TX16 a).2.1 ≠ (TX16 b).2.1 := by decide +kernel
theorem tyX16_ok : ∀ k, k < 7 → parseFieldDescriptor (TX16 k).2.2.1 = some (tyX16 k) := by decide +kernel
abbrev cX16_init : ByteArray := prog_17_method_1_code
def yX16_init : MethodName := ⟨RX16, "<init>", "(I)V"⟩
def dkwX16_init_0 : List UInt8 := [42, 183, 0, 1, 42, 27, 181, 0, 7, 177]
abbrev dktX16_init_0 : List UInt8 := dkwX16_init_0 ++ []
theorem dksX16_init_0 : cX16_init.data.toList.drop 0 = dktX16_init_0 := by decide +kernel
theorem dX16_init_0 : decode cX16_init 0 = .ok (.aload_n 0, 1) := dk_42 (dk_at dksX16_init_0 0 rfl rfl)
theorem dX16_init_1 : decode cX16_init 1 = .ok (.invokespecial 1, 3) := dk_183 0 1 (dk_at dksX16_init_0 1 rfl rfl)
theorem dX16_init_4 : decode cX16_init 4 = .ok (.aload_n 0, 1) := dk_42 (dk_at dksX16_init_0 4 rfl rfl)
theorem dX16_init_5 : decode cX16_init 5 = .ok (.iload_n 1, 1) := dk_27 (dk_at dksX16_init_0 5 rfl rfl)
theorem dX16_init_6 : decode cX16_init 6 = .ok (.putfield 7, 3) := dk_181 0 7 (dk_at dksX16_init_0 6 rfl rfl)
theorem dX16_init_9 : decode cX16_init 9 = .ok (.return_, 1) := dk_177 (dk_at dksX16_init_0 9 rfl rfl)
theorem q70 : (Jvm.Cond.initialized "LookAtClock$Tossed") ∈ lw_all := lw_g (lw_at lw_m1 29 rfl) rfl
theorem q178 : (Jvm.Cond.selects "LookAtClock$Tossed" ({ cls := "java/lang/Throwable", name := "fillInStackTrace", desc := "()Ljava/lang/Throwable;" } : Jvm.MethodName) ({ cls := "java/lang/Throwable", name := "fillInStackTrace", desc := "()Ljava/lang/Throwable;" } : Jvm.MethodName)) ∈ lw_all := lw_g (lw_at lw_m1 137 rfl) rfl
theorem q1011 : (Jvm.Cond.instantiable "LookAtClock$Tossed" (7 : Nat)) ∈ lw_all := lw_g (lw_at lw_m5 10 rfl) rfl
theorem q1012 : (Jvm.Cond.castable "LookAtClock$Tossed" "LookAtClock$Tossed") ∈ lw_tbl := lw_at lw_m5 11 rfl
theorem q1013 : (Jvm.Cond.selects "LookAtClock$Tossed" ({ cls := "java/lang/Throwable", name := "fillInStackTrace", desc := "(I)Ljava/lang/Throwable;" } : Jvm.MethodName) ({ cls := "java/lang/Throwable", name := "fillInStackTrace", desc := "(I)Ljava/lang/Throwable;" } : Jvm.MethodName)) ∈ lw_all := lw_g (lw_at lw_m5 12 rfl) rfl
theorem q1014 : (Jvm.Cond.lays "LookAtClock$Tossed" "java/lang/Throwable" "cause" "Ljava/lang/Throwable;") ∈ lw_all := lw_g (lw_at lw_m5 13 rfl) rfl
theorem q1015 : (Jvm.Cond.lays "LookAtClock$Tossed" "java/lang/Throwable" "stackTrace" "[Ljava/lang/StackTraceElement;") ∈ lw_all := lw_g (lw_at lw_m5 14 rfl) rfl
theorem q1016 : (Jvm.Cond.lays "LookAtClock$Tossed" "java/lang/Throwable" "suppressedExceptions" "Ljava/util/List;") ∈ lw_all := lw_g (lw_at lw_m5 15 rfl) rfl
theorem q1017 : (Jvm.Cond.lays "LookAtClock$Tossed" "java/lang/Throwable" "detailMessage" "Ljava/lang/String;") ∈ lw_all := lw_g (lw_at lw_m5 16 rfl) rfl
theorem q1018 : (Jvm.Cond.lays "LookAtClock$Tossed" "java/lang/Throwable" "backtrace" "Ljava/lang/Object;") ∈ lw_all := lw_g (lw_at lw_m5 17 rfl) rfl
theorem q1020 : (Jvm.Cond.instanceMethod ({ cls := "LookAtClock$Tossed", name := "<init>", desc := "(I)V" } : Jvm.MethodName)) ∈ lw_all := lw_g (lw_at lw_m5 19 rfl) rfl
theorem q1021 : (Jvm.Cond.code ({ cls := "LookAtClock$Tossed", name := "<init>", desc := "(I)V" } : Jvm.MethodName) prog_17_method_1_code (2 : Nat) (Option.none : Option Jvm.ClassFile.FieldType)) ∈ lw_all := lw_g (lw_at lw_m5 20 rfl) rfl
theorem q1022 : (Jvm.Cond.methodLink "LookAtClock$Tossed" (1 : Nat) ({ cls := "java/lang/RuntimeException", name := "<init>", desc := "()V" } : Jvm.MethodName)) ∈ lw_all := lw_g (lw_at lw_m5 21 rfl) rfl
theorem q1023 : (Jvm.Cond.fieldLink "LookAtClock$Tossed" (7 : Nat) "LookAtClock$Tossed" "n" "I") ∈ lw_all := lw_g (lw_at lw_m5 22 rfl) rfl
theorem q1026 : (Jvm.Cond.laysFinal "LookAtClock$Tossed" "LookAtClock$Tossed" "n" "I") ∈ lw_all := lw_g (lw_at lw_m5 25 rfl) rfl
theorem q1027 : (Jvm.Cond.soleField "LookAtClock$Tossed" "n") ∈ lw_all := lw_g (lw_at lw_m5 26 rfl) rfl
theorem q1028 : (Jvm.Cond.lays "LookAtClock$Tossed" "java/lang/Throwable" "depth" "I") ∈ lw_all := lw_g (lw_at lw_m5 27 rfl) rfl
theorem q1029 : (Jvm.Cond.superclass "LookAtClock$Tossed" "java/lang/RuntimeException") ∈ lw_all := lw_g (lw_at lw_m5 28 rfl) rfl
theorem in_X16 : ∀ w ∈ wsX160, w ∈ lw_all := lw_in wsX160 [1014, 1015, 1016, 1017, 1018, 1028, 1026] (by decide +kernel) (by decide +kernel)
/-! LookAtClock$Looks -/
set_option maxRecDepth 100000
def RX17 : String := "LookAtClock$Looks"
abbrev cX17_early : ByteArray := prog_8_method_2_code
def yX17_early : MethodName := ⟨RX17, "early", "()I"⟩
theorem dX17_early_0 : decode cX17_early 0 = .ok (.iconst 0, 1) := by decide +kernel
theorem dX17_early_1 : decode cX17_early 1 = .ok (.ireturn, 1) := by decide +kernel
abbrev cX17_looksNow : ByteArray := prog_8_method_1_code
def yX17_looksNow : MethodName := ⟨RX17, "looksNow", "(LLookAtClock$Day;)Z"⟩
theorem dX17_looksNow_0 : decode cX17_looksNow 0 = .ok (.iconst 0, 1) := by decide +kernel
theorem dX17_looksNow_1 : decode cX17_looksNow 1 = .ok (.ireturn, 1) := by decide +kernel
theorem q508 : (Jvm.Cond.declares ({ cls := "LookAtClock$Looks", name := "early", desc := "()I" } : Jvm.MethodName)) ∈ lw_tbl := lw_at lw_m2 227 rfl
theorem q515 : (Jvm.Cond.instanceMethod ({ cls := "LookAtClock$Looks", name := "early", desc := "()I" } : Jvm.MethodName)) ∈ lw_all := lw_g (lw_at lw_m2 234 rfl) rfl
theorem q516 : (Jvm.Cond.code ({ cls := "LookAtClock$Looks", name := "early", desc := "()I" } : Jvm.MethodName) prog_8_method_2_code (1 : Nat) (Option.some Jvm.ClassFile.FieldType.int)) ∈ lw_all := lw_g (lw_at lw_m2 235 rfl) rfl
theorem q523 : (Jvm.Cond.publicMethod ({ cls := "LookAtClock$Looks", name := "early", desc := "()I" } : Jvm.MethodName)) ∈ lw_tbl := lw_at lw_m3 2 rfl
theorem q552 : (Jvm.Cond.declares ({ cls := "LookAtClock$Looks", name := "looksNow", desc := "(LLookAtClock$Day;)Z" } : Jvm.MethodName)) ∈ lw_tbl := lw_at lw_m3 31 rfl
theorem q607 : (Jvm.Cond.instanceMethod ({ cls := "LookAtClock$Looks", name := "looksNow", desc := "(LLookAtClock$Day;)Z" } : Jvm.MethodName)) ∈ lw_all := lw_g (lw_at lw_m3 86 rfl) rfl
theorem q608 : (Jvm.Cond.publicMethod ({ cls := "LookAtClock$Looks", name := "looksNow", desc := "(LLookAtClock$Day;)Z" } : Jvm.MethodName)) ∈ lw_tbl := lw_at lw_m3 87 rfl
theorem q609 : (Jvm.Cond.code ({ cls := "LookAtClock$Looks", name := "looksNow", desc := "(LLookAtClock$Day;)Z" } : Jvm.MethodName) prog_8_method_1_code (2 : Nat) (Option.some Jvm.ClassFile.FieldType.boolean)) ∈ lw_all := lw_g (lw_at lw_m3 88 rfl) rfl
theorem q1480 : (Jvm.Cond.initialized "LookAtClock$Looks") ∈ lw_all := lw_g (lw_at lw_m6 239 rfl) rfl
/-! LookAtClock$Pays -/
set_option maxRecDepth 100000
def RX18 : String := "LookAtClock$Pays"
abbrev cX18_pays : ByteArray := prog_10_method_1_code
def yX18_pays : MethodName := ⟨RX18, "pays", "(I)I"⟩
theorem dX18_pays_0 : decode cX18_pays 0 = .ok (.iload_n 1, 1) := by decide +kernel
theorem dX18_pays_1 : decode cX18_pays 1 = .ok (.ireturn, 1) := by decide +kernel
theorem q615 : (Jvm.Cond.declares ({ cls := "LookAtClock$Pays", name := "pays", desc := "(I)I" } : Jvm.MethodName)) ∈ lw_tbl := lw_at lw_m3 94 rfl
theorem q623 : (Jvm.Cond.instanceMethod ({ cls := "LookAtClock$Pays", name := "pays", desc := "(I)I" } : Jvm.MethodName)) ∈ lw_all := lw_g (lw_at lw_m3 102 rfl) rfl
theorem q624 : (Jvm.Cond.code ({ cls := "LookAtClock$Pays", name := "pays", desc := "(I)I" } : Jvm.MethodName) prog_10_method_1_code (2 : Nat) (Option.some Jvm.ClassFile.FieldType.int)) ∈ lw_all := lw_g (lw_at lw_m3 103 rfl) rfl
theorem q633 : (Jvm.Cond.publicMethod ({ cls := "LookAtClock$Pays", name := "pays", desc := "(I)I" } : Jvm.MethodName)) ∈ lw_tbl := lw_at lw_m3 112 rfl
theorem q1481 : (Jvm.Cond.initialized "LookAtClock$Pays") ∈ lw_all := lw_g (lw_at lw_m7 0 rfl) rfl
/-! LookAtClock$Skilled -/
set_option maxRecDepth 100000
def RX19 : String := "LookAtClock$Skilled"
abbrev cX19_skill : ByteArray := prog_15_method_1_code
def yX19_skill : MethodName := ⟨RX19, "skill", "()I"⟩
theorem dX19_skill_0 : decode cX19_skill 0 = .ok (.iconst 1, 1) := by decide +kernel
theorem dX19_skill_1 : decode cX19_skill 1 = .ok (.ireturn, 1) := by decide +kernel
theorem q964 : (Jvm.Cond.declares ({ cls := "LookAtClock$Skilled", name := "skill", desc := "()I" } : Jvm.MethodName)) ∈ lw_tbl := lw_at lw_m4 203 rfl
theorem q971 : (Jvm.Cond.instanceMethod ({ cls := "LookAtClock$Skilled", name := "skill", desc := "()I" } : Jvm.MethodName)) ∈ lw_all := lw_g (lw_at lw_m4 210 rfl) rfl
theorem q972 : (Jvm.Cond.code ({ cls := "LookAtClock$Skilled", name := "skill", desc := "()I" } : Jvm.MethodName) prog_15_method_1_code (1 : Nat) (Option.some Jvm.ClassFile.FieldType.int)) ∈ lw_all := lw_g (lw_at lw_m4 211 rfl) rfl
theorem q993 : (Jvm.Cond.publicMethod ({ cls := "LookAtClock$Skilled", name := "skill", desc := "()I" } : Jvm.MethodName)) ∈ lw_tbl := lw_at lw_m4 232 rfl
theorem q1482 : (Jvm.Cond.initialized "LookAtClock$Skilled") ∈ lw_all := lw_g (lw_at lw_m7 1 rfl) rfl
/-! java/lang/Throwable -/
set_option maxRecDepth 100000
def RJ0 : String := "java/lang/Throwable"
def TJ0 : u_T := fun k => match k with
  | 0 => ("java/lang/Throwable", "cause", "Ljava/lang/Throwable;", false)
  | 1 => ("java/lang/Throwable", "stackTrace", "[Ljava/lang/StackTraceElement;", false)
  | 2 => ("java/lang/Throwable", "suppressedExceptions", "Ljava/util/List;", false)
  | 3 => ("java/lang/Throwable", "detailMessage", "Ljava/lang/String;", false)
  | _ => ("java/lang/Throwable", "backtrace", "Ljava/lang/Object;", false)
def tyJ0 : Nat → FieldType := fun k => match k with
  | 0 => .object "java/lang/Throwable"
  | 1 => .array (.object "java/lang/StackTraceElement")
  | 2 => .object "java/util/List"
  | 3 => .object "java/lang/String"
  | _ => .object "java/lang/Object"
abbrev wsJ00 : List Cond := u_ws RJ0 TJ0 5
theorem nmJ0 : ∀ a, a < 5 → ∀ b, b < 5 → a ≠ b → (TJ0 a).2.1 ≠ (TJ0 b).2.1 := by decide +kernel
theorem tyJ0_ok : ∀ k, k < 5 → parseFieldDescriptor (TJ0 k).2.2.1 = some (tyJ0 k) := by decide +kernel
abbrev cJ0_init : ByteArray := prog_34_method_1_code
def yJ0_init : MethodName := ⟨RJ0, "<init>", "()V"⟩
def dkwJ0_init_1 : List UInt8 := [182, 0, 27, 87, 177]
abbrev dktJ0_init_1 : List UInt8 := dkwJ0_init_1 ++ []
def dkwJ0_init_0 : List UInt8 := [42, 183, 0, 1, 42, 42, 181, 0, 7, 42, 178, 0, 13, 181, 0, 17, 42, 178, 0, 20, 181, 0, 24, 42]
abbrev dktJ0_init_0 : List UInt8 := dkwJ0_init_0 ++ dktJ0_init_1
theorem dksJ0_init_0 : cJ0_init.data.toList.drop 0 = dktJ0_init_0 := by decide +kernel
theorem dksJ0_init_1 : cJ0_init.data.toList.drop 24 = dktJ0_init_1 := dk_seg dksJ0_init_0 24 rfl rfl
theorem dJ0_init_0 : decode cJ0_init 0 = .ok (.aload_n 0, 1) := dk_42 (dk_at dksJ0_init_0 0 rfl rfl)
theorem dJ0_init_1 : decode cJ0_init 1 = .ok (.invokespecial 1, 3) := dk_183 0 1 (dk_at dksJ0_init_0 1 rfl rfl)
theorem dJ0_init_4 : decode cJ0_init 4 = .ok (.aload_n 0, 1) := dk_42 (dk_at dksJ0_init_0 4 rfl rfl)
theorem dJ0_init_5 : decode cJ0_init 5 = .ok (.aload_n 0, 1) := dk_42 (dk_at dksJ0_init_0 5 rfl rfl)
theorem dJ0_init_6 : decode cJ0_init 6 = .ok (.putfield 7, 3) := dk_181 0 7 (dk_at dksJ0_init_0 6 rfl rfl)
theorem dJ0_init_9 : decode cJ0_init 9 = .ok (.aload_n 0, 1) := dk_42 (dk_at dksJ0_init_0 9 rfl rfl)
theorem dJ0_init_10 : decode cJ0_init 10 = .ok (.getstatic 13, 3) := dk_178 0 13 (dk_at dksJ0_init_0 10 rfl rfl)
theorem dJ0_init_13 : decode cJ0_init 13 = .ok (.putfield 17, 3) := dk_181 0 17 (dk_at dksJ0_init_0 13 rfl rfl)
theorem dJ0_init_16 : decode cJ0_init 16 = .ok (.aload_n 0, 1) := dk_42 (dk_at dksJ0_init_0 16 rfl rfl)
theorem dJ0_init_17 : decode cJ0_init 17 = .ok (.getstatic 20, 3) := dk_178 0 20 (dk_at dksJ0_init_0 17 rfl rfl)
theorem dJ0_init_20 : decode cJ0_init 20 = .ok (.putfield 24, 3) := dk_181 0 24 (dk_at dksJ0_init_0 20 rfl rfl)
theorem dJ0_init_23 : decode cJ0_init 23 = .ok (.aload_n 0, 1) := dk_42 (dk_at dksJ0_init_0 23 rfl rfl)
theorem dJ0_init_24 : decode cJ0_init 24 = .ok (.invokevirtual 27, 3) := dk_182 0 27 (dk_at dksJ0_init_1 0 rfl rfl)
theorem dJ0_init_27 : decode cJ0_init 27 = .ok (.pop, 1) := dk_87 (dk_at dksJ0_init_1 3 rfl rfl)
theorem dJ0_init_28 : decode cJ0_init 28 = .ok (.return_, 1) := dk_177 (dk_at dksJ0_init_1 4 rfl rfl)
abbrev cJ0_init_2 : ByteArray := prog_34_method_2_code
def yJ0_init_2 : MethodName := ⟨RJ0, "<init>", "(Ljava/lang/String;)V"⟩
def dkwJ0_init_2_1 : List UInt8 := [182, 0, 27, 87, 42, 43, 181, 0, 31, 177]
abbrev dktJ0_init_2_1 : List UInt8 := dkwJ0_init_2_1 ++ []
def dkwJ0_init_2_0 : List UInt8 := [42, 183, 0, 1, 42, 42, 181, 0, 7, 42, 178, 0, 13, 181, 0, 17, 42, 178, 0, 20, 181, 0, 24, 42]
abbrev dktJ0_init_2_0 : List UInt8 := dkwJ0_init_2_0 ++ dktJ0_init_2_1
theorem dksJ0_init_2_0 : cJ0_init_2.data.toList.drop 0 = dktJ0_init_2_0 := by decide +kernel
theorem dksJ0_init_2_1 : cJ0_init_2.data.toList.drop 24 = dktJ0_init_2_1 := dk_seg dksJ0_init_2_0 24 rfl rfl
theorem dJ0_init_2_0 : decode cJ0_init_2 0 = .ok (.aload_n 0, 1) := dk_42 (dk_at dksJ0_init_2_0 0 rfl rfl)
theorem dJ0_init_2_1 : decode cJ0_init_2 1 = .ok (.invokespecial 1, 3) := dk_183 0 1 (dk_at dksJ0_init_2_0 1 rfl rfl)
theorem dJ0_init_2_4 : decode cJ0_init_2 4 = .ok (.aload_n 0, 1) := dk_42 (dk_at dksJ0_init_2_0 4 rfl rfl)
theorem dJ0_init_2_5 : decode cJ0_init_2 5 = .ok (.aload_n 0, 1) := dk_42 (dk_at dksJ0_init_2_0 5 rfl rfl)
theorem dJ0_init_2_6 : decode cJ0_init_2 6 = .ok (.putfield 7, 3) := dk_181 0 7 (dk_at dksJ0_init_2_0 6 rfl rfl)
theorem dJ0_init_2_9 : decode cJ0_init_2 9 = .ok (.aload_n 0, 1) := dk_42 (dk_at dksJ0_init_2_0 9 rfl rfl)
theorem dJ0_init_2_10 : decode cJ0_init_2 10 = .ok (.getstatic 13, 3) := dk_178 0 13 (dk_at dksJ0_init_2_0 10 rfl rfl)
theorem dJ0_init_2_13 : decode cJ0_init_2 13 = .ok (.putfield 17, 3) := dk_181 0 17 (dk_at dksJ0_init_2_0 13 rfl rfl)
theorem dJ0_init_2_16 : decode cJ0_init_2 16 = .ok (.aload_n 0, 1) := dk_42 (dk_at dksJ0_init_2_0 16 rfl rfl)
theorem dJ0_init_2_17 : decode cJ0_init_2 17 = .ok (.getstatic 20, 3) := dk_178 0 20 (dk_at dksJ0_init_2_0 17 rfl rfl)
theorem dJ0_init_2_20 : decode cJ0_init_2 20 = .ok (.putfield 24, 3) := dk_181 0 24 (dk_at dksJ0_init_2_0 20 rfl rfl)
theorem dJ0_init_2_23 : decode cJ0_init_2 23 = .ok (.aload_n 0, 1) := dk_42 (dk_at dksJ0_init_2_0 23 rfl rfl)
theorem dJ0_init_2_24 : decode cJ0_init_2 24 = .ok (.invokevirtual 27, 3) := dk_182 0 27 (dk_at dksJ0_init_2_1 0 rfl rfl)
theorem dJ0_init_2_27 : decode cJ0_init_2 27 = .ok (.pop, 1) := dk_87 (dk_at dksJ0_init_2_1 3 rfl rfl)
theorem dJ0_init_2_28 : decode cJ0_init_2 28 = .ok (.aload_n 0, 1) := dk_42 (dk_at dksJ0_init_2_1 4 rfl rfl)
theorem dJ0_init_2_29 : decode cJ0_init_2 29 = .ok (.aload_n 1, 1) := dk_43 (dk_at dksJ0_init_2_1 5 rfl rfl)
theorem dJ0_init_2_30 : decode cJ0_init_2 30 = .ok (.putfield 31, 3) := dk_181 0 31 (dk_at dksJ0_init_2_1 6 rfl rfl)
theorem dJ0_init_2_33 : decode cJ0_init_2 33 = .ok (.return_, 1) := dk_177 (dk_at dksJ0_init_2_1 9 rfl rfl)
theorem q49 : (Jvm.Cond.initialized "java/lang/Throwable") ∈ lw_all := lw_g (lw_at lw_m1 8 rfl) rfl
theorem q152 : (Jvm.Cond.declares ({ cls := "java/lang/Throwable", name := "<init>", desc := "()V" } : Jvm.MethodName)) ∈ lw_tbl := lw_at lw_m1 111 rfl
theorem q153 : (Jvm.Cond.declares ({ cls := "java/lang/Throwable", name := "<init>", desc := "(Ljava/lang/String;)V" } : Jvm.MethodName)) ∈ lw_tbl := lw_at lw_m1 112 rfl
theorem q157 : (Jvm.Cond.lays "java/lang/Throwable" "java/lang/Throwable" "cause" "Ljava/lang/Throwable;") ∈ lw_all := lw_g (lw_at lw_m1 116 rfl) rfl
theorem q159 : (Jvm.Cond.lays "java/lang/Throwable" "java/lang/Throwable" "stackTrace" "[Ljava/lang/StackTraceElement;") ∈ lw_all := lw_g (lw_at lw_m1 118 rfl) rfl
theorem q161 : (Jvm.Cond.lays "java/lang/Throwable" "java/lang/Throwable" "suppressedExceptions" "Ljava/util/List;") ∈ lw_all := lw_g (lw_at lw_m1 120 rfl) rfl
theorem q163 : (Jvm.Cond.lays "java/lang/Throwable" "java/lang/Throwable" "detailMessage" "Ljava/lang/String;") ∈ lw_all := lw_g (lw_at lw_m1 122 rfl) rfl
theorem q165 : (Jvm.Cond.lays "java/lang/Throwable" "java/lang/Throwable" "backtrace" "Ljava/lang/Object;") ∈ lw_all := lw_g (lw_at lw_m1 124 rfl) rfl
theorem q166 : (Jvm.Cond.fieldLink "java/lang/Throwable" (198 : Nat) "java/lang/Throwable" "backtrace" "Ljava/lang/Object;") ∈ lw_all := lw_g (lw_at lw_m1 125 rfl) rfl
theorem q167 : (Jvm.Cond.superclass "java/lang/Throwable" "java/lang/Object") ∈ lw_all := lw_g (lw_at lw_m1 126 rfl) rfl
theorem q168 : (Jvm.Cond.instanceMethod ({ cls := "java/lang/Throwable", name := "<init>", desc := "()V" } : Jvm.MethodName)) ∈ lw_all := lw_g (lw_at lw_m1 127 rfl) rfl
theorem q169 : (Jvm.Cond.code ({ cls := "java/lang/Throwable", name := "<init>", desc := "()V" } : Jvm.MethodName) prog_34_method_1_code (1 : Nat) (Option.none : Option Jvm.ClassFile.FieldType)) ∈ lw_all := lw_g (lw_at lw_m1 128 rfl) rfl
theorem q170 : (Jvm.Cond.methodLink "java/lang/Throwable" (1 : Nat) ({ cls := "java/lang/Object", name := "<init>", desc := "()V" } : Jvm.MethodName)) ∈ lw_all := lw_g (lw_at lw_m1 129 rfl) rfl
theorem q171 : (Jvm.Cond.fieldLink "java/lang/Throwable" (13 : Nat) "java/lang/Throwable" "UNASSIGNED_STACK" "[Ljava/lang/StackTraceElement;") ∈ lw_all := lw_g (lw_at lw_m1 130 rfl) rfl
theorem q172 : (Jvm.Cond.laysStatic "java/lang/Throwable" "UNASSIGNED_STACK" "[Ljava/lang/StackTraceElement;") ∈ lw_tbl := lw_at lw_m1 131 rfl
theorem q173 : (Jvm.Cond.fieldLink "java/lang/Throwable" (20 : Nat) "java/lang/Throwable" "SUPPRESSED_SENTINEL" "Ljava/util/List;") ∈ lw_all := lw_g (lw_at lw_m1 132 rfl) rfl
theorem q174 : (Jvm.Cond.laysStatic "java/lang/Throwable" "SUPPRESSED_SENTINEL" "Ljava/util/List;") ∈ lw_tbl := lw_at lw_m1 133 rfl
theorem q175 : (Jvm.Cond.methodLink "java/lang/Throwable" (27 : Nat) ({ cls := "java/lang/Throwable", name := "fillInStackTrace", desc := "()Ljava/lang/Throwable;" } : Jvm.MethodName)) ∈ lw_all := lw_g (lw_at lw_m1 134 rfl) rfl
theorem q176 : (Jvm.Cond.instanceMethod ({ cls := "java/lang/Throwable", name := "fillInStackTrace", desc := "()Ljava/lang/Throwable;" } : Jvm.MethodName)) ∈ lw_all := lw_g (lw_at lw_m1 135 rfl) rfl
theorem q177 : (Jvm.Cond.sameMethod "java/lang/Throwable" "java/lang/Throwable" "fillInStackTrace" "()Ljava/lang/Throwable;") ∈ lw_all := lw_g (lw_at lw_m1 136 rfl) rfl
theorem q194 : (Jvm.Cond.declares ({ cls := "java/lang/Throwable", name := "fillInStackTrace", desc := "()Ljava/lang/Throwable;" } : Jvm.MethodName)) ∈ lw_tbl := lw_at lw_m1 153 rfl
theorem q198 : (Jvm.Cond.codeSync ({ cls := "java/lang/Throwable", name := "fillInStackTrace", desc := "()Ljava/lang/Throwable;" } : Jvm.MethodName) prog_34_method_18_code (1 : Nat) (Option.some (Jvm.ClassFile.FieldType.object "java/lang/Throwable"))) ∈ lw_all := lw_g (lw_at lw_m1 157 rfl) rfl
theorem q199 : (Jvm.Cond.methodLink "java/lang/Throwable" (202 : Nat) ({ cls := "java/lang/Throwable", name := "fillInStackTrace", desc := "(I)Ljava/lang/Throwable;" } : Jvm.MethodName)) ∈ lw_all := lw_g (lw_at lw_m1 158 rfl) rfl
theorem q200 : (Jvm.Cond.privateMethod ({ cls := "java/lang/Throwable", name := "fillInStackTrace", desc := "(I)Ljava/lang/Throwable;" } : Jvm.MethodName)) ∈ lw_tbl := lw_at lw_m1 159 rfl
theorem q201 : (Jvm.Cond.instanceMethod ({ cls := "java/lang/Throwable", name := "fillInStackTrace", desc := "(I)Ljava/lang/Throwable;" } : Jvm.MethodName)) ∈ lw_all := lw_g (lw_at lw_m1 160 rfl) rfl
theorem q202 : (Jvm.Cond.instantiable "java/lang/Throwable" (6 : Nat)) ∈ lw_all := lw_g (lw_at lw_m1 161 rfl) rfl
theorem q203 : (Jvm.Cond.native ({ cls := "java/lang/Throwable", name := "fillInStackTrace", desc := "(I)Ljava/lang/Throwable;" } : Jvm.MethodName)) ∈ lw_all := lw_g (lw_at lw_m1 162 rfl) rfl
theorem q218 : (Jvm.Cond.fieldLink "java/lang/Throwable" (198 : Nat) "java/lang/Throwable" "backtrace" "Ljava/lang/Object;") ∈ lw_all := lw_g (lw_at lw_m1 177 rfl) rfl
theorem q219 : (Jvm.Cond.fieldLink "java/lang/Throwable" (31 : Nat) "java/lang/Throwable" "detailMessage" "Ljava/lang/String;") ∈ lw_all := lw_g (lw_at lw_m1 178 rfl) rfl
theorem q220 : (Jvm.Cond.fieldLink "java/lang/Throwable" (7 : Nat) "java/lang/Throwable" "cause" "Ljava/lang/Throwable;") ∈ lw_all := lw_g (lw_at lw_m1 179 rfl) rfl
theorem q221 : (Jvm.Cond.fieldLink "java/lang/Throwable" (17 : Nat) "java/lang/Throwable" "stackTrace" "[Ljava/lang/StackTraceElement;") ∈ lw_all := lw_g (lw_at lw_m1 180 rfl) rfl
theorem q222 : (Jvm.Cond.fieldLink "java/lang/Throwable" (24 : Nat) "java/lang/Throwable" "suppressedExceptions" "Ljava/util/List;") ∈ lw_all := lw_g (lw_at lw_m1 181 rfl) rfl
theorem q227 : (Jvm.Cond.soleField "java/lang/Throwable" "backtrace") ∈ lw_all := lw_g (lw_at lw_m1 186 rfl) rfl
theorem q228 : (Jvm.Cond.soleField "java/lang/Throwable" "detailMessage") ∈ lw_all := lw_g (lw_at lw_m1 187 rfl) rfl
theorem q229 : (Jvm.Cond.soleField "java/lang/Throwable" "cause") ∈ lw_all := lw_g (lw_at lw_m1 188 rfl) rfl
theorem q230 : (Jvm.Cond.soleField "java/lang/Throwable" "stackTrace") ∈ lw_all := lw_g (lw_at lw_m1 189 rfl) rfl
theorem q232 : (Jvm.Cond.soleField "java/lang/Throwable" "depth") ∈ lw_all := lw_g (lw_at lw_m1 191 rfl) rfl
theorem q233 : (Jvm.Cond.soleField "java/lang/Throwable" "suppressedExceptions") ∈ lw_all := lw_g (lw_at lw_m1 192 rfl) rfl
theorem q880 : (Jvm.Cond.instanceMethod ({ cls := "java/lang/Throwable", name := "<init>", desc := "(Ljava/lang/String;)V" } : Jvm.MethodName)) ∈ lw_all := lw_g (lw_at lw_m4 119 rfl) rfl
theorem q881 : (Jvm.Cond.code ({ cls := "java/lang/Throwable", name := "<init>", desc := "(Ljava/lang/String;)V" } : Jvm.MethodName) prog_34_method_2_code (2 : Nat) (Option.none : Option Jvm.ClassFile.FieldType)) ∈ lw_all := lw_g (lw_at lw_m4 120 rfl) rfl
theorem q1475 : (Jvm.Cond.sameMethod "java/lang/Throwable" "java/lang/Throwable" "fillInStackTrace" "(I)Ljava/lang/Throwable;") ∈ lw_all := lw_g (lw_at lw_m6 234 rfl) rfl
theorem in_J0 : ∀ w ∈ wsJ00, w ∈ lw_all := lw_in wsJ00 [157, 159, 161, 163, 165] (by decide +kernel) (by decide +kernel)
/-! java/lang/Exception -/
set_option maxRecDepth 100000
def RJ1 : String := "java/lang/Exception"
abbrev cJ1_init : ByteArray := prog_24_method_1_code
def yJ1_init : MethodName := ⟨RJ1, "<init>", "()V"⟩
theorem dJ1_init_0 : decode cJ1_init 0 = .ok (.aload_n 0, 1) := by decide +kernel
theorem dJ1_init_1 : decode cJ1_init 1 = .ok (.invokespecial 1, 3) := by decide +kernel
theorem dJ1_init_4 : decode cJ1_init 4 = .ok (.return_, 1) := by decide +kernel
abbrev cJ1_init_2 : ByteArray := prog_24_method_2_code
def yJ1_init_2 : MethodName := ⟨RJ1, "<init>", "(Ljava/lang/String;)V"⟩
def dkwJ1_init_2_0 : List UInt8 := [42, 43, 183, 0, 7, 177]
abbrev dktJ1_init_2_0 : List UInt8 := dkwJ1_init_2_0 ++ []
theorem dksJ1_init_2_0 : cJ1_init_2.data.toList.drop 0 = dktJ1_init_2_0 := by decide +kernel
theorem dJ1_init_2_0 : decode cJ1_init_2 0 = .ok (.aload_n 0, 1) := dk_42 (dk_at dksJ1_init_2_0 0 rfl rfl)
theorem dJ1_init_2_1 : decode cJ1_init_2 1 = .ok (.aload_n 1, 1) := dk_43 (dk_at dksJ1_init_2_0 1 rfl rfl)
theorem dJ1_init_2_2 : decode cJ1_init_2 2 = .ok (.invokespecial 7, 3) := dk_183 0 7 (dk_at dksJ1_init_2_0 2 rfl rfl)
theorem dJ1_init_2_5 : decode cJ1_init_2 5 = .ok (.return_, 1) := dk_177 (dk_at dksJ1_init_2_0 5 rfl rfl)
theorem q50 : (Jvm.Cond.initialized "java/lang/Exception") ∈ lw_all := lw_g (lw_at lw_m1 9 rfl) rfl
theorem q150 : (Jvm.Cond.declares ({ cls := "java/lang/Exception", name := "<init>", desc := "()V" } : Jvm.MethodName)) ∈ lw_tbl := lw_at lw_m1 109 rfl
theorem q151 : (Jvm.Cond.declares ({ cls := "java/lang/Exception", name := "<init>", desc := "(Ljava/lang/String;)V" } : Jvm.MethodName)) ∈ lw_tbl := lw_at lw_m1 110 rfl
theorem q197 : (Jvm.Cond.superclass "java/lang/Exception" "java/lang/Throwable") ∈ lw_all := lw_g (lw_at lw_m1 156 rfl) rfl
theorem q211 : (Jvm.Cond.instanceMethod ({ cls := "java/lang/Exception", name := "<init>", desc := "()V" } : Jvm.MethodName)) ∈ lw_all := lw_g (lw_at lw_m1 170 rfl) rfl
theorem q212 : (Jvm.Cond.code ({ cls := "java/lang/Exception", name := "<init>", desc := "()V" } : Jvm.MethodName) prog_24_method_1_code (1 : Nat) (Option.none : Option Jvm.ClassFile.FieldType)) ∈ lw_all := lw_g (lw_at lw_m1 171 rfl) rfl
theorem q213 : (Jvm.Cond.methodLink "java/lang/Exception" (1 : Nat) ({ cls := "java/lang/Throwable", name := "<init>", desc := "()V" } : Jvm.MethodName)) ∈ lw_all := lw_g (lw_at lw_m1 172 rfl) rfl
theorem q877 : (Jvm.Cond.instanceMethod ({ cls := "java/lang/Exception", name := "<init>", desc := "(Ljava/lang/String;)V" } : Jvm.MethodName)) ∈ lw_all := lw_g (lw_at lw_m4 116 rfl) rfl
theorem q878 : (Jvm.Cond.code ({ cls := "java/lang/Exception", name := "<init>", desc := "(Ljava/lang/String;)V" } : Jvm.MethodName) prog_24_method_2_code (2 : Nat) (Option.none : Option Jvm.ClassFile.FieldType)) ∈ lw_all := lw_g (lw_at lw_m4 117 rfl) rfl
theorem q879 : (Jvm.Cond.methodLink "java/lang/Exception" (7 : Nat) ({ cls := "java/lang/Throwable", name := "<init>", desc := "(Ljava/lang/String;)V" } : Jvm.MethodName)) ∈ lw_all := lw_g (lw_at lw_m4 118 rfl) rfl
/-! java/lang/RuntimeException -/
set_option maxRecDepth 100000
def RJ2 : String := "java/lang/RuntimeException"
abbrev cJ2_init : ByteArray := prog_31_method_1_code
def yJ2_init : MethodName := ⟨RJ2, "<init>", "()V"⟩
theorem dJ2_init_0 : decode cJ2_init 0 = .ok (.aload_n 0, 1) := by decide +kernel
theorem dJ2_init_1 : decode cJ2_init 1 = .ok (.invokespecial 1, 3) := by decide +kernel
theorem dJ2_init_4 : decode cJ2_init 4 = .ok (.return_, 1) := by decide +kernel
abbrev cJ2_init_2 : ByteArray := prog_31_method_2_code
def yJ2_init_2 : MethodName := ⟨RJ2, "<init>", "(Ljava/lang/String;)V"⟩
def dkwJ2_init_2_0 : List UInt8 := [42, 43, 183, 0, 7, 177]
abbrev dktJ2_init_2_0 : List UInt8 := dkwJ2_init_2_0 ++ []
theorem dksJ2_init_2_0 : cJ2_init_2.data.toList.drop 0 = dktJ2_init_2_0 := by decide +kernel
theorem dJ2_init_2_0 : decode cJ2_init_2 0 = .ok (.aload_n 0, 1) := dk_42 (dk_at dksJ2_init_2_0 0 rfl rfl)
theorem dJ2_init_2_1 : decode cJ2_init_2 1 = .ok (.aload_n 1, 1) := dk_43 (dk_at dksJ2_init_2_0 1 rfl rfl)
theorem dJ2_init_2_2 : decode cJ2_init_2 2 = .ok (.invokespecial 7, 3) := dk_183 0 7 (dk_at dksJ2_init_2_0 2 rfl rfl)
theorem dJ2_init_2_5 : decode cJ2_init_2 5 = .ok (.return_, 1) := dk_177 (dk_at dksJ2_init_2_0 5 rfl rfl)
theorem q51 : (Jvm.Cond.initialized "java/lang/RuntimeException") ∈ lw_all := lw_g (lw_at lw_m1 10 rfl) rfl
theorem q148 : (Jvm.Cond.declares ({ cls := "java/lang/RuntimeException", name := "<init>", desc := "()V" } : Jvm.MethodName)) ∈ lw_tbl := lw_at lw_m1 107 rfl
theorem q149 : (Jvm.Cond.declares ({ cls := "java/lang/RuntimeException", name := "<init>", desc := "(Ljava/lang/String;)V" } : Jvm.MethodName)) ∈ lw_tbl := lw_at lw_m1 108 rfl
theorem q193 : (Jvm.Cond.sameMethod "java/lang/RuntimeException" "java/lang/Throwable" "fillInStackTrace" "()Ljava/lang/Throwable;") ∈ lw_all := lw_g (lw_at lw_m1 152 rfl) rfl
theorem q196 : (Jvm.Cond.superclass "java/lang/RuntimeException" "java/lang/Exception") ∈ lw_all := lw_g (lw_at lw_m1 155 rfl) rfl
theorem q208 : (Jvm.Cond.instanceMethod ({ cls := "java/lang/RuntimeException", name := "<init>", desc := "()V" } : Jvm.MethodName)) ∈ lw_all := lw_g (lw_at lw_m1 167 rfl) rfl
theorem q209 : (Jvm.Cond.code ({ cls := "java/lang/RuntimeException", name := "<init>", desc := "()V" } : Jvm.MethodName) prog_31_method_1_code (1 : Nat) (Option.none : Option Jvm.ClassFile.FieldType)) ∈ lw_all := lw_g (lw_at lw_m1 168 rfl) rfl
theorem q210 : (Jvm.Cond.methodLink "java/lang/RuntimeException" (1 : Nat) ({ cls := "java/lang/Exception", name := "<init>", desc := "()V" } : Jvm.MethodName)) ∈ lw_all := lw_g (lw_at lw_m1 169 rfl) rfl
theorem q874 : (Jvm.Cond.instanceMethod ({ cls := "java/lang/RuntimeException", name := "<init>", desc := "(Ljava/lang/String;)V" } : Jvm.MethodName)) ∈ lw_all := lw_g (lw_at lw_m4 113 rfl) rfl
theorem q875 : (Jvm.Cond.code ({ cls := "java/lang/RuntimeException", name := "<init>", desc := "(Ljava/lang/String;)V" } : Jvm.MethodName) prog_31_method_2_code (2 : Nat) (Option.none : Option Jvm.ClassFile.FieldType)) ∈ lw_all := lw_g (lw_at lw_m4 114 rfl) rfl
theorem q876 : (Jvm.Cond.methodLink "java/lang/RuntimeException" (7 : Nat) ({ cls := "java/lang/Exception", name := "<init>", desc := "(Ljava/lang/String;)V" } : Jvm.MethodName)) ∈ lw_all := lw_g (lw_at lw_m4 115 rfl) rfl
theorem q963 : (Jvm.Cond.castable "java/lang/RuntimeException" "java/lang/Throwable") ∈ lw_tbl := lw_at lw_m4 202 rfl
/-! java/lang/Math -/
set_option maxRecDepth 100000
def RJ3 : String := "java/lang/Math"
abbrev cJ3_max : ByteArray := prog_28_method_65_code
def yJ3_max : MethodName := ⟨RJ3, "max", "(II)I"⟩
def dkwJ3_max_0 : List UInt8 := [26, 27, 161, 0, 7, 26, 167, 0, 4, 27, 172]
abbrev dktJ3_max_0 : List UInt8 := dkwJ3_max_0 ++ []
theorem dksJ3_max_0 : cJ3_max.data.toList.drop 0 = dktJ3_max_0 := by decide +kernel
theorem dJ3_max_0 : decode cJ3_max 0 = .ok (.iload_n 0, 1) := dk_26 (dk_at dksJ3_max_0 0 rfl rfl)
theorem dJ3_max_1 : decode cJ3_max 1 = .ok (.iload_n 1, 1) := dk_27 (dk_at dksJ3_max_0 1 rfl rfl)
theorem dJ3_max_2 : decode cJ3_max 2 = .ok (.if_icmp .lt 7, 3) := dk_161 0 7 (dk_at dksJ3_max_0 2 rfl rfl)
theorem dJ3_max_5 : decode cJ3_max 5 = .ok (.iload_n 0, 1) := dk_26 (dk_at dksJ3_max_0 5 rfl rfl)
theorem dJ3_max_6 : decode cJ3_max 6 = .ok (.goto 4, 3) := dk_167 0 4 (dk_at dksJ3_max_0 6 rfl rfl)
theorem dJ3_max_9 : decode cJ3_max 9 = .ok (.iload_n 1, 1) := dk_27 (dk_at dksJ3_max_0 9 rfl rfl)
theorem dJ3_max_10 : decode cJ3_max 10 = .ok (.ireturn, 1) := dk_172 (dk_at dksJ3_max_0 10 rfl rfl)
abbrev cJ3_min : ByteArray := prog_28_method_69_code
def yJ3_min : MethodName := ⟨RJ3, "min", "(II)I"⟩
def dkwJ3_min_0 : List UInt8 := [26, 27, 163, 0, 7, 26, 167, 0, 4, 27, 172]
abbrev dktJ3_min_0 : List UInt8 := dkwJ3_min_0 ++ []
theorem dksJ3_min_0 : cJ3_min.data.toList.drop 0 = dktJ3_min_0 := by decide +kernel
theorem dJ3_min_0 : decode cJ3_min 0 = .ok (.iload_n 0, 1) := dk_26 (dk_at dksJ3_min_0 0 rfl rfl)
theorem dJ3_min_1 : decode cJ3_min 1 = .ok (.iload_n 1, 1) := dk_27 (dk_at dksJ3_min_0 1 rfl rfl)
theorem dJ3_min_2 : decode cJ3_min 2 = .ok (.if_icmp .gt 7, 3) := dk_163 0 7 (dk_at dksJ3_min_0 2 rfl rfl)
theorem dJ3_min_5 : decode cJ3_min 5 = .ok (.iload_n 0, 1) := dk_26 (dk_at dksJ3_min_0 5 rfl rfl)
theorem dJ3_min_6 : decode cJ3_min 6 = .ok (.goto 4, 3) := dk_167 0 4 (dk_at dksJ3_min_0 6 rfl rfl)
theorem dJ3_min_9 : decode cJ3_min 9 = .ok (.iload_n 1, 1) := dk_27 (dk_at dksJ3_min_0 9 rfl rfl)
theorem dJ3_min_10 : decode cJ3_min 10 = .ok (.ireturn, 1) := dk_172 (dk_at dksJ3_min_0 10 rfl rfl)
theorem q61 : (Jvm.Cond.initialized "java/lang/Math") ∈ lw_all := lw_g (lw_at lw_m1 20 rfl) rfl
theorem q626 : (Jvm.Cond.static ({ cls := "java/lang/Math", name := "max", desc := "(II)I" } : Jvm.MethodName)) ∈ lw_all := lw_g (lw_at lw_m3 105 rfl) rfl
theorem q627 : (Jvm.Cond.code ({ cls := "java/lang/Math", name := "max", desc := "(II)I" } : Jvm.MethodName) prog_28_method_65_code (2 : Nat) (Option.some Jvm.ClassFile.FieldType.int)) ∈ lw_all := lw_g (lw_at lw_m3 106 rfl) rfl
theorem q641 : (Jvm.Cond.static ({ cls := "java/lang/Math", name := "min", desc := "(II)I" } : Jvm.MethodName)) ∈ lw_all := lw_g (lw_at lw_m3 120 rfl) rfl
theorem q642 : (Jvm.Cond.code ({ cls := "java/lang/Math", name := "min", desc := "(II)I" } : Jvm.MethodName) prog_28_method_69_code (2 : Nat) (Option.some Jvm.ClassFile.FieldType.int)) ∈ lw_all := lw_g (lw_at lw_m3 121 rfl) rfl
/-! java/lang/NegativeArraySizeException -/
set_option maxRecDepth 100000
def RJ4 : String := "java/lang/NegativeArraySizeException"
def TJ4 : u_T := fun k => match k with
  | 0 => ("java/lang/Throwable", "backtrace", "Ljava/lang/Object;", false)
  | 1 => ("java/lang/Throwable", "detailMessage", "Ljava/lang/String;", false)
  | 2 => ("java/lang/Throwable", "cause", "Ljava/lang/Throwable;", false)
  | 3 => ("java/lang/Throwable", "stackTrace", "[Ljava/lang/StackTraceElement;", false)
  | 4 => ("java/lang/Throwable", "depth", "I", false)
  | _ => ("java/lang/Throwable", "suppressedExceptions", "Ljava/util/List;", false)
def tyJ4 : Nat → FieldType := fun k => match k with
  | 0 => .object "java/lang/Object"
  | 1 => .object "java/lang/String"
  | 2 => .object "java/lang/Throwable"
  | 3 => .array (.object "java/lang/StackTraceElement")
  | 4 => .int
  | _ => .object "java/util/List"
abbrev wsJ40 : List Cond := u_ws RJ4 TJ4 6
theorem nmJ4 : ∀ a, a < 6 → ∀ b, b < 6 → a ≠ b → (TJ4 a).2.1 ≠ (TJ4 b).2.1 := by decide +kernel
theorem tyJ4_ok : ∀ k, k < 6 → parseFieldDescriptor (TJ4 k).2.2.1 = some (tyJ4 k) := by decide +kernel
abbrev cJ4_init : ByteArray := prog_29_method_2_code
def yJ4_init : MethodName := ⟨RJ4, "<init>", "(Ljava/lang/String;)V"⟩
def dkwJ4_init_0 : List UInt8 := [42, 43, 183, 0, 7, 177]
abbrev dktJ4_init_0 : List UInt8 := dkwJ4_init_0 ++ []
theorem dksJ4_init_0 : cJ4_init.data.toList.drop 0 = dktJ4_init_0 := by decide +kernel
theorem dJ4_init_0 : decode cJ4_init 0 = .ok (.aload_n 0, 1) := dk_42 (dk_at dksJ4_init_0 0 rfl rfl)
theorem dJ4_init_1 : decode cJ4_init 1 = .ok (.aload_n 1, 1) := dk_43 (dk_at dksJ4_init_0 1 rfl rfl)
theorem dJ4_init_2 : decode cJ4_init 2 = .ok (.invokespecial 7, 3) := dk_183 0 7 (dk_at dksJ4_init_0 2 rfl rfl)
theorem dJ4_init_5 : decode cJ4_init 5 = .ok (.return_, 1) := dk_177 (dk_at dksJ4_init_0 5 rfl rfl)
theorem q62 : (Jvm.Cond.initialized "java/lang/NegativeArraySizeException") ∈ lw_all := lw_g (lw_at lw_m1 21 rfl) rfl
theorem q183 : (Jvm.Cond.selects "java/lang/NegativeArraySizeException" ({ cls := "java/lang/Throwable", name := "fillInStackTrace", desc := "()Ljava/lang/Throwable;" } : Jvm.MethodName) ({ cls := "java/lang/Throwable", name := "fillInStackTrace", desc := "()Ljava/lang/Throwable;" } : Jvm.MethodName)) ∈ lw_all := lw_g (lw_at lw_m1 142 rfl) rfl
theorem q870 : (Jvm.Cond.instantiable "java/lang/NegativeArraySizeException" (6 : Nat)) ∈ lw_all := lw_g (lw_at lw_m4 109 rfl) rfl
theorem q871 : (Jvm.Cond.instanceMethod ({ cls := "java/lang/NegativeArraySizeException", name := "<init>", desc := "(Ljava/lang/String;)V" } : Jvm.MethodName)) ∈ lw_all := lw_g (lw_at lw_m4 110 rfl) rfl
theorem q872 : (Jvm.Cond.code ({ cls := "java/lang/NegativeArraySizeException", name := "<init>", desc := "(Ljava/lang/String;)V" } : Jvm.MethodName) prog_29_method_2_code (2 : Nat) (Option.none : Option Jvm.ClassFile.FieldType)) ∈ lw_all := lw_g (lw_at lw_m4 111 rfl) rfl
theorem q873 : (Jvm.Cond.methodLink "java/lang/NegativeArraySizeException" (7 : Nat) ({ cls := "java/lang/RuntimeException", name := "<init>", desc := "(Ljava/lang/String;)V" } : Jvm.MethodName)) ∈ lw_all := lw_g (lw_at lw_m4 112 rfl) rfl
theorem q882 : (Jvm.Cond.lays "java/lang/NegativeArraySizeException" "java/lang/Throwable" "backtrace" "Ljava/lang/Object;") ∈ lw_all := lw_g (lw_at lw_m4 121 rfl) rfl
theorem q883 : (Jvm.Cond.lays "java/lang/NegativeArraySizeException" "java/lang/Throwable" "detailMessage" "Ljava/lang/String;") ∈ lw_all := lw_g (lw_at lw_m4 122 rfl) rfl
theorem q884 : (Jvm.Cond.lays "java/lang/NegativeArraySizeException" "java/lang/Throwable" "cause" "Ljava/lang/Throwable;") ∈ lw_all := lw_g (lw_at lw_m4 123 rfl) rfl
theorem q885 : (Jvm.Cond.lays "java/lang/NegativeArraySizeException" "java/lang/Throwable" "stackTrace" "[Ljava/lang/StackTraceElement;") ∈ lw_all := lw_g (lw_at lw_m4 124 rfl) rfl
theorem q886 : (Jvm.Cond.lays "java/lang/NegativeArraySizeException" "java/lang/Throwable" "depth" "I") ∈ lw_all := lw_g (lw_at lw_m4 125 rfl) rfl
theorem q887 : (Jvm.Cond.lays "java/lang/NegativeArraySizeException" "java/lang/Throwable" "suppressedExceptions" "Ljava/util/List;") ∈ lw_all := lw_g (lw_at lw_m4 126 rfl) rfl
theorem q888 : (Jvm.Cond.superclass "java/lang/NegativeArraySizeException" "java/lang/RuntimeException") ∈ lw_all := lw_g (lw_at lw_m4 127 rfl) rfl
theorem q889 : (Jvm.Cond.castable "java/lang/NegativeArraySizeException" "java/lang/NegativeArraySizeException") ∈ lw_tbl := lw_at lw_m4 128 rfl
theorem q890 : (Jvm.Cond.selects "java/lang/NegativeArraySizeException" ({ cls := "java/lang/Throwable", name := "fillInStackTrace", desc := "(I)Ljava/lang/Throwable;" } : Jvm.MethodName) ({ cls := "java/lang/Throwable", name := "fillInStackTrace", desc := "(I)Ljava/lang/Throwable;" } : Jvm.MethodName)) ∈ lw_all := lw_g (lw_at lw_m4 129 rfl) rfl
theorem in_J4 : ∀ w ∈ wsJ40, w ∈ lw_all := lw_in wsJ40 [882, 883, 884, 885, 886, 887] (by decide +kernel) (by decide +kernel)
/-! java/lang/String -/
set_option maxRecDepth 100000
def RJ5 : String := "java/lang/String"
def TJ5 : u_T := fun k => match k with
  | 0 => ("java/lang/String", "value", "[B", true)
  | _ => ("java/lang/String", "coder", "B", true)
def tyJ5 : Nat → FieldType := fun k => match k with
  | 0 => .array .byte
  | _ => .byte
abbrev wsJ50 : List Cond := u_ws RJ5 TJ5 2
theorem nmJ5 : ∀ a, a < 2 → ∀ b, b < 2 → a ≠ b → (TJ5 a).2.1 ≠ (TJ5 b).2.1 := by decide +kernel
theorem tyJ5_ok : ∀ k, k < 2 → parseFieldDescriptor (TJ5 k).2.2.1 = some (tyJ5 k) := by decide +kernel
theorem q63 : (Jvm.Cond.initialized "java/lang/String") ∈ lw_all := lw_g (lw_at lw_m1 22 rfl) rfl
theorem q891 : (Jvm.Cond.instantiable "java/lang/String" (4 : Nat)) ∈ lw_all := lw_g (lw_at lw_m4 130 rfl) rfl
theorem q893 : (Jvm.Cond.laysFinal "java/lang/String" "java/lang/String" "value" "[B") ∈ lw_all := lw_g (lw_at lw_m4 132 rfl) rfl
theorem q894 : (Jvm.Cond.soleField "java/lang/String" "value") ∈ lw_all := lw_g (lw_at lw_m4 133 rfl) rfl
theorem q895 : (Jvm.Cond.laysFinal "java/lang/String" "java/lang/String" "coder" "B") ∈ lw_all := lw_g (lw_at lw_m4 134 rfl) rfl
theorem q896 : (Jvm.Cond.soleField "java/lang/String" "coder") ∈ lw_all := lw_g (lw_at lw_m4 135 rfl) rfl
theorem in_J5 : ∀ w ∈ wsJ50, w ∈ lw_all := lw_in wsJ50 [893, 895] (by decide +kernel) (by decide +kernel)
/-! java/lang/ClassCastException -/
set_option maxRecDepth 100000
def RJ6 : String := "java/lang/ClassCastException"
def TJ6 : u_T := fun k => match k with
  | 0 => ("java/lang/Throwable", "backtrace", "Ljava/lang/Object;", false)
  | 1 => ("java/lang/Throwable", "detailMessage", "Ljava/lang/String;", false)
  | 2 => ("java/lang/Throwable", "cause", "Ljava/lang/Throwable;", false)
  | 3 => ("java/lang/Throwable", "stackTrace", "[Ljava/lang/StackTraceElement;", false)
  | 4 => ("java/lang/Throwable", "depth", "I", false)
  | _ => ("java/lang/Throwable", "suppressedExceptions", "Ljava/util/List;", false)
def tyJ6 : Nat → FieldType := fun k => match k with
  | 0 => .object "java/lang/Object"
  | 1 => .object "java/lang/String"
  | 2 => .object "java/lang/Throwable"
  | 3 => .array (.object "java/lang/StackTraceElement")
  | 4 => .int
  | _ => .object "java/util/List"
abbrev wsJ60 : List Cond := u_ws RJ6 TJ6 6
theorem nmJ6 : ∀ a, a < 6 → ∀ b, b < 6 → a ≠ b → (TJ6 a).2.1 ≠ (TJ6 b).2.1 := by decide +kernel
theorem tyJ6_ok : ∀ k, k < 6 → parseFieldDescriptor (TJ6 k).2.2.1 = some (tyJ6 k) := by decide +kernel
abbrev cJ6_init : ByteArray := prog_23_method_2_code
def yJ6_init : MethodName := ⟨RJ6, "<init>", "(Ljava/lang/String;)V"⟩
def dkwJ6_init_0 : List UInt8 := [42, 43, 183, 0, 7, 177]
abbrev dktJ6_init_0 : List UInt8 := dkwJ6_init_0 ++ []
theorem dksJ6_init_0 : cJ6_init.data.toList.drop 0 = dktJ6_init_0 := by decide +kernel
theorem dJ6_init_0 : decode cJ6_init 0 = .ok (.aload_n 0, 1) := dk_42 (dk_at dksJ6_init_0 0 rfl rfl)
theorem dJ6_init_1 : decode cJ6_init 1 = .ok (.aload_n 1, 1) := dk_43 (dk_at dksJ6_init_0 1 rfl rfl)
theorem dJ6_init_2 : decode cJ6_init 2 = .ok (.invokespecial 7, 3) := dk_183 0 7 (dk_at dksJ6_init_0 2 rfl rfl)
theorem dJ6_init_5 : decode cJ6_init 5 = .ok (.return_, 1) := dk_177 (dk_at dksJ6_init_0 5 rfl rfl)
theorem q64 : (Jvm.Cond.initialized "java/lang/ClassCastException") ∈ lw_all := lw_g (lw_at lw_m1 23 rfl) rfl
theorem q180 : (Jvm.Cond.selects "java/lang/ClassCastException" ({ cls := "java/lang/Throwable", name := "fillInStackTrace", desc := "()Ljava/lang/Throwable;" } : Jvm.MethodName) ({ cls := "java/lang/Throwable", name := "fillInStackTrace", desc := "()Ljava/lang/Throwable;" } : Jvm.MethodName)) ∈ lw_all := lw_g (lw_at lw_m1 139 rfl) rfl
theorem q903 : (Jvm.Cond.instantiable "java/lang/ClassCastException" (6 : Nat)) ∈ lw_all := lw_g (lw_at lw_m4 142 rfl) rfl
theorem q904 : (Jvm.Cond.instanceMethod ({ cls := "java/lang/ClassCastException", name := "<init>", desc := "(Ljava/lang/String;)V" } : Jvm.MethodName)) ∈ lw_all := lw_g (lw_at lw_m4 143 rfl) rfl
theorem q905 : (Jvm.Cond.code ({ cls := "java/lang/ClassCastException", name := "<init>", desc := "(Ljava/lang/String;)V" } : Jvm.MethodName) prog_23_method_2_code (2 : Nat) (Option.none : Option Jvm.ClassFile.FieldType)) ∈ lw_all := lw_g (lw_at lw_m4 144 rfl) rfl
theorem q906 : (Jvm.Cond.methodLink "java/lang/ClassCastException" (7 : Nat) ({ cls := "java/lang/RuntimeException", name := "<init>", desc := "(Ljava/lang/String;)V" } : Jvm.MethodName)) ∈ lw_all := lw_g (lw_at lw_m4 145 rfl) rfl
theorem q907 : (Jvm.Cond.lays "java/lang/ClassCastException" "java/lang/Throwable" "backtrace" "Ljava/lang/Object;") ∈ lw_all := lw_g (lw_at lw_m4 146 rfl) rfl
theorem q908 : (Jvm.Cond.lays "java/lang/ClassCastException" "java/lang/Throwable" "detailMessage" "Ljava/lang/String;") ∈ lw_all := lw_g (lw_at lw_m4 147 rfl) rfl
theorem q909 : (Jvm.Cond.lays "java/lang/ClassCastException" "java/lang/Throwable" "cause" "Ljava/lang/Throwable;") ∈ lw_all := lw_g (lw_at lw_m4 148 rfl) rfl
theorem q910 : (Jvm.Cond.lays "java/lang/ClassCastException" "java/lang/Throwable" "stackTrace" "[Ljava/lang/StackTraceElement;") ∈ lw_all := lw_g (lw_at lw_m4 149 rfl) rfl
theorem q911 : (Jvm.Cond.lays "java/lang/ClassCastException" "java/lang/Throwable" "depth" "I") ∈ lw_all := lw_g (lw_at lw_m4 150 rfl) rfl
theorem q912 : (Jvm.Cond.lays "java/lang/ClassCastException" "java/lang/Throwable" "suppressedExceptions" "Ljava/util/List;") ∈ lw_all := lw_g (lw_at lw_m4 151 rfl) rfl
theorem q913 : (Jvm.Cond.superclass "java/lang/ClassCastException" "java/lang/RuntimeException") ∈ lw_all := lw_g (lw_at lw_m4 152 rfl) rfl
theorem q914 : (Jvm.Cond.castable "java/lang/ClassCastException" "java/lang/ClassCastException") ∈ lw_tbl := lw_at lw_m4 153 rfl
theorem q915 : (Jvm.Cond.selects "java/lang/ClassCastException" ({ cls := "java/lang/Throwable", name := "fillInStackTrace", desc := "(I)Ljava/lang/Throwable;" } : Jvm.MethodName) ({ cls := "java/lang/Throwable", name := "fillInStackTrace", desc := "(I)Ljava/lang/Throwable;" } : Jvm.MethodName)) ∈ lw_all := lw_g (lw_at lw_m4 154 rfl) rfl
theorem in_J6 : ∀ w ∈ wsJ60, w ∈ lw_all := lw_in wsJ60 [907, 908, 909, 910, 911, 912] (by decide +kernel) (by decide +kernel)
/-! java/lang/IndexOutOfBoundsException -/
set_option maxRecDepth 100000
def RJ7 : String := "java/lang/IndexOutOfBoundsException"
abbrev cJ7_init : ByteArray := prog_27_method_2_code
def yJ7_init : MethodName := ⟨RJ7, "<init>", "(Ljava/lang/String;)V"⟩
def dkwJ7_init_0 : List UInt8 := [42, 43, 183, 0, 7, 177]
abbrev dktJ7_init_0 : List UInt8 := dkwJ7_init_0 ++ []
theorem dksJ7_init_0 : cJ7_init.data.toList.drop 0 = dktJ7_init_0 := by decide +kernel
theorem dJ7_init_0 : decode cJ7_init 0 = .ok (.aload_n 0, 1) := dk_42 (dk_at dksJ7_init_0 0 rfl rfl)
theorem dJ7_init_1 : decode cJ7_init 1 = .ok (.aload_n 1, 1) := dk_43 (dk_at dksJ7_init_0 1 rfl rfl)
theorem dJ7_init_2 : decode cJ7_init 2 = .ok (.invokespecial 7, 3) := dk_183 0 7 (dk_at dksJ7_init_0 2 rfl rfl)
theorem dJ7_init_5 : decode cJ7_init 5 = .ok (.return_, 1) := dk_177 (dk_at dksJ7_init_0 5 rfl rfl)
theorem q65 : (Jvm.Cond.initialized "java/lang/IndexOutOfBoundsException") ∈ lw_all := lw_g (lw_at lw_m1 24 rfl) rfl
theorem q921 : (Jvm.Cond.instanceMethod ({ cls := "java/lang/IndexOutOfBoundsException", name := "<init>", desc := "(Ljava/lang/String;)V" } : Jvm.MethodName)) ∈ lw_all := lw_g (lw_at lw_m4 160 rfl) rfl
theorem q922 : (Jvm.Cond.code ({ cls := "java/lang/IndexOutOfBoundsException", name := "<init>", desc := "(Ljava/lang/String;)V" } : Jvm.MethodName) prog_27_method_2_code (2 : Nat) (Option.none : Option Jvm.ClassFile.FieldType)) ∈ lw_all := lw_g (lw_at lw_m4 161 rfl) rfl
theorem q923 : (Jvm.Cond.methodLink "java/lang/IndexOutOfBoundsException" (7 : Nat) ({ cls := "java/lang/RuntimeException", name := "<init>", desc := "(Ljava/lang/String;)V" } : Jvm.MethodName)) ∈ lw_all := lw_g (lw_at lw_m4 162 rfl) rfl
theorem q932 : (Jvm.Cond.declares ({ cls := "java/lang/IndexOutOfBoundsException", name := "<init>", desc := "()V" } : Jvm.MethodName)) ∈ lw_tbl := lw_at lw_m4 171 rfl
theorem q933 : (Jvm.Cond.declares ({ cls := "java/lang/IndexOutOfBoundsException", name := "<init>", desc := "(Ljava/lang/String;)V" } : Jvm.MethodName)) ∈ lw_tbl := lw_at lw_m4 172 rfl
/-! java/lang/ArrayIndexOutOfBoundsException -/
set_option maxRecDepth 100000
def RJ8 : String := "java/lang/ArrayIndexOutOfBoundsException"
def TJ8 : u_T := fun k => match k with
  | 0 => ("java/lang/Throwable", "backtrace", "Ljava/lang/Object;", false)
  | 1 => ("java/lang/Throwable", "detailMessage", "Ljava/lang/String;", false)
  | 2 => ("java/lang/Throwable", "cause", "Ljava/lang/Throwable;", false)
  | 3 => ("java/lang/Throwable", "stackTrace", "[Ljava/lang/StackTraceElement;", false)
  | 4 => ("java/lang/Throwable", "depth", "I", false)
  | _ => ("java/lang/Throwable", "suppressedExceptions", "Ljava/util/List;", false)
def tyJ8 : Nat → FieldType := fun k => match k with
  | 0 => .object "java/lang/Object"
  | 1 => .object "java/lang/String"
  | 2 => .object "java/lang/Throwable"
  | 3 => .array (.object "java/lang/StackTraceElement")
  | 4 => .int
  | _ => .object "java/util/List"
abbrev wsJ80 : List Cond := u_ws RJ8 TJ8 6
theorem nmJ8 : ∀ a, a < 6 → ∀ b, b < 6 → a ≠ b → (TJ8 a).2.1 ≠ (TJ8 b).2.1 := by decide +kernel
theorem tyJ8_ok : ∀ k, k < 6 → parseFieldDescriptor (TJ8 k).2.2.1 = some (tyJ8 k) := by decide +kernel
abbrev cJ8_init : ByteArray := prog_22_method_2_code
def yJ8_init : MethodName := ⟨RJ8, "<init>", "(Ljava/lang/String;)V"⟩
def dkwJ8_init_0 : List UInt8 := [42, 43, 183, 0, 7, 177]
abbrev dktJ8_init_0 : List UInt8 := dkwJ8_init_0 ++ []
theorem dksJ8_init_0 : cJ8_init.data.toList.drop 0 = dktJ8_init_0 := by decide +kernel
theorem dJ8_init_0 : decode cJ8_init 0 = .ok (.aload_n 0, 1) := dk_42 (dk_at dksJ8_init_0 0 rfl rfl)
theorem dJ8_init_1 : decode cJ8_init 1 = .ok (.aload_n 1, 1) := dk_43 (dk_at dksJ8_init_0 1 rfl rfl)
theorem dJ8_init_2 : decode cJ8_init 2 = .ok (.invokespecial 7, 3) := dk_183 0 7 (dk_at dksJ8_init_0 2 rfl rfl)
theorem dJ8_init_5 : decode cJ8_init 5 = .ok (.return_, 1) := dk_177 (dk_at dksJ8_init_0 5 rfl rfl)
theorem q66 : (Jvm.Cond.initialized "java/lang/ArrayIndexOutOfBoundsException") ∈ lw_all := lw_g (lw_at lw_m1 25 rfl) rfl
theorem q179 : (Jvm.Cond.selects "java/lang/ArrayIndexOutOfBoundsException" ({ cls := "java/lang/Throwable", name := "fillInStackTrace", desc := "()Ljava/lang/Throwable;" } : Jvm.MethodName) ({ cls := "java/lang/Throwable", name := "fillInStackTrace", desc := "()Ljava/lang/Throwable;" } : Jvm.MethodName)) ∈ lw_all := lw_g (lw_at lw_m1 138 rfl) rfl
theorem q917 : (Jvm.Cond.instantiable "java/lang/ArrayIndexOutOfBoundsException" (6 : Nat)) ∈ lw_all := lw_g (lw_at lw_m4 156 rfl) rfl
theorem q918 : (Jvm.Cond.instanceMethod ({ cls := "java/lang/ArrayIndexOutOfBoundsException", name := "<init>", desc := "(Ljava/lang/String;)V" } : Jvm.MethodName)) ∈ lw_all := lw_g (lw_at lw_m4 157 rfl) rfl
theorem q919 : (Jvm.Cond.code ({ cls := "java/lang/ArrayIndexOutOfBoundsException", name := "<init>", desc := "(Ljava/lang/String;)V" } : Jvm.MethodName) prog_22_method_2_code (2 : Nat) (Option.none : Option Jvm.ClassFile.FieldType)) ∈ lw_all := lw_g (lw_at lw_m4 158 rfl) rfl
theorem q920 : (Jvm.Cond.methodLink "java/lang/ArrayIndexOutOfBoundsException" (7 : Nat) ({ cls := "java/lang/IndexOutOfBoundsException", name := "<init>", desc := "(Ljava/lang/String;)V" } : Jvm.MethodName)) ∈ lw_all := lw_g (lw_at lw_m4 159 rfl) rfl
theorem q924 : (Jvm.Cond.lays "java/lang/ArrayIndexOutOfBoundsException" "java/lang/Throwable" "backtrace" "Ljava/lang/Object;") ∈ lw_all := lw_g (lw_at lw_m4 163 rfl) rfl
theorem q925 : (Jvm.Cond.lays "java/lang/ArrayIndexOutOfBoundsException" "java/lang/Throwable" "detailMessage" "Ljava/lang/String;") ∈ lw_all := lw_g (lw_at lw_m4 164 rfl) rfl
theorem q926 : (Jvm.Cond.lays "java/lang/ArrayIndexOutOfBoundsException" "java/lang/Throwable" "cause" "Ljava/lang/Throwable;") ∈ lw_all := lw_g (lw_at lw_m4 165 rfl) rfl
theorem q927 : (Jvm.Cond.lays "java/lang/ArrayIndexOutOfBoundsException" "java/lang/Throwable" "stackTrace" "[Ljava/lang/StackTraceElement;") ∈ lw_all := lw_g (lw_at lw_m4 166 rfl) rfl
theorem q928 : (Jvm.Cond.lays "java/lang/ArrayIndexOutOfBoundsException" "java/lang/Throwable" "depth" "I") ∈ lw_all := lw_g (lw_at lw_m4 167 rfl) rfl
theorem q929 : (Jvm.Cond.lays "java/lang/ArrayIndexOutOfBoundsException" "java/lang/Throwable" "suppressedExceptions" "Ljava/util/List;") ∈ lw_all := lw_g (lw_at lw_m4 168 rfl) rfl
theorem q930 : (Jvm.Cond.superclass "java/lang/ArrayIndexOutOfBoundsException" "java/lang/IndexOutOfBoundsException") ∈ lw_all := lw_g (lw_at lw_m4 169 rfl) rfl
theorem q931 : (Jvm.Cond.castable "java/lang/ArrayIndexOutOfBoundsException" "java/lang/ArrayIndexOutOfBoundsException") ∈ lw_tbl := lw_at lw_m4 170 rfl
theorem q934 : (Jvm.Cond.selects "java/lang/ArrayIndexOutOfBoundsException" ({ cls := "java/lang/Throwable", name := "fillInStackTrace", desc := "(I)Ljava/lang/Throwable;" } : Jvm.MethodName) ({ cls := "java/lang/Throwable", name := "fillInStackTrace", desc := "(I)Ljava/lang/Throwable;" } : Jvm.MethodName)) ∈ lw_all := lw_g (lw_at lw_m4 173 rfl) rfl
theorem q1483 : (Jvm.Cond.castable "java/lang/ArrayIndexOutOfBoundsException" "java/lang/IndexOutOfBoundsException") ∈ lw_tbl := lw_at lw_m7 2 rfl
theorem in_J8 : ∀ w ∈ wsJ80, w ∈ lw_all := lw_in wsJ80 [924, 925, 926, 927, 928, 929] (by decide +kernel) (by decide +kernel)
/-! java/lang/NullPointerException -/
set_option maxRecDepth 100000
def RJ9 : String := "java/lang/NullPointerException"
def TJ9 : u_T := fun k => match k with
  | 0 => ("java/lang/Throwable", "backtrace", "Ljava/lang/Object;", false)
  | 1 => ("java/lang/Throwable", "detailMessage", "Ljava/lang/String;", false)
  | 2 => ("java/lang/Throwable", "cause", "Ljava/lang/Throwable;", false)
  | 3 => ("java/lang/Throwable", "stackTrace", "[Ljava/lang/StackTraceElement;", false)
  | 4 => ("java/lang/Throwable", "depth", "I", false)
  | 5 => ("java/lang/Throwable", "suppressedExceptions", "Ljava/util/List;", false)
  | 6 => ("java/lang/NullPointerException", "extendedMessageState", "I", false)
  | _ => ("java/lang/NullPointerException", "extendedMessage", "Ljava/lang/String;", false)
def tyJ9 : Nat → FieldType := fun k => match k with
  | 0 => .object "java/lang/Object"
  | 1 => .object "java/lang/String"
  | 2 => .object "java/lang/Throwable"
  | 3 => .array (.object "java/lang/StackTraceElement")
  | 4 => .int
  | 5 => .object "java/util/List"
  | 6 => .int
  | _ => .object "java/lang/String"
abbrev wsJ90 : List Cond := u_ws RJ9 TJ9 8
theorem nmJ9 : ∀ a, a < 8 → ∀ b, b < 8 → a ≠ b → (TJ9 a).2.1 ≠ (TJ9 b).2.1 := by decide +kernel
theorem tyJ9_ok : ∀ k, k < 8 → parseFieldDescriptor (TJ9 k).2.2.1 = some (tyJ9 k) := by decide +kernel
abbrev cJ9_init : ByteArray := prog_30_method_1_code
def yJ9_init : MethodName := ⟨RJ9, "<init>", "()V"⟩
theorem dJ9_init_0 : decode cJ9_init 0 = .ok (.aload_n 0, 1) := by decide +kernel
theorem dJ9_init_1 : decode cJ9_init 1 = .ok (.invokespecial 1, 3) := by decide +kernel
theorem dJ9_init_4 : decode cJ9_init 4 = .ok (.return_, 1) := by decide +kernel
theorem q67 : (Jvm.Cond.initialized "java/lang/NullPointerException") ∈ lw_all := lw_g (lw_at lw_m1 26 rfl) rfl
theorem q184 : (Jvm.Cond.selects "java/lang/NullPointerException" ({ cls := "java/lang/Throwable", name := "fillInStackTrace", desc := "()Ljava/lang/Throwable;" } : Jvm.MethodName) ({ cls := "java/lang/NullPointerException", name := "fillInStackTrace", desc := "()Ljava/lang/Throwable;" } : Jvm.MethodName)) ∈ lw_all := lw_g (lw_at lw_m1 143 rfl) rfl
theorem q185 : (Jvm.Cond.instanceMethod ({ cls := "java/lang/NullPointerException", name := "fillInStackTrace", desc := "()Ljava/lang/Throwable;" } : Jvm.MethodName)) ∈ lw_all := lw_g (lw_at lw_m1 144 rfl) rfl
theorem q186 : (Jvm.Cond.codeSync ({ cls := "java/lang/NullPointerException", name := "fillInStackTrace", desc := "()Ljava/lang/Throwable;" } : Jvm.MethodName) prog_30_method_3_code (1 : Nat) (Option.some (Jvm.ClassFile.FieldType.object "java/lang/Throwable"))) ∈ lw_all := lw_g (lw_at lw_m1 145 rfl) rfl
theorem q187 : (Jvm.Cond.methodLink "java/lang/NullPointerException" (16 : Nat) ({ cls := "java/lang/NullPointerException", name := "getExtendedNPEMessage", desc := "()Ljava/lang/String;" } : Jvm.MethodName)) ∈ lw_all := lw_g (lw_at lw_m1 146 rfl) rfl
theorem q188 : (Jvm.Cond.privateMethod ({ cls := "java/lang/NullPointerException", name := "getExtendedNPEMessage", desc := "()Ljava/lang/String;" } : Jvm.MethodName)) ∈ lw_tbl := lw_at lw_m1 147 rfl
theorem q189 : (Jvm.Cond.instanceMethod ({ cls := "java/lang/NullPointerException", name := "getExtendedNPEMessage", desc := "()Ljava/lang/String;" } : Jvm.MethodName)) ∈ lw_all := lw_g (lw_at lw_m1 148 rfl) rfl
theorem q190 : (Jvm.Cond.instantiable "java/lang/NullPointerException" (8 : Nat)) ∈ lw_all := lw_g (lw_at lw_m1 149 rfl) rfl
theorem q191 : (Jvm.Cond.native ({ cls := "java/lang/NullPointerException", name := "getExtendedNPEMessage", desc := "()Ljava/lang/String;" } : Jvm.MethodName)) ∈ lw_all := lw_g (lw_at lw_m1 150 rfl) rfl
theorem q192 : (Jvm.Cond.methodLink "java/lang/NullPointerException" (24 : Nat) ({ cls := "java/lang/RuntimeException", name := "fillInStackTrace", desc := "()Ljava/lang/Throwable;" } : Jvm.MethodName)) ∈ lw_all := lw_g (lw_at lw_m1 151 rfl) rfl
theorem q195 : (Jvm.Cond.superclass "java/lang/NullPointerException" "java/lang/RuntimeException") ∈ lw_all := lw_g (lw_at lw_m1 154 rfl) rfl
theorem q946 : (Jvm.Cond.instanceMethod ({ cls := "java/lang/NullPointerException", name := "<init>", desc := "()V" } : Jvm.MethodName)) ∈ lw_all := lw_g (lw_at lw_m4 185 rfl) rfl
theorem q947 : (Jvm.Cond.code ({ cls := "java/lang/NullPointerException", name := "<init>", desc := "()V" } : Jvm.MethodName) prog_30_method_1_code (1 : Nat) (Option.none : Option Jvm.ClassFile.FieldType)) ∈ lw_all := lw_g (lw_at lw_m4 186 rfl) rfl
theorem q948 : (Jvm.Cond.methodLink "java/lang/NullPointerException" (1 : Nat) ({ cls := "java/lang/RuntimeException", name := "<init>", desc := "()V" } : Jvm.MethodName)) ∈ lw_all := lw_g (lw_at lw_m4 187 rfl) rfl
theorem q949 : (Jvm.Cond.fieldLink "java/lang/NullPointerException" (10 : Nat) "java/lang/NullPointerException" "extendedMessageState" "I") ∈ lw_all := lw_g (lw_at lw_m4 188 rfl) rfl
theorem q950 : (Jvm.Cond.fieldLink "java/lang/NullPointerException" (20 : Nat) "java/lang/NullPointerException" "extendedMessage" "Ljava/lang/String;") ∈ lw_all := lw_g (lw_at lw_m4 189 rfl) rfl
theorem q951 : (Jvm.Cond.lays "java/lang/NullPointerException" "java/lang/NullPointerException" "extendedMessageState" "I") ∈ lw_all := lw_g (lw_at lw_m4 190 rfl) rfl
theorem q952 : (Jvm.Cond.soleField "java/lang/NullPointerException" "extendedMessageState") ∈ lw_all := lw_g (lw_at lw_m4 191 rfl) rfl
theorem q953 : (Jvm.Cond.lays "java/lang/NullPointerException" "java/lang/NullPointerException" "extendedMessage" "Ljava/lang/String;") ∈ lw_all := lw_g (lw_at lw_m4 192 rfl) rfl
theorem q954 : (Jvm.Cond.soleField "java/lang/NullPointerException" "extendedMessage") ∈ lw_all := lw_g (lw_at lw_m4 193 rfl) rfl
theorem q955 : (Jvm.Cond.lays "java/lang/NullPointerException" "java/lang/Throwable" "backtrace" "Ljava/lang/Object;") ∈ lw_all := lw_g (lw_at lw_m4 194 rfl) rfl
theorem q956 : (Jvm.Cond.lays "java/lang/NullPointerException" "java/lang/Throwable" "detailMessage" "Ljava/lang/String;") ∈ lw_all := lw_g (lw_at lw_m4 195 rfl) rfl
theorem q957 : (Jvm.Cond.lays "java/lang/NullPointerException" "java/lang/Throwable" "cause" "Ljava/lang/Throwable;") ∈ lw_all := lw_g (lw_at lw_m4 196 rfl) rfl
theorem q958 : (Jvm.Cond.lays "java/lang/NullPointerException" "java/lang/Throwable" "stackTrace" "[Ljava/lang/StackTraceElement;") ∈ lw_all := lw_g (lw_at lw_m4 197 rfl) rfl
theorem q959 : (Jvm.Cond.lays "java/lang/NullPointerException" "java/lang/Throwable" "depth" "I") ∈ lw_all := lw_g (lw_at lw_m4 198 rfl) rfl
theorem q960 : (Jvm.Cond.lays "java/lang/NullPointerException" "java/lang/Throwable" "suppressedExceptions" "Ljava/util/List;") ∈ lw_all := lw_g (lw_at lw_m4 199 rfl) rfl
theorem q961 : (Jvm.Cond.castable "java/lang/NullPointerException" "java/lang/NullPointerException") ∈ lw_tbl := lw_at lw_m4 200 rfl
theorem q962 : (Jvm.Cond.selects "java/lang/NullPointerException" ({ cls := "java/lang/Throwable", name := "fillInStackTrace", desc := "(I)Ljava/lang/Throwable;" } : Jvm.MethodName) ({ cls := "java/lang/Throwable", name := "fillInStackTrace", desc := "(I)Ljava/lang/Throwable;" } : Jvm.MethodName)) ∈ lw_all := lw_g (lw_at lw_m4 201 rfl) rfl
theorem in_J9 : ∀ w ∈ wsJ90, w ∈ lw_all := lw_in wsJ90 [955, 956, 957, 958, 959, 960, 951, 953] (by decide +kernel) (by decide +kernel)
/-! java/lang/IllegalArgumentException -/
set_option maxRecDepth 100000
def RJ10 : String := "java/lang/IllegalArgumentException"
def TJ10 : u_T := fun k => match k with
  | 0 => ("java/lang/Throwable", "cause", "Ljava/lang/Throwable;", false)
  | 1 => ("java/lang/Throwable", "stackTrace", "[Ljava/lang/StackTraceElement;", false)
  | 2 => ("java/lang/Throwable", "suppressedExceptions", "Ljava/util/List;", false)
  | 3 => ("java/lang/Throwable", "detailMessage", "Ljava/lang/String;", false)
  | 4 => ("java/lang/Throwable", "backtrace", "Ljava/lang/Object;", false)
  | _ => ("java/lang/Throwable", "depth", "I", false)
def tyJ10 : Nat → FieldType := fun k => match k with
  | 0 => .object "java/lang/Throwable"
  | 1 => .array (.object "java/lang/StackTraceElement")
  | 2 => .object "java/util/List"
  | 3 => .object "java/lang/String"
  | 4 => .object "java/lang/Object"
  | _ => .int
abbrev wsJ100 : List Cond := u_ws RJ10 TJ10 6
theorem nmJ10 : ∀ a, a < 6 → ∀ b, b < 6 → a ≠ b → (TJ10 a).2.1 ≠ (TJ10 b).2.1 := by decide +kernel
theorem tyJ10_ok : ∀ k, k < 6 → parseFieldDescriptor (TJ10 k).2.2.1 = some (tyJ10 k) := by decide +kernel
abbrev cJ10_init : ByteArray := prog_25_method_1_code
def yJ10_init : MethodName := ⟨RJ10, "<init>", "()V"⟩
theorem dJ10_init_0 : decode cJ10_init 0 = .ok (.aload_n 0, 1) := by decide +kernel
theorem dJ10_init_1 : decode cJ10_init 1 = .ok (.invokespecial 1, 3) := by decide +kernel
theorem dJ10_init_4 : decode cJ10_init 4 = .ok (.return_, 1) := by decide +kernel
theorem q68 : (Jvm.Cond.initialized "java/lang/IllegalArgumentException") ∈ lw_all := lw_g (lw_at lw_m1 27 rfl) rfl
theorem q181 : (Jvm.Cond.selects "java/lang/IllegalArgumentException" ({ cls := "java/lang/Throwable", name := "fillInStackTrace", desc := "()Ljava/lang/Throwable;" } : Jvm.MethodName) ({ cls := "java/lang/Throwable", name := "fillInStackTrace", desc := "()Ljava/lang/Throwable;" } : Jvm.MethodName)) ∈ lw_all := lw_g (lw_at lw_m1 140 rfl) rfl
theorem q1057 : (Jvm.Cond.instantiable "java/lang/IllegalArgumentException" (6 : Nat)) ∈ lw_all := lw_g (lw_at lw_m5 56 rfl) rfl
theorem q1058 : (Jvm.Cond.castable "java/lang/IllegalArgumentException" "java/lang/IllegalArgumentException") ∈ lw_tbl := lw_at lw_m5 57 rfl
theorem q1059 : (Jvm.Cond.selects "java/lang/IllegalArgumentException" ({ cls := "java/lang/Throwable", name := "fillInStackTrace", desc := "(I)Ljava/lang/Throwable;" } : Jvm.MethodName) ({ cls := "java/lang/Throwable", name := "fillInStackTrace", desc := "(I)Ljava/lang/Throwable;" } : Jvm.MethodName)) ∈ lw_all := lw_g (lw_at lw_m5 58 rfl) rfl
theorem q1060 : (Jvm.Cond.lays "java/lang/IllegalArgumentException" "java/lang/Throwable" "cause" "Ljava/lang/Throwable;") ∈ lw_all := lw_g (lw_at lw_m5 59 rfl) rfl
theorem q1061 : (Jvm.Cond.lays "java/lang/IllegalArgumentException" "java/lang/Throwable" "stackTrace" "[Ljava/lang/StackTraceElement;") ∈ lw_all := lw_g (lw_at lw_m5 60 rfl) rfl
theorem q1062 : (Jvm.Cond.lays "java/lang/IllegalArgumentException" "java/lang/Throwable" "suppressedExceptions" "Ljava/util/List;") ∈ lw_all := lw_g (lw_at lw_m5 61 rfl) rfl
theorem q1063 : (Jvm.Cond.lays "java/lang/IllegalArgumentException" "java/lang/Throwable" "detailMessage" "Ljava/lang/String;") ∈ lw_all := lw_g (lw_at lw_m5 62 rfl) rfl
theorem q1064 : (Jvm.Cond.lays "java/lang/IllegalArgumentException" "java/lang/Throwable" "backtrace" "Ljava/lang/Object;") ∈ lw_all := lw_g (lw_at lw_m5 63 rfl) rfl
theorem q1066 : (Jvm.Cond.instanceMethod ({ cls := "java/lang/IllegalArgumentException", name := "<init>", desc := "()V" } : Jvm.MethodName)) ∈ lw_all := lw_g (lw_at lw_m5 65 rfl) rfl
theorem q1067 : (Jvm.Cond.code ({ cls := "java/lang/IllegalArgumentException", name := "<init>", desc := "()V" } : Jvm.MethodName) prog_25_method_1_code (1 : Nat) (Option.none : Option Jvm.ClassFile.FieldType)) ∈ lw_all := lw_g (lw_at lw_m5 66 rfl) rfl
theorem q1068 : (Jvm.Cond.methodLink "java/lang/IllegalArgumentException" (1 : Nat) ({ cls := "java/lang/RuntimeException", name := "<init>", desc := "()V" } : Jvm.MethodName)) ∈ lw_all := lw_g (lw_at lw_m5 67 rfl) rfl
theorem q1069 : (Jvm.Cond.lays "java/lang/IllegalArgumentException" "java/lang/Throwable" "depth" "I") ∈ lw_all := lw_g (lw_at lw_m5 68 rfl) rfl
theorem q1070 : (Jvm.Cond.superclass "java/lang/IllegalArgumentException" "java/lang/RuntimeException") ∈ lw_all := lw_g (lw_at lw_m5 69 rfl) rfl
theorem in_J10 : ∀ w ∈ wsJ100, w ∈ lw_all := lw_in wsJ100 [1060, 1061, 1062, 1063, 1064, 1069] (by decide +kernel) (by decide +kernel)
/-! java/lang/IllegalStateException -/
set_option maxRecDepth 100000
def RJ11 : String := "java/lang/IllegalStateException"
def TJ11 : u_T := fun k => match k with
  | 0 => ("java/lang/Throwable", "cause", "Ljava/lang/Throwable;", false)
  | 1 => ("java/lang/Throwable", "stackTrace", "[Ljava/lang/StackTraceElement;", false)
  | 2 => ("java/lang/Throwable", "suppressedExceptions", "Ljava/util/List;", false)
  | 3 => ("java/lang/Throwable", "detailMessage", "Ljava/lang/String;", false)
  | 4 => ("java/lang/Throwable", "backtrace", "Ljava/lang/Object;", false)
  | _ => ("java/lang/Throwable", "depth", "I", false)
def tyJ11 : Nat → FieldType := fun k => match k with
  | 0 => .object "java/lang/Throwable"
  | 1 => .array (.object "java/lang/StackTraceElement")
  | 2 => .object "java/util/List"
  | 3 => .object "java/lang/String"
  | 4 => .object "java/lang/Object"
  | _ => .int
abbrev wsJ110 : List Cond := u_ws RJ11 TJ11 6
theorem nmJ11 : ∀ a, a < 6 → ∀ b, b < 6 → a ≠ b → (TJ11 a).2.1 ≠ (TJ11 b).2.1 := by decide +kernel
theorem tyJ11_ok : ∀ k, k < 6 → parseFieldDescriptor (TJ11 k).2.2.1 = some (tyJ11 k) := by decide +kernel
abbrev cJ11_init : ByteArray := prog_26_method_1_code
def yJ11_init : MethodName := ⟨RJ11, "<init>", "()V"⟩
theorem dJ11_init_0 : decode cJ11_init 0 = .ok (.aload_n 0, 1) := by decide +kernel
theorem dJ11_init_1 : decode cJ11_init 1 = .ok (.invokespecial 1, 3) := by decide +kernel
theorem dJ11_init_4 : decode cJ11_init 4 = .ok (.return_, 1) := by decide +kernel
theorem q69 : (Jvm.Cond.initialized "java/lang/IllegalStateException") ∈ lw_all := lw_g (lw_at lw_m1 28 rfl) rfl
theorem q182 : (Jvm.Cond.selects "java/lang/IllegalStateException" ({ cls := "java/lang/Throwable", name := "fillInStackTrace", desc := "()Ljava/lang/Throwable;" } : Jvm.MethodName) ({ cls := "java/lang/Throwable", name := "fillInStackTrace", desc := "()Ljava/lang/Throwable;" } : Jvm.MethodName)) ∈ lw_all := lw_g (lw_at lw_m1 141 rfl) rfl
theorem q1072 : (Jvm.Cond.instantiable "java/lang/IllegalStateException" (6 : Nat)) ∈ lw_all := lw_g (lw_at lw_m5 71 rfl) rfl
theorem q1073 : (Jvm.Cond.castable "java/lang/IllegalStateException" "java/lang/IllegalStateException") ∈ lw_tbl := lw_at lw_m5 72 rfl
theorem q1074 : (Jvm.Cond.selects "java/lang/IllegalStateException" ({ cls := "java/lang/Throwable", name := "fillInStackTrace", desc := "(I)Ljava/lang/Throwable;" } : Jvm.MethodName) ({ cls := "java/lang/Throwable", name := "fillInStackTrace", desc := "(I)Ljava/lang/Throwable;" } : Jvm.MethodName)) ∈ lw_all := lw_g (lw_at lw_m5 73 rfl) rfl
theorem q1075 : (Jvm.Cond.lays "java/lang/IllegalStateException" "java/lang/Throwable" "cause" "Ljava/lang/Throwable;") ∈ lw_all := lw_g (lw_at lw_m5 74 rfl) rfl
theorem q1076 : (Jvm.Cond.lays "java/lang/IllegalStateException" "java/lang/Throwable" "stackTrace" "[Ljava/lang/StackTraceElement;") ∈ lw_all := lw_g (lw_at lw_m5 75 rfl) rfl
theorem q1077 : (Jvm.Cond.lays "java/lang/IllegalStateException" "java/lang/Throwable" "suppressedExceptions" "Ljava/util/List;") ∈ lw_all := lw_g (lw_at lw_m5 76 rfl) rfl
theorem q1078 : (Jvm.Cond.lays "java/lang/IllegalStateException" "java/lang/Throwable" "detailMessage" "Ljava/lang/String;") ∈ lw_all := lw_g (lw_at lw_m5 77 rfl) rfl
theorem q1079 : (Jvm.Cond.lays "java/lang/IllegalStateException" "java/lang/Throwable" "backtrace" "Ljava/lang/Object;") ∈ lw_all := lw_g (lw_at lw_m5 78 rfl) rfl
theorem q1081 : (Jvm.Cond.instanceMethod ({ cls := "java/lang/IllegalStateException", name := "<init>", desc := "()V" } : Jvm.MethodName)) ∈ lw_all := lw_g (lw_at lw_m5 80 rfl) rfl
theorem q1082 : (Jvm.Cond.code ({ cls := "java/lang/IllegalStateException", name := "<init>", desc := "()V" } : Jvm.MethodName) prog_26_method_1_code (1 : Nat) (Option.none : Option Jvm.ClassFile.FieldType)) ∈ lw_all := lw_g (lw_at lw_m5 81 rfl) rfl
theorem q1083 : (Jvm.Cond.methodLink "java/lang/IllegalStateException" (1 : Nat) ({ cls := "java/lang/RuntimeException", name := "<init>", desc := "()V" } : Jvm.MethodName)) ∈ lw_all := lw_g (lw_at lw_m5 82 rfl) rfl
theorem q1084 : (Jvm.Cond.lays "java/lang/IllegalStateException" "java/lang/Throwable" "depth" "I") ∈ lw_all := lw_g (lw_at lw_m5 83 rfl) rfl
theorem q1085 : (Jvm.Cond.superclass "java/lang/IllegalStateException" "java/lang/RuntimeException") ∈ lw_all := lw_g (lw_at lw_m5 84 rfl) rfl
theorem in_J11 : ∀ w ∈ wsJ110, w ∈ lw_all := lw_in wsJ110 [1075, 1076, 1077, 1078, 1079, 1084] (by decide +kernel) (by decide +kernel)
/-! java/lang/Object -/
set_option maxRecDepth 100000
def RJ12 : String := "java/lang/Object"
abbrev cJ12_init : ByteArray := object_method_1_code
def yJ12_init : MethodName := ⟨RJ12, "<init>", "()V"⟩
theorem dJ12_init_0 : decode cJ12_init 0 = .ok (.return_, 1) := by decide +kernel
theorem q96 : (Jvm.Cond.instanceMethod ({ cls := "java/lang/Object", name := "<init>", desc := "()V" } : Jvm.MethodName)) ∈ lw_all := lw_g (lw_at lw_m1 55 rfl) rfl
theorem q97 : (Jvm.Cond.code ({ cls := "java/lang/Object", name := "<init>", desc := "()V" } : Jvm.MethodName) object_method_1_code (1 : Nat) (Option.none : Option Jvm.ClassFile.FieldType)) ∈ lw_all := lw_g (lw_at lw_m1 56 rfl) rfl
theorem q99 : (Jvm.Cond.arrayOver (Jvm.ClassFile.FieldType.array Jvm.ClassFile.FieldType.int)) ∈ lw_tbl := lw_at lw_m1 58 rfl
set_option maxRecDepth 100000
theorem q123 : (Jvm.Cond.arrayClass Jvm.ClassFile.FieldType.int) ∈ lw_all := lw_g (lw_at lw_m1 82 rfl) rfl
theorem q787 : (Jvm.Cond.arrayOver (Jvm.ClassFile.FieldType.object "LookAtClock$Looker")) ∈ lw_tbl := lw_at lw_m4 26 rfl
theorem q832 : (Jvm.Cond.arrayOver (Jvm.ClassFile.FieldType.object "LookAtClock$Shelf")) ∈ lw_tbl := lw_at lw_m4 71 rfl
theorem q892 : (Jvm.Cond.arrayClass Jvm.ClassFile.FieldType.byte) ∈ lw_all := lw_g (lw_at lw_m4 131 rfl) rfl
theorem q897 : (Jvm.Cond.arrayClass Jvm.ClassFile.FieldType.short) ∈ lw_all := lw_g (lw_at lw_m4 136 rfl) rfl
theorem q1474 : (Jvm.Cond.arrayClass Jvm.ClassFile.FieldType.long) ∈ lw_all := lw_g (lw_at lw_m6 233 rfl) rfl
theorem q47 : (Jvm.Cond.initialized "java/lang/System") ∈ lw_all := lw_g (lw_at lw_m1 6 rfl) rfl
set_option maxRecDepth 100000
theorem q88 : (Jvm.Cond.static ({ cls := "java/lang/System", name := "arraycopy", desc := "(Ljava/lang/Object;ILjava/lang/Object;II)V" } : Jvm.MethodName)) ∈ lw_all := lw_g (lw_at lw_m1 47 rfl) rfl
theorem q89 : (Jvm.Cond.native ({ cls := "java/lang/System", name := "arraycopy", desc := "(Ljava/lang/Object;ILjava/lang/Object;II)V" } : Jvm.MethodName)) ∈ lw_all := lw_g (lw_at lw_m1 48 rfl) rfl
