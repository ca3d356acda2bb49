/-! DECODE ROWS BY BYTES: one lemma an opcode; a method's code is cut into short pieces once, and a row reads its own piece alone. -/
set_option maxRecDepth 100000
/-- the code has just these bytes from pc on -/
def DkAt (code : ByteArray) (pc : Nat) (bs : List UInt8) : Prop := ∀ (j : Nat) (b : UInt8), bs[j]? = some b → code.data.toList[pc + j]? = some b
/-- the piece W has the bytes bs from its place j on -/
def dkIn (W : List UInt8) (j : Nat) (bs : List UInt8) : Bool := decide ((W.drop j).take bs.length = bs)
theorem dk_seg {l W T : List UInt8} {o o2 : Nat} (h : l.drop o = W ++ T) (n : Nat) (hn : W.length = n) (ho : o + n = o2) : l.drop o2 = T := by
  subst ho
  rw [← List.drop_drop, h, List.drop_left' hn]
theorem dk_at {code : ByteArray} {W T bs : List UInt8} {o pc : Nat} (h : code.data.toList.drop o = W ++ T) (j : Nat) (hp : o + j = pc) (hw : dkIn W j bs = true) : DkAt code pc bs := by
  subst hp
  intro i b e
  have h1 := of_decide_eq_true hw
  have h2 : i < bs.length := (List.getElem?_eq_some_iff.mp e).1
  have h3 : W[j + i]? = some b := by
    rw [← h1, List.getElem?_take, if_pos h2, List.getElem?_drop] at e
    exact e
  have h4 : j + i < W.length := (List.getElem?_eq_some_iff.mp h3).1
  have h5 : (code.data.toList.drop o)[j + i]? = some b := by
    rw [h, List.getElem?_append_left h4]
    exact h3
  rw [List.getElem?_drop, ← Nat.add_assoc] at h5
  exact h5
theorem dk_u1 {A : ByteArray} {p : Nat} {b : UInt8} (h : A.data.toList[p]? = some b) : (Reader.u1 : Reader DecodeError Nat) A p = .ok (b.toNat, p + 1) := by
  obtain ⟨h1, h2⟩ := List.getElem?_eq_some_iff.mp h
  have h3 : p < A.size := by simpa using h1
  have h4 : A[p]'h3 = b := h2
  have e : (Reader.u1 : Reader DecodeError Nat) A p = (if h : p < A.size then .ok (A[p].toNat, p + 1) else .error (HasTruncated.truncated p)) := by
    show (do if h : p < A.size then do set (p + 1); Pure.pure A[p].toNat else MonadExcept.throw (HasTruncated.truncated p) : Reader DecodeError Nat) A p = _
    by_cases hi : p < A.size
    · rw [dif_pos hi, dif_pos hi]; rfl
    · rw [dif_neg hi, dif_neg hi]; rfl
  rw [e, dif_pos h3, h4]
theorem dk_bind {α β : Type} {r : Reader DecodeError α} {f : α → Reader DecodeError β} {A : ByteArray} {p s : Nat} {a : α} (h : r A p = .ok (a, s)) : (r >>= f) A p = f a A s := by
  show (do let (a, s) ← r A p; f a A s : Except DecodeError (β × Nat)) = _
  rw [h]
  rfl
theorem dk_map {α β : Type} {r : Reader DecodeError α} {g : α → β} {A : ByteArray} {p s : Nat} {a : α} (h : r A p = .ok (a, s)) : (g <$> r) A p = .ok (g a, s) := by
  show (do let (a, s) ← r A p; .ok (g a, s) : Except DecodeError (β × Nat)) = _
  rw [h]
  rfl
theorem dk_u2 {A : ByteArray} {p : Nat} {a b : UInt8} (h : A.data.toList[p]? = some a) (h2 : A.data.toList[p + 1]? = some b) : (Reader.u2 : Reader DecodeError Nat) A p = .ok (a.toNat * 256 + b.toNat, p + 2) := by
  show (Reader.u1 >>= fun hi => Reader.u1 >>= fun lo => Pure.pure (hi * 256 + lo) : Reader DecodeError Nat) A p = _
  rw [dk_bind (dk_u1 h), dk_bind (dk_u1 h2)]
  rfl
theorem dk_of {code : ByteArray} {pc n : Nat} {i : Instr} (h : Decoder.instr pc code pc = .ok (i, pc + n)) : decode code pc = .ok (i, n) := by
  have e : decode code pc = (match Decoder.instr pc code pc with | .error x => .error x | .ok (j, s) => .ok (j, s - pc)) := by
    show (do let (j, s) ← Decoder.instr pc code pc; Pure.pure (j, s - pc) : Except DecodeError (Instr × Nat)) = _
    cases Decoder.instr pc code pc <;> rfl
  rw [e, h]
  show Except.ok (i, pc + n - pc) = _
  rw [Nat.add_sub_cancel_left]
theorem dk_1 {code : ByteArray} {pc : Nat} (h : DkAt code pc [1]) : decode code pc = .ok (.aconst_null, 1) := dk_of ((dk_bind (dk_u1 (h 0 _ rfl))).trans rfl)
theorem dk_2 {code : ByteArray} {pc : Nat} (h : DkAt code pc [2]) : decode code pc = .ok (.iconst (-1), 1) := dk_of ((dk_bind (dk_u1 (h 0 _ rfl))).trans rfl)
theorem dk_3 {code : ByteArray} {pc : Nat} (h : DkAt code pc [3]) : decode code pc = .ok (.iconst 0, 1) := dk_of ((dk_bind (dk_u1 (h 0 _ rfl))).trans rfl)
theorem dk_4 {code : ByteArray} {pc : Nat} (h : DkAt code pc [4]) : decode code pc = .ok (.iconst 1, 1) := dk_of ((dk_bind (dk_u1 (h 0 _ rfl))).trans rfl)
theorem dk_5 {code : ByteArray} {pc : Nat} (h : DkAt code pc [5]) : decode code pc = .ok (.iconst 2, 1) := dk_of ((dk_bind (dk_u1 (h 0 _ rfl))).trans rfl)
theorem dk_6 {code : ByteArray} {pc : Nat} (h : DkAt code pc [6]) : decode code pc = .ok (.iconst 3, 1) := dk_of ((dk_bind (dk_u1 (h 0 _ rfl))).trans rfl)
theorem dk_7 {code : ByteArray} {pc : Nat} (h : DkAt code pc [7]) : decode code pc = .ok (.iconst 4, 1) := dk_of ((dk_bind (dk_u1 (h 0 _ rfl))).trans rfl)
theorem dk_8 {code : ByteArray} {pc : Nat} (h : DkAt code pc [8]) : decode code pc = .ok (.iconst 5, 1) := dk_of ((dk_bind (dk_u1 (h 0 _ rfl))).trans rfl)
theorem dk_16 {code : ByteArray} {pc : Nat} (a : UInt8) (h : DkAt code pc [16, a]) : decode code pc = .ok (.bipush (Reader.signed 8 a.toNat), 2) := dk_of ((dk_bind (dk_u1 (h 0 _ rfl))).trans ((dk_bind (dk_map (dk_u1 (h 1 _ rfl)))).trans rfl))
theorem dk_17 {code : ByteArray} {pc : Nat} (a b : UInt8) (h : DkAt code pc [17, a, b]) : decode code pc = .ok (.sipush (Reader.signed 16 (a.toNat * 256 + b.toNat)), 3) := dk_of ((dk_bind (dk_u1 (h 0 _ rfl))).trans ((dk_bind (dk_map (dk_u2 (h 1 _ rfl) (h 2 _ rfl)))).trans rfl))
theorem dk_18 {code : ByteArray} {pc : Nat} (a : UInt8) (h : DkAt code pc [18, a]) : decode code pc = .ok (.ldc a.toNat, 2) := dk_of ((dk_bind (dk_u1 (h 0 _ rfl))).trans ((dk_bind (dk_u1 (h 1 _ rfl))).trans rfl))
theorem dk_19 {code : ByteArray} {pc : Nat} (a b : UInt8) (h : DkAt code pc [19, a, b]) : decode code pc = .ok (.ldc_w (a.toNat * 256 + b.toNat), 3) := dk_of ((dk_bind (dk_u1 (h 0 _ rfl))).trans ((dk_bind (dk_u2 (h 1 _ rfl) (h 2 _ rfl))).trans rfl))
theorem dk_21 {code : ByteArray} {pc : Nat} (a : UInt8) (h : DkAt code pc [21, a]) : decode code pc = .ok (.iload a.toNat, 2) := dk_of ((dk_bind (dk_u1 (h 0 _ rfl))).trans ((dk_bind (dk_u1 (h 1 _ rfl))).trans rfl))
theorem dk_25 {code : ByteArray} {pc : Nat} (a : UInt8) (h : DkAt code pc [25, a]) : decode code pc = .ok (.aload a.toNat, 2) := dk_of ((dk_bind (dk_u1 (h 0 _ rfl))).trans ((dk_bind (dk_u1 (h 1 _ rfl))).trans rfl))
theorem dk_26 {code : ByteArray} {pc : Nat} (h : DkAt code pc [26]) : decode code pc = .ok (.iload_n 0, 1) := dk_of ((dk_bind (dk_u1 (h 0 _ rfl))).trans rfl)
theorem dk_27 {code : ByteArray} {pc : Nat} (h : DkAt code pc [27]) : decode code pc = .ok (.iload_n 1, 1) := dk_of ((dk_bind (dk_u1 (h 0 _ rfl))).trans rfl)
theorem dk_28 {code : ByteArray} {pc : Nat} (h : DkAt code pc [28]) : decode code pc = .ok (.iload_n 2, 1) := dk_of ((dk_bind (dk_u1 (h 0 _ rfl))).trans rfl)
theorem dk_29 {code : ByteArray} {pc : Nat} (h : DkAt code pc [29]) : decode code pc = .ok (.iload_n 3, 1) := dk_of ((dk_bind (dk_u1 (h 0 _ rfl))).trans rfl)
theorem dk_42 {code : ByteArray} {pc : Nat} (h : DkAt code pc [42]) : decode code pc = .ok (.aload_n 0, 1) := dk_of ((dk_bind (dk_u1 (h 0 _ rfl))).trans rfl)
theorem dk_43 {code : ByteArray} {pc : Nat} (h : DkAt code pc [43]) : decode code pc = .ok (.aload_n 1, 1) := dk_of ((dk_bind (dk_u1 (h 0 _ rfl))).trans rfl)
theorem dk_44 {code : ByteArray} {pc : Nat} (h : DkAt code pc [44]) : decode code pc = .ok (.aload_n 2, 1) := dk_of ((dk_bind (dk_u1 (h 0 _ rfl))).trans rfl)
theorem dk_45 {code : ByteArray} {pc : Nat} (h : DkAt code pc [45]) : decode code pc = .ok (.aload_n 3, 1) := dk_of ((dk_bind (dk_u1 (h 0 _ rfl))).trans rfl)
theorem dk_46 {code : ByteArray} {pc : Nat} (h : DkAt code pc [46]) : decode code pc = .ok (.iaload, 1) := dk_of ((dk_bind (dk_u1 (h 0 _ rfl))).trans rfl)
theorem dk_50 {code : ByteArray} {pc : Nat} (h : DkAt code pc [50]) : decode code pc = .ok (.aaload, 1) := dk_of ((dk_bind (dk_u1 (h 0 _ rfl))).trans rfl)
theorem dk_51 {code : ByteArray} {pc : Nat} (h : DkAt code pc [51]) : decode code pc = .ok (.baload, 1) := dk_of ((dk_bind (dk_u1 (h 0 _ rfl))).trans rfl)
theorem dk_53 {code : ByteArray} {pc : Nat} (h : DkAt code pc [53]) : decode code pc = .ok (.saload, 1) := dk_of ((dk_bind (dk_u1 (h 0 _ rfl))).trans rfl)
theorem dk_54 {code : ByteArray} {pc : Nat} (a : UInt8) (h : DkAt code pc [54, a]) : decode code pc = .ok (.istore a.toNat, 2) := dk_of ((dk_bind (dk_u1 (h 0 _ rfl))).trans ((dk_bind (dk_u1 (h 1 _ rfl))).trans rfl))
theorem dk_58 {code : ByteArray} {pc : Nat} (a : UInt8) (h : DkAt code pc [58, a]) : decode code pc = .ok (.astore a.toNat, 2) := dk_of ((dk_bind (dk_u1 (h 0 _ rfl))).trans ((dk_bind (dk_u1 (h 1 _ rfl))).trans rfl))
theorem dk_59 {code : ByteArray} {pc : Nat} (h : DkAt code pc [59]) : decode code pc = .ok (.istore_n 0, 1) := dk_of ((dk_bind (dk_u1 (h 0 _ rfl))).trans rfl)
theorem dk_60 {code : ByteArray} {pc : Nat} (h : DkAt code pc [60]) : decode code pc = .ok (.istore_n 1, 1) := dk_of ((dk_bind (dk_u1 (h 0 _ rfl))).trans rfl)
theorem dk_61 {code : ByteArray} {pc : Nat} (h : DkAt code pc [61]) : decode code pc = .ok (.istore_n 2, 1) := dk_of ((dk_bind (dk_u1 (h 0 _ rfl))).trans rfl)
theorem dk_62 {code : ByteArray} {pc : Nat} (h : DkAt code pc [62]) : decode code pc = .ok (.istore_n 3, 1) := dk_of ((dk_bind (dk_u1 (h 0 _ rfl))).trans rfl)
theorem dk_76 {code : ByteArray} {pc : Nat} (h : DkAt code pc [76]) : decode code pc = .ok (.astore_n 1, 1) := dk_of ((dk_bind (dk_u1 (h 0 _ rfl))).trans rfl)
theorem dk_77 {code : ByteArray} {pc : Nat} (h : DkAt code pc [77]) : decode code pc = .ok (.astore_n 2, 1) := dk_of ((dk_bind (dk_u1 (h 0 _ rfl))).trans rfl)
theorem dk_78 {code : ByteArray} {pc : Nat} (h : DkAt code pc [78]) : decode code pc = .ok (.astore_n 3, 1) := dk_of ((dk_bind (dk_u1 (h 0 _ rfl))).trans rfl)
theorem dk_79 {code : ByteArray} {pc : Nat} (h : DkAt code pc [79]) : decode code pc = .ok (.iastore, 1) := dk_of ((dk_bind (dk_u1 (h 0 _ rfl))).trans rfl)
theorem dk_83 {code : ByteArray} {pc : Nat} (h : DkAt code pc [83]) : decode code pc = .ok (.aastore, 1) := dk_of ((dk_bind (dk_u1 (h 0 _ rfl))).trans rfl)
theorem dk_84 {code : ByteArray} {pc : Nat} (h : DkAt code pc [84]) : decode code pc = .ok (.bastore, 1) := dk_of ((dk_bind (dk_u1 (h 0 _ rfl))).trans rfl)
theorem dk_86 {code : ByteArray} {pc : Nat} (h : DkAt code pc [86]) : decode code pc = .ok (.sastore, 1) := dk_of ((dk_bind (dk_u1 (h 0 _ rfl))).trans rfl)
theorem dk_87 {code : ByteArray} {pc : Nat} (h : DkAt code pc [87]) : decode code pc = .ok (.pop, 1) := dk_of ((dk_bind (dk_u1 (h 0 _ rfl))).trans rfl)
theorem dk_89 {code : ByteArray} {pc : Nat} (h : DkAt code pc [89]) : decode code pc = .ok (.dup, 1) := dk_of ((dk_bind (dk_u1 (h 0 _ rfl))).trans rfl)
theorem dk_92 {code : ByteArray} {pc : Nat} (h : DkAt code pc [92]) : decode code pc = .ok (.dup2, 1) := dk_of ((dk_bind (dk_u1 (h 0 _ rfl))).trans rfl)
theorem dk_96 {code : ByteArray} {pc : Nat} (h : DkAt code pc [96]) : decode code pc = .ok (.iadd, 1) := dk_of ((dk_bind (dk_u1 (h 0 _ rfl))).trans rfl)
theorem dk_97 {code : ByteArray} {pc : Nat} (h : DkAt code pc [97]) : decode code pc = .ok (.ladd, 1) := dk_of ((dk_bind (dk_u1 (h 0 _ rfl))).trans rfl)
theorem dk_100 {code : ByteArray} {pc : Nat} (h : DkAt code pc [100]) : decode code pc = .ok (.isub, 1) := dk_of ((dk_bind (dk_u1 (h 0 _ rfl))).trans rfl)
theorem dk_104 {code : ByteArray} {pc : Nat} (h : DkAt code pc [104]) : decode code pc = .ok (.imul, 1) := dk_of ((dk_bind (dk_u1 (h 0 _ rfl))).trans rfl)
theorem dk_108 {code : ByteArray} {pc : Nat} (h : DkAt code pc [108]) : decode code pc = .ok (.idiv, 1) := dk_of ((dk_bind (dk_u1 (h 0 _ rfl))).trans rfl)
theorem dk_112 {code : ByteArray} {pc : Nat} (h : DkAt code pc [112]) : decode code pc = .ok (.irem, 1) := dk_of ((dk_bind (dk_u1 (h 0 _ rfl))).trans rfl)
theorem dk_120 {code : ByteArray} {pc : Nat} (h : DkAt code pc [120]) : decode code pc = .ok (.ishl, 1) := dk_of ((dk_bind (dk_u1 (h 0 _ rfl))).trans rfl)
theorem dk_122 {code : ByteArray} {pc : Nat} (h : DkAt code pc [122]) : decode code pc = .ok (.ishr, 1) := dk_of ((dk_bind (dk_u1 (h 0 _ rfl))).trans rfl)
theorem dk_124 {code : ByteArray} {pc : Nat} (h : DkAt code pc [124]) : decode code pc = .ok (.iushr, 1) := dk_of ((dk_bind (dk_u1 (h 0 _ rfl))).trans rfl)
theorem dk_126 {code : ByteArray} {pc : Nat} (h : DkAt code pc [126]) : decode code pc = .ok (.iand, 1) := dk_of ((dk_bind (dk_u1 (h 0 _ rfl))).trans rfl)
theorem dk_128 {code : ByteArray} {pc : Nat} (h : DkAt code pc [128]) : decode code pc = .ok (.ior, 1) := dk_of ((dk_bind (dk_u1 (h 0 _ rfl))).trans rfl)
theorem dk_130 {code : ByteArray} {pc : Nat} (h : DkAt code pc [130]) : decode code pc = .ok (.ixor, 1) := dk_of ((dk_bind (dk_u1 (h 0 _ rfl))).trans rfl)
theorem dk_132 {code : ByteArray} {pc : Nat} (a b : UInt8) (h : DkAt code pc [132, a, b]) : decode code pc = .ok (.iinc a.toNat (Reader.signed 8 b.toNat), 3) := dk_of ((dk_bind (dk_u1 (h 0 _ rfl))).trans ((dk_bind (dk_u1 (h 1 _ rfl))).trans ((dk_bind (dk_map (dk_u1 (h 2 _ rfl)))).trans rfl)))
theorem dk_133 {code : ByteArray} {pc : Nat} (h : DkAt code pc [133]) : decode code pc = .ok (.i2l, 1) := dk_of ((dk_bind (dk_u1 (h 0 _ rfl))).trans rfl)
theorem dk_145 {code : ByteArray} {pc : Nat} (h : DkAt code pc [145]) : decode code pc = .ok (.i2b, 1) := dk_of ((dk_bind (dk_u1 (h 0 _ rfl))).trans rfl)
theorem dk_146 {code : ByteArray} {pc : Nat} (h : DkAt code pc [146]) : decode code pc = .ok (.i2c, 1) := dk_of ((dk_bind (dk_u1 (h 0 _ rfl))).trans rfl)
theorem dk_147 {code : ByteArray} {pc : Nat} (h : DkAt code pc [147]) : decode code pc = .ok (.i2s, 1) := dk_of ((dk_bind (dk_u1 (h 0 _ rfl))).trans rfl)
theorem dk_148 {code : ByteArray} {pc : Nat} (h : DkAt code pc [148]) : decode code pc = .ok (.lcmp, 1) := dk_of ((dk_bind (dk_u1 (h 0 _ rfl))).trans rfl)
theorem dk_153 {code : ByteArray} {pc : Nat} (a b : UInt8) (h : DkAt code pc [153, a, b]) : decode code pc = .ok (.ifCond .eq (Reader.signed 16 (a.toNat * 256 + b.toNat)), 3) := dk_of ((dk_bind (dk_u1 (h 0 _ rfl))).trans ((dk_bind (dk_map (dk_u2 (h 1 _ rfl) (h 2 _ rfl)))).trans rfl))
theorem dk_154 {code : ByteArray} {pc : Nat} (a b : UInt8) (h : DkAt code pc [154, a, b]) : decode code pc = .ok (.ifCond .ne (Reader.signed 16 (a.toNat * 256 + b.toNat)), 3) := dk_of ((dk_bind (dk_u1 (h 0 _ rfl))).trans ((dk_bind (dk_map (dk_u2 (h 1 _ rfl) (h 2 _ rfl)))).trans rfl))
theorem dk_155 {code : ByteArray} {pc : Nat} (a b : UInt8) (h : DkAt code pc [155, a, b]) : decode code pc = .ok (.ifCond .lt (Reader.signed 16 (a.toNat * 256 + b.toNat)), 3) := dk_of ((dk_bind (dk_u1 (h 0 _ rfl))).trans ((dk_bind (dk_map (dk_u2 (h 1 _ rfl) (h 2 _ rfl)))).trans rfl))
theorem dk_156 {code : ByteArray} {pc : Nat} (a b : UInt8) (h : DkAt code pc [156, a, b]) : decode code pc = .ok (.ifCond .ge (Reader.signed 16 (a.toNat * 256 + b.toNat)), 3) := dk_of ((dk_bind (dk_u1 (h 0 _ rfl))).trans ((dk_bind (dk_map (dk_u2 (h 1 _ rfl) (h 2 _ rfl)))).trans rfl))
theorem dk_157 {code : ByteArray} {pc : Nat} (a b : UInt8) (h : DkAt code pc [157, a, b]) : decode code pc = .ok (.ifCond .gt (Reader.signed 16 (a.toNat * 256 + b.toNat)), 3) := dk_of ((dk_bind (dk_u1 (h 0 _ rfl))).trans ((dk_bind (dk_map (dk_u2 (h 1 _ rfl) (h 2 _ rfl)))).trans rfl))
theorem dk_158 {code : ByteArray} {pc : Nat} (a b : UInt8) (h : DkAt code pc [158, a, b]) : decode code pc = .ok (.ifCond .le (Reader.signed 16 (a.toNat * 256 + b.toNat)), 3) := dk_of ((dk_bind (dk_u1 (h 0 _ rfl))).trans ((dk_bind (dk_map (dk_u2 (h 1 _ rfl) (h 2 _ rfl)))).trans rfl))
theorem dk_159 {code : ByteArray} {pc : Nat} (a b : UInt8) (h : DkAt code pc [159, a, b]) : decode code pc = .ok (.if_icmp .eq (Reader.signed 16 (a.toNat * 256 + b.toNat)), 3) := dk_of ((dk_bind (dk_u1 (h 0 _ rfl))).trans ((dk_bind (dk_map (dk_u2 (h 1 _ rfl) (h 2 _ rfl)))).trans rfl))
theorem dk_160 {code : ByteArray} {pc : Nat} (a b : UInt8) (h : DkAt code pc [160, a, b]) : decode code pc = .ok (.if_icmp .ne (Reader.signed 16 (a.toNat * 256 + b.toNat)), 3) := dk_of ((dk_bind (dk_u1 (h 0 _ rfl))).trans ((dk_bind (dk_map (dk_u2 (h 1 _ rfl) (h 2 _ rfl)))).trans rfl))
theorem dk_161 {code : ByteArray} {pc : Nat} (a b : UInt8) (h : DkAt code pc [161, a, b]) : decode code pc = .ok (.if_icmp .lt (Reader.signed 16 (a.toNat * 256 + b.toNat)), 3) := dk_of ((dk_bind (dk_u1 (h 0 _ rfl))).trans ((dk_bind (dk_map (dk_u2 (h 1 _ rfl) (h 2 _ rfl)))).trans rfl))
theorem dk_162 {code : ByteArray} {pc : Nat} (a b : UInt8) (h : DkAt code pc [162, a, b]) : decode code pc = .ok (.if_icmp .ge (Reader.signed 16 (a.toNat * 256 + b.toNat)), 3) := dk_of ((dk_bind (dk_u1 (h 0 _ rfl))).trans ((dk_bind (dk_map (dk_u2 (h 1 _ rfl) (h 2 _ rfl)))).trans rfl))
theorem dk_163 {code : ByteArray} {pc : Nat} (a b : UInt8) (h : DkAt code pc [163, a, b]) : decode code pc = .ok (.if_icmp .gt (Reader.signed 16 (a.toNat * 256 + b.toNat)), 3) := dk_of ((dk_bind (dk_u1 (h 0 _ rfl))).trans ((dk_bind (dk_map (dk_u2 (h 1 _ rfl) (h 2 _ rfl)))).trans rfl))
theorem dk_164 {code : ByteArray} {pc : Nat} (a b : UInt8) (h : DkAt code pc [164, a, b]) : decode code pc = .ok (.if_icmp .le (Reader.signed 16 (a.toNat * 256 + b.toNat)), 3) := dk_of ((dk_bind (dk_u1 (h 0 _ rfl))).trans ((dk_bind (dk_map (dk_u2 (h 1 _ rfl) (h 2 _ rfl)))).trans rfl))
theorem dk_167 {code : ByteArray} {pc : Nat} (a b : UInt8) (h : DkAt code pc [167, a, b]) : decode code pc = .ok (.goto (Reader.signed 16 (a.toNat * 256 + b.toNat)), 3) := dk_of ((dk_bind (dk_u1 (h 0 _ rfl))).trans ((dk_bind (dk_map (dk_u2 (h 1 _ rfl) (h 2 _ rfl)))).trans rfl))
theorem dk_172 {code : ByteArray} {pc : Nat} (h : DkAt code pc [172]) : decode code pc = .ok (.ireturn, 1) := dk_of ((dk_bind (dk_u1 (h 0 _ rfl))).trans rfl)
theorem dk_176 {code : ByteArray} {pc : Nat} (h : DkAt code pc [176]) : decode code pc = .ok (.areturn, 1) := dk_of ((dk_bind (dk_u1 (h 0 _ rfl))).trans rfl)
theorem dk_177 {code : ByteArray} {pc : Nat} (h : DkAt code pc [177]) : decode code pc = .ok (.return_, 1) := dk_of ((dk_bind (dk_u1 (h 0 _ rfl))).trans rfl)
theorem dk_178 {code : ByteArray} {pc : Nat} (a b : UInt8) (h : DkAt code pc [178, a, b]) : decode code pc = .ok (.getstatic (a.toNat * 256 + b.toNat), 3) := dk_of ((dk_bind (dk_u1 (h 0 _ rfl))).trans ((dk_bind (dk_u2 (h 1 _ rfl) (h 2 _ rfl))).trans rfl))
theorem dk_180 {code : ByteArray} {pc : Nat} (a b : UInt8) (h : DkAt code pc [180, a, b]) : decode code pc = .ok (.getfield (a.toNat * 256 + b.toNat), 3) := dk_of ((dk_bind (dk_u1 (h 0 _ rfl))).trans ((dk_bind (dk_u2 (h 1 _ rfl) (h 2 _ rfl))).trans rfl))
theorem dk_181 {code : ByteArray} {pc : Nat} (a b : UInt8) (h : DkAt code pc [181, a, b]) : decode code pc = .ok (.putfield (a.toNat * 256 + b.toNat), 3) := dk_of ((dk_bind (dk_u1 (h 0 _ rfl))).trans ((dk_bind (dk_u2 (h 1 _ rfl) (h 2 _ rfl))).trans rfl))
theorem dk_182 {code : ByteArray} {pc : Nat} (a b : UInt8) (h : DkAt code pc [182, a, b]) : decode code pc = .ok (.invokevirtual (a.toNat * 256 + b.toNat), 3) := dk_of ((dk_bind (dk_u1 (h 0 _ rfl))).trans ((dk_bind (dk_u2 (h 1 _ rfl) (h 2 _ rfl))).trans rfl))
theorem dk_183 {code : ByteArray} {pc : Nat} (a b : UInt8) (h : DkAt code pc [183, a, b]) : decode code pc = .ok (.invokespecial (a.toNat * 256 + b.toNat), 3) := dk_of ((dk_bind (dk_u1 (h 0 _ rfl))).trans ((dk_bind (dk_u2 (h 1 _ rfl) (h 2 _ rfl))).trans rfl))
theorem dk_184 {code : ByteArray} {pc : Nat} (a b : UInt8) (h : DkAt code pc [184, a, b]) : decode code pc = .ok (.invokestatic (a.toNat * 256 + b.toNat), 3) := dk_of ((dk_bind (dk_u1 (h 0 _ rfl))).trans ((dk_bind (dk_u2 (h 1 _ rfl) (h 2 _ rfl))).trans rfl))
theorem dk_187 {code : ByteArray} {pc : Nat} (a b : UInt8) (h : DkAt code pc [187, a, b]) : decode code pc = .ok (.new (a.toNat * 256 + b.toNat), 3) := dk_of ((dk_bind (dk_u1 (h 0 _ rfl))).trans ((dk_bind (dk_u2 (h 1 _ rfl) (h 2 _ rfl))).trans rfl))
theorem dk_188_8 {code : ByteArray} {pc : Nat} (h : DkAt code pc [188, 8]) : decode code pc = .ok (.newarray .byte, 2) := dk_of ((dk_bind (dk_u1 (h 0 _ rfl))).trans ((dk_bind (dk_u1 (h 1 _ rfl))).trans rfl))
theorem dk_188_9 {code : ByteArray} {pc : Nat} (h : DkAt code pc [188, 9]) : decode code pc = .ok (.newarray .short, 2) := dk_of ((dk_bind (dk_u1 (h 0 _ rfl))).trans ((dk_bind (dk_u1 (h 1 _ rfl))).trans rfl))
theorem dk_188_10 {code : ByteArray} {pc : Nat} (h : DkAt code pc [188, 10]) : decode code pc = .ok (.newarray .int, 2) := dk_of ((dk_bind (dk_u1 (h 0 _ rfl))).trans ((dk_bind (dk_u1 (h 1 _ rfl))).trans rfl))
theorem dk_189 {code : ByteArray} {pc : Nat} (a b : UInt8) (h : DkAt code pc [189, a, b]) : decode code pc = .ok (.anewarray (a.toNat * 256 + b.toNat), 3) := dk_of ((dk_bind (dk_u1 (h 0 _ rfl))).trans ((dk_bind (dk_u2 (h 1 _ rfl) (h 2 _ rfl))).trans rfl))
theorem dk_190 {code : ByteArray} {pc : Nat} (h : DkAt code pc [190]) : decode code pc = .ok (.arraylength, 1) := dk_of ((dk_bind (dk_u1 (h 0 _ rfl))).trans rfl)
theorem dk_191 {code : ByteArray} {pc : Nat} (h : DkAt code pc [191]) : decode code pc = .ok (.athrow, 1) := dk_of ((dk_bind (dk_u1 (h 0 _ rfl))).trans rfl)
theorem dk_192 {code : ByteArray} {pc : Nat} (a b : UInt8) (h : DkAt code pc [192, a, b]) : decode code pc = .ok (.checkcast (a.toNat * 256 + b.toNat), 3) := dk_of ((dk_bind (dk_u1 (h 0 _ rfl))).trans ((dk_bind (dk_u2 (h 1 _ rfl) (h 2 _ rfl))).trans rfl))
theorem dk_193 {code : ByteArray} {pc : Nat} (a b : UInt8) (h : DkAt code pc [193, a, b]) : decode code pc = .ok (.instanceof (a.toNat * 256 + b.toNat), 3) := dk_of ((dk_bind (dk_u1 (h 0 _ rfl))).trans ((dk_bind (dk_u2 (h 1 _ rfl) (h 2 _ rfl))).trans rfl))
theorem dk_198 {code : ByteArray} {pc : Nat} (a b : UInt8) (h : DkAt code pc [198, a, b]) : decode code pc = .ok (.ifnull (Reader.signed 16 (a.toNat * 256 + b.toNat)), 3) := dk_of ((dk_bind (dk_u1 (h 0 _ rfl))).trans ((dk_bind (dk_map (dk_u2 (h 1 _ rfl) (h 2 _ rfl)))).trans rfl))
theorem dk_199 {code : ByteArray} {pc : Nat} (a b : UInt8) (h : DkAt code pc [199, a, b]) : decode code pc = .ok (.ifnonnull (Reader.signed 16 (a.toNat * 256 + b.toNat)), 3) := dk_of ((dk_bind (dk_u1 (h 0 _ rfl))).trans ((dk_bind (dk_map (dk_u2 (h 1 _ rfl) (h 2 _ rfl)))).trans rfl))

theorem q254 : (Jvm.Cond.arrayOver (Jvm.ClassFile.FieldType.array Jvm.ClassFile.FieldType.int)) ∈ lw_tbl := lw_at lw_m1 129 rfl
set_option maxRecDepth 100000
theorem q300 : (Jvm.Cond.arrayClass Jvm.ClassFile.FieldType.byte) ∈ lw_all := lw_g (lw_at lw_m1 175 rfl) rfl
theorem q301 : (Jvm.Cond.arrayClass Jvm.ClassFile.FieldType.int) ∈ lw_all := lw_g (lw_at lw_m1 176 rfl) rfl
theorem q334 : (Jvm.Cond.arrayOver (Jvm.ClassFile.FieldType.object "CarryFair$Slot")) ∈ lw_tbl := lw_at lw_m1 209 rfl
theorem q1240 : (Jvm.Cond.arrayClass Jvm.ClassFile.FieldType.short) ∈ lw_all := lw_g (lw_at lw_m5 155 rfl) rfl
theorem q1327 : (Jvm.Cond.arrayOver (Jvm.ClassFile.FieldType.object "java/lang/String")) ∈ lw_tbl := lw_at lw_m6 2 rfl

theorem q145 : (Jvm.Cond.initialized "java/lang/System") ∈ lw_all := lw_g (lw_at lw_m1 20 rfl) rfl
set_option maxRecDepth 100000
theorem q1051 : (Jvm.Cond.static ({ cls := "java/lang/System", name := "arraycopy", desc := "(Ljava/lang/Object;ILjava/lang/Object;II)V" } : Jvm.MethodName)) ∈ lw_all := lw_g (lw_at lw_m4 206 rfl) rfl
theorem q1052 : (Jvm.Cond.native ({ cls := "java/lang/System", name := "arraycopy", desc := "(Ljava/lang/Object;ILjava/lang/Object;II)V" } : Jvm.MethodName)) ∈ lw_all := lw_g (lw_at lw_m4 207 rfl) rfl

/-! java/lang/Throwable -/
set_option maxRecDepth 100000
def RJ0 : String := "java/lang/Throwable"
def TJ0 : u_T := fun k => match k with
  | 0 => ("java/lang/Throwable", "cause", "Ljava/lang/Throwable;", false)
  | 1 => ("java/lang/Throwable", "stackTrace", "[Ljava/lang/StackTraceElement;", false)
  | 2 => ("java/lang/Throwable", "suppressedExceptions", "Ljava/util/List;", false)
  | 3 => ("java/lang/Throwable", "detailMessage", "Ljava/lang/String;", false)
  | _ => ("java/lang/Throwable", "backtrace", "Ljava/lang/Object;", false)
def tyJ0 : Nat → FieldType := fun k => match k with
  | 0 => .object "java/lang/Throwable"
  | 1 => .array (.object "java/lang/StackTraceElement")
  | 2 => .object "java/util/List"
  | 3 => .object "java/lang/String"
  | _ => .object "java/lang/Object"
abbrev wsJ00 : List Cond := u_ws RJ0 TJ0 5
theorem nmJ0 : ∀ a, a < 5 → ∀ b, b < 5 → a ≠ b → (TJ0 a).2.1 ≠ (TJ0 b).2.1 := by decide +kernel
theorem tyJ0_ok : ∀ k, k < 5 → parseFieldDescriptor (TJ0 k).2.2.1 = some (tyJ0 k) := by decide +kernel
abbrev cJ0_init : ByteArray := prog_25_method_1_code
def yJ0_init : MethodName := ⟨RJ0, "<init>", "()V"⟩
def dkwJ0_init_1 : List UInt8 := [182, 0, 27, 87, 177]
abbrev dktJ0_init_1 : List UInt8 := dkwJ0_init_1 ++ []
def dkwJ0_init_0 : List UInt8 := [42, 183, 0, 1, 42, 42, 181, 0, 7, 42, 178, 0, 13, 181, 0, 17, 42, 178, 0, 20, 181, 0, 24, 42]
abbrev dktJ0_init_0 : List UInt8 := dkwJ0_init_0 ++ dktJ0_init_1
theorem dksJ0_init_0 : cJ0_init.data.toList.drop 0 = dktJ0_init_0 := by decide +kernel
theorem dksJ0_init_1 : cJ0_init.data.toList.drop 24 = dktJ0_init_1 := dk_seg dksJ0_init_0 24 rfl rfl
theorem dJ0_init_0 : decode cJ0_init 0 = .ok (.aload_n 0, 1) := dk_42 (dk_at dksJ0_init_0 0 rfl rfl)
theorem dJ0_init_1 : decode cJ0_init 1 = .ok (.invokespecial 1, 3) := dk_183 0 1 (dk_at dksJ0_init_0 1 rfl rfl)
theorem dJ0_init_4 : decode cJ0_init 4 = .ok (.aload_n 0, 1) := dk_42 (dk_at dksJ0_init_0 4 rfl rfl)
theorem dJ0_init_5 : decode cJ0_init 5 = .ok (.aload_n 0, 1) := dk_42 (dk_at dksJ0_init_0 5 rfl rfl)
theorem dJ0_init_6 : decode cJ0_init 6 = .ok (.putfield 7, 3) := dk_181 0 7 (dk_at dksJ0_init_0 6 rfl rfl)
theorem dJ0_init_9 : decode cJ0_init 9 = .ok (.aload_n 0, 1) := dk_42 (dk_at dksJ0_init_0 9 rfl rfl)
theorem dJ0_init_10 : decode cJ0_init 10 = .ok (.getstatic 13, 3) := dk_178 0 13 (dk_at dksJ0_init_0 10 rfl rfl)
theorem dJ0_init_13 : decode cJ0_init 13 = .ok (.putfield 17, 3) := dk_181 0 17 (dk_at dksJ0_init_0 13 rfl rfl)
theorem dJ0_init_16 : decode cJ0_init 16 = .ok (.aload_n 0, 1) := dk_42 (dk_at dksJ0_init_0 16 rfl rfl)
theorem dJ0_init_17 : decode cJ0_init 17 = .ok (.getstatic 20, 3) := dk_178 0 20 (dk_at dksJ0_init_0 17 rfl rfl)
theorem dJ0_init_20 : decode cJ0_init 20 = .ok (.putfield 24, 3) := dk_181 0 24 (dk_at dksJ0_init_0 20 rfl rfl)
theorem dJ0_init_23 : decode cJ0_init 23 = .ok (.aload_n 0, 1) := dk_42 (dk_at dksJ0_init_0 23 rfl rfl)
theorem dJ0_init_24 : decode cJ0_init 24 = .ok (.invokevirtual 27, 3) := dk_182 0 27 (dk_at dksJ0_init_1 0 rfl rfl)
theorem dJ0_init_27 : decode cJ0_init 27 = .ok (.pop, 1) := dk_87 (dk_at dksJ0_init_1 3 rfl rfl)
theorem dJ0_init_28 : decode cJ0_init 28 = .ok (.return_, 1) := dk_177 (dk_at dksJ0_init_1 4 rfl rfl)
abbrev cJ0_init_2 : ByteArray := prog_25_method_5_code
def yJ0_init_2 : MethodName := ⟨RJ0, "<init>", "(Ljava/lang/String;Ljava/lang/Throwable;ZZ)V"⟩
def dkwJ0_init_2_2 : List UInt8 := [44, 181, 0, 7, 29, 154, 0, 8, 42, 1, 181, 0, 24, 177]
abbrev dktJ0_init_2_2 : List UInt8 := dkwJ0_init_2_2 ++ []
def dkwJ0_init_2_1 : List UInt8 := [21, 4, 153, 0, 11, 42, 182, 0, 27, 87, 167, 0, 8, 42, 1, 181, 0, 17, 42, 43, 181, 0, 31, 42]
abbrev dktJ0_init_2_1 : List UInt8 := dkwJ0_init_2_1 ++ dktJ0_init_2_2
def dkwJ0_init_2_0 : List UInt8 := [42, 183, 0, 1, 42, 42, 181, 0, 7, 42, 178, 0, 13, 181, 0, 17, 42, 178, 0, 20, 181, 0, 24]
abbrev dktJ0_init_2_0 : List UInt8 := dkwJ0_init_2_0 ++ dktJ0_init_2_1
theorem dksJ0_init_2_0 : cJ0_init_2.data.toList.drop 0 = dktJ0_init_2_0 := by decide +kernel
theorem dksJ0_init_2_1 : cJ0_init_2.data.toList.drop 23 = dktJ0_init_2_1 := dk_seg dksJ0_init_2_0 23 rfl rfl
theorem dksJ0_init_2_2 : cJ0_init_2.data.toList.drop 47 = dktJ0_init_2_2 := dk_seg dksJ0_init_2_1 24 rfl rfl
theorem dJ0_init_2_0 : decode cJ0_init_2 0 = .ok (.aload_n 0, 1) := dk_42 (dk_at dksJ0_init_2_0 0 rfl rfl)
theorem dJ0_init_2_1 : decode cJ0_init_2 1 = .ok (.invokespecial 1, 3) := dk_183 0 1 (dk_at dksJ0_init_2_0 1 rfl rfl)
theorem dJ0_init_2_4 : decode cJ0_init_2 4 = .ok (.aload_n 0, 1) := dk_42 (dk_at dksJ0_init_2_0 4 rfl rfl)
theorem dJ0_init_2_5 : decode cJ0_init_2 5 = .ok (.aload_n 0, 1) := dk_42 (dk_at dksJ0_init_2_0 5 rfl rfl)
theorem dJ0_init_2_6 : decode cJ0_init_2 6 = .ok (.putfield 7, 3) := dk_181 0 7 (dk_at dksJ0_init_2_0 6 rfl rfl)
theorem dJ0_init_2_9 : decode cJ0_init_2 9 = .ok (.aload_n 0, 1) := dk_42 (dk_at dksJ0_init_2_0 9 rfl rfl)
theorem dJ0_init_2_10 : decode cJ0_init_2 10 = .ok (.getstatic 13, 3) := dk_178 0 13 (dk_at dksJ0_init_2_0 10 rfl rfl)
theorem dJ0_init_2_13 : decode cJ0_init_2 13 = .ok (.putfield 17, 3) := dk_181 0 17 (dk_at dksJ0_init_2_0 13 rfl rfl)
theorem dJ0_init_2_16 : decode cJ0_init_2 16 = .ok (.aload_n 0, 1) := dk_42 (dk_at dksJ0_init_2_0 16 rfl rfl)
theorem dJ0_init_2_17 : decode cJ0_init_2 17 = .ok (.getstatic 20, 3) := dk_178 0 20 (dk_at dksJ0_init_2_0 17 rfl rfl)
theorem dJ0_init_2_20 : decode cJ0_init_2 20 = .ok (.putfield 24, 3) := dk_181 0 24 (dk_at dksJ0_init_2_0 20 rfl rfl)
theorem dJ0_init_2_23 : decode cJ0_init_2 23 = .ok (.iload 4, 2) := dk_21 4 (dk_at dksJ0_init_2_1 0 rfl rfl)
theorem dJ0_init_2_25 : decode cJ0_init_2 25 = .ok (.ifCond .eq 11, 3) := dk_153 0 11 (dk_at dksJ0_init_2_1 2 rfl rfl)
theorem dJ0_init_2_28 : decode cJ0_init_2 28 = .ok (.aload_n 0, 1) := dk_42 (dk_at dksJ0_init_2_1 5 rfl rfl)
theorem dJ0_init_2_29 : decode cJ0_init_2 29 = .ok (.invokevirtual 27, 3) := dk_182 0 27 (dk_at dksJ0_init_2_1 6 rfl rfl)
theorem dJ0_init_2_32 : decode cJ0_init_2 32 = .ok (.pop, 1) := dk_87 (dk_at dksJ0_init_2_1 9 rfl rfl)
theorem dJ0_init_2_33 : decode cJ0_init_2 33 = .ok (.goto 8, 3) := dk_167 0 8 (dk_at dksJ0_init_2_1 10 rfl rfl)
theorem dJ0_init_2_36 : decode cJ0_init_2 36 = .ok (.aload_n 0, 1) := dk_42 (dk_at dksJ0_init_2_1 13 rfl rfl)
theorem dJ0_init_2_37 : decode cJ0_init_2 37 = .ok (.aconst_null, 1) := dk_1 (dk_at dksJ0_init_2_1 14 rfl rfl)
theorem dJ0_init_2_38 : decode cJ0_init_2 38 = .ok (.putfield 17, 3) := dk_181 0 17 (dk_at dksJ0_init_2_1 15 rfl rfl)
theorem dJ0_init_2_41 : decode cJ0_init_2 41 = .ok (.aload_n 0, 1) := dk_42 (dk_at dksJ0_init_2_1 18 rfl rfl)
theorem dJ0_init_2_42 : decode cJ0_init_2 42 = .ok (.aload_n 1, 1) := dk_43 (dk_at dksJ0_init_2_1 19 rfl rfl)
theorem dJ0_init_2_43 : decode cJ0_init_2 43 = .ok (.putfield 31, 3) := dk_181 0 31 (dk_at dksJ0_init_2_1 20 rfl rfl)
theorem dJ0_init_2_46 : decode cJ0_init_2 46 = .ok (.aload_n 0, 1) := dk_42 (dk_at dksJ0_init_2_1 23 rfl rfl)
theorem dJ0_init_2_47 : decode cJ0_init_2 47 = .ok (.aload_n 2, 1) := dk_44 (dk_at dksJ0_init_2_2 0 rfl rfl)
theorem dJ0_init_2_48 : decode cJ0_init_2 48 = .ok (.putfield 7, 3) := dk_181 0 7 (dk_at dksJ0_init_2_2 1 rfl rfl)
theorem dJ0_init_2_51 : decode cJ0_init_2 51 = .ok (.iload_n 3, 1) := dk_29 (dk_at dksJ0_init_2_2 4 rfl rfl)
theorem dJ0_init_2_52 : decode cJ0_init_2 52 = .ok (.ifCond .ne 8, 3) := dk_154 0 8 (dk_at dksJ0_init_2_2 5 rfl rfl)
theorem dJ0_init_2_55 : decode cJ0_init_2 55 = .ok (.aload_n 0, 1) := dk_42 (dk_at dksJ0_init_2_2 8 rfl rfl)
theorem dJ0_init_2_56 : decode cJ0_init_2 56 = .ok (.aconst_null, 1) := dk_1 (dk_at dksJ0_init_2_2 9 rfl rfl)
theorem dJ0_init_2_57 : decode cJ0_init_2 57 = .ok (.putfield 24, 3) := dk_181 0 24 (dk_at dksJ0_init_2_2 10 rfl rfl)
theorem dJ0_init_2_60 : decode cJ0_init_2 60 = .ok (.return_, 1) := dk_177 (dk_at dksJ0_init_2_2 13 rfl rfl)
theorem q127 : (Jvm.Cond.initialized "java/lang/Throwable") ∈ lw_all := lw_g (lw_at lw_m1 2 rfl) rfl
theorem q165 : (Jvm.Cond.declares ({ cls := "java/lang/Throwable", name := "<init>", desc := "()V" } : Jvm.MethodName)) ∈ lw_tbl := lw_at lw_m1 40 rfl
theorem q166 : (Jvm.Cond.declares ({ cls := "java/lang/Throwable", name := "<init>", desc := "(Ljava/lang/String;)V" } : Jvm.MethodName)) ∈ lw_tbl := lw_at lw_m1 41 rfl
theorem q170 : (Jvm.Cond.lays "java/lang/Throwable" "java/lang/Throwable" "cause" "Ljava/lang/Throwable;") ∈ lw_all := lw_g (lw_at lw_m1 45 rfl) rfl
theorem q172 : (Jvm.Cond.lays "java/lang/Throwable" "java/lang/Throwable" "stackTrace" "[Ljava/lang/StackTraceElement;") ∈ lw_all := lw_g (lw_at lw_m1 47 rfl) rfl
theorem q174 : (Jvm.Cond.lays "java/lang/Throwable" "java/lang/Throwable" "suppressedExceptions" "Ljava/util/List;") ∈ lw_all := lw_g (lw_at lw_m1 49 rfl) rfl
theorem q176 : (Jvm.Cond.lays "java/lang/Throwable" "java/lang/Throwable" "detailMessage" "Ljava/lang/String;") ∈ lw_all := lw_g (lw_at lw_m1 51 rfl) rfl
theorem q178 : (Jvm.Cond.lays "java/lang/Throwable" "java/lang/Throwable" "backtrace" "Ljava/lang/Object;") ∈ lw_all := lw_g (lw_at lw_m1 53 rfl) rfl
theorem q179 : (Jvm.Cond.fieldLink "java/lang/Throwable" (198 : Nat) "java/lang/Throwable" "backtrace" "Ljava/lang/Object;") ∈ lw_all := lw_g (lw_at lw_m1 54 rfl) rfl
theorem q180 : (Jvm.Cond.superclass "java/lang/Throwable" "java/lang/Object") ∈ lw_all := lw_g (lw_at lw_m1 55 rfl) rfl
theorem q181 : (Jvm.Cond.instanceMethod ({ cls := "java/lang/Throwable", name := "<init>", desc := "()V" } : Jvm.MethodName)) ∈ lw_all := lw_g (lw_at lw_m1 56 rfl) rfl
theorem q182 : (Jvm.Cond.code ({ cls := "java/lang/Throwable", name := "<init>", desc := "()V" } : Jvm.MethodName) prog_25_method_1_code (1 : Nat) (Option.none : Option Jvm.ClassFile.FieldType)) ∈ lw_all := lw_g (lw_at lw_m1 57 rfl) rfl
theorem q183 : (Jvm.Cond.methodLink "java/lang/Throwable" (1 : Nat) ({ cls := "java/lang/Object", name := "<init>", desc := "()V" } : Jvm.MethodName)) ∈ lw_all := lw_g (lw_at lw_m1 58 rfl) rfl
theorem q184 : (Jvm.Cond.fieldLink "java/lang/Throwable" (13 : Nat) "java/lang/Throwable" "UNASSIGNED_STACK" "[Ljava/lang/StackTraceElement;") ∈ lw_all := lw_g (lw_at lw_m1 59 rfl) rfl
theorem q185 : (Jvm.Cond.laysStatic "java/lang/Throwable" "UNASSIGNED_STACK" "[Ljava/lang/StackTraceElement;") ∈ lw_tbl := lw_at lw_m1 60 rfl
theorem q186 : (Jvm.Cond.fieldLink "java/lang/Throwable" (20 : Nat) "java/lang/Throwable" "SUPPRESSED_SENTINEL" "Ljava/util/List;") ∈ lw_all := lw_g (lw_at lw_m1 61 rfl) rfl
theorem q187 : (Jvm.Cond.laysStatic "java/lang/Throwable" "SUPPRESSED_SENTINEL" "Ljava/util/List;") ∈ lw_tbl := lw_at lw_m1 62 rfl
theorem q188 : (Jvm.Cond.methodLink "java/lang/Throwable" (27 : Nat) ({ cls := "java/lang/Throwable", name := "fillInStackTrace", desc := "()Ljava/lang/Throwable;" } : Jvm.MethodName)) ∈ lw_all := lw_g (lw_at lw_m1 63 rfl) rfl
theorem q189 : (Jvm.Cond.instanceMethod ({ cls := "java/lang/Throwable", name := "fillInStackTrace", desc := "()Ljava/lang/Throwable;" } : Jvm.MethodName)) ∈ lw_all := lw_g (lw_at lw_m1 64 rfl) rfl
theorem q190 : (Jvm.Cond.sameMethod "java/lang/Throwable" "java/lang/Throwable" "fillInStackTrace" "()Ljava/lang/Throwable;") ∈ lw_all := lw_g (lw_at lw_m1 65 rfl) rfl
theorem q192 : (Jvm.Cond.codeSync ({ cls := "java/lang/Throwable", name := "fillInStackTrace", desc := "()Ljava/lang/Throwable;" } : Jvm.MethodName) prog_25_method_18_code (1 : Nat) (Option.some (Jvm.ClassFile.FieldType.object "java/lang/Throwable"))) ∈ lw_all := lw_g (lw_at lw_m1 67 rfl) rfl
theorem q193 : (Jvm.Cond.methodLink "java/lang/Throwable" (202 : Nat) ({ cls := "java/lang/Throwable", name := "fillInStackTrace", desc := "(I)Ljava/lang/Throwable;" } : Jvm.MethodName)) ∈ lw_all := lw_g (lw_at lw_m1 68 rfl) rfl
theorem q194 : (Jvm.Cond.privateMethod ({ cls := "java/lang/Throwable", name := "fillInStackTrace", desc := "(I)Ljava/lang/Throwable;" } : Jvm.MethodName)) ∈ lw_tbl := lw_at lw_m1 69 rfl
theorem q195 : (Jvm.Cond.instanceMethod ({ cls := "java/lang/Throwable", name := "fillInStackTrace", desc := "(I)Ljava/lang/Throwable;" } : Jvm.MethodName)) ∈ lw_all := lw_g (lw_at lw_m1 70 rfl) rfl
theorem q196 : (Jvm.Cond.instantiable "java/lang/Throwable" (6 : Nat)) ∈ lw_all := lw_g (lw_at lw_m1 71 rfl) rfl
theorem q197 : (Jvm.Cond.native ({ cls := "java/lang/Throwable", name := "fillInStackTrace", desc := "(I)Ljava/lang/Throwable;" } : Jvm.MethodName)) ∈ lw_all := lw_g (lw_at lw_m1 72 rfl) rfl
theorem q208 : (Jvm.Cond.instanceMethod ({ cls := "java/lang/Throwable", name := "<init>", desc := "(Ljava/lang/String;Ljava/lang/Throwable;ZZ)V" } : Jvm.MethodName)) ∈ lw_all := lw_g (lw_at lw_m1 83 rfl) rfl
theorem q209 : (Jvm.Cond.code ({ cls := "java/lang/Throwable", name := "<init>", desc := "(Ljava/lang/String;Ljava/lang/Throwable;ZZ)V" } : Jvm.MethodName) prog_25_method_5_code (5 : Nat) (Option.none : Option Jvm.ClassFile.FieldType)) ∈ lw_all := lw_g (lw_at lw_m1 84 rfl) rfl
theorem q211 : (Jvm.Cond.fieldLink "java/lang/Throwable" (198 : Nat) "java/lang/Throwable" "backtrace" "Ljava/lang/Object;") ∈ lw_all := lw_g (lw_at lw_m1 86 rfl) rfl
theorem q212 : (Jvm.Cond.fieldLink "java/lang/Throwable" (31 : Nat) "java/lang/Throwable" "detailMessage" "Ljava/lang/String;") ∈ lw_all := lw_g (lw_at lw_m1 87 rfl) rfl
theorem q213 : (Jvm.Cond.fieldLink "java/lang/Throwable" (7 : Nat) "java/lang/Throwable" "cause" "Ljava/lang/Throwable;") ∈ lw_all := lw_g (lw_at lw_m1 88 rfl) rfl
theorem q214 : (Jvm.Cond.fieldLink "java/lang/Throwable" (17 : Nat) "java/lang/Throwable" "stackTrace" "[Ljava/lang/StackTraceElement;") ∈ lw_all := lw_g (lw_at lw_m1 89 rfl) rfl
theorem q215 : (Jvm.Cond.fieldLink "java/lang/Throwable" (24 : Nat) "java/lang/Throwable" "suppressedExceptions" "Ljava/util/List;") ∈ lw_all := lw_g (lw_at lw_m1 90 rfl) rfl
theorem q218 : (Jvm.Cond.soleField "java/lang/Throwable" "backtrace") ∈ lw_all := lw_g (lw_at lw_m1 93 rfl) rfl
theorem q219 : (Jvm.Cond.soleField "java/lang/Throwable" "detailMessage") ∈ lw_all := lw_g (lw_at lw_m1 94 rfl) rfl
theorem q220 : (Jvm.Cond.soleField "java/lang/Throwable" "cause") ∈ lw_all := lw_g (lw_at lw_m1 95 rfl) rfl
theorem q221 : (Jvm.Cond.soleField "java/lang/Throwable" "stackTrace") ∈ lw_all := lw_g (lw_at lw_m1 96 rfl) rfl
theorem q223 : (Jvm.Cond.soleField "java/lang/Throwable" "depth") ∈ lw_all := lw_g (lw_at lw_m1 98 rfl) rfl
theorem q224 : (Jvm.Cond.soleField "java/lang/Throwable" "suppressedExceptions") ∈ lw_all := lw_g (lw_at lw_m1 99 rfl) rfl
theorem q1913 : (Jvm.Cond.sameMethod "java/lang/Throwable" "java/lang/Throwable" "fillInStackTrace" "(I)Ljava/lang/Throwable;") ∈ lw_all := lw_g (lw_at lw_m8 108 rfl) rfl
theorem in_J0 : ∀ w ∈ wsJ00, w ∈ lw_all := lw_in wsJ00 [170, 172, 174, 176, 178] (by decide +kernel) (by decide +kernel)

/-! java/lang/Exception -/
set_option maxRecDepth 100000
def RJ1 : String := "java/lang/Exception"
abbrev cJ1_init : ByteArray := prog_17_method_5_code
def yJ1_init : MethodName := ⟨RJ1, "<init>", "(Ljava/lang/String;Ljava/lang/Throwable;ZZ)V"⟩
def dkwJ1_init_0 : List UInt8 := [42, 43, 44, 29, 21, 4, 183, 0, 16, 177]
abbrev dktJ1_init_0 : List UInt8 := dkwJ1_init_0 ++ []
theorem dksJ1_init_0 : cJ1_init.data.toList.drop 0 = dktJ1_init_0 := by decide +kernel
theorem dJ1_init_0 : decode cJ1_init 0 = .ok (.aload_n 0, 1) := dk_42 (dk_at dksJ1_init_0 0 rfl rfl)
theorem dJ1_init_1 : decode cJ1_init 1 = .ok (.aload_n 1, 1) := dk_43 (dk_at dksJ1_init_0 1 rfl rfl)
theorem dJ1_init_2 : decode cJ1_init 2 = .ok (.aload_n 2, 1) := dk_44 (dk_at dksJ1_init_0 2 rfl rfl)
theorem dJ1_init_3 : decode cJ1_init 3 = .ok (.iload_n 3, 1) := dk_29 (dk_at dksJ1_init_0 3 rfl rfl)
theorem dJ1_init_4 : decode cJ1_init 4 = .ok (.iload 4, 2) := dk_21 4 (dk_at dksJ1_init_0 4 rfl rfl)
theorem dJ1_init_6 : decode cJ1_init 6 = .ok (.invokespecial 16, 3) := dk_183 0 16 (dk_at dksJ1_init_0 6 rfl rfl)
theorem dJ1_init_9 : decode cJ1_init 9 = .ok (.return_, 1) := dk_177 (dk_at dksJ1_init_0 9 rfl rfl)
theorem q128 : (Jvm.Cond.initialized "java/lang/Exception") ∈ lw_all := lw_g (lw_at lw_m1 3 rfl) rfl
theorem q163 : (Jvm.Cond.declares ({ cls := "java/lang/Exception", name := "<init>", desc := "()V" } : Jvm.MethodName)) ∈ lw_tbl := lw_at lw_m1 38 rfl
theorem q164 : (Jvm.Cond.declares ({ cls := "java/lang/Exception", name := "<init>", desc := "(Ljava/lang/String;)V" } : Jvm.MethodName)) ∈ lw_tbl := lw_at lw_m1 39 rfl
theorem q205 : (Jvm.Cond.instanceMethod ({ cls := "java/lang/Exception", name := "<init>", desc := "(Ljava/lang/String;Ljava/lang/Throwable;ZZ)V" } : Jvm.MethodName)) ∈ lw_all := lw_g (lw_at lw_m1 80 rfl) rfl
theorem q206 : (Jvm.Cond.code ({ cls := "java/lang/Exception", name := "<init>", desc := "(Ljava/lang/String;Ljava/lang/Throwable;ZZ)V" } : Jvm.MethodName) prog_17_method_5_code (5 : Nat) (Option.none : Option Jvm.ClassFile.FieldType)) ∈ lw_all := lw_g (lw_at lw_m1 81 rfl) rfl
theorem q207 : (Jvm.Cond.methodLink "java/lang/Exception" (16 : Nat) ({ cls := "java/lang/Throwable", name := "<init>", desc := "(Ljava/lang/String;Ljava/lang/Throwable;ZZ)V" } : Jvm.MethodName)) ∈ lw_all := lw_g (lw_at lw_m1 82 rfl) rfl

/-! java/lang/RuntimeException -/
set_option maxRecDepth 100000
def RJ2 : String := "java/lang/RuntimeException"
abbrev cJ2_init : ByteArray := prog_20_method_5_code
def yJ2_init : MethodName := ⟨RJ2, "<init>", "(Ljava/lang/String;Ljava/lang/Throwable;ZZ)V"⟩
def dkwJ2_init_0 : List UInt8 := [42, 43, 44, 29, 21, 4, 183, 0, 16, 177]
abbrev dktJ2_init_0 : List UInt8 := dkwJ2_init_0 ++ []
theorem dksJ2_init_0 : cJ2_init.data.toList.drop 0 = dktJ2_init_0 := by decide +kernel
theorem dJ2_init_0 : decode cJ2_init 0 = .ok (.aload_n 0, 1) := dk_42 (dk_at dksJ2_init_0 0 rfl rfl)
theorem dJ2_init_1 : decode cJ2_init 1 = .ok (.aload_n 1, 1) := dk_43 (dk_at dksJ2_init_0 1 rfl rfl)
theorem dJ2_init_2 : decode cJ2_init 2 = .ok (.aload_n 2, 1) := dk_44 (dk_at dksJ2_init_0 2 rfl rfl)
theorem dJ2_init_3 : decode cJ2_init 3 = .ok (.iload_n 3, 1) := dk_29 (dk_at dksJ2_init_0 3 rfl rfl)
theorem dJ2_init_4 : decode cJ2_init 4 = .ok (.iload 4, 2) := dk_21 4 (dk_at dksJ2_init_0 4 rfl rfl)
theorem dJ2_init_6 : decode cJ2_init 6 = .ok (.invokespecial 16, 3) := dk_183 0 16 (dk_at dksJ2_init_0 6 rfl rfl)
theorem dJ2_init_9 : decode cJ2_init 9 = .ok (.return_, 1) := dk_177 (dk_at dksJ2_init_0 9 rfl rfl)
theorem q129 : (Jvm.Cond.initialized "java/lang/RuntimeException") ∈ lw_all := lw_g (lw_at lw_m1 4 rfl) rfl
theorem q161 : (Jvm.Cond.declares ({ cls := "java/lang/RuntimeException", name := "<init>", desc := "()V" } : Jvm.MethodName)) ∈ lw_tbl := lw_at lw_m1 36 rfl
theorem q162 : (Jvm.Cond.declares ({ cls := "java/lang/RuntimeException", name := "<init>", desc := "(Ljava/lang/String;)V" } : Jvm.MethodName)) ∈ lw_tbl := lw_at lw_m1 37 rfl
theorem q202 : (Jvm.Cond.instanceMethod ({ cls := "java/lang/RuntimeException", name := "<init>", desc := "(Ljava/lang/String;Ljava/lang/Throwable;ZZ)V" } : Jvm.MethodName)) ∈ lw_all := lw_g (lw_at lw_m1 77 rfl) rfl
theorem q203 : (Jvm.Cond.code ({ cls := "java/lang/RuntimeException", name := "<init>", desc := "(Ljava/lang/String;Ljava/lang/Throwable;ZZ)V" } : Jvm.MethodName) prog_20_method_5_code (5 : Nat) (Option.none : Option Jvm.ClassFile.FieldType)) ∈ lw_all := lw_g (lw_at lw_m1 78 rfl) rfl
theorem q204 : (Jvm.Cond.methodLink "java/lang/RuntimeException" (16 : Nat) ({ cls := "java/lang/Exception", name := "<init>", desc := "(Ljava/lang/String;Ljava/lang/Throwable;ZZ)V" } : Jvm.MethodName)) ∈ lw_all := lw_g (lw_at lw_m1 79 rfl) rfl

/-! java/lang/Math -/
set_option maxRecDepth 100000
def RJ3 : String := "java/lang/Math"
abbrev cJ3_max : ByteArray := prog_19_method_65_code
def yJ3_max : MethodName := ⟨RJ3, "max", "(II)I"⟩
def dkwJ3_max_0 : List UInt8 := [26, 27, 161, 0, 7, 26, 167, 0, 4, 27, 172]
abbrev dktJ3_max_0 : List UInt8 := dkwJ3_max_0 ++ []
theorem dksJ3_max_0 : cJ3_max.data.toList.drop 0 = dktJ3_max_0 := by decide +kernel
theorem dJ3_max_0 : decode cJ3_max 0 = .ok (.iload_n 0, 1) := dk_26 (dk_at dksJ3_max_0 0 rfl rfl)
theorem dJ3_max_1 : decode cJ3_max 1 = .ok (.iload_n 1, 1) := dk_27 (dk_at dksJ3_max_0 1 rfl rfl)
theorem dJ3_max_2 : decode cJ3_max 2 = .ok (.if_icmp .lt 7, 3) := dk_161 0 7 (dk_at dksJ3_max_0 2 rfl rfl)
theorem dJ3_max_5 : decode cJ3_max 5 = .ok (.iload_n 0, 1) := dk_26 (dk_at dksJ3_max_0 5 rfl rfl)
theorem dJ3_max_6 : decode cJ3_max 6 = .ok (.goto 4, 3) := dk_167 0 4 (dk_at dksJ3_max_0 6 rfl rfl)
theorem dJ3_max_9 : decode cJ3_max 9 = .ok (.iload_n 1, 1) := dk_27 (dk_at dksJ3_max_0 9 rfl rfl)
theorem dJ3_max_10 : decode cJ3_max 10 = .ok (.ireturn, 1) := dk_172 (dk_at dksJ3_max_0 10 rfl rfl)
abbrev cJ3_min : ByteArray := prog_19_method_69_code
def yJ3_min : MethodName := ⟨RJ3, "min", "(II)I"⟩
def dkwJ3_min_0 : List UInt8 := [26, 27, 163, 0, 7, 26, 167, 0, 4, 27, 172]
abbrev dktJ3_min_0 : List UInt8 := dkwJ3_min_0 ++ []
theorem dksJ3_min_0 : cJ3_min.data.toList.drop 0 = dktJ3_min_0 := by decide +kernel
theorem dJ3_min_0 : decode cJ3_min 0 = .ok (.iload_n 0, 1) := dk_26 (dk_at dksJ3_min_0 0 rfl rfl)
theorem dJ3_min_1 : decode cJ3_min 1 = .ok (.iload_n 1, 1) := dk_27 (dk_at dksJ3_min_0 1 rfl rfl)
theorem dJ3_min_2 : decode cJ3_min 2 = .ok (.if_icmp .gt 7, 3) := dk_163 0 7 (dk_at dksJ3_min_0 2 rfl rfl)
theorem dJ3_min_5 : decode cJ3_min 5 = .ok (.iload_n 0, 1) := dk_26 (dk_at dksJ3_min_0 5 rfl rfl)
theorem dJ3_min_6 : decode cJ3_min 6 = .ok (.goto 4, 3) := dk_167 0 4 (dk_at dksJ3_min_0 6 rfl rfl)
theorem dJ3_min_9 : decode cJ3_min 9 = .ok (.iload_n 1, 1) := dk_27 (dk_at dksJ3_min_0 9 rfl rfl)
theorem dJ3_min_10 : decode cJ3_min 10 = .ok (.ireturn, 1) := dk_172 (dk_at dksJ3_min_0 10 rfl rfl)
theorem q143 : (Jvm.Cond.initialized "java/lang/Math") ∈ lw_all := lw_g (lw_at lw_m1 18 rfl) rfl
theorem q686 : (Jvm.Cond.static ({ cls := "java/lang/Math", name := "max", desc := "(II)I" } : Jvm.MethodName)) ∈ lw_all := lw_g (lw_at lw_m3 81 rfl) rfl
theorem q687 : (Jvm.Cond.code ({ cls := "java/lang/Math", name := "max", desc := "(II)I" } : Jvm.MethodName) prog_19_method_65_code (2 : Nat) (Option.some Jvm.ClassFile.FieldType.int)) ∈ lw_all := lw_g (lw_at lw_m3 82 rfl) rfl
theorem q705 : (Jvm.Cond.static ({ cls := "java/lang/Math", name := "min", desc := "(II)I" } : Jvm.MethodName)) ∈ lw_all := lw_g (lw_at lw_m3 100 rfl) rfl
theorem q706 : (Jvm.Cond.code ({ cls := "java/lang/Math", name := "min", desc := "(II)I" } : Jvm.MethodName) prog_19_method_69_code (2 : Nat) (Option.some Jvm.ClassFile.FieldType.int)) ∈ lw_all := lw_g (lw_at lw_m3 101 rfl) rfl

/-! java/lang/Integer -/
set_option maxRecDepth 100000
def RJ4 : String := "java/lang/Integer"
abbrev cJ4_bitCount : ByteArray := prog_18_method_49_code
def yJ4_bitCount : MethodName := ⟨RJ4, "bitCount", "(I)I"⟩
def dkwJ4_bitCount_2 : List UInt8 := [26, 16, 63, 126, 172]
abbrev dktJ4_bitCount_2 : List UInt8 := dkwJ4_bitCount_2 ++ []
def dkwJ4_bitCount_1 : List UInt8 := [26, 26, 7, 124, 96, 19, 1, 11, 126, 59, 26, 26, 16, 8, 124, 96, 59, 26, 26, 16, 16, 124, 96, 59]
abbrev dktJ4_bitCount_1 : List UInt8 := dkwJ4_bitCount_1 ++ dktJ4_bitCount_2
def dkwJ4_bitCount_0 : List UInt8 := [26, 26, 4, 124, 19, 1, 9, 126, 100, 59, 26, 19, 1, 10, 126, 26, 5, 124, 19, 1, 10, 126, 96, 59]
abbrev dktJ4_bitCount_0 : List UInt8 := dkwJ4_bitCount_0 ++ dktJ4_bitCount_1
theorem dksJ4_bitCount_0 : cJ4_bitCount.data.toList.drop 0 = dktJ4_bitCount_0 := by decide +kernel
theorem dksJ4_bitCount_1 : cJ4_bitCount.data.toList.drop 24 = dktJ4_bitCount_1 := dk_seg dksJ4_bitCount_0 24 rfl rfl
theorem dksJ4_bitCount_2 : cJ4_bitCount.data.toList.drop 48 = dktJ4_bitCount_2 := dk_seg dksJ4_bitCount_1 24 rfl rfl
theorem dJ4_bitCount_0 : decode cJ4_bitCount 0 = .ok (.iload_n 0, 1) := dk_26 (dk_at dksJ4_bitCount_0 0 rfl rfl)
theorem dJ4_bitCount_1 : decode cJ4_bitCount 1 = .ok (.iload_n 0, 1) := dk_26 (dk_at dksJ4_bitCount_0 1 rfl rfl)
theorem dJ4_bitCount_2 : decode cJ4_bitCount 2 = .ok (.iconst 1, 1) := dk_4 (dk_at dksJ4_bitCount_0 2 rfl rfl)
theorem dJ4_bitCount_3 : decode cJ4_bitCount 3 = .ok (.iushr, 1) := dk_124 (dk_at dksJ4_bitCount_0 3 rfl rfl)
theorem dJ4_bitCount_4 : decode cJ4_bitCount 4 = .ok (.ldc_w 265, 3) := dk_19 1 9 (dk_at dksJ4_bitCount_0 4 rfl rfl)
theorem dJ4_bitCount_7 : decode cJ4_bitCount 7 = .ok (.iand, 1) := dk_126 (dk_at dksJ4_bitCount_0 7 rfl rfl)
theorem dJ4_bitCount_8 : decode cJ4_bitCount 8 = .ok (.isub, 1) := dk_100 (dk_at dksJ4_bitCount_0 8 rfl rfl)
theorem dJ4_bitCount_9 : decode cJ4_bitCount 9 = .ok (.istore_n 0, 1) := dk_59 (dk_at dksJ4_bitCount_0 9 rfl rfl)
theorem dJ4_bitCount_10 : decode cJ4_bitCount 10 = .ok (.iload_n 0, 1) := dk_26 (dk_at dksJ4_bitCount_0 10 rfl rfl)
theorem dJ4_bitCount_11 : decode cJ4_bitCount 11 = .ok (.ldc_w 266, 3) := dk_19 1 10 (dk_at dksJ4_bitCount_0 11 rfl rfl)
theorem dJ4_bitCount_14 : decode cJ4_bitCount 14 = .ok (.iand, 1) := dk_126 (dk_at dksJ4_bitCount_0 14 rfl rfl)
theorem dJ4_bitCount_15 : decode cJ4_bitCount 15 = .ok (.iload_n 0, 1) := dk_26 (dk_at dksJ4_bitCount_0 15 rfl rfl)
theorem dJ4_bitCount_16 : decode cJ4_bitCount 16 = .ok (.iconst 2, 1) := dk_5 (dk_at dksJ4_bitCount_0 16 rfl rfl)
theorem dJ4_bitCount_17 : decode cJ4_bitCount 17 = .ok (.iushr, 1) := dk_124 (dk_at dksJ4_bitCount_0 17 rfl rfl)
theorem dJ4_bitCount_18 : decode cJ4_bitCount 18 = .ok (.ldc_w 266, 3) := dk_19 1 10 (dk_at dksJ4_bitCount_0 18 rfl rfl)
theorem dJ4_bitCount_21 : decode cJ4_bitCount 21 = .ok (.iand, 1) := dk_126 (dk_at dksJ4_bitCount_0 21 rfl rfl)
theorem dJ4_bitCount_22 : decode cJ4_bitCount 22 = .ok (.iadd, 1) := dk_96 (dk_at dksJ4_bitCount_0 22 rfl rfl)
theorem dJ4_bitCount_23 : decode cJ4_bitCount 23 = .ok (.istore_n 0, 1) := dk_59 (dk_at dksJ4_bitCount_0 23 rfl rfl)
theorem dJ4_bitCount_24 : decode cJ4_bitCount 24 = .ok (.iload_n 0, 1) := dk_26 (dk_at dksJ4_bitCount_1 0 rfl rfl)
theorem dJ4_bitCount_25 : decode cJ4_bitCount 25 = .ok (.iload_n 0, 1) := dk_26 (dk_at dksJ4_bitCount_1 1 rfl rfl)
theorem dJ4_bitCount_26 : decode cJ4_bitCount 26 = .ok (.iconst 4, 1) := dk_7 (dk_at dksJ4_bitCount_1 2 rfl rfl)
theorem dJ4_bitCount_27 : decode cJ4_bitCount 27 = .ok (.iushr, 1) := dk_124 (dk_at dksJ4_bitCount_1 3 rfl rfl)
theorem dJ4_bitCount_28 : decode cJ4_bitCount 28 = .ok (.iadd, 1) := dk_96 (dk_at dksJ4_bitCount_1 4 rfl rfl)
theorem dJ4_bitCount_29 : decode cJ4_bitCount 29 = .ok (.ldc_w 267, 3) := dk_19 1 11 (dk_at dksJ4_bitCount_1 5 rfl rfl)
theorem dJ4_bitCount_32 : decode cJ4_bitCount 32 = .ok (.iand, 1) := dk_126 (dk_at dksJ4_bitCount_1 8 rfl rfl)
theorem dJ4_bitCount_33 : decode cJ4_bitCount 33 = .ok (.istore_n 0, 1) := dk_59 (dk_at dksJ4_bitCount_1 9 rfl rfl)
theorem dJ4_bitCount_34 : decode cJ4_bitCount 34 = .ok (.iload_n 0, 1) := dk_26 (dk_at dksJ4_bitCount_1 10 rfl rfl)
theorem dJ4_bitCount_35 : decode cJ4_bitCount 35 = .ok (.iload_n 0, 1) := dk_26 (dk_at dksJ4_bitCount_1 11 rfl rfl)
theorem dJ4_bitCount_36 : decode cJ4_bitCount 36 = .ok (.bipush 8, 2) := dk_16 8 (dk_at dksJ4_bitCount_1 12 rfl rfl)
theorem dJ4_bitCount_38 : decode cJ4_bitCount 38 = .ok (.iushr, 1) := dk_124 (dk_at dksJ4_bitCount_1 14 rfl rfl)
theorem dJ4_bitCount_39 : decode cJ4_bitCount 39 = .ok (.iadd, 1) := dk_96 (dk_at dksJ4_bitCount_1 15 rfl rfl)
theorem dJ4_bitCount_40 : decode cJ4_bitCount 40 = .ok (.istore_n 0, 1) := dk_59 (dk_at dksJ4_bitCount_1 16 rfl rfl)
theorem dJ4_bitCount_41 : decode cJ4_bitCount 41 = .ok (.iload_n 0, 1) := dk_26 (dk_at dksJ4_bitCount_1 17 rfl rfl)
theorem dJ4_bitCount_42 : decode cJ4_bitCount 42 = .ok (.iload_n 0, 1) := dk_26 (dk_at dksJ4_bitCount_1 18 rfl rfl)
theorem dJ4_bitCount_43 : decode cJ4_bitCount 43 = .ok (.bipush 16, 2) := dk_16 16 (dk_at dksJ4_bitCount_1 19 rfl rfl)
theorem dJ4_bitCount_45 : decode cJ4_bitCount 45 = .ok (.iushr, 1) := dk_124 (dk_at dksJ4_bitCount_1 21 rfl rfl)
theorem dJ4_bitCount_46 : decode cJ4_bitCount 46 = .ok (.iadd, 1) := dk_96 (dk_at dksJ4_bitCount_1 22 rfl rfl)
theorem dJ4_bitCount_47 : decode cJ4_bitCount 47 = .ok (.istore_n 0, 1) := dk_59 (dk_at dksJ4_bitCount_1 23 rfl rfl)
theorem dJ4_bitCount_48 : decode cJ4_bitCount 48 = .ok (.iload_n 0, 1) := dk_26 (dk_at dksJ4_bitCount_2 0 rfl rfl)
theorem dJ4_bitCount_49 : decode cJ4_bitCount 49 = .ok (.bipush 63, 2) := dk_16 63 (dk_at dksJ4_bitCount_2 1 rfl rfl)
theorem dJ4_bitCount_51 : decode cJ4_bitCount 51 = .ok (.iand, 1) := dk_126 (dk_at dksJ4_bitCount_2 3 rfl rfl)
theorem dJ4_bitCount_52 : decode cJ4_bitCount 52 = .ok (.ireturn, 1) := dk_172 (dk_at dksJ4_bitCount_2 4 rfl rfl)
theorem q144 : (Jvm.Cond.initialized "java/lang/Integer") ∈ lw_all := lw_g (lw_at lw_m1 19 rfl) rfl
theorem q861 : (Jvm.Cond.static ({ cls := "java/lang/Integer", name := "bitCount", desc := "(I)I" } : Jvm.MethodName)) ∈ lw_all := lw_g (lw_at lw_m4 16 rfl) rfl
theorem q862 : (Jvm.Cond.code ({ cls := "java/lang/Integer", name := "bitCount", desc := "(I)I" } : Jvm.MethodName) prog_18_method_49_code (1 : Nat) (Option.some Jvm.ClassFile.FieldType.int)) ∈ lw_all := lw_g (lw_at lw_m4 17 rfl) rfl
theorem q863 : (Jvm.Cond.constant "java/lang/Integer" (265 : Nat) (1431655765 : Int32)) ∈ lw_all := lw_g (lw_at lw_m4 18 rfl) rfl
theorem q864 : (Jvm.Cond.constant "java/lang/Integer" (266 : Nat) (858993459 : Int32)) ∈ lw_all := lw_g (lw_at lw_m4 19 rfl) rfl
theorem q865 : (Jvm.Cond.constant "java/lang/Integer" (267 : Nat) (252645135 : Int32)) ∈ lw_all := lw_g (lw_at lw_m4 20 rfl) rfl

/-! java/lang/String -/
set_option maxRecDepth 100000
def RJ5 : String := "java/lang/String"
abbrev cJ5_charAt : ByteArray := prog_21_method_56_code
def yJ5_charAt : MethodName := ⟨RJ5, "charAt", "(I)C"⟩
def dkwJ5_charAt_1 : List UInt8 := [172]
abbrev dktJ5_charAt_1 : List UInt8 := dkwJ5_charAt_1 ++ []
def dkwJ5_charAt_0 : List UInt8 := [42, 182, 1, 236, 153, 0, 12, 42, 180, 0, 9, 27, 184, 1, 239, 172, 42, 180, 0, 9, 27, 184, 1, 242]
abbrev dktJ5_charAt_0 : List UInt8 := dkwJ5_charAt_0 ++ dktJ5_charAt_1
theorem dksJ5_charAt_0 : cJ5_charAt.data.toList.drop 0 = dktJ5_charAt_0 := by decide +kernel
theorem dksJ5_charAt_1 : cJ5_charAt.data.toList.drop 24 = dktJ5_charAt_1 := dk_seg dksJ5_charAt_0 24 rfl rfl
theorem dJ5_charAt_0 : decode cJ5_charAt 0 = .ok (.aload_n 0, 1) := dk_42 (dk_at dksJ5_charAt_0 0 rfl rfl)
theorem dJ5_charAt_1 : decode cJ5_charAt 1 = .ok (.invokevirtual 492, 3) := dk_182 1 236 (dk_at dksJ5_charAt_0 1 rfl rfl)
theorem dJ5_charAt_4 : decode cJ5_charAt 4 = .ok (.ifCond .eq 12, 3) := dk_153 0 12 (dk_at dksJ5_charAt_0 4 rfl rfl)
theorem dJ5_charAt_7 : decode cJ5_charAt 7 = .ok (.aload_n 0, 1) := dk_42 (dk_at dksJ5_charAt_0 7 rfl rfl)
theorem dJ5_charAt_8 : decode cJ5_charAt 8 = .ok (.getfield 9, 3) := dk_180 0 9 (dk_at dksJ5_charAt_0 8 rfl rfl)
theorem dJ5_charAt_11 : decode cJ5_charAt 11 = .ok (.iload_n 1, 1) := dk_27 (dk_at dksJ5_charAt_0 11 rfl rfl)
theorem dJ5_charAt_12 : decode cJ5_charAt 12 = .ok (.invokestatic 495, 3) := dk_184 1 239 (dk_at dksJ5_charAt_0 12 rfl rfl)
theorem dJ5_charAt_15 : decode cJ5_charAt 15 = .ok (.ireturn, 1) := dk_172 (dk_at dksJ5_charAt_0 15 rfl rfl)
theorem dJ5_charAt_16 : decode cJ5_charAt 16 = .ok (.aload_n 0, 1) := dk_42 (dk_at dksJ5_charAt_0 16 rfl rfl)
theorem dJ5_charAt_17 : decode cJ5_charAt 17 = .ok (.getfield 9, 3) := dk_180 0 9 (dk_at dksJ5_charAt_0 17 rfl rfl)
theorem dJ5_charAt_20 : decode cJ5_charAt 20 = .ok (.iload_n 1, 1) := dk_27 (dk_at dksJ5_charAt_0 20 rfl rfl)
theorem dJ5_charAt_21 : decode cJ5_charAt 21 = .ok (.invokestatic 498, 3) := dk_184 1 242 (dk_at dksJ5_charAt_0 21 rfl rfl)
theorem dJ5_charAt_24 : decode cJ5_charAt 24 = .ok (.ireturn, 1) := dk_172 (dk_at dksJ5_charAt_1 0 rfl rfl)
abbrev cJ5_isLatin1 : ByteArray := prog_21_method_154_code
def yJ5_isLatin1 : MethodName := ⟨RJ5, "isLatin1", "()Z"⟩
def dkwJ5_isLatin1_0 : List UInt8 := [178, 0, 38, 153, 0, 14, 42, 180, 0, 15, 154, 0, 7, 4, 167, 0, 4, 3, 172]
abbrev dktJ5_isLatin1_0 : List UInt8 := dkwJ5_isLatin1_0 ++ []
theorem dksJ5_isLatin1_0 : cJ5_isLatin1.data.toList.drop 0 = dktJ5_isLatin1_0 := by decide +kernel
theorem dJ5_isLatin1_0 : decode cJ5_isLatin1 0 = .ok (.getstatic 38, 3) := dk_178 0 38 (dk_at dksJ5_isLatin1_0 0 rfl rfl)
theorem dJ5_isLatin1_3 : decode cJ5_isLatin1 3 = .ok (.ifCond .eq 14, 3) := dk_153 0 14 (dk_at dksJ5_isLatin1_0 3 rfl rfl)
theorem dJ5_isLatin1_6 : decode cJ5_isLatin1 6 = .ok (.aload_n 0, 1) := dk_42 (dk_at dksJ5_isLatin1_0 6 rfl rfl)
theorem dJ5_isLatin1_7 : decode cJ5_isLatin1 7 = .ok (.getfield 15, 3) := dk_180 0 15 (dk_at dksJ5_isLatin1_0 7 rfl rfl)
theorem dJ5_isLatin1_10 : decode cJ5_isLatin1 10 = .ok (.ifCond .ne 7, 3) := dk_154 0 7 (dk_at dksJ5_isLatin1_0 10 rfl rfl)
theorem dJ5_isLatin1_13 : decode cJ5_isLatin1 13 = .ok (.iconst 1, 1) := dk_4 (dk_at dksJ5_isLatin1_0 13 rfl rfl)
theorem dJ5_isLatin1_14 : decode cJ5_isLatin1 14 = .ok (.goto 4, 3) := dk_167 0 4 (dk_at dksJ5_isLatin1_0 14 rfl rfl)
theorem dJ5_isLatin1_17 : decode cJ5_isLatin1 17 = .ok (.iconst 0, 1) := dk_3 (dk_at dksJ5_isLatin1_0 17 rfl rfl)
theorem dJ5_isLatin1_18 : decode cJ5_isLatin1 18 = .ok (.ireturn, 1) := dk_172 (dk_at dksJ5_isLatin1_0 18 rfl rfl)
abbrev cJ5_checkIndex : ByteArray := prog_21_method_155_code
def yJ5_checkIndex : MethodName := ⟨RJ5, "checkIndex", "(II)V"⟩
def dkwJ5_checkIndex_0 : List UInt8 := [26, 27, 178, 4, 29, 184, 4, 35, 87, 177]
abbrev dktJ5_checkIndex_0 : List UInt8 := dkwJ5_checkIndex_0 ++ []
theorem dksJ5_checkIndex_0 : cJ5_checkIndex.data.toList.drop 0 = dktJ5_checkIndex_0 := by decide +kernel
theorem dJ5_checkIndex_0 : decode cJ5_checkIndex 0 = .ok (.iload_n 0, 1) := dk_26 (dk_at dksJ5_checkIndex_0 0 rfl rfl)
theorem dJ5_checkIndex_1 : decode cJ5_checkIndex 1 = .ok (.iload_n 1, 1) := dk_27 (dk_at dksJ5_checkIndex_0 1 rfl rfl)
theorem dJ5_checkIndex_2 : decode cJ5_checkIndex 2 = .ok (.getstatic 1053, 3) := dk_178 4 29 (dk_at dksJ5_checkIndex_0 2 rfl rfl)
theorem dJ5_checkIndex_5 : decode cJ5_checkIndex 5 = .ok (.invokestatic 1059, 3) := dk_184 4 35 (dk_at dksJ5_checkIndex_0 5 rfl rfl)
theorem dJ5_checkIndex_8 : decode cJ5_checkIndex 8 = .ok (.pop, 1) := dk_87 (dk_at dksJ5_checkIndex_0 8 rfl rfl)
theorem dJ5_checkIndex_9 : decode cJ5_checkIndex 9 = .ok (.return_, 1) := dk_177 (dk_at dksJ5_checkIndex_0 9 rfl rfl)
abbrev cJ5_length : ByteArray := prog_21_method_54_code
def yJ5_length : MethodName := ⟨RJ5, "length", "()I"⟩
def dkwJ5_length_0 : List UInt8 := [42, 180, 0, 9, 190, 42, 182, 1, 79, 122, 172]
abbrev dktJ5_length_0 : List UInt8 := dkwJ5_length_0 ++ []
theorem dksJ5_length_0 : cJ5_length.data.toList.drop 0 = dktJ5_length_0 := by decide +kernel
theorem dJ5_length_0 : decode cJ5_length 0 = .ok (.aload_n 0, 1) := dk_42 (dk_at dksJ5_length_0 0 rfl rfl)
theorem dJ5_length_1 : decode cJ5_length 1 = .ok (.getfield 9, 3) := dk_180 0 9 (dk_at dksJ5_length_0 1 rfl rfl)
theorem dJ5_length_4 : decode cJ5_length 4 = .ok (.arraylength, 1) := dk_190 (dk_at dksJ5_length_0 4 rfl rfl)
theorem dJ5_length_5 : decode cJ5_length 5 = .ok (.aload_n 0, 1) := dk_42 (dk_at dksJ5_length_0 5 rfl rfl)
theorem dJ5_length_6 : decode cJ5_length 6 = .ok (.invokevirtual 335, 3) := dk_182 1 79 (dk_at dksJ5_length_0 6 rfl rfl)
theorem dJ5_length_9 : decode cJ5_length 9 = .ok (.ishr, 1) := dk_122 (dk_at dksJ5_length_0 9 rfl rfl)
theorem dJ5_length_10 : decode cJ5_length 10 = .ok (.ireturn, 1) := dk_172 (dk_at dksJ5_length_0 10 rfl rfl)
abbrev cJ5_coder : ByteArray := prog_21_method_152_code
def yJ5_coder : MethodName := ⟨RJ5, "coder", "()B"⟩
def dkwJ5_coder_0 : List UInt8 := [178, 0, 38, 153, 0, 10, 42, 180, 0, 15, 167, 0, 4, 4, 172]
abbrev dktJ5_coder_0 : List UInt8 := dkwJ5_coder_0 ++ []
theorem dksJ5_coder_0 : cJ5_coder.data.toList.drop 0 = dktJ5_coder_0 := by decide +kernel
theorem dJ5_coder_0 : decode cJ5_coder 0 = .ok (.getstatic 38, 3) := dk_178 0 38 (dk_at dksJ5_coder_0 0 rfl rfl)
theorem dJ5_coder_3 : decode cJ5_coder 3 = .ok (.ifCond .eq 10, 3) := dk_153 0 10 (dk_at dksJ5_coder_0 3 rfl rfl)
theorem dJ5_coder_6 : decode cJ5_coder 6 = .ok (.aload_n 0, 1) := dk_42 (dk_at dksJ5_coder_0 6 rfl rfl)
theorem dJ5_coder_7 : decode cJ5_coder 7 = .ok (.getfield 15, 3) := dk_180 0 15 (dk_at dksJ5_coder_0 7 rfl rfl)
theorem dJ5_coder_10 : decode cJ5_coder 10 = .ok (.goto 4, 3) := dk_167 0 4 (dk_at dksJ5_coder_0 10 rfl rfl)
theorem dJ5_coder_13 : decode cJ5_coder 13 = .ok (.iconst 1, 1) := dk_4 (dk_at dksJ5_coder_0 13 rfl rfl)
theorem dJ5_coder_14 : decode cJ5_coder 14 = .ok (.ireturn, 1) := dk_172 (dk_at dksJ5_coder_0 14 rfl rfl)
theorem q146 : (Jvm.Cond.initialized "java/lang/String") ∈ lw_all := lw_g (lw_at lw_m1 21 rfl) rfl
theorem q1096 : (Jvm.Cond.instanceMethod ({ cls := "java/lang/String", name := "charAt", desc := "(I)C" } : Jvm.MethodName)) ∈ lw_all := lw_g (lw_at lw_m5 11 rfl) rfl
theorem q1097 : (Jvm.Cond.selects "java/lang/String" ({ cls := "java/lang/String", name := "charAt", desc := "(I)C" } : Jvm.MethodName) ({ cls := "java/lang/String", name := "charAt", desc := "(I)C" } : Jvm.MethodName)) ∈ lw_all := lw_g (lw_at lw_m5 12 rfl) rfl
theorem q1098 : (Jvm.Cond.code ({ cls := "java/lang/String", name := "charAt", desc := "(I)C" } : Jvm.MethodName) prog_21_method_56_code (2 : Nat) (Option.some Jvm.ClassFile.FieldType.char)) ∈ lw_all := lw_g (lw_at lw_m5 13 rfl) rfl
theorem q1099 : (Jvm.Cond.methodLink "java/lang/String" (492 : Nat) ({ cls := "java/lang/String", name := "isLatin1", desc := "()Z" } : Jvm.MethodName)) ∈ lw_all := lw_g (lw_at lw_m5 14 rfl) rfl
theorem q1100 : (Jvm.Cond.instanceMethod ({ cls := "java/lang/String", name := "isLatin1", desc := "()Z" } : Jvm.MethodName)) ∈ lw_all := lw_g (lw_at lw_m5 15 rfl) rfl
theorem q1101 : (Jvm.Cond.selects "java/lang/String" ({ cls := "java/lang/String", name := "isLatin1", desc := "()Z" } : Jvm.MethodName) ({ cls := "java/lang/String", name := "isLatin1", desc := "()Z" } : Jvm.MethodName)) ∈ lw_all := lw_g (lw_at lw_m5 16 rfl) rfl
theorem q1102 : (Jvm.Cond.code ({ cls := "java/lang/String", name := "isLatin1", desc := "()Z" } : Jvm.MethodName) prog_21_method_154_code (1 : Nat) (Option.some Jvm.ClassFile.FieldType.boolean)) ∈ lw_all := lw_g (lw_at lw_m5 17 rfl) rfl
theorem q1103 : (Jvm.Cond.fieldLink "java/lang/String" (38 : Nat) "java/lang/String" "COMPACT_STRINGS" "Z") ∈ lw_all := lw_g (lw_at lw_m5 18 rfl) rfl
theorem q1104 : (Jvm.Cond.laysStatic "java/lang/String" "COMPACT_STRINGS" "Z") ∈ lw_tbl := lw_at lw_m5 19 rfl
theorem q1105 : (Jvm.Cond.methodLink "java/lang/String" (495 : Nat) ({ cls := "java/lang/StringLatin1", name := "charAt", desc := "([BI)C" } : Jvm.MethodName)) ∈ lw_all := lw_g (lw_at lw_m5 20 rfl) rfl
theorem q1109 : (Jvm.Cond.static ({ cls := "java/lang/String", name := "checkIndex", desc := "(II)V" } : Jvm.MethodName)) ∈ lw_all := lw_g (lw_at lw_m5 24 rfl) rfl
theorem q1110 : (Jvm.Cond.code ({ cls := "java/lang/String", name := "checkIndex", desc := "(II)V" } : Jvm.MethodName) prog_21_method_155_code (2 : Nat) (Option.none : Option Jvm.ClassFile.FieldType)) ∈ lw_all := lw_g (lw_at lw_m5 25 rfl) rfl
theorem q1111 : (Jvm.Cond.fieldLink "java/lang/String" (1053 : Nat) "jdk/internal/util/Preconditions" "SIOOBE_FORMATTER" "Ljava/util/function/BiFunction;") ∈ lw_all := lw_g (lw_at lw_m5 26 rfl) rfl
theorem q1113 : (Jvm.Cond.methodLink "java/lang/String" (1059 : Nat) ({ cls := "jdk/internal/util/Preconditions", name := "checkIndex", desc := "(IILjava/util/function/BiFunction;)I" } : Jvm.MethodName)) ∈ lw_all := lw_g (lw_at lw_m5 28 rfl) rfl
theorem q1116 : (Jvm.Cond.methodLink "java/lang/String" (498 : Nat) ({ cls := "java/lang/StringUTF16", name := "charAt", desc := "([BI)C" } : Jvm.MethodName)) ∈ lw_all := lw_g (lw_at lw_m5 31 rfl) rfl
theorem q1812 : (Jvm.Cond.instanceMethod ({ cls := "java/lang/String", name := "length", desc := "()I" } : Jvm.MethodName)) ∈ lw_all := lw_g (lw_at lw_m8 7 rfl) rfl
theorem q1813 : (Jvm.Cond.selects "java/lang/String" ({ cls := "java/lang/String", name := "length", desc := "()I" } : Jvm.MethodName) ({ cls := "java/lang/String", name := "length", desc := "()I" } : Jvm.MethodName)) ∈ lw_all := lw_g (lw_at lw_m8 8 rfl) rfl
theorem q1814 : (Jvm.Cond.code ({ cls := "java/lang/String", name := "length", desc := "()I" } : Jvm.MethodName) prog_21_method_54_code (1 : Nat) (Option.some Jvm.ClassFile.FieldType.int)) ∈ lw_all := lw_g (lw_at lw_m8 9 rfl) rfl
theorem q1815 : (Jvm.Cond.methodLink "java/lang/String" (335 : Nat) ({ cls := "java/lang/String", name := "coder", desc := "()B" } : Jvm.MethodName)) ∈ lw_all := lw_g (lw_at lw_m8 10 rfl) rfl
theorem q1816 : (Jvm.Cond.instanceMethod ({ cls := "java/lang/String", name := "coder", desc := "()B" } : Jvm.MethodName)) ∈ lw_all := lw_g (lw_at lw_m8 11 rfl) rfl
theorem q1817 : (Jvm.Cond.selects "java/lang/String" ({ cls := "java/lang/String", name := "coder", desc := "()B" } : Jvm.MethodName) ({ cls := "java/lang/String", name := "coder", desc := "()B" } : Jvm.MethodName)) ∈ lw_all := lw_g (lw_at lw_m8 12 rfl) rfl
theorem q1818 : (Jvm.Cond.code ({ cls := "java/lang/String", name := "coder", desc := "()B" } : Jvm.MethodName) prog_21_method_152_code (1 : Nat) (Option.some Jvm.ClassFile.FieldType.byte)) ∈ lw_all := lw_g (lw_at lw_m8 13 rfl) rfl
theorem q1930 : (Jvm.Cond.fieldLink "java/lang/String" (15 : Nat) "java/lang/String" "coder" "B") ∈ lw_all := lw_g (lw_at lw_m8 125 rfl) rfl
theorem q1931 : (Jvm.Cond.fieldLink "java/lang/String" (9 : Nat) "java/lang/String" "value" "[B") ∈ lw_all := lw_g (lw_at lw_m8 126 rfl) rfl

/-! java/lang/StringLatin1 -/
set_option maxRecDepth 100000
def RJ6 : String := "java/lang/StringLatin1"
abbrev cJ6_charAt : ByteArray := prog_22_method_2_code
def yJ6_charAt : MethodName := ⟨RJ6, "charAt", "([BI)C"⟩
def dkwJ6_charAt_0 : List UInt8 := [27, 42, 190, 184, 0, 9, 42, 27, 51, 17, 0, 255, 126, 146, 172]
abbrev dktJ6_charAt_0 : List UInt8 := dkwJ6_charAt_0 ++ []
theorem dksJ6_charAt_0 : cJ6_charAt.data.toList.drop 0 = dktJ6_charAt_0 := by decide +kernel
theorem dJ6_charAt_0 : decode cJ6_charAt 0 = .ok (.iload_n 1, 1) := dk_27 (dk_at dksJ6_charAt_0 0 rfl rfl)
theorem dJ6_charAt_1 : decode cJ6_charAt 1 = .ok (.aload_n 0, 1) := dk_42 (dk_at dksJ6_charAt_0 1 rfl rfl)
theorem dJ6_charAt_2 : decode cJ6_charAt 2 = .ok (.arraylength, 1) := dk_190 (dk_at dksJ6_charAt_0 2 rfl rfl)
theorem dJ6_charAt_3 : decode cJ6_charAt 3 = .ok (.invokestatic 9, 3) := dk_184 0 9 (dk_at dksJ6_charAt_0 3 rfl rfl)
theorem dJ6_charAt_6 : decode cJ6_charAt 6 = .ok (.aload_n 0, 1) := dk_42 (dk_at dksJ6_charAt_0 6 rfl rfl)
theorem dJ6_charAt_7 : decode cJ6_charAt 7 = .ok (.iload_n 1, 1) := dk_27 (dk_at dksJ6_charAt_0 7 rfl rfl)
theorem dJ6_charAt_8 : decode cJ6_charAt 8 = .ok (.baload, 1) := dk_51 (dk_at dksJ6_charAt_0 8 rfl rfl)
theorem dJ6_charAt_9 : decode cJ6_charAt 9 = .ok (.sipush 255, 3) := dk_17 0 255 (dk_at dksJ6_charAt_0 9 rfl rfl)
theorem dJ6_charAt_12 : decode cJ6_charAt 12 = .ok (.iand, 1) := dk_126 (dk_at dksJ6_charAt_0 12 rfl rfl)
theorem dJ6_charAt_13 : decode cJ6_charAt 13 = .ok (.i2c, 1) := dk_146 (dk_at dksJ6_charAt_0 13 rfl rfl)
theorem dJ6_charAt_14 : decode cJ6_charAt 14 = .ok (.ireturn, 1) := dk_172 (dk_at dksJ6_charAt_0 14 rfl rfl)
theorem q147 : (Jvm.Cond.initialized "java/lang/StringLatin1") ∈ lw_all := lw_g (lw_at lw_m1 22 rfl) rfl
theorem q1106 : (Jvm.Cond.static ({ cls := "java/lang/StringLatin1", name := "charAt", desc := "([BI)C" } : Jvm.MethodName)) ∈ lw_all := lw_g (lw_at lw_m5 21 rfl) rfl
theorem q1107 : (Jvm.Cond.code ({ cls := "java/lang/StringLatin1", name := "charAt", desc := "([BI)C" } : Jvm.MethodName) prog_22_method_2_code (2 : Nat) (Option.some Jvm.ClassFile.FieldType.char)) ∈ lw_all := lw_g (lw_at lw_m5 22 rfl) rfl
theorem q1108 : (Jvm.Cond.methodLink "java/lang/StringLatin1" (9 : Nat) ({ cls := "java/lang/String", name := "checkIndex", desc := "(II)V" } : Jvm.MethodName)) ∈ lw_all := lw_g (lw_at lw_m5 23 rfl) rfl

/-! jdk/internal/util/Preconditions -/
set_option maxRecDepth 100000
def RJ7 : String := "jdk/internal/util/Preconditions"
abbrev cJ7_checkIndex : ByteArray := prog_26_method_11_code
def yJ7_checkIndex : MethodName := ⟨RJ7, "checkIndex", "(IILjava/util/function/BiFunction;)I"⟩
def dkwJ7_checkIndex_0 : List UInt8 := [26, 155, 0, 8, 26, 27, 161, 0, 10, 44, 26, 27, 184, 0, 95, 191, 26, 172]
abbrev dktJ7_checkIndex_0 : List UInt8 := dkwJ7_checkIndex_0 ++ []
theorem dksJ7_checkIndex_0 : cJ7_checkIndex.data.toList.drop 0 = dktJ7_checkIndex_0 := by decide +kernel
theorem dJ7_checkIndex_0 : decode cJ7_checkIndex 0 = .ok (.iload_n 0, 1) := dk_26 (dk_at dksJ7_checkIndex_0 0 rfl rfl)
theorem dJ7_checkIndex_1 : decode cJ7_checkIndex 1 = .ok (.ifCond .lt 8, 3) := dk_155 0 8 (dk_at dksJ7_checkIndex_0 1 rfl rfl)
theorem dJ7_checkIndex_4 : decode cJ7_checkIndex 4 = .ok (.iload_n 0, 1) := dk_26 (dk_at dksJ7_checkIndex_0 4 rfl rfl)
theorem dJ7_checkIndex_5 : decode cJ7_checkIndex 5 = .ok (.iload_n 1, 1) := dk_27 (dk_at dksJ7_checkIndex_0 5 rfl rfl)
theorem dJ7_checkIndex_6 : decode cJ7_checkIndex 6 = .ok (.if_icmp .lt 10, 3) := dk_161 0 10 (dk_at dksJ7_checkIndex_0 6 rfl rfl)
theorem dJ7_checkIndex_9 : decode cJ7_checkIndex 9 = .ok (.aload_n 2, 1) := dk_44 (dk_at dksJ7_checkIndex_0 9 rfl rfl)
theorem dJ7_checkIndex_10 : decode cJ7_checkIndex 10 = .ok (.iload_n 0, 1) := dk_26 (dk_at dksJ7_checkIndex_0 10 rfl rfl)
theorem dJ7_checkIndex_11 : decode cJ7_checkIndex 11 = .ok (.iload_n 1, 1) := dk_27 (dk_at dksJ7_checkIndex_0 11 rfl rfl)
theorem dJ7_checkIndex_12 : decode cJ7_checkIndex 12 = .ok (.invokestatic 95, 3) := dk_184 0 95 (dk_at dksJ7_checkIndex_0 12 rfl rfl)
theorem dJ7_checkIndex_15 : decode cJ7_checkIndex 15 = .ok (.athrow, 1) := dk_191 (dk_at dksJ7_checkIndex_0 15 rfl rfl)
theorem dJ7_checkIndex_16 : decode cJ7_checkIndex 16 = .ok (.iload_n 0, 1) := dk_26 (dk_at dksJ7_checkIndex_0 16 rfl rfl)
theorem dJ7_checkIndex_17 : decode cJ7_checkIndex 17 = .ok (.ireturn, 1) := dk_172 (dk_at dksJ7_checkIndex_0 17 rfl rfl)
theorem q148 : (Jvm.Cond.initialized "jdk/internal/util/Preconditions") ∈ lw_all := lw_g (lw_at lw_m1 23 rfl) rfl
theorem q1112 : (Jvm.Cond.laysStatic "jdk/internal/util/Preconditions" "SIOOBE_FORMATTER" "Ljava/util/function/BiFunction;") ∈ lw_tbl := lw_at lw_m5 27 rfl
theorem q1114 : (Jvm.Cond.static ({ cls := "jdk/internal/util/Preconditions", name := "checkIndex", desc := "(IILjava/util/function/BiFunction;)I" } : Jvm.MethodName)) ∈ lw_all := lw_g (lw_at lw_m5 29 rfl) rfl
theorem q1115 : (Jvm.Cond.code ({ cls := "jdk/internal/util/Preconditions", name := "checkIndex", desc := "(IILjava/util/function/BiFunction;)I" } : Jvm.MethodName) prog_26_method_11_code (3 : Nat) (Option.some Jvm.ClassFile.FieldType.int)) ∈ lw_all := lw_g (lw_at lw_m5 30 rfl) rfl

/-! java/lang/StringUTF16 -/
set_option maxRecDepth 100000
def RJ8 : String := "java/lang/StringUTF16"
abbrev cJ8_charAt : ByteArray := prog_23_method_83_code
def yJ8_charAt : MethodName := ⟨RJ8, "charAt", "([BI)C"⟩
def dkwJ8_charAt_0 : List UInt8 := [27, 42, 184, 0, 67, 42, 27, 184, 0, 71, 172]
abbrev dktJ8_charAt_0 : List UInt8 := dkwJ8_charAt_0 ++ []
theorem dksJ8_charAt_0 : cJ8_charAt.data.toList.drop 0 = dktJ8_charAt_0 := by decide +kernel
theorem dJ8_charAt_0 : decode cJ8_charAt 0 = .ok (.iload_n 1, 1) := dk_27 (dk_at dksJ8_charAt_0 0 rfl rfl)
theorem dJ8_charAt_1 : decode cJ8_charAt 1 = .ok (.aload_n 0, 1) := dk_42 (dk_at dksJ8_charAt_0 1 rfl rfl)
theorem dJ8_charAt_2 : decode cJ8_charAt 2 = .ok (.invokestatic 67, 3) := dk_184 0 67 (dk_at dksJ8_charAt_0 2 rfl rfl)
theorem dJ8_charAt_5 : decode cJ8_charAt 5 = .ok (.aload_n 0, 1) := dk_42 (dk_at dksJ8_charAt_0 5 rfl rfl)
theorem dJ8_charAt_6 : decode cJ8_charAt 6 = .ok (.iload_n 1, 1) := dk_27 (dk_at dksJ8_charAt_0 6 rfl rfl)
theorem dJ8_charAt_7 : decode cJ8_charAt 7 = .ok (.invokestatic 71, 3) := dk_184 0 71 (dk_at dksJ8_charAt_0 7 rfl rfl)
theorem dJ8_charAt_10 : decode cJ8_charAt 10 = .ok (.ireturn, 1) := dk_172 (dk_at dksJ8_charAt_0 10 rfl rfl)
abbrev cJ8_checkIndex : ByteArray := prog_23_method_91_code
def yJ8_checkIndex : MethodName := ⟨RJ8, "checkIndex", "(I[B)V"⟩
def dkwJ8_checkIndex_0 : List UInt8 := [26, 43, 184, 0, 48, 184, 1, 158, 177]
abbrev dktJ8_checkIndex_0 : List UInt8 := dkwJ8_checkIndex_0 ++ []
theorem dksJ8_checkIndex_0 : cJ8_checkIndex.data.toList.drop 0 = dktJ8_checkIndex_0 := by decide +kernel
theorem dJ8_checkIndex_0 : decode cJ8_checkIndex 0 = .ok (.iload_n 0, 1) := dk_26 (dk_at dksJ8_checkIndex_0 0 rfl rfl)
theorem dJ8_checkIndex_1 : decode cJ8_checkIndex 1 = .ok (.aload_n 1, 1) := dk_43 (dk_at dksJ8_checkIndex_0 1 rfl rfl)
theorem dJ8_checkIndex_2 : decode cJ8_checkIndex 2 = .ok (.invokestatic 48, 3) := dk_184 0 48 (dk_at dksJ8_checkIndex_0 2 rfl rfl)
theorem dJ8_checkIndex_5 : decode cJ8_checkIndex 5 = .ok (.invokestatic 414, 3) := dk_184 1 158 (dk_at dksJ8_checkIndex_0 5 rfl rfl)
theorem dJ8_checkIndex_8 : decode cJ8_checkIndex 8 = .ok (.return_, 1) := dk_177 (dk_at dksJ8_checkIndex_0 8 rfl rfl)
abbrev cJ8_length : ByteArray := prog_23_method_6_code
def yJ8_length : MethodName := ⟨RJ8, "length", "([B)I"⟩
def dkwJ8_length_0 : List UInt8 := [42, 190, 4, 122, 172]
abbrev dktJ8_length_0 : List UInt8 := dkwJ8_length_0 ++ []
theorem dksJ8_length_0 : cJ8_length.data.toList.drop 0 = dktJ8_length_0 := by decide +kernel
theorem dJ8_length_0 : decode cJ8_length 0 = .ok (.aload_n 0, 1) := dk_42 (dk_at dksJ8_length_0 0 rfl rfl)
theorem dJ8_length_1 : decode cJ8_length 1 = .ok (.arraylength, 1) := dk_190 (dk_at dksJ8_length_0 1 rfl rfl)
theorem dJ8_length_2 : decode cJ8_length 2 = .ok (.iconst 1, 1) := dk_4 (dk_at dksJ8_length_0 2 rfl rfl)
theorem dJ8_length_3 : decode cJ8_length 3 = .ok (.ishr, 1) := dk_122 (dk_at dksJ8_length_0 3 rfl rfl)
theorem dJ8_length_4 : decode cJ8_length 4 = .ok (.ireturn, 1) := dk_172 (dk_at dksJ8_length_0 4 rfl rfl)
abbrev cJ8_getChar : ByteArray := prog_23_method_5_code
def yJ8_getChar : MethodName := ⟨RJ8, "getChar", "([BI)C"⟩
def dkwJ8_getChar_2 : List UInt8 := [51, 17, 0, 255, 126, 178, 0, 63, 120, 128, 146, 172]
abbrev dktJ8_getChar_2 : List UInt8 := dkwJ8_getChar_2 ++ []
def dkwJ8_getChar_1 : List UInt8 := [183, 0, 56, 191, 27, 4, 120, 60, 42, 27, 132, 1, 1, 51, 17, 0, 255, 126, 178, 0, 59, 120, 42, 27]
abbrev dktJ8_getChar_1 : List UInt8 := dkwJ8_getChar_1 ++ dktJ8_getChar_2
def dkwJ8_getChar_0 : List UInt8 := [178, 0, 44, 154, 0, 25, 27, 155, 0, 11, 27, 42, 184, 0, 48, 161, 0, 13, 187, 0, 52, 89, 18, 54]
abbrev dktJ8_getChar_0 : List UInt8 := dkwJ8_getChar_0 ++ dktJ8_getChar_1
theorem dksJ8_getChar_0 : cJ8_getChar.data.toList.drop 0 = dktJ8_getChar_0 := by decide +kernel
theorem dksJ8_getChar_1 : cJ8_getChar.data.toList.drop 24 = dktJ8_getChar_1 := dk_seg dksJ8_getChar_0 24 rfl rfl
theorem dksJ8_getChar_2 : cJ8_getChar.data.toList.drop 48 = dktJ8_getChar_2 := dk_seg dksJ8_getChar_1 24 rfl rfl
theorem dJ8_getChar_0 : decode cJ8_getChar 0 = .ok (.getstatic 44, 3) := dk_178 0 44 (dk_at dksJ8_getChar_0 0 rfl rfl)
theorem dJ8_getChar_3 : decode cJ8_getChar 3 = .ok (.ifCond .ne 25, 3) := dk_154 0 25 (dk_at dksJ8_getChar_0 3 rfl rfl)
theorem dJ8_getChar_6 : decode cJ8_getChar 6 = .ok (.iload_n 1, 1) := dk_27 (dk_at dksJ8_getChar_0 6 rfl rfl)
theorem dJ8_getChar_7 : decode cJ8_getChar 7 = .ok (.ifCond .lt 11, 3) := dk_155 0 11 (dk_at dksJ8_getChar_0 7 rfl rfl)
theorem dJ8_getChar_10 : decode cJ8_getChar 10 = .ok (.iload_n 1, 1) := dk_27 (dk_at dksJ8_getChar_0 10 rfl rfl)
theorem dJ8_getChar_11 : decode cJ8_getChar 11 = .ok (.aload_n 0, 1) := dk_42 (dk_at dksJ8_getChar_0 11 rfl rfl)
theorem dJ8_getChar_12 : decode cJ8_getChar 12 = .ok (.invokestatic 48, 3) := dk_184 0 48 (dk_at dksJ8_getChar_0 12 rfl rfl)
theorem dJ8_getChar_15 : decode cJ8_getChar 15 = .ok (.if_icmp .lt 13, 3) := dk_161 0 13 (dk_at dksJ8_getChar_0 15 rfl rfl)
theorem dJ8_getChar_18 : decode cJ8_getChar 18 = .ok (.new 52, 3) := dk_187 0 52 (dk_at dksJ8_getChar_0 18 rfl rfl)
theorem dJ8_getChar_21 : decode cJ8_getChar 21 = .ok (.dup, 1) := dk_89 (dk_at dksJ8_getChar_0 21 rfl rfl)
theorem dJ8_getChar_22 : decode cJ8_getChar 22 = .ok (.ldc 54, 2) := dk_18 54 (dk_at dksJ8_getChar_0 22 rfl rfl)
theorem dJ8_getChar_24 : decode cJ8_getChar 24 = .ok (.invokespecial 56, 3) := dk_183 0 56 (dk_at dksJ8_getChar_1 0 rfl rfl)
theorem dJ8_getChar_27 : decode cJ8_getChar 27 = .ok (.athrow, 1) := dk_191 (dk_at dksJ8_getChar_1 3 rfl rfl)
theorem dJ8_getChar_28 : decode cJ8_getChar 28 = .ok (.iload_n 1, 1) := dk_27 (dk_at dksJ8_getChar_1 4 rfl rfl)
theorem dJ8_getChar_29 : decode cJ8_getChar 29 = .ok (.iconst 1, 1) := dk_4 (dk_at dksJ8_getChar_1 5 rfl rfl)
theorem dJ8_getChar_30 : decode cJ8_getChar 30 = .ok (.ishl, 1) := dk_120 (dk_at dksJ8_getChar_1 6 rfl rfl)
theorem dJ8_getChar_31 : decode cJ8_getChar 31 = .ok (.istore_n 1, 1) := dk_60 (dk_at dksJ8_getChar_1 7 rfl rfl)
theorem dJ8_getChar_32 : decode cJ8_getChar 32 = .ok (.aload_n 0, 1) := dk_42 (dk_at dksJ8_getChar_1 8 rfl rfl)
theorem dJ8_getChar_33 : decode cJ8_getChar 33 = .ok (.iload_n 1, 1) := dk_27 (dk_at dksJ8_getChar_1 9 rfl rfl)
theorem dJ8_getChar_34 : decode cJ8_getChar 34 = .ok (.iinc 1 1, 3) := dk_132 1 1 (dk_at dksJ8_getChar_1 10 rfl rfl)
theorem dJ8_getChar_37 : decode cJ8_getChar 37 = .ok (.baload, 1) := dk_51 (dk_at dksJ8_getChar_1 13 rfl rfl)
theorem dJ8_getChar_38 : decode cJ8_getChar 38 = .ok (.sipush 255, 3) := dk_17 0 255 (dk_at dksJ8_getChar_1 14 rfl rfl)
theorem dJ8_getChar_41 : decode cJ8_getChar 41 = .ok (.iand, 1) := dk_126 (dk_at dksJ8_getChar_1 17 rfl rfl)
theorem dJ8_getChar_42 : decode cJ8_getChar 42 = .ok (.getstatic 59, 3) := dk_178 0 59 (dk_at dksJ8_getChar_1 18 rfl rfl)
theorem dJ8_getChar_45 : decode cJ8_getChar 45 = .ok (.ishl, 1) := dk_120 (dk_at dksJ8_getChar_1 21 rfl rfl)
theorem dJ8_getChar_46 : decode cJ8_getChar 46 = .ok (.aload_n 0, 1) := dk_42 (dk_at dksJ8_getChar_1 22 rfl rfl)
theorem dJ8_getChar_47 : decode cJ8_getChar 47 = .ok (.iload_n 1, 1) := dk_27 (dk_at dksJ8_getChar_1 23 rfl rfl)
theorem dJ8_getChar_48 : decode cJ8_getChar 48 = .ok (.baload, 1) := dk_51 (dk_at dksJ8_getChar_2 0 rfl rfl)
theorem dJ8_getChar_49 : decode cJ8_getChar 49 = .ok (.sipush 255, 3) := dk_17 0 255 (dk_at dksJ8_getChar_2 1 rfl rfl)
theorem dJ8_getChar_52 : decode cJ8_getChar 52 = .ok (.iand, 1) := dk_126 (dk_at dksJ8_getChar_2 4 rfl rfl)
theorem dJ8_getChar_53 : decode cJ8_getChar 53 = .ok (.getstatic 63, 3) := dk_178 0 63 (dk_at dksJ8_getChar_2 5 rfl rfl)
theorem dJ8_getChar_56 : decode cJ8_getChar 56 = .ok (.ishl, 1) := dk_120 (dk_at dksJ8_getChar_2 8 rfl rfl)
theorem dJ8_getChar_57 : decode cJ8_getChar 57 = .ok (.ior, 1) := dk_128 (dk_at dksJ8_getChar_2 9 rfl rfl)
theorem dJ8_getChar_58 : decode cJ8_getChar 58 = .ok (.i2c, 1) := dk_146 (dk_at dksJ8_getChar_2 10 rfl rfl)
theorem dJ8_getChar_59 : decode cJ8_getChar 59 = .ok (.ireturn, 1) := dk_172 (dk_at dksJ8_getChar_2 11 rfl rfl)
theorem q149 : (Jvm.Cond.initialized "java/lang/StringUTF16") ∈ lw_all := lw_g (lw_at lw_m1 24 rfl) rfl
theorem q1117 : (Jvm.Cond.static ({ cls := "java/lang/StringUTF16", name := "charAt", desc := "([BI)C" } : Jvm.MethodName)) ∈ lw_all := lw_g (lw_at lw_m5 32 rfl) rfl
theorem q1118 : (Jvm.Cond.code ({ cls := "java/lang/StringUTF16", name := "charAt", desc := "([BI)C" } : Jvm.MethodName) prog_23_method_83_code (2 : Nat) (Option.some Jvm.ClassFile.FieldType.char)) ∈ lw_all := lw_g (lw_at lw_m5 33 rfl) rfl
theorem q1119 : (Jvm.Cond.methodLink "java/lang/StringUTF16" (67 : Nat) ({ cls := "java/lang/StringUTF16", name := "checkIndex", desc := "(I[B)V" } : Jvm.MethodName)) ∈ lw_all := lw_g (lw_at lw_m5 34 rfl) rfl
theorem q1120 : (Jvm.Cond.static ({ cls := "java/lang/StringUTF16", name := "checkIndex", desc := "(I[B)V" } : Jvm.MethodName)) ∈ lw_all := lw_g (lw_at lw_m5 35 rfl) rfl
theorem q1121 : (Jvm.Cond.code ({ cls := "java/lang/StringUTF16", name := "checkIndex", desc := "(I[B)V" } : Jvm.MethodName) prog_23_method_91_code (2 : Nat) (Option.none : Option Jvm.ClassFile.FieldType)) ∈ lw_all := lw_g (lw_at lw_m5 36 rfl) rfl
theorem q1122 : (Jvm.Cond.methodLink "java/lang/StringUTF16" (48 : Nat) ({ cls := "java/lang/StringUTF16", name := "length", desc := "([B)I" } : Jvm.MethodName)) ∈ lw_all := lw_g (lw_at lw_m5 37 rfl) rfl
theorem q1123 : (Jvm.Cond.static ({ cls := "java/lang/StringUTF16", name := "length", desc := "([B)I" } : Jvm.MethodName)) ∈ lw_all := lw_g (lw_at lw_m5 38 rfl) rfl
theorem q1124 : (Jvm.Cond.code ({ cls := "java/lang/StringUTF16", name := "length", desc := "([B)I" } : Jvm.MethodName) prog_23_method_6_code (1 : Nat) (Option.some Jvm.ClassFile.FieldType.int)) ∈ lw_all := lw_g (lw_at lw_m5 39 rfl) rfl
theorem q1125 : (Jvm.Cond.methodLink "java/lang/StringUTF16" (414 : Nat) ({ cls := "java/lang/String", name := "checkIndex", desc := "(II)V" } : Jvm.MethodName)) ∈ lw_all := lw_g (lw_at lw_m5 40 rfl) rfl
theorem q1126 : (Jvm.Cond.methodLink "java/lang/StringUTF16" (71 : Nat) ({ cls := "java/lang/StringUTF16", name := "getChar", desc := "([BI)C" } : Jvm.MethodName)) ∈ lw_all := lw_g (lw_at lw_m5 41 rfl) rfl
theorem q1127 : (Jvm.Cond.static ({ cls := "java/lang/StringUTF16", name := "getChar", desc := "([BI)C" } : Jvm.MethodName)) ∈ lw_all := lw_g (lw_at lw_m5 42 rfl) rfl
theorem q1128 : (Jvm.Cond.code ({ cls := "java/lang/StringUTF16", name := "getChar", desc := "([BI)C" } : Jvm.MethodName) prog_23_method_5_code (2 : Nat) (Option.some Jvm.ClassFile.FieldType.char)) ∈ lw_all := lw_g (lw_at lw_m5 43 rfl) rfl
theorem q1129 : (Jvm.Cond.fieldLink "java/lang/StringUTF16" (44 : Nat) "java/lang/StringUTF16" "$assertionsDisabled" "Z") ∈ lw_all := lw_g (lw_at lw_m5 44 rfl) rfl
theorem q1130 : (Jvm.Cond.laysStatic "java/lang/StringUTF16" "$assertionsDisabled" "Z") ∈ lw_tbl := lw_at lw_m5 45 rfl
theorem q1131 : (Jvm.Cond.fieldLink "java/lang/StringUTF16" (59 : Nat) "java/lang/StringUTF16" "HI_BYTE_SHIFT" "I") ∈ lw_all := lw_g (lw_at lw_m5 46 rfl) rfl
theorem q1132 : (Jvm.Cond.laysStatic "java/lang/StringUTF16" "HI_BYTE_SHIFT" "I") ∈ lw_tbl := lw_at lw_m5 47 rfl
theorem q1133 : (Jvm.Cond.fieldLink "java/lang/StringUTF16" (63 : Nat) "java/lang/StringUTF16" "LO_BYTE_SHIFT" "I") ∈ lw_all := lw_g (lw_at lw_m5 48 rfl) rfl
theorem q1134 : (Jvm.Cond.laysStatic "java/lang/StringUTF16" "LO_BYTE_SHIFT" "I") ∈ lw_tbl := lw_at lw_m5 49 rfl

/-! java/lang/Object -/
set_option maxRecDepth 100000
def RJ9 : String := "java/lang/Object"
abbrev cJ9_init : ByteArray := object_method_1_code
def yJ9_init : MethodName := ⟨RJ9, "<init>", "()V"⟩
theorem dJ9_init_0 : decode cJ9_init 0 = .ok (.return_, 1) := by decide +kernel
theorem q156 : (Jvm.Cond.instanceMethod ({ cls := "java/lang/Object", name := "<init>", desc := "()V" } : Jvm.MethodName)) ∈ lw_all := lw_g (lw_at lw_m1 31 rfl) rfl
theorem q157 : (Jvm.Cond.code ({ cls := "java/lang/Object", name := "<init>", desc := "()V" } : Jvm.MethodName) object_method_1_code (1 : Nat) (Option.none : Option Jvm.ClassFile.FieldType)) ∈ lw_all := lw_g (lw_at lw_m1 32 rfl) rfl

/-! CarryFair$Refusal -/
set_option maxRecDepth 100000
def RX1 : String := "CarryFair$Refusal"
def TX1 : u_T := fun k => match k with
  | 0 => ("java/lang/Throwable", "cause", "Ljava/lang/Throwable;", false)
  | 1 => ("java/lang/Throwable", "stackTrace", "[Ljava/lang/StackTraceElement;", false)
  | 2 => ("java/lang/Throwable", "suppressedExceptions", "Ljava/util/List;", false)
  | 3 => ("java/lang/Throwable", "detailMessage", "Ljava/lang/String;", false)
  | 4 => ("java/lang/Throwable", "backtrace", "Ljava/lang/Object;", false)
  | 5 => ("java/lang/Throwable", "depth", "I", false)
  | _ => ("CarryFair$Refusal", "finding", "I", false)
def tyX1 : Nat → FieldType := fun k => match k with
  | 0 => .object "java/lang/Throwable"
  | 1 => .array (.object "java/lang/StackTraceElement")
  | 2 => .object "java/util/List"
  | 3 => .object "java/lang/String"
  | 4 => .object "java/lang/Object"
  | 5 => .int
  | _ => .int
abbrev wsX10 : List Cond := u_ws RX1 TX1 7
theorem nmX1 : ∀ a, a < 7 → ∀ b, b < 7 → a ≠ b → (TX1 a).2.1 ≠ (TX1 b).2.1 := by decide +kernel
theorem tyX1_ok : ∀ k, k < 7 → parseFieldDescriptor (TX1 k).2.2.1 = some (tyX1 k) := by decide +kernel
abbrev cX1_init : ByteArray := prog_10_method_1_code
def yX1_init : MethodName := ⟨RX1, "<init>", "()V"⟩
def dkwX1_init_0 : List UInt8 := [42, 1, 1, 3, 3, 183, 0, 1, 177]
abbrev dktX1_init_0 : List UInt8 := dkwX1_init_0 ++ []
theorem dksX1_init_0 : cX1_init.data.toList.drop 0 = dktX1_init_0 := by decide +kernel
theorem dX1_init_0 : decode cX1_init 0 = .ok (.aload_n 0, 1) := dk_42 (dk_at dksX1_init_0 0 rfl rfl)
theorem dX1_init_1 : decode cX1_init 1 = .ok (.aconst_null, 1) := dk_1 (dk_at dksX1_init_0 1 rfl rfl)
theorem dX1_init_2 : decode cX1_init 2 = .ok (.aconst_null, 1) := dk_1 (dk_at dksX1_init_0 2 rfl rfl)
theorem dX1_init_3 : decode cX1_init 3 = .ok (.iconst 0, 1) := dk_3 (dk_at dksX1_init_0 3 rfl rfl)
theorem dX1_init_4 : decode cX1_init 4 = .ok (.iconst 0, 1) := dk_3 (dk_at dksX1_init_0 4 rfl rfl)
theorem dX1_init_5 : decode cX1_init 5 = .ok (.invokespecial 1, 3) := dk_183 0 1 (dk_at dksX1_init_0 5 rfl rfl)
theorem dX1_init_8 : decode cX1_init 8 = .ok (.return_, 1) := dk_177 (dk_at dksX1_init_0 8 rfl rfl)
theorem q130 : (Jvm.Cond.initialized "CarryFair$Refusal") ∈ lw_all := lw_g (lw_at lw_m1 5 rfl) rfl
theorem q159 : (Jvm.Cond.instantiable "CarryFair$Refusal" (7 : Nat)) ∈ lw_all := lw_g (lw_at lw_m1 34 rfl) rfl
theorem q160 : (Jvm.Cond.castable "CarryFair$Refusal" "CarryFair$Refusal") ∈ lw_tbl := lw_at lw_m1 35 rfl
theorem q167 : (Jvm.Cond.selects "CarryFair$Refusal" ({ cls := "java/lang/Throwable", name := "fillInStackTrace", desc := "(I)Ljava/lang/Throwable;" } : Jvm.MethodName) ({ cls := "java/lang/Throwable", name := "fillInStackTrace", desc := "(I)Ljava/lang/Throwable;" } : Jvm.MethodName)) ∈ lw_all := lw_g (lw_at lw_m1 42 rfl) rfl
theorem q168 : (Jvm.Cond.selects "CarryFair$Refusal" ({ cls := "java/lang/Throwable", name := "fillInStackTrace", desc := "()Ljava/lang/Throwable;" } : Jvm.MethodName) ({ cls := "java/lang/Throwable", name := "fillInStackTrace", desc := "()Ljava/lang/Throwable;" } : Jvm.MethodName)) ∈ lw_all := lw_g (lw_at lw_m1 43 rfl) rfl
theorem q169 : (Jvm.Cond.lays "CarryFair$Refusal" "java/lang/Throwable" "cause" "Ljava/lang/Throwable;") ∈ lw_all := lw_g (lw_at lw_m1 44 rfl) rfl
theorem q171 : (Jvm.Cond.lays "CarryFair$Refusal" "java/lang/Throwable" "stackTrace" "[Ljava/lang/StackTraceElement;") ∈ lw_all := lw_g (lw_at lw_m1 46 rfl) rfl
theorem q173 : (Jvm.Cond.lays "CarryFair$Refusal" "java/lang/Throwable" "suppressedExceptions" "Ljava/util/List;") ∈ lw_all := lw_g (lw_at lw_m1 48 rfl) rfl
theorem q175 : (Jvm.Cond.lays "CarryFair$Refusal" "java/lang/Throwable" "detailMessage" "Ljava/lang/String;") ∈ lw_all := lw_g (lw_at lw_m1 50 rfl) rfl
theorem q177 : (Jvm.Cond.lays "CarryFair$Refusal" "java/lang/Throwable" "backtrace" "Ljava/lang/Object;") ∈ lw_all := lw_g (lw_at lw_m1 52 rfl) rfl
theorem q199 : (Jvm.Cond.instanceMethod ({ cls := "CarryFair$Refusal", name := "<init>", desc := "()V" } : Jvm.MethodName)) ∈ lw_all := lw_g (lw_at lw_m1 74 rfl) rfl
theorem q200 : (Jvm.Cond.code ({ cls := "CarryFair$Refusal", name := "<init>", desc := "()V" } : Jvm.MethodName) prog_10_method_1_code (1 : Nat) (Option.none : Option Jvm.ClassFile.FieldType)) ∈ lw_all := lw_g (lw_at lw_m1 75 rfl) rfl
theorem q201 : (Jvm.Cond.methodLink "CarryFair$Refusal" (1 : Nat) ({ cls := "java/lang/RuntimeException", name := "<init>", desc := "(Ljava/lang/String;Ljava/lang/Throwable;ZZ)V" } : Jvm.MethodName)) ∈ lw_all := lw_g (lw_at lw_m1 76 rfl) rfl
theorem q216 : (Jvm.Cond.lays "CarryFair$Refusal" "CarryFair$Refusal" "finding" "I") ∈ lw_all := lw_g (lw_at lw_m1 91 rfl) rfl
theorem q217 : (Jvm.Cond.soleField "CarryFair$Refusal" "finding") ∈ lw_all := lw_g (lw_at lw_m1 92 rfl) rfl
theorem q222 : (Jvm.Cond.lays "CarryFair$Refusal" "java/lang/Throwable" "depth" "I") ∈ lw_all := lw_g (lw_at lw_m1 97 rfl) rfl
theorem q225 : (Jvm.Cond.superclass "CarryFair$Refusal" "java/lang/RuntimeException") ∈ lw_all := lw_g (lw_at lw_m1 100 rfl) rfl
theorem in_X1 : ∀ w ∈ wsX10, w ∈ lw_all := lw_in wsX10 [169, 171, 173, 175, 177, 222, 216] (by decide +kernel) (by decide +kernel)

/-! CarryFair$Handed -/
set_option maxRecDepth 100000
def RX10 : String := "CarryFair$Handed"
def TX10 : u_T := fun k => match k with
  | 0 => ("CarryFair$Carrier", "number", "I", true)
  | 1 => ("CarryFair$Carrier", "this$0", "LCarryFair;", true)
  | 2 => ("CarryFair$Paired", "this$0", "LCarryFair;", true)
  | _ => ("CarryFair$Handed", "this$0", "LCarryFair;", true)
def tyX10 : Nat → FieldType := fun k => match k with
  | 0 => .int
  | 1 => .object "CarryFair"
  | 2 => .object "CarryFair"
  | _ => .object "CarryFair"
abbrev wsX100 : List Cond := u_ws RX10 TX10 4
-- two fields of one name: no nmX10
theorem tyX10_ok : ∀ k, k < 4 → parseFieldDescriptor (TX10 k).2.2.1 = some (tyX10 k) := by decide +kernel
abbrev cX10_init : ByteArray := prog_6_method_1_code
def yX10_init : MethodName := ⟨RX10, "<init>", "(LCarryFair;I)V"⟩
def dkwX10_init_0 : List UInt8 := [42, 43, 181, 0, 1, 42, 43, 28, 183, 0, 7, 177]
abbrev dktX10_init_0 : List UInt8 := dkwX10_init_0 ++ []
theorem dksX10_init_0 : cX10_init.data.toList.drop 0 = dktX10_init_0 := by decide +kernel
theorem dX10_init_0 : decode cX10_init 0 = .ok (.aload_n 0, 1) := dk_42 (dk_at dksX10_init_0 0 rfl rfl)
theorem dX10_init_1 : decode cX10_init 1 = .ok (.aload_n 1, 1) := dk_43 (dk_at dksX10_init_0 1 rfl rfl)
theorem dX10_init_2 : decode cX10_init 2 = .ok (.putfield 1, 3) := dk_181 0 1 (dk_at dksX10_init_0 2 rfl rfl)
theorem dX10_init_5 : decode cX10_init 5 = .ok (.aload_n 0, 1) := dk_42 (dk_at dksX10_init_0 5 rfl rfl)
theorem dX10_init_6 : decode cX10_init 6 = .ok (.aload_n 1, 1) := dk_43 (dk_at dksX10_init_0 6 rfl rfl)
theorem dX10_init_7 : decode cX10_init 7 = .ok (.iload_n 2, 1) := dk_28 (dk_at dksX10_init_0 7 rfl rfl)
theorem dX10_init_8 : decode cX10_init 8 = .ok (.invokespecial 7, 3) := dk_183 0 7 (dk_at dksX10_init_0 8 rfl rfl)
theorem dX10_init_11 : decode cX10_init 11 = .ok (.return_, 1) := dk_177 (dk_at dksX10_init_0 11 rfl rfl)
abbrev cX10_kind : ByteArray := prog_6_method_2_code
def yX10_kind : MethodName := ⟨RX10, "kind", "()I"⟩
def dkwX10_kind_0 : List UInt8 := [5, 42, 183, 0, 13, 96, 172]
abbrev dktX10_kind_0 : List UInt8 := dkwX10_kind_0 ++ []
theorem dksX10_kind_0 : cX10_kind.data.toList.drop 0 = dktX10_kind_0 := by decide +kernel
theorem dX10_kind_0 : decode cX10_kind 0 = .ok (.iconst 2, 1) := dk_5 (dk_at dksX10_kind_0 0 rfl rfl)
theorem dX10_kind_1 : decode cX10_kind 1 = .ok (.aload_n 0, 1) := dk_42 (dk_at dksX10_kind_0 1 rfl rfl)
theorem dX10_kind_2 : decode cX10_kind 2 = .ok (.invokespecial 13, 3) := dk_183 0 13 (dk_at dksX10_kind_0 2 rfl rfl)
theorem dX10_kind_5 : decode cX10_kind 5 = .ok (.iadd, 1) := dk_96 (dk_at dksX10_kind_0 5 rfl rfl)
theorem dX10_kind_6 : decode cX10_kind 6 = .ok (.ireturn, 1) := dk_172 (dk_at dksX10_kind_0 6 rfl rfl)
abbrev cX10_gets : ByteArray := prog_6_method_3_code
def yX10_gets : MethodName := ⟨RX10, "gets", "(I)I"⟩
def dkwX10_gets_0 : List UInt8 := [4, 42, 27, 183, 0, 17, 96, 172]
abbrev dktX10_gets_0 : List UInt8 := dkwX10_gets_0 ++ []
theorem dksX10_gets_0 : cX10_gets.data.toList.drop 0 = dktX10_gets_0 := by decide +kernel
theorem dX10_gets_0 : decode cX10_gets 0 = .ok (.iconst 1, 1) := dk_4 (dk_at dksX10_gets_0 0 rfl rfl)
theorem dX10_gets_1 : decode cX10_gets 1 = .ok (.aload_n 0, 1) := dk_42 (dk_at dksX10_gets_0 1 rfl rfl)
theorem dX10_gets_2 : decode cX10_gets 2 = .ok (.iload_n 1, 1) := dk_27 (dk_at dksX10_gets_0 2 rfl rfl)
theorem dX10_gets_3 : decode cX10_gets 3 = .ok (.invokespecial 17, 3) := dk_183 0 17 (dk_at dksX10_gets_0 3 rfl rfl)
theorem dX10_gets_6 : decode cX10_gets 6 = .ok (.iadd, 1) := dk_96 (dk_at dksX10_gets_0 6 rfl rfl)
theorem dX10_gets_7 : decode cX10_gets 7 = .ok (.ireturn, 1) := dk_172 (dk_at dksX10_gets_0 7 rfl rfl)
theorem q139 : (Jvm.Cond.initialized "CarryFair$Handed") ∈ lw_all := lw_g (lw_at lw_m1 14 rfl) rfl
theorem q395 : (Jvm.Cond.instantiable "CarryFair$Handed" (4 : Nat)) ∈ lw_all := lw_g (lw_at lw_m2 30 rfl) rfl
theorem q397 : (Jvm.Cond.instanceMethod ({ cls := "CarryFair$Handed", name := "<init>", desc := "(LCarryFair;I)V" } : Jvm.MethodName)) ∈ lw_all := lw_g (lw_at lw_m2 32 rfl) rfl
theorem q398 : (Jvm.Cond.code ({ cls := "CarryFair$Handed", name := "<init>", desc := "(LCarryFair;I)V" } : Jvm.MethodName) prog_6_method_1_code (3 : Nat) (Option.none : Option Jvm.ClassFile.FieldType)) ∈ lw_all := lw_g (lw_at lw_m2 33 rfl) rfl
theorem q399 : (Jvm.Cond.methodLink "CarryFair$Handed" (7 : Nat) ({ cls := "CarryFair$Paired", name := "<init>", desc := "(LCarryFair;I)V" } : Jvm.MethodName)) ∈ lw_all := lw_g (lw_at lw_m2 34 rfl) rfl
theorem q400 : (Jvm.Cond.fieldLink "CarryFair$Handed" (1 : Nat) "CarryFair$Handed" "this$0" "LCarryFair;") ∈ lw_all := lw_g (lw_at lw_m2 35 rfl) rfl
theorem q401 : (Jvm.Cond.laysFinal "CarryFair$Handed" "CarryFair$Handed" "this$0" "LCarryFair;") ∈ lw_all := lw_g (lw_at lw_m2 36 rfl) rfl
theorem q402 : (Jvm.Cond.soleField "CarryFair$Handed" "this$0") ∈ lw_all := lw_g (lw_at lw_m2 37 rfl) rfl
theorem q403 : (Jvm.Cond.laysFinal "CarryFair$Handed" "CarryFair$Paired" "this$0" "LCarryFair;") ∈ lw_all := lw_g (lw_at lw_m2 38 rfl) rfl
theorem q404 : (Jvm.Cond.laysFinal "CarryFair$Handed" "CarryFair$Carrier" "number" "I") ∈ lw_all := lw_g (lw_at lw_m2 39 rfl) rfl
theorem q405 : (Jvm.Cond.laysFinal "CarryFair$Handed" "CarryFair$Carrier" "this$0" "LCarryFair;") ∈ lw_all := lw_g (lw_at lw_m2 40 rfl) rfl
theorem q406 : (Jvm.Cond.superclass "CarryFair$Handed" "CarryFair$Paired") ∈ lw_all := lw_g (lw_at lw_m2 41 rfl) rfl
theorem q549 : (Jvm.Cond.selects "CarryFair$Handed" ({ cls := "CarryFair$Carrier", name := "kind", desc := "()I" } : Jvm.MethodName) ({ cls := "CarryFair$Handed", name := "kind", desc := "()I" } : Jvm.MethodName)) ∈ lw_all := lw_g (lw_at lw_m2 184 rfl) rfl
theorem q550 : (Jvm.Cond.instanceMethod ({ cls := "CarryFair$Handed", name := "kind", desc := "()I" } : Jvm.MethodName)) ∈ lw_all := lw_g (lw_at lw_m2 185 rfl) rfl
theorem q551 : (Jvm.Cond.code ({ cls := "CarryFair$Handed", name := "kind", desc := "()I" } : Jvm.MethodName) prog_6_method_2_code (1 : Nat) (Option.some Jvm.ClassFile.FieldType.int)) ∈ lw_all := lw_g (lw_at lw_m2 186 rfl) rfl
theorem q552 : (Jvm.Cond.methodLink "CarryFair$Handed" (13 : Nat) ({ cls := "CarryFair$Paired", name := "kind", desc := "()I" } : Jvm.MethodName)) ∈ lw_all := lw_g (lw_at lw_m2 187 rfl) rfl
theorem q590 : (Jvm.Cond.castable "CarryFair$Handed" "CarryFair$Carries") ∈ lw_tbl := lw_at lw_m2 225 rfl
theorem q591 : (Jvm.Cond.selects "CarryFair$Handed" ({ cls := "CarryFair$Carries", name := "bears", desc := "()I" } : Jvm.MethodName) ({ cls := "CarryFair$Paired", name := "bears", desc := "()I" } : Jvm.MethodName)) ∈ lw_all := lw_g (lw_at lw_m2 226 rfl) rfl
theorem q592 : (Jvm.Cond.unhidden "CarryFair$Handed" "bears" "()I") ∈ lw_tbl := lw_at lw_m2 227 rfl
theorem q695 : (Jvm.Cond.selects "CarryFair$Handed" ({ cls := "CarryFair$Carries", name := "counts", desc := "(IZ)I" } : Jvm.MethodName) ({ cls := "CarryFair$Carrier", name := "counts", desc := "(IZ)I" } : Jvm.MethodName)) ∈ lw_all := lw_g (lw_at lw_m3 90 rfl) rfl
theorem q696 : (Jvm.Cond.unhidden "CarryFair$Handed" "counts" "(IZ)I") ∈ lw_tbl := lw_at lw_m3 91 rfl
theorem q806 : (Jvm.Cond.selects "CarryFair$Handed" ({ cls := "CarryFair$Carries", name := "gets", desc := "(I)I" } : Jvm.MethodName) ({ cls := "CarryFair$Handed", name := "gets", desc := "(I)I" } : Jvm.MethodName)) ∈ lw_all := lw_g (lw_at lw_m3 201 rfl) rfl
theorem q807 : (Jvm.Cond.unhidden "CarryFair$Handed" "gets" "(I)I") ∈ lw_tbl := lw_at lw_m3 202 rfl
theorem q808 : (Jvm.Cond.instanceMethod ({ cls := "CarryFair$Handed", name := "gets", desc := "(I)I" } : Jvm.MethodName)) ∈ lw_all := lw_g (lw_at lw_m3 203 rfl) rfl
theorem q809 : (Jvm.Cond.publicMethod ({ cls := "CarryFair$Handed", name := "gets", desc := "(I)I" } : Jvm.MethodName)) ∈ lw_tbl := lw_at lw_m3 204 rfl
theorem q810 : (Jvm.Cond.code ({ cls := "CarryFair$Handed", name := "gets", desc := "(I)I" } : Jvm.MethodName) prog_6_method_3_code (2 : Nat) (Option.some Jvm.ClassFile.FieldType.int)) ∈ lw_all := lw_g (lw_at lw_m3 205 rfl) rfl
theorem q811 : (Jvm.Cond.methodLink "CarryFair$Handed" (17 : Nat) ({ cls := "CarryFair$Paired", name := "gets", desc := "(I)I" } : Jvm.MethodName)) ∈ lw_all := lw_g (lw_at lw_m3 206 rfl) rfl
theorem q815 : (Jvm.Cond.unhidden "CarryFair$Handed" "half" "(I)I") ∈ lw_tbl := lw_at lw_m3 210 rfl
theorem q1221 : (Jvm.Cond.selects "CarryFair$Handed" ({ cls := "CarryFair$Carrier", name := "isUnder", desc := "(I)Z" } : Jvm.MethodName) ({ cls := "CarryFair$Paired", name := "isUnder", desc := "(I)Z" } : Jvm.MethodName)) ∈ lw_all := lw_g (lw_at lw_m5 136 rfl) rfl
theorem q1923 : (Jvm.Cond.castable "CarryFair$Handed" "CarryFair$Carrier") ∈ lw_tbl := lw_at lw_m8 118 rfl
theorem q1928 : (Jvm.Cond.castable "CarryFair$Handed" "CarryFair$Paired") ∈ lw_tbl := lw_at lw_m8 123 rfl
theorem in_X10 : ∀ w ∈ wsX100, w ∈ lw_all := lw_in wsX100 [404, 405, 403, 401] (by decide +kernel) (by decide +kernel)

/-! CarryFair$Watery -/
set_option maxRecDepth 100000
def RX11 : String := "CarryFair$Watery"
def TX11 : u_T := fun k => match k with
  | 0 => ("CarryFair$Carrier", "number", "I", true)
  | 1 => ("CarryFair$Carrier", "this$0", "LCarryFair;", true)
  | _ => ("CarryFair$Watery", "this$0", "LCarryFair;", true)
def tyX11 : Nat → FieldType := fun k => match k with
  | 0 => .int
  | 1 => .object "CarryFair"
  | _ => .object "CarryFair"
abbrev wsX110 : List Cond := u_ws RX11 TX11 3
-- two fields of one name: no nmX11
theorem tyX11_ok : ∀ k, k < 3 → parseFieldDescriptor (TX11 k).2.2.1 = some (tyX11 k) := by decide +kernel
abbrev cX11_init : ByteArray := prog_12_method_1_code
def yX11_init : MethodName := ⟨RX11, "<init>", "(LCarryFair;I)V"⟩
def dkwX11_init_0 : List UInt8 := [42, 43, 181, 0, 3, 42, 43, 28, 183, 0, 9, 177]
abbrev dktX11_init_0 : List UInt8 := dkwX11_init_0 ++ []
theorem dksX11_init_0 : cX11_init.data.toList.drop 0 = dktX11_init_0 := by decide +kernel
theorem dX11_init_0 : decode cX11_init 0 = .ok (.aload_n 0, 1) := dk_42 (dk_at dksX11_init_0 0 rfl rfl)
theorem dX11_init_1 : decode cX11_init 1 = .ok (.aload_n 1, 1) := dk_43 (dk_at dksX11_init_0 1 rfl rfl)
theorem dX11_init_2 : decode cX11_init 2 = .ok (.putfield 3, 3) := dk_181 0 3 (dk_at dksX11_init_0 2 rfl rfl)
theorem dX11_init_5 : decode cX11_init 5 = .ok (.aload_n 0, 1) := dk_42 (dk_at dksX11_init_0 5 rfl rfl)
theorem dX11_init_6 : decode cX11_init 6 = .ok (.aload_n 1, 1) := dk_43 (dk_at dksX11_init_0 6 rfl rfl)
theorem dX11_init_7 : decode cX11_init 7 = .ok (.iload_n 2, 1) := dk_28 (dk_at dksX11_init_0 7 rfl rfl)
theorem dX11_init_8 : decode cX11_init 8 = .ok (.invokespecial 9, 3) := dk_183 0 9 (dk_at dksX11_init_0 8 rfl rfl)
theorem dX11_init_11 : decode cX11_init 11 = .ok (.return_, 1) := dk_177 (dk_at dksX11_init_0 11 rfl rfl)
abbrev cX11_kind : ByteArray := prog_12_method_2_code
def yX11_kind : MethodName := ⟨RX11, "kind", "()I"⟩
def dkwX11_kind_0 : List UInt8 := [8, 42, 183, 0, 15, 96, 172]
abbrev dktX11_kind_0 : List UInt8 := dkwX11_kind_0 ++ []
theorem dksX11_kind_0 : cX11_kind.data.toList.drop 0 = dktX11_kind_0 := by decide +kernel
theorem dX11_kind_0 : decode cX11_kind 0 = .ok (.iconst 5, 1) := dk_8 (dk_at dksX11_kind_0 0 rfl rfl)
theorem dX11_kind_1 : decode cX11_kind 1 = .ok (.aload_n 0, 1) := dk_42 (dk_at dksX11_kind_0 1 rfl rfl)
theorem dX11_kind_2 : decode cX11_kind 2 = .ok (.invokespecial 15, 3) := dk_183 0 15 (dk_at dksX11_kind_0 2 rfl rfl)
theorem dX11_kind_5 : decode cX11_kind 5 = .ok (.iadd, 1) := dk_96 (dk_at dksX11_kind_0 5 rfl rfl)
theorem dX11_kind_6 : decode cX11_kind 6 = .ok (.ireturn, 1) := dk_172 (dk_at dksX11_kind_0 6 rfl rfl)
abbrev cX11_counts : ByteArray := prog_12_method_4_code
def yX11_counts : MethodName := ⟨RX11, "counts", "(IZ)I"⟩
theorem dX11_counts_0 : decode cX11_counts 0 = .ok (.iload_n 1, 1) := by decide +kernel
theorem dX11_counts_1 : decode cX11_counts 1 = .ok (.ireturn, 1) := by decide +kernel
abbrev cX11_isUnder : ByteArray := prog_12_method_3_code
def yX11_isUnder : MethodName := ⟨RX11, "isUnder", "(I)Z"⟩
def dkwX11_isUnder_0 : List UInt8 := [27, 8, 159, 0, 11, 42, 27, 183, 0, 19, 153, 0, 7, 4, 167, 0, 4, 3, 172]
abbrev dktX11_isUnder_0 : List UInt8 := dkwX11_isUnder_0 ++ []
theorem dksX11_isUnder_0 : cX11_isUnder.data.toList.drop 0 = dktX11_isUnder_0 := by decide +kernel
theorem dX11_isUnder_0 : decode cX11_isUnder 0 = .ok (.iload_n 1, 1) := dk_27 (dk_at dksX11_isUnder_0 0 rfl rfl)
theorem dX11_isUnder_1 : decode cX11_isUnder 1 = .ok (.iconst 5, 1) := dk_8 (dk_at dksX11_isUnder_0 1 rfl rfl)
theorem dX11_isUnder_2 : decode cX11_isUnder 2 = .ok (.if_icmp .eq 11, 3) := dk_159 0 11 (dk_at dksX11_isUnder_0 2 rfl rfl)
theorem dX11_isUnder_5 : decode cX11_isUnder 5 = .ok (.aload_n 0, 1) := dk_42 (dk_at dksX11_isUnder_0 5 rfl rfl)
theorem dX11_isUnder_6 : decode cX11_isUnder 6 = .ok (.iload_n 1, 1) := dk_27 (dk_at dksX11_isUnder_0 6 rfl rfl)
theorem dX11_isUnder_7 : decode cX11_isUnder 7 = .ok (.invokespecial 19, 3) := dk_183 0 19 (dk_at dksX11_isUnder_0 7 rfl rfl)
theorem dX11_isUnder_10 : decode cX11_isUnder 10 = .ok (.ifCond .eq 7, 3) := dk_153 0 7 (dk_at dksX11_isUnder_0 10 rfl rfl)
theorem dX11_isUnder_13 : decode cX11_isUnder 13 = .ok (.iconst 1, 1) := dk_4 (dk_at dksX11_isUnder_0 13 rfl rfl)
theorem dX11_isUnder_14 : decode cX11_isUnder 14 = .ok (.goto 4, 3) := dk_167 0 4 (dk_at dksX11_isUnder_0 14 rfl rfl)
theorem dX11_isUnder_17 : decode cX11_isUnder 17 = .ok (.iconst 0, 1) := dk_3 (dk_at dksX11_isUnder_0 17 rfl rfl)
theorem dX11_isUnder_18 : decode cX11_isUnder 18 = .ok (.ireturn, 1) := dk_172 (dk_at dksX11_isUnder_0 18 rfl rfl)
theorem q140 : (Jvm.Cond.initialized "CarryFair$Watery") ∈ lw_all := lw_g (lw_at lw_m1 15 rfl) rfl
theorem q408 : (Jvm.Cond.instantiable "CarryFair$Watery" (3 : Nat)) ∈ lw_all := lw_g (lw_at lw_m2 43 rfl) rfl
theorem q410 : (Jvm.Cond.instanceMethod ({ cls := "CarryFair$Watery", name := "<init>", desc := "(LCarryFair;I)V" } : Jvm.MethodName)) ∈ lw_all := lw_g (lw_at lw_m2 45 rfl) rfl
theorem q411 : (Jvm.Cond.code ({ cls := "CarryFair$Watery", name := "<init>", desc := "(LCarryFair;I)V" } : Jvm.MethodName) prog_12_method_1_code (3 : Nat) (Option.none : Option Jvm.ClassFile.FieldType)) ∈ lw_all := lw_g (lw_at lw_m2 46 rfl) rfl
theorem q412 : (Jvm.Cond.methodLink "CarryFair$Watery" (9 : Nat) ({ cls := "CarryFair$Carrier", name := "<init>", desc := "(LCarryFair;I)V" } : Jvm.MethodName)) ∈ lw_all := lw_g (lw_at lw_m2 47 rfl) rfl
theorem q413 : (Jvm.Cond.fieldLink "CarryFair$Watery" (3 : Nat) "CarryFair$Watery" "this$0" "LCarryFair;") ∈ lw_all := lw_g (lw_at lw_m2 48 rfl) rfl
theorem q414 : (Jvm.Cond.laysFinal "CarryFair$Watery" "CarryFair$Watery" "this$0" "LCarryFair;") ∈ lw_all := lw_g (lw_at lw_m2 49 rfl) rfl
theorem q415 : (Jvm.Cond.soleField "CarryFair$Watery" "this$0") ∈ lw_all := lw_g (lw_at lw_m2 50 rfl) rfl
theorem q416 : (Jvm.Cond.laysFinal "CarryFair$Watery" "CarryFair$Carrier" "number" "I") ∈ lw_all := lw_g (lw_at lw_m2 51 rfl) rfl
theorem q417 : (Jvm.Cond.laysFinal "CarryFair$Watery" "CarryFair$Carrier" "this$0" "LCarryFair;") ∈ lw_all := lw_g (lw_at lw_m2 52 rfl) rfl
theorem q418 : (Jvm.Cond.superclass "CarryFair$Watery" "CarryFair$Carrier") ∈ lw_all := lw_g (lw_at lw_m2 53 rfl) rfl
theorem q539 : (Jvm.Cond.instanceMethod ({ cls := "CarryFair$Watery", name := "kind", desc := "()I" } : Jvm.MethodName)) ∈ lw_all := lw_g (lw_at lw_m2 174 rfl) rfl
theorem q540 : (Jvm.Cond.code ({ cls := "CarryFair$Watery", name := "kind", desc := "()I" } : Jvm.MethodName) prog_12_method_2_code (1 : Nat) (Option.some Jvm.ClassFile.FieldType.int)) ∈ lw_all := lw_g (lw_at lw_m2 175 rfl) rfl
theorem q541 : (Jvm.Cond.methodLink "CarryFair$Watery" (15 : Nat) ({ cls := "CarryFair$Carrier", name := "kind", desc := "()I" } : Jvm.MethodName)) ∈ lw_all := lw_g (lw_at lw_m2 176 rfl) rfl
theorem q558 : (Jvm.Cond.selects "CarryFair$Watery" ({ cls := "CarryFair$Carrier", name := "kind", desc := "()I" } : Jvm.MethodName) ({ cls := "CarryFair$Watery", name := "kind", desc := "()I" } : Jvm.MethodName)) ∈ lw_all := lw_g (lw_at lw_m2 193 rfl) rfl
theorem q603 : (Jvm.Cond.castable "CarryFair$Watery" "CarryFair$Carries") ∈ lw_tbl := lw_at lw_m2 238 rfl
theorem q604 : (Jvm.Cond.selects "CarryFair$Watery" ({ cls := "CarryFair$Carries", name := "bears", desc := "()I" } : Jvm.MethodName) ({ cls := "CarryFair$Carrier", name := "bears", desc := "()I" } : Jvm.MethodName)) ∈ lw_all := lw_g (lw_at lw_m2 239 rfl) rfl
theorem q605 : (Jvm.Cond.unhidden "CarryFair$Watery" "bears" "()I") ∈ lw_tbl := lw_at lw_m3 0 rfl
theorem q682 : (Jvm.Cond.instanceMethod ({ cls := "CarryFair$Watery", name := "counts", desc := "(IZ)I" } : Jvm.MethodName)) ∈ lw_all := lw_g (lw_at lw_m3 77 rfl) rfl
theorem q683 : (Jvm.Cond.code ({ cls := "CarryFair$Watery", name := "counts", desc := "(IZ)I" } : Jvm.MethodName) prog_12_method_4_code (3 : Nat) (Option.some Jvm.ClassFile.FieldType.int)) ∈ lw_all := lw_g (lw_at lw_m3 78 rfl) rfl
theorem q701 : (Jvm.Cond.selects "CarryFair$Watery" ({ cls := "CarryFair$Carries", name := "counts", desc := "(IZ)I" } : Jvm.MethodName) ({ cls := "CarryFair$Watery", name := "counts", desc := "(IZ)I" } : Jvm.MethodName)) ∈ lw_all := lw_g (lw_at lw_m3 96 rfl) rfl
theorem q702 : (Jvm.Cond.unhidden "CarryFair$Watery" "counts" "(IZ)I") ∈ lw_tbl := lw_at lw_m3 97 rfl
theorem q703 : (Jvm.Cond.publicMethod ({ cls := "CarryFair$Watery", name := "counts", desc := "(IZ)I" } : Jvm.MethodName)) ∈ lw_tbl := lw_at lw_m3 98 rfl
theorem q822 : (Jvm.Cond.selects "CarryFair$Watery" ({ cls := "CarryFair$Carries", name := "gets", desc := "(I)I" } : Jvm.MethodName) ({ cls := "CarryFair$Carrier", name := "gets", desc := "(I)I" } : Jvm.MethodName)) ∈ lw_all := lw_g (lw_at lw_m3 217 rfl) rfl
theorem q823 : (Jvm.Cond.unhidden "CarryFair$Watery" "gets" "(I)I") ∈ lw_tbl := lw_at lw_m3 218 rfl
theorem q1214 : (Jvm.Cond.instanceMethod ({ cls := "CarryFair$Watery", name := "isUnder", desc := "(I)Z" } : Jvm.MethodName)) ∈ lw_all := lw_g (lw_at lw_m5 129 rfl) rfl
theorem q1215 : (Jvm.Cond.code ({ cls := "CarryFair$Watery", name := "isUnder", desc := "(I)Z" } : Jvm.MethodName) prog_12_method_3_code (2 : Nat) (Option.some Jvm.ClassFile.FieldType.boolean)) ∈ lw_all := lw_g (lw_at lw_m5 130 rfl) rfl
theorem q1216 : (Jvm.Cond.methodLink "CarryFair$Watery" (19 : Nat) ({ cls := "CarryFair$Carrier", name := "isUnder", desc := "(I)Z" } : Jvm.MethodName)) ∈ lw_all := lw_g (lw_at lw_m5 131 rfl) rfl
theorem q1227 : (Jvm.Cond.selects "CarryFair$Watery" ({ cls := "CarryFair$Carrier", name := "isUnder", desc := "(I)Z" } : Jvm.MethodName) ({ cls := "CarryFair$Watery", name := "isUnder", desc := "(I)Z" } : Jvm.MethodName)) ∈ lw_all := lw_g (lw_at lw_m5 142 rfl) rfl
theorem q1914 : (Jvm.Cond.sameMethod "CarryFair$Watery" "CarryFair$Watery" "kind" "()I") ∈ lw_all := lw_g (lw_at lw_m8 109 rfl) rfl
theorem q1918 : (Jvm.Cond.sameMethod "CarryFair$Watery" "CarryFair$Watery" "counts" "(IZ)I") ∈ lw_all := lw_g (lw_at lw_m8 113 rfl) rfl
theorem q1926 : (Jvm.Cond.castable "CarryFair$Watery" "CarryFair$Carrier") ∈ lw_tbl := lw_at lw_m8 121 rfl
theorem in_X11 : ∀ w ∈ wsX110, w ∈ lw_all := lw_in wsX110 [416, 417, 414] (by decide +kernel) (by decide +kernel)

/-! CarryFair$Boated -/
set_option maxRecDepth 100000
def RX12 : String := "CarryFair$Boated"
def TX12 : u_T := fun k => match k with
  | 0 => ("CarryFair$Carrier", "number", "I", true)
  | 1 => ("CarryFair$Carrier", "this$0", "LCarryFair;", true)
  | 2 => ("CarryFair$Watery", "this$0", "LCarryFair;", true)
  | _ => ("CarryFair$Boated", "this$0", "LCarryFair;", true)
def tyX12 : Nat → FieldType := fun k => match k with
  | 0 => .int
  | 1 => .object "CarryFair"
  | 2 => .object "CarryFair"
  | _ => .object "CarryFair"
abbrev wsX120 : List Cond := u_ws RX12 TX12 4
-- two fields of one name: no nmX12
theorem tyX12_ok : ∀ k, k < 4 → parseFieldDescriptor (TX12 k).2.2.1 = some (tyX12 k) := by decide +kernel
abbrev cX12_init : ByteArray := prog_2_method_1_code
def yX12_init : MethodName := ⟨RX12, "<init>", "(LCarryFair;I)V"⟩
def dkwX12_init_0 : List UInt8 := [42, 43, 181, 0, 1, 42, 43, 28, 183, 0, 7, 177]
abbrev dktX12_init_0 : List UInt8 := dkwX12_init_0 ++ []
theorem dksX12_init_0 : cX12_init.data.toList.drop 0 = dktX12_init_0 := by decide +kernel
theorem dX12_init_0 : decode cX12_init 0 = .ok (.aload_n 0, 1) := dk_42 (dk_at dksX12_init_0 0 rfl rfl)
theorem dX12_init_1 : decode cX12_init 1 = .ok (.aload_n 1, 1) := dk_43 (dk_at dksX12_init_0 1 rfl rfl)
theorem dX12_init_2 : decode cX12_init 2 = .ok (.putfield 1, 3) := dk_181 0 1 (dk_at dksX12_init_0 2 rfl rfl)
theorem dX12_init_5 : decode cX12_init 5 = .ok (.aload_n 0, 1) := dk_42 (dk_at dksX12_init_0 5 rfl rfl)
theorem dX12_init_6 : decode cX12_init 6 = .ok (.aload_n 1, 1) := dk_43 (dk_at dksX12_init_0 6 rfl rfl)
theorem dX12_init_7 : decode cX12_init 7 = .ok (.iload_n 2, 1) := dk_28 (dk_at dksX12_init_0 7 rfl rfl)
theorem dX12_init_8 : decode cX12_init 8 = .ok (.invokespecial 7, 3) := dk_183 0 7 (dk_at dksX12_init_0 8 rfl rfl)
theorem dX12_init_11 : decode cX12_init 11 = .ok (.return_, 1) := dk_177 (dk_at dksX12_init_0 11 rfl rfl)
abbrev cX12_kind : ByteArray := prog_2_method_2_code
def yX12_kind : MethodName := ⟨RX12, "kind", "()I"⟩
def dkwX12_kind_0 : List UInt8 := [4, 42, 183, 0, 13, 96, 172]
abbrev dktX12_kind_0 : List UInt8 := dkwX12_kind_0 ++ []
theorem dksX12_kind_0 : cX12_kind.data.toList.drop 0 = dktX12_kind_0 := by decide +kernel
theorem dX12_kind_0 : decode cX12_kind 0 = .ok (.iconst 1, 1) := dk_4 (dk_at dksX12_kind_0 0 rfl rfl)
theorem dX12_kind_1 : decode cX12_kind 1 = .ok (.aload_n 0, 1) := dk_42 (dk_at dksX12_kind_0 1 rfl rfl)
theorem dX12_kind_2 : decode cX12_kind 2 = .ok (.invokespecial 13, 3) := dk_183 0 13 (dk_at dksX12_kind_0 2 rfl rfl)
theorem dX12_kind_5 : decode cX12_kind 5 = .ok (.iadd, 1) := dk_96 (dk_at dksX12_kind_0 5 rfl rfl)
theorem dX12_kind_6 : decode cX12_kind 6 = .ok (.ireturn, 1) := dk_172 (dk_at dksX12_kind_0 6 rfl rfl)
abbrev cX12_counts : ByteArray := prog_2_method_3_code
def yX12_counts : MethodName := ⟨RX12, "counts", "(IZ)I"⟩
def dkwX12_counts_1 : List UInt8 := [172]
abbrev dktX12_counts_1 : List UInt8 := dkwX12_counts_1 ++ []
def dkwX12_counts_0 : List UInt8 := [42, 27, 28, 183, 0, 17, 62, 28, 153, 0, 15, 4, 42, 29, 182, 0, 21, 184, 0, 25, 167, 0, 4, 29]
abbrev dktX12_counts_0 : List UInt8 := dkwX12_counts_0 ++ dktX12_counts_1
theorem dksX12_counts_0 : cX12_counts.data.toList.drop 0 = dktX12_counts_0 := by decide +kernel
theorem dksX12_counts_1 : cX12_counts.data.toList.drop 24 = dktX12_counts_1 := dk_seg dksX12_counts_0 24 rfl rfl
theorem dX12_counts_0 : decode cX12_counts 0 = .ok (.aload_n 0, 1) := dk_42 (dk_at dksX12_counts_0 0 rfl rfl)
theorem dX12_counts_1 : decode cX12_counts 1 = .ok (.iload_n 1, 1) := dk_27 (dk_at dksX12_counts_0 1 rfl rfl)
theorem dX12_counts_2 : decode cX12_counts 2 = .ok (.iload_n 2, 1) := dk_28 (dk_at dksX12_counts_0 2 rfl rfl)
theorem dX12_counts_3 : decode cX12_counts 3 = .ok (.invokespecial 17, 3) := dk_183 0 17 (dk_at dksX12_counts_0 3 rfl rfl)
theorem dX12_counts_6 : decode cX12_counts 6 = .ok (.istore_n 3, 1) := dk_62 (dk_at dksX12_counts_0 6 rfl rfl)
theorem dX12_counts_7 : decode cX12_counts 7 = .ok (.iload_n 2, 1) := dk_28 (dk_at dksX12_counts_0 7 rfl rfl)
theorem dX12_counts_8 : decode cX12_counts 8 = .ok (.ifCond .eq 15, 3) := dk_153 0 15 (dk_at dksX12_counts_0 8 rfl rfl)
theorem dX12_counts_11 : decode cX12_counts 11 = .ok (.iconst 1, 1) := dk_4 (dk_at dksX12_counts_0 11 rfl rfl)
theorem dX12_counts_12 : decode cX12_counts 12 = .ok (.aload_n 0, 1) := dk_42 (dk_at dksX12_counts_0 12 rfl rfl)
theorem dX12_counts_13 : decode cX12_counts 13 = .ok (.iload_n 3, 1) := dk_29 (dk_at dksX12_counts_0 13 rfl rfl)
theorem dX12_counts_14 : decode cX12_counts 14 = .ok (.invokevirtual 21, 3) := dk_182 0 21 (dk_at dksX12_counts_0 14 rfl rfl)
theorem dX12_counts_17 : decode cX12_counts 17 = .ok (.invokestatic 25, 3) := dk_184 0 25 (dk_at dksX12_counts_0 17 rfl rfl)
theorem dX12_counts_20 : decode cX12_counts 20 = .ok (.goto 4, 3) := dk_167 0 4 (dk_at dksX12_counts_0 20 rfl rfl)
theorem dX12_counts_23 : decode cX12_counts 23 = .ok (.iload_n 3, 1) := dk_29 (dk_at dksX12_counts_0 23 rfl rfl)
theorem dX12_counts_24 : decode cX12_counts 24 = .ok (.ireturn, 1) := dk_172 (dk_at dksX12_counts_1 0 rfl rfl)
theorem q141 : (Jvm.Cond.initialized "CarryFair$Boated") ∈ lw_all := lw_g (lw_at lw_m1 16 rfl) rfl
theorem q420 : (Jvm.Cond.instantiable "CarryFair$Boated" (4 : Nat)) ∈ lw_all := lw_g (lw_at lw_m2 55 rfl) rfl
theorem q422 : (Jvm.Cond.instanceMethod ({ cls := "CarryFair$Boated", name := "<init>", desc := "(LCarryFair;I)V" } : Jvm.MethodName)) ∈ lw_all := lw_g (lw_at lw_m2 57 rfl) rfl
theorem q423 : (Jvm.Cond.code ({ cls := "CarryFair$Boated", name := "<init>", desc := "(LCarryFair;I)V" } : Jvm.MethodName) prog_2_method_1_code (3 : Nat) (Option.none : Option Jvm.ClassFile.FieldType)) ∈ lw_all := lw_g (lw_at lw_m2 58 rfl) rfl
theorem q424 : (Jvm.Cond.methodLink "CarryFair$Boated" (7 : Nat) ({ cls := "CarryFair$Watery", name := "<init>", desc := "(LCarryFair;I)V" } : Jvm.MethodName)) ∈ lw_all := lw_g (lw_at lw_m2 59 rfl) rfl
theorem q425 : (Jvm.Cond.fieldLink "CarryFair$Boated" (1 : Nat) "CarryFair$Boated" "this$0" "LCarryFair;") ∈ lw_all := lw_g (lw_at lw_m2 60 rfl) rfl
theorem q426 : (Jvm.Cond.laysFinal "CarryFair$Boated" "CarryFair$Boated" "this$0" "LCarryFair;") ∈ lw_all := lw_g (lw_at lw_m2 61 rfl) rfl
theorem q427 : (Jvm.Cond.soleField "CarryFair$Boated" "this$0") ∈ lw_all := lw_g (lw_at lw_m2 62 rfl) rfl
theorem q428 : (Jvm.Cond.laysFinal "CarryFair$Boated" "CarryFair$Watery" "this$0" "LCarryFair;") ∈ lw_all := lw_g (lw_at lw_m2 63 rfl) rfl
theorem q429 : (Jvm.Cond.laysFinal "CarryFair$Boated" "CarryFair$Carrier" "number" "I") ∈ lw_all := lw_g (lw_at lw_m2 64 rfl) rfl
theorem q430 : (Jvm.Cond.laysFinal "CarryFair$Boated" "CarryFair$Carrier" "this$0" "LCarryFair;") ∈ lw_all := lw_g (lw_at lw_m2 65 rfl) rfl
theorem q431 : (Jvm.Cond.superclass "CarryFair$Boated" "CarryFair$Watery") ∈ lw_all := lw_g (lw_at lw_m2 66 rfl) rfl
theorem q535 : (Jvm.Cond.selects "CarryFair$Boated" ({ cls := "CarryFair$Carrier", name := "kind", desc := "()I" } : Jvm.MethodName) ({ cls := "CarryFair$Boated", name := "kind", desc := "()I" } : Jvm.MethodName)) ∈ lw_all := lw_g (lw_at lw_m2 170 rfl) rfl
theorem q536 : (Jvm.Cond.instanceMethod ({ cls := "CarryFair$Boated", name := "kind", desc := "()I" } : Jvm.MethodName)) ∈ lw_all := lw_g (lw_at lw_m2 171 rfl) rfl
theorem q537 : (Jvm.Cond.code ({ cls := "CarryFair$Boated", name := "kind", desc := "()I" } : Jvm.MethodName) prog_2_method_2_code (1 : Nat) (Option.some Jvm.ClassFile.FieldType.int)) ∈ lw_all := lw_g (lw_at lw_m2 172 rfl) rfl
theorem q538 : (Jvm.Cond.methodLink "CarryFair$Boated" (13 : Nat) ({ cls := "CarryFair$Watery", name := "kind", desc := "()I" } : Jvm.MethodName)) ∈ lw_all := lw_g (lw_at lw_m2 173 rfl) rfl
theorem q568 : (Jvm.Cond.castable "CarryFair$Boated" "CarryFair$Carries") ∈ lw_tbl := lw_at lw_m2 203 rfl
theorem q569 : (Jvm.Cond.selects "CarryFair$Boated" ({ cls := "CarryFair$Carries", name := "bears", desc := "()I" } : Jvm.MethodName) ({ cls := "CarryFair$Carrier", name := "bears", desc := "()I" } : Jvm.MethodName)) ∈ lw_all := lw_g (lw_at lw_m2 204 rfl) rfl
theorem q570 : (Jvm.Cond.unhidden "CarryFair$Boated" "bears" "()I") ∈ lw_tbl := lw_at lw_m2 205 rfl
theorem q676 : (Jvm.Cond.selects "CarryFair$Boated" ({ cls := "CarryFair$Carries", name := "counts", desc := "(IZ)I" } : Jvm.MethodName) ({ cls := "CarryFair$Boated", name := "counts", desc := "(IZ)I" } : Jvm.MethodName)) ∈ lw_all := lw_g (lw_at lw_m3 71 rfl) rfl
theorem q677 : (Jvm.Cond.unhidden "CarryFair$Boated" "counts" "(IZ)I") ∈ lw_tbl := lw_at lw_m3 72 rfl
theorem q678 : (Jvm.Cond.instanceMethod ({ cls := "CarryFair$Boated", name := "counts", desc := "(IZ)I" } : Jvm.MethodName)) ∈ lw_all := lw_g (lw_at lw_m3 73 rfl) rfl
theorem q679 : (Jvm.Cond.publicMethod ({ cls := "CarryFair$Boated", name := "counts", desc := "(IZ)I" } : Jvm.MethodName)) ∈ lw_tbl := lw_at lw_m3 74 rfl
theorem q680 : (Jvm.Cond.code ({ cls := "CarryFair$Boated", name := "counts", desc := "(IZ)I" } : Jvm.MethodName) prog_2_method_3_code (4 : Nat) (Option.some Jvm.ClassFile.FieldType.int)) ∈ lw_all := lw_g (lw_at lw_m3 75 rfl) rfl
theorem q681 : (Jvm.Cond.methodLink "CarryFair$Boated" (17 : Nat) ({ cls := "CarryFair$Watery", name := "counts", desc := "(IZ)I" } : Jvm.MethodName)) ∈ lw_all := lw_g (lw_at lw_m3 76 rfl) rfl
theorem q684 : (Jvm.Cond.unhidden "CarryFair$Boated" "half" "(I)I") ∈ lw_tbl := lw_at lw_m3 79 rfl
theorem q685 : (Jvm.Cond.methodLink "CarryFair$Boated" (25 : Nat) ({ cls := "java/lang/Math", name := "max", desc := "(II)I" } : Jvm.MethodName)) ∈ lw_all := lw_g (lw_at lw_m3 80 rfl) rfl
theorem q791 : (Jvm.Cond.selects "CarryFair$Boated" ({ cls := "CarryFair$Carries", name := "gets", desc := "(I)I" } : Jvm.MethodName) ({ cls := "CarryFair$Carrier", name := "gets", desc := "(I)I" } : Jvm.MethodName)) ∈ lw_all := lw_g (lw_at lw_m3 186 rfl) rfl
theorem q792 : (Jvm.Cond.unhidden "CarryFair$Boated" "gets" "(I)I") ∈ lw_tbl := lw_at lw_m3 187 rfl
theorem q1213 : (Jvm.Cond.selects "CarryFair$Boated" ({ cls := "CarryFair$Carrier", name := "isUnder", desc := "(I)Z" } : Jvm.MethodName) ({ cls := "CarryFair$Watery", name := "isUnder", desc := "(I)Z" } : Jvm.MethodName)) ∈ lw_all := lw_g (lw_at lw_m5 128 rfl) rfl
theorem q1921 : (Jvm.Cond.castable "CarryFair$Boated" "CarryFair$Carrier") ∈ lw_tbl := lw_at lw_m8 116 rfl
theorem q1929 : (Jvm.Cond.castable "CarryFair$Boated" "CarryFair$Watery") ∈ lw_tbl := lw_at lw_m8 124 rfl
theorem in_X12 : ∀ w ∈ wsX120, w ∈ lw_all := lw_in wsX120 [429, 430, 428, 426] (by decide +kernel) (by decide +kernel)

/-! CarryFair$Carries -/
set_option maxRecDepth 100000
def RX14 : String := "CarryFair$Carries"
abbrev cX14_half : ByteArray := prog_4_method_4_code
def yX14_half : MethodName := ⟨RX14, "half", "(I)I"⟩
def dkwX14_half_0 : List UInt8 := [27, 5, 108, 172]
abbrev dktX14_half_0 : List UInt8 := dkwX14_half_0 ++ []
theorem dksX14_half_0 : cX14_half.data.toList.drop 0 = dktX14_half_0 := by decide +kernel
theorem dX14_half_0 : decode cX14_half 0 = .ok (.iload_n 1, 1) := dk_27 (dk_at dksX14_half_0 0 rfl rfl)
theorem dX14_half_1 : decode cX14_half 1 = .ok (.iconst 2, 1) := dk_5 (dk_at dksX14_half_0 1 rfl rfl)
theorem dX14_half_2 : decode cX14_half 2 = .ok (.idiv, 1) := dk_108 (dk_at dksX14_half_0 2 rfl rfl)
theorem dX14_half_3 : decode cX14_half 3 = .ok (.ireturn, 1) := dk_172 (dk_at dksX14_half_0 3 rfl rfl)
theorem q566 : (Jvm.Cond.interfaceMethod "CarryFair$Carries" "CarryFair$Carries" "bears" "()I") ∈ lw_tbl := lw_at lw_m2 201 rfl
theorem q567 : (Jvm.Cond.declares ({ cls := "CarryFair$Carries", name := "bears", desc := "()I" } : Jvm.MethodName)) ∈ lw_tbl := lw_at lw_m2 202 rfl
theorem q584 : (Jvm.Cond.declares ({ cls := "CarryFair$Carries", name := "half", desc := "(I)I" } : Jvm.MethodName)) ∈ lw_tbl := lw_at lw_m2 219 rfl
theorem q587 : (Jvm.Cond.instanceMethod ({ cls := "CarryFair$Carries", name := "half", desc := "(I)I" } : Jvm.MethodName)) ∈ lw_all := lw_g (lw_at lw_m2 222 rfl) rfl
theorem q588 : (Jvm.Cond.publicMethod ({ cls := "CarryFair$Carries", name := "half", desc := "(I)I" } : Jvm.MethodName)) ∈ lw_tbl := lw_at lw_m2 223 rfl
theorem q589 : (Jvm.Cond.code ({ cls := "CarryFair$Carries", name := "half", desc := "(I)I" } : Jvm.MethodName) prog_4_method_4_code (2 : Nat) (Option.some Jvm.ClassFile.FieldType.int)) ∈ lw_all := lw_g (lw_at lw_m2 224 rfl) rfl
theorem q674 : (Jvm.Cond.interfaceMethod "CarryFair$Carries" "CarryFair$Carries" "counts" "(IZ)I") ∈ lw_tbl := lw_at lw_m3 69 rfl
theorem q675 : (Jvm.Cond.declares ({ cls := "CarryFair$Carries", name := "counts", desc := "(IZ)I" } : Jvm.MethodName)) ∈ lw_tbl := lw_at lw_m3 70 rfl
theorem q789 : (Jvm.Cond.interfaceMethod "CarryFair$Carries" "CarryFair$Carries" "gets" "(I)I") ∈ lw_tbl := lw_at lw_m3 184 rfl
theorem q790 : (Jvm.Cond.declares ({ cls := "CarryFair$Carries", name := "gets", desc := "(I)I" } : Jvm.MethodName)) ∈ lw_tbl := lw_at lw_m3 185 rfl

/-! CarryFair$Reader -/
set_option maxRecDepth 100000
def RX2 : String := "CarryFair$Reader"
def TX2 : u_T := fun k => match k with
  | 0 => ("CarryFair$Reader", "wrong", "LCarryFair$Wrong;", true)
  | 1 => ("CarryFair$Reader", "tape", "[B", true)
  | 2 => ("CarryFair$Reader", "told", "LCarryFair$World;", true)
  | 3 => ("CarryFair$Reader", "length", "I", false)
  | 4 => ("CarryFair$Reader", "at", "I", false)
  | 5 => ("CarryFair$Reader", "begin", "I", false)
  | 6 => ("CarryFair$Reader", "token", "I", false)
  | _ => ("CarryFair$Reader", "value", "I", false)
def tyX2 : Nat → FieldType := fun k => match k with
  | 0 => .object "CarryFair$Wrong"
  | 1 => .array .byte
  | 2 => .object "CarryFair$World"
  | 3 => .int
  | 4 => .int
  | 5 => .int
  | 6 => .int
  | _ => .int
abbrev wsX20 : List Cond := u_ws RX2 TX2 8
theorem nmX2 : ∀ a, a < 8 → ∀ b, b < 8 → a ≠ b → (TX2 a).2.1 ≠ (TX2 b).2.1 := by decide +kernel
theorem tyX2_ok : ∀ k, k < 8 → parseFieldDescriptor (TX2 k).2.2.1 = some (tyX2 k) := by decide +kernel
abbrev cX2_init : ByteArray := prog_9_method_1_code
def yX2_init : MethodName := ⟨RX2, "<init>", "()V"⟩
def dkwX2_init_1 : List UInt8 := [187, 0, 22, 89, 183, 0, 24, 181, 0, 25, 177]
abbrev dktX2_init_1 : List UInt8 := dkwX2_init_1 ++ []
def dkwX2_init_0 : List UInt8 := [42, 183, 0, 3, 42, 187, 0, 9, 89, 183, 0, 11, 181, 0, 12, 42, 16, 120, 188, 8, 181, 0, 18, 42]
abbrev dktX2_init_0 : List UInt8 := dkwX2_init_0 ++ dktX2_init_1
theorem dksX2_init_0 : cX2_init.data.toList.drop 0 = dktX2_init_0 := by decide +kernel
theorem dksX2_init_1 : cX2_init.data.toList.drop 24 = dktX2_init_1 := dk_seg dksX2_init_0 24 rfl rfl
theorem dX2_init_0 : decode cX2_init 0 = .ok (.aload_n 0, 1) := dk_42 (dk_at dksX2_init_0 0 rfl rfl)
theorem dX2_init_1 : decode cX2_init 1 = .ok (.invokespecial 3, 3) := dk_183 0 3 (dk_at dksX2_init_0 1 rfl rfl)
theorem dX2_init_4 : decode cX2_init 4 = .ok (.aload_n 0, 1) := dk_42 (dk_at dksX2_init_0 4 rfl rfl)
theorem dX2_init_5 : decode cX2_init 5 = .ok (.new 9, 3) := dk_187 0 9 (dk_at dksX2_init_0 5 rfl rfl)
theorem dX2_init_8 : decode cX2_init 8 = .ok (.dup, 1) := dk_89 (dk_at dksX2_init_0 8 rfl rfl)
theorem dX2_init_9 : decode cX2_init 9 = .ok (.invokespecial 11, 3) := dk_183 0 11 (dk_at dksX2_init_0 9 rfl rfl)
theorem dX2_init_12 : decode cX2_init 12 = .ok (.putfield 12, 3) := dk_181 0 12 (dk_at dksX2_init_0 12 rfl rfl)
theorem dX2_init_15 : decode cX2_init 15 = .ok (.aload_n 0, 1) := dk_42 (dk_at dksX2_init_0 15 rfl rfl)
theorem dX2_init_16 : decode cX2_init 16 = .ok (.bipush 120, 2) := dk_16 120 (dk_at dksX2_init_0 16 rfl rfl)
theorem dX2_init_18 : decode cX2_init 18 = .ok (.newarray .byte, 2) := dk_188_8 (dk_at dksX2_init_0 18 rfl rfl)
theorem dX2_init_20 : decode cX2_init 20 = .ok (.putfield 18, 3) := dk_181 0 18 (dk_at dksX2_init_0 20 rfl rfl)
theorem dX2_init_23 : decode cX2_init 23 = .ok (.aload_n 0, 1) := dk_42 (dk_at dksX2_init_0 23 rfl rfl)
theorem dX2_init_24 : decode cX2_init 24 = .ok (.new 22, 3) := dk_187 0 22 (dk_at dksX2_init_1 0 rfl rfl)
theorem dX2_init_27 : decode cX2_init 27 = .ok (.dup, 1) := dk_89 (dk_at dksX2_init_1 3 rfl rfl)
theorem dX2_init_28 : decode cX2_init 28 = .ok (.invokespecial 24, 3) := dk_183 0 24 (dk_at dksX2_init_1 4 rfl rfl)
theorem dX2_init_31 : decode cX2_init 31 = .ok (.putfield 25, 3) := dk_181 0 25 (dk_at dksX2_init_1 7 rfl rfl)
theorem dX2_init_34 : decode cX2_init 34 = .ok (.return_, 1) := dk_177 (dk_at dksX2_init_1 10 rfl rfl)
abbrev cX2_whole : ByteArray := prog_9_method_21_code
def yX2_whole : MethodName := ⟨RX2, "whole", "()I"⟩
def dkwX2_whole_2 : List UInt8 := [167, 0, 4, 3, 182, 0, 63, 27, 172]
abbrev dktX2_whole_2 : List UInt8 := dkwX2_whole_2 ++ []
def dkwX2_whole_1 : List UInt8 := [182, 0, 82, 42, 182, 0, 142, 132, 1, 1, 167, 255, 237, 42, 42, 180, 0, 47, 154, 0, 7, 4]
abbrev dktX2_whole_1 : List UInt8 := dkwX2_whole_1 ++ dktX2_whole_2
def dkwX2_whole_0 : List UInt8 := [42, 3, 181, 0, 37, 42, 182, 0, 82, 42, 182, 0, 142, 4, 60, 42, 180, 0, 47, 6, 160, 0, 17, 42]
abbrev dktX2_whole_0 : List UInt8 := dkwX2_whole_0 ++ dktX2_whole_1
theorem dksX2_whole_0 : cX2_whole.data.toList.drop 0 = dktX2_whole_0 := by decide +kernel
theorem dksX2_whole_1 : cX2_whole.data.toList.drop 24 = dktX2_whole_1 := dk_seg dksX2_whole_0 24 rfl rfl
theorem dksX2_whole_2 : cX2_whole.data.toList.drop 46 = dktX2_whole_2 := dk_seg dksX2_whole_1 22 rfl rfl
theorem dX2_whole_0 : decode cX2_whole 0 = .ok (.aload_n 0, 1) := dk_42 (dk_at dksX2_whole_0 0 rfl rfl)
theorem dX2_whole_1 : decode cX2_whole 1 = .ok (.iconst 0, 1) := dk_3 (dk_at dksX2_whole_0 1 rfl rfl)
theorem dX2_whole_2 : decode cX2_whole 2 = .ok (.putfield 37, 3) := dk_181 0 37 (dk_at dksX2_whole_0 2 rfl rfl)
theorem dX2_whole_5 : decode cX2_whole 5 = .ok (.aload_n 0, 1) := dk_42 (dk_at dksX2_whole_0 5 rfl rfl)
theorem dX2_whole_6 : decode cX2_whole 6 = .ok (.invokevirtual 82, 3) := dk_182 0 82 (dk_at dksX2_whole_0 6 rfl rfl)
theorem dX2_whole_9 : decode cX2_whole 9 = .ok (.aload_n 0, 1) := dk_42 (dk_at dksX2_whole_0 9 rfl rfl)
theorem dX2_whole_10 : decode cX2_whole 10 = .ok (.invokevirtual 142, 3) := dk_182 0 142 (dk_at dksX2_whole_0 10 rfl rfl)
theorem dX2_whole_13 : decode cX2_whole 13 = .ok (.iconst 1, 1) := dk_4 (dk_at dksX2_whole_0 13 rfl rfl)
theorem dX2_whole_14 : decode cX2_whole 14 = .ok (.istore_n 1, 1) := dk_60 (dk_at dksX2_whole_0 14 rfl rfl)
theorem dX2_whole_15 : decode cX2_whole 15 = .ok (.aload_n 0, 1) := dk_42 (dk_at dksX2_whole_0 15 rfl rfl)
theorem dX2_whole_16 : decode cX2_whole 16 = .ok (.getfield 47, 3) := dk_180 0 47 (dk_at dksX2_whole_0 16 rfl rfl)
theorem dX2_whole_19 : decode cX2_whole 19 = .ok (.iconst 3, 1) := dk_6 (dk_at dksX2_whole_0 19 rfl rfl)
theorem dX2_whole_20 : decode cX2_whole 20 = .ok (.if_icmp .ne 17, 3) := dk_160 0 17 (dk_at dksX2_whole_0 20 rfl rfl)
theorem dX2_whole_23 : decode cX2_whole 23 = .ok (.aload_n 0, 1) := dk_42 (dk_at dksX2_whole_0 23 rfl rfl)
theorem dX2_whole_24 : decode cX2_whole 24 = .ok (.invokevirtual 82, 3) := dk_182 0 82 (dk_at dksX2_whole_1 0 rfl rfl)
theorem dX2_whole_27 : decode cX2_whole 27 = .ok (.aload_n 0, 1) := dk_42 (dk_at dksX2_whole_1 3 rfl rfl)
theorem dX2_whole_28 : decode cX2_whole 28 = .ok (.invokevirtual 142, 3) := dk_182 0 142 (dk_at dksX2_whole_1 4 rfl rfl)
theorem dX2_whole_31 : decode cX2_whole 31 = .ok (.iinc 1 1, 3) := dk_132 1 1 (dk_at dksX2_whole_1 7 rfl rfl)
theorem dX2_whole_34 : decode cX2_whole 34 = .ok (.goto (-19), 3) := dk_167 255 237 (dk_at dksX2_whole_1 10 rfl rfl)
theorem dX2_whole_37 : decode cX2_whole 37 = .ok (.aload_n 0, 1) := dk_42 (dk_at dksX2_whole_1 13 rfl rfl)
theorem dX2_whole_38 : decode cX2_whole 38 = .ok (.aload_n 0, 1) := dk_42 (dk_at dksX2_whole_1 14 rfl rfl)
theorem dX2_whole_39 : decode cX2_whole 39 = .ok (.getfield 47, 3) := dk_180 0 47 (dk_at dksX2_whole_1 15 rfl rfl)
theorem dX2_whole_42 : decode cX2_whole 42 = .ok (.ifCond .ne 7, 3) := dk_154 0 7 (dk_at dksX2_whole_1 18 rfl rfl)
theorem dX2_whole_45 : decode cX2_whole 45 = .ok (.iconst 1, 1) := dk_4 (dk_at dksX2_whole_1 21 rfl rfl)
theorem dX2_whole_46 : decode cX2_whole 46 = .ok (.goto 4, 3) := dk_167 0 4 (dk_at dksX2_whole_2 0 rfl rfl)
theorem dX2_whole_49 : decode cX2_whole 49 = .ok (.iconst 0, 1) := dk_3 (dk_at dksX2_whole_2 3 rfl rfl)
theorem dX2_whole_50 : decode cX2_whole 50 = .ok (.invokevirtual 63, 3) := dk_182 0 63 (dk_at dksX2_whole_2 4 rfl rfl)
theorem dX2_whole_53 : decode cX2_whole 53 = .ok (.iload_n 1, 1) := dk_27 (dk_at dksX2_whole_2 7 rfl rfl)
theorem dX2_whole_54 : decode cX2_whole 54 = .ok (.ireturn, 1) := dk_172 (dk_at dksX2_whole_2 8 rfl rfl)
abbrev cX2_next : ByteArray := prog_9_method_6_code
def yX2_next : MethodName := ⟨RX2, "next", "()V"⟩
def dkwX2_next_4 : List UInt8 := [3, 182, 0, 63, 42, 6, 181, 0, 47, 42, 89, 180, 0, 37, 4, 96, 181, 0, 37, 177]
abbrev dktX2_next_4 : List UInt8 := dkwX2_next_4 ++ []
def dkwX2_next_3 : List UInt8 := [184, 0, 57, 153, 0, 10, 42, 182, 0, 60, 167, 0, 33, 42, 27, 16, 59, 160, 0, 7, 4, 167, 0, 4]
abbrev dktX2_next_3 : List UInt8 := dkwX2_next_3 ++ dktX2_next_4
def dkwX2_next_2 : List UInt8 := [42, 3, 181, 0, 47, 167, 0, 61, 27, 184, 0, 50, 153, 0, 10, 42, 182, 0, 54, 167, 0, 47, 27]
abbrev dktX2_next_2 : List UInt8 := dkwX2_next_2 ++ dktX2_next_3
def dkwX2_next_1 : List UInt8 := [167, 255, 233, 42, 42, 180, 0, 37, 181, 0, 44, 42, 42, 180, 0, 37, 182, 0, 40, 60, 27, 156, 0, 11]
abbrev dktX2_next_1 : List UInt8 := dkwX2_next_1 ++ dktX2_next_2
def dkwX2_next_0 : List UInt8 := [42, 42, 180, 0, 37, 182, 0, 40, 16, 32, 160, 0, 16, 42, 89, 180, 0, 37, 4, 96, 181, 0, 37]
abbrev dktX2_next_0 : List UInt8 := dkwX2_next_0 ++ dktX2_next_1
theorem dksX2_next_0 : cX2_next.data.toList.drop 0 = dktX2_next_0 := by decide +kernel
theorem dksX2_next_1 : cX2_next.data.toList.drop 23 = dktX2_next_1 := dk_seg dksX2_next_0 23 rfl rfl
theorem dksX2_next_2 : cX2_next.data.toList.drop 47 = dktX2_next_2 := dk_seg dksX2_next_1 24 rfl rfl
theorem dksX2_next_3 : cX2_next.data.toList.drop 70 = dktX2_next_3 := dk_seg dksX2_next_2 23 rfl rfl
theorem dksX2_next_4 : cX2_next.data.toList.drop 94 = dktX2_next_4 := dk_seg dksX2_next_3 24 rfl rfl
theorem dX2_next_0 : decode cX2_next 0 = .ok (.aload_n 0, 1) := dk_42 (dk_at dksX2_next_0 0 rfl rfl)
theorem dX2_next_1 : decode cX2_next 1 = .ok (.aload_n 0, 1) := dk_42 (dk_at dksX2_next_0 1 rfl rfl)
theorem dX2_next_2 : decode cX2_next 2 = .ok (.getfield 37, 3) := dk_180 0 37 (dk_at dksX2_next_0 2 rfl rfl)
theorem dX2_next_5 : decode cX2_next 5 = .ok (.invokevirtual 40, 3) := dk_182 0 40 (dk_at dksX2_next_0 5 rfl rfl)
theorem dX2_next_8 : decode cX2_next 8 = .ok (.bipush 32, 2) := dk_16 32 (dk_at dksX2_next_0 8 rfl rfl)
theorem dX2_next_10 : decode cX2_next 10 = .ok (.if_icmp .ne 16, 3) := dk_160 0 16 (dk_at dksX2_next_0 10 rfl rfl)
theorem dX2_next_13 : decode cX2_next 13 = .ok (.aload_n 0, 1) := dk_42 (dk_at dksX2_next_0 13 rfl rfl)
theorem dX2_next_14 : decode cX2_next 14 = .ok (.dup, 1) := dk_89 (dk_at dksX2_next_0 14 rfl rfl)
theorem dX2_next_15 : decode cX2_next 15 = .ok (.getfield 37, 3) := dk_180 0 37 (dk_at dksX2_next_0 15 rfl rfl)
theorem dX2_next_18 : decode cX2_next 18 = .ok (.iconst 1, 1) := dk_4 (dk_at dksX2_next_0 18 rfl rfl)
theorem dX2_next_19 : decode cX2_next 19 = .ok (.iadd, 1) := dk_96 (dk_at dksX2_next_0 19 rfl rfl)
theorem dX2_next_20 : decode cX2_next 20 = .ok (.putfield 37, 3) := dk_181 0 37 (dk_at dksX2_next_0 20 rfl rfl)
theorem dX2_next_23 : decode cX2_next 23 = .ok (.goto (-23), 3) := dk_167 255 233 (dk_at dksX2_next_1 0 rfl rfl)
theorem dX2_next_26 : decode cX2_next 26 = .ok (.aload_n 0, 1) := dk_42 (dk_at dksX2_next_1 3 rfl rfl)
theorem dX2_next_27 : decode cX2_next 27 = .ok (.aload_n 0, 1) := dk_42 (dk_at dksX2_next_1 4 rfl rfl)
theorem dX2_next_28 : decode cX2_next 28 = .ok (.getfield 37, 3) := dk_180 0 37 (dk_at dksX2_next_1 5 rfl rfl)
theorem dX2_next_31 : decode cX2_next 31 = .ok (.putfield 44, 3) := dk_181 0 44 (dk_at dksX2_next_1 8 rfl rfl)
theorem dX2_next_34 : decode cX2_next 34 = .ok (.aload_n 0, 1) := dk_42 (dk_at dksX2_next_1 11 rfl rfl)
theorem dX2_next_35 : decode cX2_next 35 = .ok (.aload_n 0, 1) := dk_42 (dk_at dksX2_next_1 12 rfl rfl)
theorem dX2_next_36 : decode cX2_next 36 = .ok (.getfield 37, 3) := dk_180 0 37 (dk_at dksX2_next_1 13 rfl rfl)
theorem dX2_next_39 : decode cX2_next 39 = .ok (.invokevirtual 40, 3) := dk_182 0 40 (dk_at dksX2_next_1 16 rfl rfl)
theorem dX2_next_42 : decode cX2_next 42 = .ok (.istore_n 1, 1) := dk_60 (dk_at dksX2_next_1 19 rfl rfl)
theorem dX2_next_43 : decode cX2_next 43 = .ok (.iload_n 1, 1) := dk_27 (dk_at dksX2_next_1 20 rfl rfl)
theorem dX2_next_44 : decode cX2_next 44 = .ok (.ifCond .ge 11, 3) := dk_156 0 11 (dk_at dksX2_next_1 21 rfl rfl)
theorem dX2_next_47 : decode cX2_next 47 = .ok (.aload_n 0, 1) := dk_42 (dk_at dksX2_next_2 0 rfl rfl)
theorem dX2_next_48 : decode cX2_next 48 = .ok (.iconst 0, 1) := dk_3 (dk_at dksX2_next_2 1 rfl rfl)
theorem dX2_next_49 : decode cX2_next 49 = .ok (.putfield 47, 3) := dk_181 0 47 (dk_at dksX2_next_2 2 rfl rfl)
theorem dX2_next_52 : decode cX2_next 52 = .ok (.goto 61, 3) := dk_167 0 61 (dk_at dksX2_next_2 5 rfl rfl)
theorem dX2_next_55 : decode cX2_next 55 = .ok (.iload_n 1, 1) := dk_27 (dk_at dksX2_next_2 8 rfl rfl)
theorem dX2_next_56 : decode cX2_next 56 = .ok (.invokestatic 50, 3) := dk_184 0 50 (dk_at dksX2_next_2 9 rfl rfl)
theorem dX2_next_59 : decode cX2_next 59 = .ok (.ifCond .eq 10, 3) := dk_153 0 10 (dk_at dksX2_next_2 12 rfl rfl)
theorem dX2_next_62 : decode cX2_next 62 = .ok (.aload_n 0, 1) := dk_42 (dk_at dksX2_next_2 15 rfl rfl)
theorem dX2_next_63 : decode cX2_next 63 = .ok (.invokevirtual 54, 3) := dk_182 0 54 (dk_at dksX2_next_2 16 rfl rfl)
theorem dX2_next_66 : decode cX2_next 66 = .ok (.goto 47, 3) := dk_167 0 47 (dk_at dksX2_next_2 19 rfl rfl)
theorem dX2_next_69 : decode cX2_next 69 = .ok (.iload_n 1, 1) := dk_27 (dk_at dksX2_next_2 22 rfl rfl)
theorem dX2_next_70 : decode cX2_next 70 = .ok (.invokestatic 57, 3) := dk_184 0 57 (dk_at dksX2_next_3 0 rfl rfl)
theorem dX2_next_73 : decode cX2_next 73 = .ok (.ifCond .eq 10, 3) := dk_153 0 10 (dk_at dksX2_next_3 3 rfl rfl)
theorem dX2_next_76 : decode cX2_next 76 = .ok (.aload_n 0, 1) := dk_42 (dk_at dksX2_next_3 6 rfl rfl)
theorem dX2_next_77 : decode cX2_next 77 = .ok (.invokevirtual 60, 3) := dk_182 0 60 (dk_at dksX2_next_3 7 rfl rfl)
theorem dX2_next_80 : decode cX2_next 80 = .ok (.goto 33, 3) := dk_167 0 33 (dk_at dksX2_next_3 10 rfl rfl)
theorem dX2_next_83 : decode cX2_next 83 = .ok (.aload_n 0, 1) := dk_42 (dk_at dksX2_next_3 13 rfl rfl)
theorem dX2_next_84 : decode cX2_next 84 = .ok (.iload_n 1, 1) := dk_27 (dk_at dksX2_next_3 14 rfl rfl)
theorem dX2_next_85 : decode cX2_next 85 = .ok (.bipush 59, 2) := dk_16 59 (dk_at dksX2_next_3 15 rfl rfl)
theorem dX2_next_87 : decode cX2_next 87 = .ok (.if_icmp .ne 7, 3) := dk_160 0 7 (dk_at dksX2_next_3 17 rfl rfl)
theorem dX2_next_90 : decode cX2_next 90 = .ok (.iconst 1, 1) := dk_4 (dk_at dksX2_next_3 20 rfl rfl)
theorem dX2_next_91 : decode cX2_next 91 = .ok (.goto 4, 3) := dk_167 0 4 (dk_at dksX2_next_3 21 rfl rfl)
theorem dX2_next_94 : decode cX2_next 94 = .ok (.iconst 0, 1) := dk_3 (dk_at dksX2_next_4 0 rfl rfl)
theorem dX2_next_95 : decode cX2_next 95 = .ok (.invokevirtual 63, 3) := dk_182 0 63 (dk_at dksX2_next_4 1 rfl rfl)
theorem dX2_next_98 : decode cX2_next 98 = .ok (.aload_n 0, 1) := dk_42 (dk_at dksX2_next_4 4 rfl rfl)
theorem dX2_next_99 : decode cX2_next 99 = .ok (.iconst 3, 1) := dk_6 (dk_at dksX2_next_4 5 rfl rfl)
theorem dX2_next_100 : decode cX2_next 100 = .ok (.putfield 47, 3) := dk_181 0 47 (dk_at dksX2_next_4 6 rfl rfl)
theorem dX2_next_103 : decode cX2_next 103 = .ok (.aload_n 0, 1) := dk_42 (dk_at dksX2_next_4 9 rfl rfl)
theorem dX2_next_104 : decode cX2_next 104 = .ok (.dup, 1) := dk_89 (dk_at dksX2_next_4 10 rfl rfl)
theorem dX2_next_105 : decode cX2_next 105 = .ok (.getfield 37, 3) := dk_180 0 37 (dk_at dksX2_next_4 11 rfl rfl)
theorem dX2_next_108 : decode cX2_next 108 = .ok (.iconst 1, 1) := dk_4 (dk_at dksX2_next_4 14 rfl rfl)
theorem dX2_next_109 : decode cX2_next 109 = .ok (.iadd, 1) := dk_96 (dk_at dksX2_next_4 15 rfl rfl)
theorem dX2_next_110 : decode cX2_next 110 = .ok (.putfield 37, 3) := dk_181 0 37 (dk_at dksX2_next_4 16 rfl rfl)
theorem dX2_next_113 : decode cX2_next 113 = .ok (.return_, 1) := dk_177 (dk_at dksX2_next_4 19 rfl rfl)
abbrev cX2_byteAt : ByteArray := prog_9_method_3_code
def yX2_byteAt : MethodName := ⟨RX2, "byteAt", "(I)I"⟩
def dkwX2_byteAt_0 : List UInt8 := [27, 42, 180, 0, 29, 162, 0, 16, 42, 180, 0, 18, 27, 51, 17, 0, 255, 126, 167, 0, 4, 2, 172]
abbrev dktX2_byteAt_0 : List UInt8 := dkwX2_byteAt_0 ++ []
theorem dksX2_byteAt_0 : cX2_byteAt.data.toList.drop 0 = dktX2_byteAt_0 := by decide +kernel
theorem dX2_byteAt_0 : decode cX2_byteAt 0 = .ok (.iload_n 1, 1) := dk_27 (dk_at dksX2_byteAt_0 0 rfl rfl)
theorem dX2_byteAt_1 : decode cX2_byteAt 1 = .ok (.aload_n 0, 1) := dk_42 (dk_at dksX2_byteAt_0 1 rfl rfl)
theorem dX2_byteAt_2 : decode cX2_byteAt 2 = .ok (.getfield 29, 3) := dk_180 0 29 (dk_at dksX2_byteAt_0 2 rfl rfl)
theorem dX2_byteAt_5 : decode cX2_byteAt 5 = .ok (.if_icmp .ge 16, 3) := dk_162 0 16 (dk_at dksX2_byteAt_0 5 rfl rfl)
theorem dX2_byteAt_8 : decode cX2_byteAt 8 = .ok (.aload_n 0, 1) := dk_42 (dk_at dksX2_byteAt_0 8 rfl rfl)
theorem dX2_byteAt_9 : decode cX2_byteAt 9 = .ok (.getfield 18, 3) := dk_180 0 18 (dk_at dksX2_byteAt_0 9 rfl rfl)
theorem dX2_byteAt_12 : decode cX2_byteAt 12 = .ok (.iload_n 1, 1) := dk_27 (dk_at dksX2_byteAt_0 12 rfl rfl)
theorem dX2_byteAt_13 : decode cX2_byteAt 13 = .ok (.baload, 1) := dk_51 (dk_at dksX2_byteAt_0 13 rfl rfl)
theorem dX2_byteAt_14 : decode cX2_byteAt 14 = .ok (.sipush 255, 3) := dk_17 0 255 (dk_at dksX2_byteAt_0 14 rfl rfl)
theorem dX2_byteAt_17 : decode cX2_byteAt 17 = .ok (.iand, 1) := dk_126 (dk_at dksX2_byteAt_0 17 rfl rfl)
theorem dX2_byteAt_18 : decode cX2_byteAt 18 = .ok (.goto 4, 3) := dk_167 0 4 (dk_at dksX2_byteAt_0 18 rfl rfl)
theorem dX2_byteAt_21 : decode cX2_byteAt 21 = .ok (.iconst (-1), 1) := dk_2 (dk_at dksX2_byteAt_0 21 rfl rfl)
theorem dX2_byteAt_22 : decode cX2_byteAt 22 = .ok (.ireturn, 1) := dk_172 (dk_at dksX2_byteAt_0 22 rfl rfl)
abbrev cX2_isLetter : ByteArray := prog_9_method_5_code
def yX2_isLetter : MethodName := ⟨RX2, "isLetter", "(I)Z"⟩
def dkwX2_isLetter_0 : List UInt8 := [26, 16, 97, 16, 122, 184, 0, 33, 172]
abbrev dktX2_isLetter_0 : List UInt8 := dkwX2_isLetter_0 ++ []
theorem dksX2_isLetter_0 : cX2_isLetter.data.toList.drop 0 = dktX2_isLetter_0 := by decide +kernel
theorem dX2_isLetter_0 : decode cX2_isLetter 0 = .ok (.iload_n 0, 1) := dk_26 (dk_at dksX2_isLetter_0 0 rfl rfl)
theorem dX2_isLetter_1 : decode cX2_isLetter 1 = .ok (.bipush 97, 2) := dk_16 97 (dk_at dksX2_isLetter_0 1 rfl rfl)
theorem dX2_isLetter_3 : decode cX2_isLetter 3 = .ok (.bipush 122, 2) := dk_16 122 (dk_at dksX2_isLetter_0 3 rfl rfl)
theorem dX2_isLetter_5 : decode cX2_isLetter 5 = .ok (.invokestatic 33, 3) := dk_184 0 33 (dk_at dksX2_isLetter_0 5 rfl rfl)
theorem dX2_isLetter_8 : decode cX2_isLetter 8 = .ok (.ireturn, 1) := dk_172 (dk_at dksX2_isLetter_0 8 rfl rfl)
abbrev cX2_word : ByteArray := prog_9_method_8_code
def yX2_word : MethodName := ⟨RX2, "word", "()V"⟩
def dkwX2_word_3 : List UInt8 := [182, 0, 63, 42, 5, 181, 0, 47, 42, 27, 181, 0, 67, 177]
abbrev dktX2_word_3 : List UInt8 := dkwX2_word_3 ++ []
def dkwX2_word_2 : List UInt8 := [182, 0, 70, 154, 0, 9, 132, 1, 1, 167, 255, 230, 42, 27, 16, 16, 162, 0, 7, 4, 167, 0, 4, 3]
abbrev dktX2_word_2 : List UInt8 := dkwX2_word_2 ++ dktX2_word_3
def dkwX2_word_1 : List UInt8 := [167, 255, 232, 3, 60, 27, 16, 16, 162, 0, 26, 42, 27, 42, 180, 0, 37, 42, 180, 0, 44, 100]
abbrev dktX2_word_1 : List UInt8 := dkwX2_word_1 ++ dktX2_word_2
def dkwX2_word_0 : List UInt8 := [42, 42, 180, 0, 37, 182, 0, 40, 184, 0, 50, 153, 0, 16, 42, 89, 180, 0, 37, 4, 96, 181, 0, 37]
abbrev dktX2_word_0 : List UInt8 := dkwX2_word_0 ++ dktX2_word_1
theorem dksX2_word_0 : cX2_word.data.toList.drop 0 = dktX2_word_0 := by decide +kernel
theorem dksX2_word_1 : cX2_word.data.toList.drop 24 = dktX2_word_1 := dk_seg dksX2_word_0 24 rfl rfl
theorem dksX2_word_2 : cX2_word.data.toList.drop 46 = dktX2_word_2 := dk_seg dksX2_word_1 22 rfl rfl
theorem dksX2_word_3 : cX2_word.data.toList.drop 70 = dktX2_word_3 := dk_seg dksX2_word_2 24 rfl rfl
theorem dX2_word_0 : decode cX2_word 0 = .ok (.aload_n 0, 1) := dk_42 (dk_at dksX2_word_0 0 rfl rfl)
theorem dX2_word_1 : decode cX2_word 1 = .ok (.aload_n 0, 1) := dk_42 (dk_at dksX2_word_0 1 rfl rfl)
theorem dX2_word_2 : decode cX2_word 2 = .ok (.getfield 37, 3) := dk_180 0 37 (dk_at dksX2_word_0 2 rfl rfl)
theorem dX2_word_5 : decode cX2_word 5 = .ok (.invokevirtual 40, 3) := dk_182 0 40 (dk_at dksX2_word_0 5 rfl rfl)
theorem dX2_word_8 : decode cX2_word 8 = .ok (.invokestatic 50, 3) := dk_184 0 50 (dk_at dksX2_word_0 8 rfl rfl)
theorem dX2_word_11 : decode cX2_word 11 = .ok (.ifCond .eq 16, 3) := dk_153 0 16 (dk_at dksX2_word_0 11 rfl rfl)
theorem dX2_word_14 : decode cX2_word 14 = .ok (.aload_n 0, 1) := dk_42 (dk_at dksX2_word_0 14 rfl rfl)
theorem dX2_word_15 : decode cX2_word 15 = .ok (.dup, 1) := dk_89 (dk_at dksX2_word_0 15 rfl rfl)
theorem dX2_word_16 : decode cX2_word 16 = .ok (.getfield 37, 3) := dk_180 0 37 (dk_at dksX2_word_0 16 rfl rfl)
theorem dX2_word_19 : decode cX2_word 19 = .ok (.iconst 1, 1) := dk_4 (dk_at dksX2_word_0 19 rfl rfl)
theorem dX2_word_20 : decode cX2_word 20 = .ok (.iadd, 1) := dk_96 (dk_at dksX2_word_0 20 rfl rfl)
theorem dX2_word_21 : decode cX2_word 21 = .ok (.putfield 37, 3) := dk_181 0 37 (dk_at dksX2_word_0 21 rfl rfl)
theorem dX2_word_24 : decode cX2_word 24 = .ok (.goto (-24), 3) := dk_167 255 232 (dk_at dksX2_word_1 0 rfl rfl)
theorem dX2_word_27 : decode cX2_word 27 = .ok (.iconst 0, 1) := dk_3 (dk_at dksX2_word_1 3 rfl rfl)
theorem dX2_word_28 : decode cX2_word 28 = .ok (.istore_n 1, 1) := dk_60 (dk_at dksX2_word_1 4 rfl rfl)
theorem dX2_word_29 : decode cX2_word 29 = .ok (.iload_n 1, 1) := dk_27 (dk_at dksX2_word_1 5 rfl rfl)
theorem dX2_word_30 : decode cX2_word 30 = .ok (.bipush 16, 2) := dk_16 16 (dk_at dksX2_word_1 6 rfl rfl)
theorem dX2_word_32 : decode cX2_word 32 = .ok (.if_icmp .ge 26, 3) := dk_162 0 26 (dk_at dksX2_word_1 8 rfl rfl)
theorem dX2_word_35 : decode cX2_word 35 = .ok (.aload_n 0, 1) := dk_42 (dk_at dksX2_word_1 11 rfl rfl)
theorem dX2_word_36 : decode cX2_word 36 = .ok (.iload_n 1, 1) := dk_27 (dk_at dksX2_word_1 12 rfl rfl)
theorem dX2_word_37 : decode cX2_word 37 = .ok (.aload_n 0, 1) := dk_42 (dk_at dksX2_word_1 13 rfl rfl)
theorem dX2_word_38 : decode cX2_word 38 = .ok (.getfield 37, 3) := dk_180 0 37 (dk_at dksX2_word_1 14 rfl rfl)
theorem dX2_word_41 : decode cX2_word 41 = .ok (.aload_n 0, 1) := dk_42 (dk_at dksX2_word_1 17 rfl rfl)
theorem dX2_word_42 : decode cX2_word 42 = .ok (.getfield 44, 3) := dk_180 0 44 (dk_at dksX2_word_1 18 rfl rfl)
theorem dX2_word_45 : decode cX2_word 45 = .ok (.isub, 1) := dk_100 (dk_at dksX2_word_1 21 rfl rfl)
theorem dX2_word_46 : decode cX2_word 46 = .ok (.invokevirtual 70, 3) := dk_182 0 70 (dk_at dksX2_word_2 0 rfl rfl)
theorem dX2_word_49 : decode cX2_word 49 = .ok (.ifCond .ne 9, 3) := dk_154 0 9 (dk_at dksX2_word_2 3 rfl rfl)
theorem dX2_word_52 : decode cX2_word 52 = .ok (.iinc 1 1, 3) := dk_132 1 1 (dk_at dksX2_word_2 6 rfl rfl)
theorem dX2_word_55 : decode cX2_word 55 = .ok (.goto (-26), 3) := dk_167 255 230 (dk_at dksX2_word_2 9 rfl rfl)
theorem dX2_word_58 : decode cX2_word 58 = .ok (.aload_n 0, 1) := dk_42 (dk_at dksX2_word_2 12 rfl rfl)
theorem dX2_word_59 : decode cX2_word 59 = .ok (.iload_n 1, 1) := dk_27 (dk_at dksX2_word_2 13 rfl rfl)
theorem dX2_word_60 : decode cX2_word 60 = .ok (.bipush 16, 2) := dk_16 16 (dk_at dksX2_word_2 14 rfl rfl)
theorem dX2_word_62 : decode cX2_word 62 = .ok (.if_icmp .ge 7, 3) := dk_162 0 7 (dk_at dksX2_word_2 16 rfl rfl)
theorem dX2_word_65 : decode cX2_word 65 = .ok (.iconst 1, 1) := dk_4 (dk_at dksX2_word_2 19 rfl rfl)
theorem dX2_word_66 : decode cX2_word 66 = .ok (.goto 4, 3) := dk_167 0 4 (dk_at dksX2_word_2 20 rfl rfl)
theorem dX2_word_69 : decode cX2_word 69 = .ok (.iconst 0, 1) := dk_3 (dk_at dksX2_word_2 23 rfl rfl)
theorem dX2_word_70 : decode cX2_word 70 = .ok (.invokevirtual 63, 3) := dk_182 0 63 (dk_at dksX2_word_3 0 rfl rfl)
theorem dX2_word_73 : decode cX2_word 73 = .ok (.aload_n 0, 1) := dk_42 (dk_at dksX2_word_3 3 rfl rfl)
theorem dX2_word_74 : decode cX2_word 74 = .ok (.iconst 2, 1) := dk_5 (dk_at dksX2_word_3 4 rfl rfl)
theorem dX2_word_75 : decode cX2_word 75 = .ok (.putfield 47, 3) := dk_181 0 47 (dk_at dksX2_word_3 5 rfl rfl)
theorem dX2_word_78 : decode cX2_word 78 = .ok (.aload_n 0, 1) := dk_42 (dk_at dksX2_word_3 8 rfl rfl)
theorem dX2_word_79 : decode cX2_word 79 = .ok (.iload_n 1, 1) := dk_27 (dk_at dksX2_word_3 9 rfl rfl)
theorem dX2_word_80 : decode cX2_word 80 = .ok (.putfield 67, 3) := dk_181 0 67 (dk_at dksX2_word_3 10 rfl rfl)
theorem dX2_word_83 : decode cX2_word 83 = .ok (.return_, 1) := dk_177 (dk_at dksX2_word_3 13 rfl rfl)
abbrev cX2_isKey : ByteArray := prog_9_method_9_code
def yX2_isKey : MethodName := ⟨RX2, "isKey", "(II)Z"⟩
def dkwX2_isKey_3 : List UInt8 := [160, 0, 7, 4, 167, 0, 4, 3, 62, 132, 4, 1, 167, 255, 211, 29, 172]
abbrev dktX2_isKey_3 : List UInt8 := dkwX2_isKey_3 ++ []
def dkwX2_isKey_2 : List UInt8 := [18, 74, 16, 8, 27, 104, 21, 4, 96, 182, 0, 76, 42, 42, 180, 0, 44, 21, 4, 96, 182, 0, 40]
abbrev dktX2_isKey_2 : List UInt8 := dkwX2_isKey_2 ++ dktX2_isKey_3
def dkwX2_isKey_1 : List UInt8 := [16, 32, 160, 0, 7, 4, 167, 0, 4, 3, 62, 3, 54, 4, 21, 4, 28, 162, 0, 45, 29, 153, 0, 41]
abbrev dktX2_isKey_1 : List UInt8 := dkwX2_isKey_1 ++ dktX2_isKey_2
def dkwX2_isKey_0 : List UInt8 := [28, 16, 8, 163, 0, 29, 28, 16, 8, 159, 0, 19, 18, 74, 16, 8, 27, 104, 28, 96, 182, 0, 76]
abbrev dktX2_isKey_0 : List UInt8 := dkwX2_isKey_0 ++ dktX2_isKey_1
theorem dksX2_isKey_0 : cX2_isKey.data.toList.drop 0 = dktX2_isKey_0 := by decide +kernel
theorem dksX2_isKey_1 : cX2_isKey.data.toList.drop 23 = dktX2_isKey_1 := dk_seg dksX2_isKey_0 23 rfl rfl
theorem dksX2_isKey_2 : cX2_isKey.data.toList.drop 47 = dktX2_isKey_2 := dk_seg dksX2_isKey_1 24 rfl rfl
theorem dksX2_isKey_3 : cX2_isKey.data.toList.drop 70 = dktX2_isKey_3 := dk_seg dksX2_isKey_2 23 rfl rfl
theorem dX2_isKey_0 : decode cX2_isKey 0 = .ok (.iload_n 2, 1) := dk_28 (dk_at dksX2_isKey_0 0 rfl rfl)
theorem dX2_isKey_1 : decode cX2_isKey 1 = .ok (.bipush 8, 2) := dk_16 8 (dk_at dksX2_isKey_0 1 rfl rfl)
theorem dX2_isKey_3 : decode cX2_isKey 3 = .ok (.if_icmp .gt 29, 3) := dk_163 0 29 (dk_at dksX2_isKey_0 3 rfl rfl)
theorem dX2_isKey_6 : decode cX2_isKey 6 = .ok (.iload_n 2, 1) := dk_28 (dk_at dksX2_isKey_0 6 rfl rfl)
theorem dX2_isKey_7 : decode cX2_isKey 7 = .ok (.bipush 8, 2) := dk_16 8 (dk_at dksX2_isKey_0 7 rfl rfl)
theorem dX2_isKey_9 : decode cX2_isKey 9 = .ok (.if_icmp .eq 19, 3) := dk_159 0 19 (dk_at dksX2_isKey_0 9 rfl rfl)
theorem dX2_isKey_12 : decode cX2_isKey 12 = .ok (.ldc 74, 2) := dk_18 74 (dk_at dksX2_isKey_0 12 rfl rfl)
theorem dX2_isKey_14 : decode cX2_isKey 14 = .ok (.bipush 8, 2) := dk_16 8 (dk_at dksX2_isKey_0 14 rfl rfl)
theorem dX2_isKey_16 : decode cX2_isKey 16 = .ok (.iload_n 1, 1) := dk_27 (dk_at dksX2_isKey_0 16 rfl rfl)
theorem dX2_isKey_17 : decode cX2_isKey 17 = .ok (.imul, 1) := dk_104 (dk_at dksX2_isKey_0 17 rfl rfl)
theorem dX2_isKey_18 : decode cX2_isKey 18 = .ok (.iload_n 2, 1) := dk_28 (dk_at dksX2_isKey_0 18 rfl rfl)
theorem dX2_isKey_19 : decode cX2_isKey 19 = .ok (.iadd, 1) := dk_96 (dk_at dksX2_isKey_0 19 rfl rfl)
theorem dX2_isKey_20 : decode cX2_isKey 20 = .ok (.invokevirtual 76, 3) := dk_182 0 76 (dk_at dksX2_isKey_0 20 rfl rfl)
theorem dX2_isKey_23 : decode cX2_isKey 23 = .ok (.bipush 32, 2) := dk_16 32 (dk_at dksX2_isKey_1 0 rfl rfl)
theorem dX2_isKey_25 : decode cX2_isKey 25 = .ok (.if_icmp .ne 7, 3) := dk_160 0 7 (dk_at dksX2_isKey_1 2 rfl rfl)
theorem dX2_isKey_28 : decode cX2_isKey 28 = .ok (.iconst 1, 1) := dk_4 (dk_at dksX2_isKey_1 5 rfl rfl)
theorem dX2_isKey_29 : decode cX2_isKey 29 = .ok (.goto 4, 3) := dk_167 0 4 (dk_at dksX2_isKey_1 6 rfl rfl)
theorem dX2_isKey_32 : decode cX2_isKey 32 = .ok (.iconst 0, 1) := dk_3 (dk_at dksX2_isKey_1 9 rfl rfl)
theorem dX2_isKey_33 : decode cX2_isKey 33 = .ok (.istore_n 3, 1) := dk_62 (dk_at dksX2_isKey_1 10 rfl rfl)
theorem dX2_isKey_34 : decode cX2_isKey 34 = .ok (.iconst 0, 1) := dk_3 (dk_at dksX2_isKey_1 11 rfl rfl)
theorem dX2_isKey_35 : decode cX2_isKey 35 = .ok (.istore 4, 2) := dk_54 4 (dk_at dksX2_isKey_1 12 rfl rfl)
theorem dX2_isKey_37 : decode cX2_isKey 37 = .ok (.iload 4, 2) := dk_21 4 (dk_at dksX2_isKey_1 14 rfl rfl)
theorem dX2_isKey_39 : decode cX2_isKey 39 = .ok (.iload_n 2, 1) := dk_28 (dk_at dksX2_isKey_1 16 rfl rfl)
theorem dX2_isKey_40 : decode cX2_isKey 40 = .ok (.if_icmp .ge 45, 3) := dk_162 0 45 (dk_at dksX2_isKey_1 17 rfl rfl)
theorem dX2_isKey_43 : decode cX2_isKey 43 = .ok (.iload_n 3, 1) := dk_29 (dk_at dksX2_isKey_1 20 rfl rfl)
theorem dX2_isKey_44 : decode cX2_isKey 44 = .ok (.ifCond .eq 41, 3) := dk_153 0 41 (dk_at dksX2_isKey_1 21 rfl rfl)
theorem dX2_isKey_47 : decode cX2_isKey 47 = .ok (.ldc 74, 2) := dk_18 74 (dk_at dksX2_isKey_2 0 rfl rfl)
theorem dX2_isKey_49 : decode cX2_isKey 49 = .ok (.bipush 8, 2) := dk_16 8 (dk_at dksX2_isKey_2 2 rfl rfl)
theorem dX2_isKey_51 : decode cX2_isKey 51 = .ok (.iload_n 1, 1) := dk_27 (dk_at dksX2_isKey_2 4 rfl rfl)
theorem dX2_isKey_52 : decode cX2_isKey 52 = .ok (.imul, 1) := dk_104 (dk_at dksX2_isKey_2 5 rfl rfl)
theorem dX2_isKey_53 : decode cX2_isKey 53 = .ok (.iload 4, 2) := dk_21 4 (dk_at dksX2_isKey_2 6 rfl rfl)
theorem dX2_isKey_55 : decode cX2_isKey 55 = .ok (.iadd, 1) := dk_96 (dk_at dksX2_isKey_2 8 rfl rfl)
theorem dX2_isKey_56 : decode cX2_isKey 56 = .ok (.invokevirtual 76, 3) := dk_182 0 76 (dk_at dksX2_isKey_2 9 rfl rfl)
theorem dX2_isKey_59 : decode cX2_isKey 59 = .ok (.aload_n 0, 1) := dk_42 (dk_at dksX2_isKey_2 12 rfl rfl)
theorem dX2_isKey_60 : decode cX2_isKey 60 = .ok (.aload_n 0, 1) := dk_42 (dk_at dksX2_isKey_2 13 rfl rfl)
theorem dX2_isKey_61 : decode cX2_isKey 61 = .ok (.getfield 44, 3) := dk_180 0 44 (dk_at dksX2_isKey_2 14 rfl rfl)
theorem dX2_isKey_64 : decode cX2_isKey 64 = .ok (.iload 4, 2) := dk_21 4 (dk_at dksX2_isKey_2 17 rfl rfl)
theorem dX2_isKey_66 : decode cX2_isKey 66 = .ok (.iadd, 1) := dk_96 (dk_at dksX2_isKey_2 19 rfl rfl)
theorem dX2_isKey_67 : decode cX2_isKey 67 = .ok (.invokevirtual 40, 3) := dk_182 0 40 (dk_at dksX2_isKey_2 20 rfl rfl)
theorem dX2_isKey_70 : decode cX2_isKey 70 = .ok (.if_icmp .ne 7, 3) := dk_160 0 7 (dk_at dksX2_isKey_3 0 rfl rfl)
theorem dX2_isKey_73 : decode cX2_isKey 73 = .ok (.iconst 1, 1) := dk_4 (dk_at dksX2_isKey_3 3 rfl rfl)
theorem dX2_isKey_74 : decode cX2_isKey 74 = .ok (.goto 4, 3) := dk_167 0 4 (dk_at dksX2_isKey_3 4 rfl rfl)
theorem dX2_isKey_77 : decode cX2_isKey 77 = .ok (.iconst 0, 1) := dk_3 (dk_at dksX2_isKey_3 7 rfl rfl)
theorem dX2_isKey_78 : decode cX2_isKey 78 = .ok (.istore_n 3, 1) := dk_62 (dk_at dksX2_isKey_3 8 rfl rfl)
theorem dX2_isKey_79 : decode cX2_isKey 79 = .ok (.iinc 4 1, 3) := dk_132 4 1 (dk_at dksX2_isKey_3 9 rfl rfl)
theorem dX2_isKey_82 : decode cX2_isKey 82 = .ok (.goto (-45), 3) := dk_167 255 211 (dk_at dksX2_isKey_3 12 rfl rfl)
theorem dX2_isKey_85 : decode cX2_isKey 85 = .ok (.iload_n 3, 1) := dk_29 (dk_at dksX2_isKey_3 15 rfl rfl)
theorem dX2_isKey_86 : decode cX2_isKey 86 = .ok (.ireturn, 1) := dk_172 (dk_at dksX2_isKey_3 16 rfl rfl)
abbrev cX2_need : ByteArray := prog_9_method_2_code
def yX2_need : MethodName := ⟨RX2, "need", "(Z)V"⟩
def dkwX2_need_0 : List UInt8 := [27, 154, 0, 8, 42, 180, 0, 12, 191, 177]
abbrev dktX2_need_0 : List UInt8 := dkwX2_need_0 ++ []
theorem dksX2_need_0 : cX2_need.data.toList.drop 0 = dktX2_need_0 := by decide +kernel
theorem dX2_need_0 : decode cX2_need 0 = .ok (.iload_n 1, 1) := dk_27 (dk_at dksX2_need_0 0 rfl rfl)
theorem dX2_need_1 : decode cX2_need 1 = .ok (.ifCond .ne 8, 3) := dk_154 0 8 (dk_at dksX2_need_0 1 rfl rfl)
theorem dX2_need_4 : decode cX2_need 4 = .ok (.aload_n 0, 1) := dk_42 (dk_at dksX2_need_0 4 rfl rfl)
theorem dX2_need_5 : decode cX2_need 5 = .ok (.getfield 12, 3) := dk_180 0 12 (dk_at dksX2_need_0 5 rfl rfl)
theorem dX2_need_8 : decode cX2_need 8 = .ok (.athrow, 1) := dk_191 (dk_at dksX2_need_0 8 rfl rfl)
theorem dX2_need_9 : decode cX2_need 9 = .ok (.return_, 1) := dk_177 (dk_at dksX2_need_0 9 rfl rfl)
abbrev cX2_isDigit : ByteArray := prog_9_method_4_code
def yX2_isDigit : MethodName := ⟨RX2, "isDigit", "(I)Z"⟩
def dkwX2_isDigit_0 : List UInt8 := [26, 16, 48, 16, 57, 184, 0, 33, 172]
abbrev dktX2_isDigit_0 : List UInt8 := dkwX2_isDigit_0 ++ []
theorem dksX2_isDigit_0 : cX2_isDigit.data.toList.drop 0 = dktX2_isDigit_0 := by decide +kernel
theorem dX2_isDigit_0 : decode cX2_isDigit 0 = .ok (.iload_n 0, 1) := dk_26 (dk_at dksX2_isDigit_0 0 rfl rfl)
theorem dX2_isDigit_1 : decode cX2_isDigit 1 = .ok (.bipush 48, 2) := dk_16 48 (dk_at dksX2_isDigit_0 1 rfl rfl)
theorem dX2_isDigit_3 : decode cX2_isDigit 3 = .ok (.bipush 57, 2) := dk_16 57 (dk_at dksX2_isDigit_0 3 rfl rfl)
theorem dX2_isDigit_5 : decode cX2_isDigit 5 = .ok (.invokestatic 33, 3) := dk_184 0 33 (dk_at dksX2_isDigit_0 5 rfl rfl)
theorem dX2_isDigit_8 : decode cX2_isDigit 8 = .ok (.ireturn, 1) := dk_172 (dk_at dksX2_isDigit_0 8 rfl rfl)
abbrev cX2_digits : ByteArray := prog_9_method_7_code
def yX2_digits : MethodName := ⟨RX2, "digits", "()V"⟩
def dkwX2_digits_3 : List UInt8 := [17, 39, 15, 163, 0, 7, 4, 167, 0, 4, 3, 182, 0, 63, 177]
abbrev dktX2_digits_3 : List UInt8 := dkwX2_digits_3 ++ []
def dkwX2_digits_2 : List UInt8 := [180, 0, 37, 4, 96, 181, 0, 37, 167, 255, 204, 42, 4, 181, 0, 47, 42, 27, 181, 0, 67, 42, 27]
abbrev dktX2_digits_2 : List UInt8 := dkwX2_digits_2 ++ dktX2_digits_3
def dkwX2_digits_1 : List UInt8 := [167, 0, 19, 16, 10, 27, 104, 42, 42, 180, 0, 37, 182, 0, 40, 96, 16, 48, 100, 60, 42, 89]
abbrev dktX2_digits_1 : List UInt8 := dkwX2_digits_1 ++ dktX2_digits_2
def dkwX2_digits_0 : List UInt8 := [3, 60, 42, 42, 180, 0, 37, 182, 0, 40, 184, 0, 57, 153, 0, 44, 27, 17, 39, 15, 164, 0, 7, 27]
abbrev dktX2_digits_0 : List UInt8 := dkwX2_digits_0 ++ dktX2_digits_1
theorem dksX2_digits_0 : cX2_digits.data.toList.drop 0 = dktX2_digits_0 := by decide +kernel
theorem dksX2_digits_1 : cX2_digits.data.toList.drop 24 = dktX2_digits_1 := dk_seg dksX2_digits_0 24 rfl rfl
theorem dksX2_digits_2 : cX2_digits.data.toList.drop 46 = dktX2_digits_2 := dk_seg dksX2_digits_1 22 rfl rfl
theorem dksX2_digits_3 : cX2_digits.data.toList.drop 69 = dktX2_digits_3 := dk_seg dksX2_digits_2 23 rfl rfl
theorem dX2_digits_0 : decode cX2_digits 0 = .ok (.iconst 0, 1) := dk_3 (dk_at dksX2_digits_0 0 rfl rfl)
theorem dX2_digits_1 : decode cX2_digits 1 = .ok (.istore_n 1, 1) := dk_60 (dk_at dksX2_digits_0 1 rfl rfl)
theorem dX2_digits_2 : decode cX2_digits 2 = .ok (.aload_n 0, 1) := dk_42 (dk_at dksX2_digits_0 2 rfl rfl)
theorem dX2_digits_3 : decode cX2_digits 3 = .ok (.aload_n 0, 1) := dk_42 (dk_at dksX2_digits_0 3 rfl rfl)
theorem dX2_digits_4 : decode cX2_digits 4 = .ok (.getfield 37, 3) := dk_180 0 37 (dk_at dksX2_digits_0 4 rfl rfl)
theorem dX2_digits_7 : decode cX2_digits 7 = .ok (.invokevirtual 40, 3) := dk_182 0 40 (dk_at dksX2_digits_0 7 rfl rfl)
theorem dX2_digits_10 : decode cX2_digits 10 = .ok (.invokestatic 57, 3) := dk_184 0 57 (dk_at dksX2_digits_0 10 rfl rfl)
theorem dX2_digits_13 : decode cX2_digits 13 = .ok (.ifCond .eq 44, 3) := dk_153 0 44 (dk_at dksX2_digits_0 13 rfl rfl)
theorem dX2_digits_16 : decode cX2_digits 16 = .ok (.iload_n 1, 1) := dk_27 (dk_at dksX2_digits_0 16 rfl rfl)
theorem dX2_digits_17 : decode cX2_digits 17 = .ok (.sipush 9999, 3) := dk_17 39 15 (dk_at dksX2_digits_0 17 rfl rfl)
theorem dX2_digits_20 : decode cX2_digits 20 = .ok (.if_icmp .le 7, 3) := dk_164 0 7 (dk_at dksX2_digits_0 20 rfl rfl)
theorem dX2_digits_23 : decode cX2_digits 23 = .ok (.iload_n 1, 1) := dk_27 (dk_at dksX2_digits_0 23 rfl rfl)
theorem dX2_digits_24 : decode cX2_digits 24 = .ok (.goto 19, 3) := dk_167 0 19 (dk_at dksX2_digits_1 0 rfl rfl)
theorem dX2_digits_27 : decode cX2_digits 27 = .ok (.bipush 10, 2) := dk_16 10 (dk_at dksX2_digits_1 3 rfl rfl)
theorem dX2_digits_29 : decode cX2_digits 29 = .ok (.iload_n 1, 1) := dk_27 (dk_at dksX2_digits_1 5 rfl rfl)
theorem dX2_digits_30 : decode cX2_digits 30 = .ok (.imul, 1) := dk_104 (dk_at dksX2_digits_1 6 rfl rfl)
theorem dX2_digits_31 : decode cX2_digits 31 = .ok (.aload_n 0, 1) := dk_42 (dk_at dksX2_digits_1 7 rfl rfl)
theorem dX2_digits_32 : decode cX2_digits 32 = .ok (.aload_n 0, 1) := dk_42 (dk_at dksX2_digits_1 8 rfl rfl)
theorem dX2_digits_33 : decode cX2_digits 33 = .ok (.getfield 37, 3) := dk_180 0 37 (dk_at dksX2_digits_1 9 rfl rfl)
theorem dX2_digits_36 : decode cX2_digits 36 = .ok (.invokevirtual 40, 3) := dk_182 0 40 (dk_at dksX2_digits_1 12 rfl rfl)
theorem dX2_digits_39 : decode cX2_digits 39 = .ok (.iadd, 1) := dk_96 (dk_at dksX2_digits_1 15 rfl rfl)
theorem dX2_digits_40 : decode cX2_digits 40 = .ok (.bipush 48, 2) := dk_16 48 (dk_at dksX2_digits_1 16 rfl rfl)
theorem dX2_digits_42 : decode cX2_digits 42 = .ok (.isub, 1) := dk_100 (dk_at dksX2_digits_1 18 rfl rfl)
theorem dX2_digits_43 : decode cX2_digits 43 = .ok (.istore_n 1, 1) := dk_60 (dk_at dksX2_digits_1 19 rfl rfl)
theorem dX2_digits_44 : decode cX2_digits 44 = .ok (.aload_n 0, 1) := dk_42 (dk_at dksX2_digits_1 20 rfl rfl)
theorem dX2_digits_45 : decode cX2_digits 45 = .ok (.dup, 1) := dk_89 (dk_at dksX2_digits_1 21 rfl rfl)
theorem dX2_digits_46 : decode cX2_digits 46 = .ok (.getfield 37, 3) := dk_180 0 37 (dk_at dksX2_digits_2 0 rfl rfl)
theorem dX2_digits_49 : decode cX2_digits 49 = .ok (.iconst 1, 1) := dk_4 (dk_at dksX2_digits_2 3 rfl rfl)
theorem dX2_digits_50 : decode cX2_digits 50 = .ok (.iadd, 1) := dk_96 (dk_at dksX2_digits_2 4 rfl rfl)
theorem dX2_digits_51 : decode cX2_digits 51 = .ok (.putfield 37, 3) := dk_181 0 37 (dk_at dksX2_digits_2 5 rfl rfl)
theorem dX2_digits_54 : decode cX2_digits 54 = .ok (.goto (-52), 3) := dk_167 255 204 (dk_at dksX2_digits_2 8 rfl rfl)
theorem dX2_digits_57 : decode cX2_digits 57 = .ok (.aload_n 0, 1) := dk_42 (dk_at dksX2_digits_2 11 rfl rfl)
theorem dX2_digits_58 : decode cX2_digits 58 = .ok (.iconst 1, 1) := dk_4 (dk_at dksX2_digits_2 12 rfl rfl)
theorem dX2_digits_59 : decode cX2_digits 59 = .ok (.putfield 47, 3) := dk_181 0 47 (dk_at dksX2_digits_2 13 rfl rfl)
theorem dX2_digits_62 : decode cX2_digits 62 = .ok (.aload_n 0, 1) := dk_42 (dk_at dksX2_digits_2 16 rfl rfl)
theorem dX2_digits_63 : decode cX2_digits 63 = .ok (.iload_n 1, 1) := dk_27 (dk_at dksX2_digits_2 17 rfl rfl)
theorem dX2_digits_64 : decode cX2_digits 64 = .ok (.putfield 67, 3) := dk_181 0 67 (dk_at dksX2_digits_2 18 rfl rfl)
theorem dX2_digits_67 : decode cX2_digits 67 = .ok (.aload_n 0, 1) := dk_42 (dk_at dksX2_digits_2 21 rfl rfl)
theorem dX2_digits_68 : decode cX2_digits 68 = .ok (.iload_n 1, 1) := dk_27 (dk_at dksX2_digits_2 22 rfl rfl)
theorem dX2_digits_69 : decode cX2_digits 69 = .ok (.sipush 9999, 3) := dk_17 39 15 (dk_at dksX2_digits_3 0 rfl rfl)
theorem dX2_digits_72 : decode cX2_digits 72 = .ok (.if_icmp .gt 7, 3) := dk_163 0 7 (dk_at dksX2_digits_3 3 rfl rfl)
theorem dX2_digits_75 : decode cX2_digits 75 = .ok (.iconst 1, 1) := dk_4 (dk_at dksX2_digits_3 6 rfl rfl)
theorem dX2_digits_76 : decode cX2_digits 76 = .ok (.goto 4, 3) := dk_167 0 4 (dk_at dksX2_digits_3 7 rfl rfl)
theorem dX2_digits_79 : decode cX2_digits 79 = .ok (.iconst 0, 1) := dk_3 (dk_at dksX2_digits_3 10 rfl rfl)
theorem dX2_digits_80 : decode cX2_digits 80 = .ok (.invokevirtual 63, 3) := dk_182 0 63 (dk_at dksX2_digits_3 11 rfl rfl)
theorem dX2_digits_83 : decode cX2_digits 83 = .ok (.return_, 1) := dk_177 (dk_at dksX2_digits_3 14 rfl rfl)
abbrev cX2_item : ByteArray := prog_9_method_20_code
def yX2_item : MethodName := ⟨RX2, "item", "()V"⟩
def dkwX2_item_4 : List UInt8 := [180, 0, 67, 182, 0, 139, 177]
abbrev dktX2_item_4 : List UInt8 := dkwX2_item_4 ++ []
def dkwX2_item_3 : List UInt8 := [42, 182, 0, 130, 167, 0, 25, 42, 182, 0, 133, 167, 0, 18, 42, 182, 0, 136, 167, 0, 11, 42, 42]
abbrev dktX2_item_3 : List UInt8 := dkwX2_item_3 ++ dktX2_item_4
def dkwX2_item_2 : List UInt8 := [170, 0, 0, 0, 0, 47, 0, 0, 0, 7, 0, 0, 0, 9, 0, 0, 0, 26, 0, 0, 0, 33, 0, 0, 0, 40]
abbrev dktX2_item_2 : List UInt8 := dkwX2_item_2 ++ dktX2_item_3
def dkwX2_item_1 : List UInt8 := [182, 0, 63, 42, 180, 0, 67]
abbrev dktX2_item_1 : List UInt8 := dkwX2_item_1 ++ dktX2_item_2
def dkwX2_item_0 : List UInt8 := [42, 42, 180, 0, 47, 5, 160, 0, 16, 42, 180, 0, 67, 16, 9, 163, 0, 7, 4, 167, 0, 4, 3]
abbrev dktX2_item_0 : List UInt8 := dkwX2_item_0 ++ dktX2_item_1
theorem dksX2_item_0 : cX2_item.data.toList.drop 0 = dktX2_item_0 := by decide +kernel
theorem dksX2_item_1 : cX2_item.data.toList.drop 23 = dktX2_item_1 := dk_seg dksX2_item_0 23 rfl rfl
theorem dksX2_item_2 : cX2_item.data.toList.drop 30 = dktX2_item_2 := dk_seg dksX2_item_1 7 rfl rfl
theorem dksX2_item_3 : cX2_item.data.toList.drop 56 = dktX2_item_3 := dk_seg dksX2_item_2 26 rfl rfl
theorem dksX2_item_4 : cX2_item.data.toList.drop 79 = dktX2_item_4 := dk_seg dksX2_item_3 23 rfl rfl
theorem dX2_item_0 : decode cX2_item 0 = .ok (.aload_n 0, 1) := dk_42 (dk_at dksX2_item_0 0 rfl rfl)
theorem dX2_item_1 : decode cX2_item 1 = .ok (.aload_n 0, 1) := dk_42 (dk_at dksX2_item_0 1 rfl rfl)
theorem dX2_item_2 : decode cX2_item 2 = .ok (.getfield 47, 3) := dk_180 0 47 (dk_at dksX2_item_0 2 rfl rfl)
theorem dX2_item_5 : decode cX2_item 5 = .ok (.iconst 2, 1) := dk_5 (dk_at dksX2_item_0 5 rfl rfl)
theorem dX2_item_6 : decode cX2_item 6 = .ok (.if_icmp .ne 16, 3) := dk_160 0 16 (dk_at dksX2_item_0 6 rfl rfl)
theorem dX2_item_9 : decode cX2_item 9 = .ok (.aload_n 0, 1) := dk_42 (dk_at dksX2_item_0 9 rfl rfl)
theorem dX2_item_10 : decode cX2_item 10 = .ok (.getfield 67, 3) := dk_180 0 67 (dk_at dksX2_item_0 10 rfl rfl)
theorem dX2_item_13 : decode cX2_item 13 = .ok (.bipush 9, 2) := dk_16 9 (dk_at dksX2_item_0 13 rfl rfl)
theorem dX2_item_15 : decode cX2_item 15 = .ok (.if_icmp .gt 7, 3) := dk_163 0 7 (dk_at dksX2_item_0 15 rfl rfl)
theorem dX2_item_18 : decode cX2_item 18 = .ok (.iconst 1, 1) := dk_4 (dk_at dksX2_item_0 18 rfl rfl)
theorem dX2_item_19 : decode cX2_item 19 = .ok (.goto 4, 3) := dk_167 0 4 (dk_at dksX2_item_0 19 rfl rfl)
theorem dX2_item_22 : decode cX2_item 22 = .ok (.iconst 0, 1) := dk_3 (dk_at dksX2_item_0 22 rfl rfl)
theorem dX2_item_23 : decode cX2_item 23 = .ok (.invokevirtual 63, 3) := dk_182 0 63 (dk_at dksX2_item_1 0 rfl rfl)
theorem dX2_item_26 : decode cX2_item 26 = .ok (.aload_n 0, 1) := dk_42 (dk_at dksX2_item_1 3 rfl rfl)
theorem dX2_item_27 : decode cX2_item 27 = .ok (.getfield 67, 3) := dk_180 0 67 (dk_at dksX2_item_1 4 rfl rfl)
theorem dX2_item_30 : decode cX2_item 30 = .ok (.tableswitch 47 7 9 #[26, 33, 40], 26) := by decide +kernel
theorem dX2_item_56 : decode cX2_item 56 = .ok (.aload_n 0, 1) := dk_42 (dk_at dksX2_item_3 0 rfl rfl)
theorem dX2_item_57 : decode cX2_item 57 = .ok (.invokevirtual 130, 3) := dk_182 0 130 (dk_at dksX2_item_3 1 rfl rfl)
theorem dX2_item_60 : decode cX2_item 60 = .ok (.goto 25, 3) := dk_167 0 25 (dk_at dksX2_item_3 4 rfl rfl)
theorem dX2_item_63 : decode cX2_item 63 = .ok (.aload_n 0, 1) := dk_42 (dk_at dksX2_item_3 7 rfl rfl)
theorem dX2_item_64 : decode cX2_item 64 = .ok (.invokevirtual 133, 3) := dk_182 0 133 (dk_at dksX2_item_3 8 rfl rfl)
theorem dX2_item_67 : decode cX2_item 67 = .ok (.goto 18, 3) := dk_167 0 18 (dk_at dksX2_item_3 11 rfl rfl)
theorem dX2_item_70 : decode cX2_item 70 = .ok (.aload_n 0, 1) := dk_42 (dk_at dksX2_item_3 14 rfl rfl)
theorem dX2_item_71 : decode cX2_item 71 = .ok (.invokevirtual 136, 3) := dk_182 0 136 (dk_at dksX2_item_3 15 rfl rfl)
theorem dX2_item_74 : decode cX2_item 74 = .ok (.goto 11, 3) := dk_167 0 11 (dk_at dksX2_item_3 18 rfl rfl)
theorem dX2_item_77 : decode cX2_item 77 = .ok (.aload_n 0, 1) := dk_42 (dk_at dksX2_item_3 21 rfl rfl)
theorem dX2_item_78 : decode cX2_item 78 = .ok (.aload_n 0, 1) := dk_42 (dk_at dksX2_item_3 22 rfl rfl)
theorem dX2_item_79 : decode cX2_item 79 = .ok (.getfield 67, 3) := dk_180 0 67 (dk_at dksX2_item_4 0 rfl rfl)
theorem dX2_item_82 : decode cX2_item 82 = .ok (.invokevirtual 139, 3) := dk_182 0 139 (dk_at dksX2_item_4 3 rfl rfl)
theorem dX2_item_85 : decode cX2_item 85 = .ok (.return_, 1) := dk_177 (dk_at dksX2_item_4 6 rfl rfl)
abbrev cX2_way : ByteArray := prog_9_method_17_code
def yX2_way : MethodName := ⟨RX2, "way", "()V"⟩
def dkwX2_way_2 : List UInt8 := [21, 4, 153, 0, 7, 4, 167, 0, 4, 3, 182, 0, 113, 177]
abbrev dktX2_way_2 : List UInt8 := dkwX2_way_2 ++ []
def dkwX2_way_1 : List UInt8 := [42, 16, 13, 182, 0, 89, 54, 4, 21, 4, 153, 0, 7, 42, 182, 0, 82, 42, 180, 0, 25, 27, 28, 29]
abbrev dktX2_way_1 : List UInt8 := dkwX2_way_1 ++ dktX2_way_2
def dkwX2_way_0 : List UInt8 := [42, 3, 16, 6, 182, 0, 92, 60, 42, 27, 182, 0, 106, 61, 42, 16, 12, 3, 16, 99, 182, 0, 109, 62]
abbrev dktX2_way_0 : List UInt8 := dkwX2_way_0 ++ dktX2_way_1
theorem dksX2_way_0 : cX2_way.data.toList.drop 0 = dktX2_way_0 := by decide +kernel
theorem dksX2_way_1 : cX2_way.data.toList.drop 24 = dktX2_way_1 := dk_seg dksX2_way_0 24 rfl rfl
theorem dksX2_way_2 : cX2_way.data.toList.drop 48 = dktX2_way_2 := dk_seg dksX2_way_1 24 rfl rfl
theorem dX2_way_0 : decode cX2_way 0 = .ok (.aload_n 0, 1) := dk_42 (dk_at dksX2_way_0 0 rfl rfl)
theorem dX2_way_1 : decode cX2_way 1 = .ok (.iconst 0, 1) := dk_3 (dk_at dksX2_way_0 1 rfl rfl)
theorem dX2_way_2 : decode cX2_way 2 = .ok (.bipush 6, 2) := dk_16 6 (dk_at dksX2_way_0 2 rfl rfl)
theorem dX2_way_4 : decode cX2_way 4 = .ok (.invokevirtual 92, 3) := dk_182 0 92 (dk_at dksX2_way_0 4 rfl rfl)
theorem dX2_way_7 : decode cX2_way 7 = .ok (.istore_n 1, 1) := dk_60 (dk_at dksX2_way_0 7 rfl rfl)
theorem dX2_way_8 : decode cX2_way 8 = .ok (.aload_n 0, 1) := dk_42 (dk_at dksX2_way_0 8 rfl rfl)
theorem dX2_way_9 : decode cX2_way 9 = .ok (.iload_n 1, 1) := dk_27 (dk_at dksX2_way_0 9 rfl rfl)
theorem dX2_way_10 : decode cX2_way 10 = .ok (.invokevirtual 106, 3) := dk_182 0 106 (dk_at dksX2_way_0 10 rfl rfl)
theorem dX2_way_13 : decode cX2_way 13 = .ok (.istore_n 2, 1) := dk_61 (dk_at dksX2_way_0 13 rfl rfl)
theorem dX2_way_14 : decode cX2_way 14 = .ok (.aload_n 0, 1) := dk_42 (dk_at dksX2_way_0 14 rfl rfl)
theorem dX2_way_15 : decode cX2_way 15 = .ok (.bipush 12, 2) := dk_16 12 (dk_at dksX2_way_0 15 rfl rfl)
theorem dX2_way_17 : decode cX2_way 17 = .ok (.iconst 0, 1) := dk_3 (dk_at dksX2_way_0 17 rfl rfl)
theorem dX2_way_18 : decode cX2_way 18 = .ok (.bipush 99, 2) := dk_16 99 (dk_at dksX2_way_0 18 rfl rfl)
theorem dX2_way_20 : decode cX2_way 20 = .ok (.invokevirtual 109, 3) := dk_182 0 109 (dk_at dksX2_way_0 20 rfl rfl)
theorem dX2_way_23 : decode cX2_way 23 = .ok (.istore_n 3, 1) := dk_62 (dk_at dksX2_way_0 23 rfl rfl)
theorem dX2_way_24 : decode cX2_way 24 = .ok (.aload_n 0, 1) := dk_42 (dk_at dksX2_way_1 0 rfl rfl)
theorem dX2_way_25 : decode cX2_way 25 = .ok (.bipush 13, 2) := dk_16 13 (dk_at dksX2_way_1 1 rfl rfl)
theorem dX2_way_27 : decode cX2_way 27 = .ok (.invokevirtual 89, 3) := dk_182 0 89 (dk_at dksX2_way_1 3 rfl rfl)
theorem dX2_way_30 : decode cX2_way 30 = .ok (.istore 4, 2) := dk_54 4 (dk_at dksX2_way_1 6 rfl rfl)
theorem dX2_way_32 : decode cX2_way 32 = .ok (.iload 4, 2) := dk_21 4 (dk_at dksX2_way_1 8 rfl rfl)
theorem dX2_way_34 : decode cX2_way 34 = .ok (.ifCond .eq 7, 3) := dk_153 0 7 (dk_at dksX2_way_1 10 rfl rfl)
theorem dX2_way_37 : decode cX2_way 37 = .ok (.aload_n 0, 1) := dk_42 (dk_at dksX2_way_1 13 rfl rfl)
theorem dX2_way_38 : decode cX2_way 38 = .ok (.invokevirtual 82, 3) := dk_182 0 82 (dk_at dksX2_way_1 14 rfl rfl)
theorem dX2_way_41 : decode cX2_way 41 = .ok (.aload_n 0, 1) := dk_42 (dk_at dksX2_way_1 17 rfl rfl)
theorem dX2_way_42 : decode cX2_way 42 = .ok (.getfield 25, 3) := dk_180 0 25 (dk_at dksX2_way_1 18 rfl rfl)
theorem dX2_way_45 : decode cX2_way 45 = .ok (.iload_n 1, 1) := dk_27 (dk_at dksX2_way_1 21 rfl rfl)
theorem dX2_way_46 : decode cX2_way 46 = .ok (.iload_n 2, 1) := dk_28 (dk_at dksX2_way_1 22 rfl rfl)
theorem dX2_way_47 : decode cX2_way 47 = .ok (.iload_n 3, 1) := dk_29 (dk_at dksX2_way_1 23 rfl rfl)
theorem dX2_way_48 : decode cX2_way 48 = .ok (.iload 4, 2) := dk_21 4 (dk_at dksX2_way_2 0 rfl rfl)
theorem dX2_way_50 : decode cX2_way 50 = .ok (.ifCond .eq 7, 3) := dk_153 0 7 (dk_at dksX2_way_2 2 rfl rfl)
theorem dX2_way_53 : decode cX2_way 53 = .ok (.iconst 1, 1) := dk_4 (dk_at dksX2_way_2 5 rfl rfl)
theorem dX2_way_54 : decode cX2_way 54 = .ok (.goto 4, 3) := dk_167 0 4 (dk_at dksX2_way_2 6 rfl rfl)
theorem dX2_way_57 : decode cX2_way 57 = .ok (.iconst 0, 1) := dk_3 (dk_at dksX2_way_2 9 rfl rfl)
theorem dX2_way_58 : decode cX2_way 58 = .ok (.invokevirtual 113, 3) := dk_182 0 113 (dk_at dksX2_way_2 10 rfl rfl)
theorem dX2_way_61 : decode cX2_way 61 = .ok (.return_, 1) := dk_177 (dk_at dksX2_way_2 13 rfl rfl)
abbrev cX2_behind : ByteArray := prog_9_method_12_code
def yX2_behind : MethodName := ⟨RX2, "behind", "(II)I"⟩
def dkwX2_behind_0 : List UInt8 := [42, 182, 0, 82, 42, 27, 28, 182, 0, 85, 172]
abbrev dktX2_behind_0 : List UInt8 := dkwX2_behind_0 ++ []
theorem dksX2_behind_0 : cX2_behind.data.toList.drop 0 = dktX2_behind_0 := by decide +kernel
theorem dX2_behind_0 : decode cX2_behind 0 = .ok (.aload_n 0, 1) := dk_42 (dk_at dksX2_behind_0 0 rfl rfl)
theorem dX2_behind_1 : decode cX2_behind 1 = .ok (.invokevirtual 82, 3) := dk_182 0 82 (dk_at dksX2_behind_0 1 rfl rfl)
theorem dX2_behind_4 : decode cX2_behind 4 = .ok (.aload_n 0, 1) := dk_42 (dk_at dksX2_behind_0 4 rfl rfl)
theorem dX2_behind_5 : decode cX2_behind 5 = .ok (.iload_n 1, 1) := dk_27 (dk_at dksX2_behind_0 5 rfl rfl)
theorem dX2_behind_6 : decode cX2_behind 6 = .ok (.iload_n 2, 1) := dk_28 (dk_at dksX2_behind_0 6 rfl rfl)
theorem dX2_behind_7 : decode cX2_behind 7 = .ok (.invokevirtual 85, 3) := dk_182 0 85 (dk_at dksX2_behind_0 7 rfl rfl)
theorem dX2_behind_10 : decode cX2_behind 10 = .ok (.ireturn, 1) := dk_172 (dk_at dksX2_behind_0 10 rfl rfl)
abbrev cX2_number : ByteArray := prog_9_method_11_code
def yX2_number : MethodName := ⟨RX2, "number", "(II)I"⟩
def dkwX2_number_1 : List UInt8 := [167, 0, 4, 3, 182, 0, 63, 42, 180, 0, 67, 62, 42, 182, 0, 82, 29, 172]
abbrev dktX2_number_1 : List UInt8 := dkwX2_number_1 ++ []
def dkwX2_number_0 : List UInt8 := [42, 42, 180, 0, 47, 4, 160, 0, 19, 42, 180, 0, 67, 27, 28, 184, 0, 33, 153, 0, 7, 4]
abbrev dktX2_number_0 : List UInt8 := dkwX2_number_0 ++ dktX2_number_1
theorem dksX2_number_0 : cX2_number.data.toList.drop 0 = dktX2_number_0 := by decide +kernel
theorem dksX2_number_1 : cX2_number.data.toList.drop 22 = dktX2_number_1 := dk_seg dksX2_number_0 22 rfl rfl
theorem dX2_number_0 : decode cX2_number 0 = .ok (.aload_n 0, 1) := dk_42 (dk_at dksX2_number_0 0 rfl rfl)
theorem dX2_number_1 : decode cX2_number 1 = .ok (.aload_n 0, 1) := dk_42 (dk_at dksX2_number_0 1 rfl rfl)
theorem dX2_number_2 : decode cX2_number 2 = .ok (.getfield 47, 3) := dk_180 0 47 (dk_at dksX2_number_0 2 rfl rfl)
theorem dX2_number_5 : decode cX2_number 5 = .ok (.iconst 1, 1) := dk_4 (dk_at dksX2_number_0 5 rfl rfl)
theorem dX2_number_6 : decode cX2_number 6 = .ok (.if_icmp .ne 19, 3) := dk_160 0 19 (dk_at dksX2_number_0 6 rfl rfl)
theorem dX2_number_9 : decode cX2_number 9 = .ok (.aload_n 0, 1) := dk_42 (dk_at dksX2_number_0 9 rfl rfl)
theorem dX2_number_10 : decode cX2_number 10 = .ok (.getfield 67, 3) := dk_180 0 67 (dk_at dksX2_number_0 10 rfl rfl)
theorem dX2_number_13 : decode cX2_number 13 = .ok (.iload_n 1, 1) := dk_27 (dk_at dksX2_number_0 13 rfl rfl)
theorem dX2_number_14 : decode cX2_number 14 = .ok (.iload_n 2, 1) := dk_28 (dk_at dksX2_number_0 14 rfl rfl)
theorem dX2_number_15 : decode cX2_number 15 = .ok (.invokestatic 33, 3) := dk_184 0 33 (dk_at dksX2_number_0 15 rfl rfl)
theorem dX2_number_18 : decode cX2_number 18 = .ok (.ifCond .eq 7, 3) := dk_153 0 7 (dk_at dksX2_number_0 18 rfl rfl)
theorem dX2_number_21 : decode cX2_number 21 = .ok (.iconst 1, 1) := dk_4 (dk_at dksX2_number_0 21 rfl rfl)
theorem dX2_number_22 : decode cX2_number 22 = .ok (.goto 4, 3) := dk_167 0 4 (dk_at dksX2_number_1 0 rfl rfl)
theorem dX2_number_25 : decode cX2_number 25 = .ok (.iconst 0, 1) := dk_3 (dk_at dksX2_number_1 3 rfl rfl)
theorem dX2_number_26 : decode cX2_number 26 = .ok (.invokevirtual 63, 3) := dk_182 0 63 (dk_at dksX2_number_1 4 rfl rfl)
theorem dX2_number_29 : decode cX2_number 29 = .ok (.aload_n 0, 1) := dk_42 (dk_at dksX2_number_1 7 rfl rfl)
theorem dX2_number_30 : decode cX2_number 30 = .ok (.getfield 67, 3) := dk_180 0 67 (dk_at dksX2_number_1 8 rfl rfl)
theorem dX2_number_33 : decode cX2_number 33 = .ok (.istore_n 3, 1) := dk_62 (dk_at dksX2_number_1 11 rfl rfl)
theorem dX2_number_34 : decode cX2_number 34 = .ok (.aload_n 0, 1) := dk_42 (dk_at dksX2_number_1 12 rfl rfl)
theorem dX2_number_35 : decode cX2_number 35 = .ok (.invokevirtual 82, 3) := dk_182 0 82 (dk_at dksX2_number_1 13 rfl rfl)
theorem dX2_number_38 : decode cX2_number 38 = .ok (.iload_n 3, 1) := dk_29 (dk_at dksX2_number_1 16 rfl rfl)
theorem dX2_number_39 : decode cX2_number 39 = .ok (.ireturn, 1) := dk_172 (dk_at dksX2_number_1 17 rfl rfl)
abbrev cX2_unlike : ByteArray := prog_9_method_15_code
def yX2_unlike : MethodName := ⟨RX2, "unlike", "(I)I"⟩
def dkwX2_unlike_1 : List UInt8 := [182, 0, 63, 42, 3, 16, 6, 182, 0, 85, 172]
abbrev dktX2_unlike_1 : List UInt8 := dkwX2_unlike_1 ++ []
def dkwX2_unlike_0 : List UInt8 := [42, 42, 180, 0, 47, 4, 160, 0, 15, 42, 180, 0, 67, 27, 159, 0, 7, 4, 167, 0, 4, 3]
abbrev dktX2_unlike_0 : List UInt8 := dkwX2_unlike_0 ++ dktX2_unlike_1
theorem dksX2_unlike_0 : cX2_unlike.data.toList.drop 0 = dktX2_unlike_0 := by decide +kernel
theorem dksX2_unlike_1 : cX2_unlike.data.toList.drop 22 = dktX2_unlike_1 := dk_seg dksX2_unlike_0 22 rfl rfl
theorem dX2_unlike_0 : decode cX2_unlike 0 = .ok (.aload_n 0, 1) := dk_42 (dk_at dksX2_unlike_0 0 rfl rfl)
theorem dX2_unlike_1 : decode cX2_unlike 1 = .ok (.aload_n 0, 1) := dk_42 (dk_at dksX2_unlike_0 1 rfl rfl)
theorem dX2_unlike_2 : decode cX2_unlike 2 = .ok (.getfield 47, 3) := dk_180 0 47 (dk_at dksX2_unlike_0 2 rfl rfl)
theorem dX2_unlike_5 : decode cX2_unlike 5 = .ok (.iconst 1, 1) := dk_4 (dk_at dksX2_unlike_0 5 rfl rfl)
theorem dX2_unlike_6 : decode cX2_unlike 6 = .ok (.if_icmp .ne 15, 3) := dk_160 0 15 (dk_at dksX2_unlike_0 6 rfl rfl)
theorem dX2_unlike_9 : decode cX2_unlike 9 = .ok (.aload_n 0, 1) := dk_42 (dk_at dksX2_unlike_0 9 rfl rfl)
theorem dX2_unlike_10 : decode cX2_unlike 10 = .ok (.getfield 67, 3) := dk_180 0 67 (dk_at dksX2_unlike_0 10 rfl rfl)
theorem dX2_unlike_13 : decode cX2_unlike 13 = .ok (.iload_n 1, 1) := dk_27 (dk_at dksX2_unlike_0 13 rfl rfl)
theorem dX2_unlike_14 : decode cX2_unlike 14 = .ok (.if_icmp .eq 7, 3) := dk_159 0 7 (dk_at dksX2_unlike_0 14 rfl rfl)
theorem dX2_unlike_17 : decode cX2_unlike 17 = .ok (.iconst 1, 1) := dk_4 (dk_at dksX2_unlike_0 17 rfl rfl)
theorem dX2_unlike_18 : decode cX2_unlike 18 = .ok (.goto 4, 3) := dk_167 0 4 (dk_at dksX2_unlike_0 18 rfl rfl)
theorem dX2_unlike_21 : decode cX2_unlike 21 = .ok (.iconst 0, 1) := dk_3 (dk_at dksX2_unlike_0 21 rfl rfl)
theorem dX2_unlike_22 : decode cX2_unlike 22 = .ok (.invokevirtual 63, 3) := dk_182 0 63 (dk_at dksX2_unlike_1 0 rfl rfl)
theorem dX2_unlike_25 : decode cX2_unlike 25 = .ok (.aload_n 0, 1) := dk_42 (dk_at dksX2_unlike_1 3 rfl rfl)
theorem dX2_unlike_26 : decode cX2_unlike 26 = .ok (.iconst 0, 1) := dk_3 (dk_at dksX2_unlike_1 4 rfl rfl)
theorem dX2_unlike_27 : decode cX2_unlike 27 = .ok (.bipush 6, 2) := dk_16 6 (dk_at dksX2_unlike_1 5 rfl rfl)
theorem dX2_unlike_29 : decode cX2_unlike 29 = .ok (.invokevirtual 85, 3) := dk_182 0 85 (dk_at dksX2_unlike_1 7 rfl rfl)
theorem dX2_unlike_32 : decode cX2_unlike 32 = .ok (.ireturn, 1) := dk_172 (dk_at dksX2_unlike_1 10 rfl rfl)
abbrev cX2_after : ByteArray := prog_9_method_16_code
def yX2_after : MethodName := ⟨RX2, "after", "(III)I"⟩
def dkwX2_after_0 : List UInt8 := [42, 42, 27, 182, 0, 89, 182, 0, 63, 42, 28, 29, 182, 0, 92, 172]
abbrev dktX2_after_0 : List UInt8 := dkwX2_after_0 ++ []
theorem dksX2_after_0 : cX2_after.data.toList.drop 0 = dktX2_after_0 := by decide +kernel
theorem dX2_after_0 : decode cX2_after 0 = .ok (.aload_n 0, 1) := dk_42 (dk_at dksX2_after_0 0 rfl rfl)
theorem dX2_after_1 : decode cX2_after 1 = .ok (.aload_n 0, 1) := dk_42 (dk_at dksX2_after_0 1 rfl rfl)
theorem dX2_after_2 : decode cX2_after 2 = .ok (.iload_n 1, 1) := dk_27 (dk_at dksX2_after_0 2 rfl rfl)
theorem dX2_after_3 : decode cX2_after 3 = .ok (.invokevirtual 89, 3) := dk_182 0 89 (dk_at dksX2_after_0 3 rfl rfl)
theorem dX2_after_6 : decode cX2_after 6 = .ok (.invokevirtual 63, 3) := dk_182 0 63 (dk_at dksX2_after_0 6 rfl rfl)
theorem dX2_after_9 : decode cX2_after 9 = .ok (.aload_n 0, 1) := dk_42 (dk_at dksX2_after_0 9 rfl rfl)
theorem dX2_after_10 : decode cX2_after 10 = .ok (.iload_n 2, 1) := dk_28 (dk_at dksX2_after_0 10 rfl rfl)
theorem dX2_after_11 : decode cX2_after 11 = .ok (.iload_n 3, 1) := dk_29 (dk_at dksX2_after_0 11 rfl rfl)
theorem dX2_after_12 : decode cX2_after 12 = .ok (.invokevirtual 92, 3) := dk_182 0 92 (dk_at dksX2_after_0 12 rfl rfl)
theorem dX2_after_15 : decode cX2_after 15 = .ok (.ireturn, 1) := dk_172 (dk_at dksX2_after_0 15 rfl rfl)
abbrev cX2_isWord : ByteArray := prog_9_method_10_code
def yX2_isWord : MethodName := ⟨RX2, "isWord", "(I)Z"⟩
def dkwX2_isWord_0 : List UInt8 := [42, 180, 0, 47, 5, 160, 0, 15, 42, 180, 0, 67, 27, 160, 0, 7, 4, 167, 0, 4, 3, 172]
abbrev dktX2_isWord_0 : List UInt8 := dkwX2_isWord_0 ++ []
theorem dksX2_isWord_0 : cX2_isWord.data.toList.drop 0 = dktX2_isWord_0 := by decide +kernel
theorem dX2_isWord_0 : decode cX2_isWord 0 = .ok (.aload_n 0, 1) := dk_42 (dk_at dksX2_isWord_0 0 rfl rfl)
theorem dX2_isWord_1 : decode cX2_isWord 1 = .ok (.getfield 47, 3) := dk_180 0 47 (dk_at dksX2_isWord_0 1 rfl rfl)
theorem dX2_isWord_4 : decode cX2_isWord 4 = .ok (.iconst 2, 1) := dk_5 (dk_at dksX2_isWord_0 4 rfl rfl)
theorem dX2_isWord_5 : decode cX2_isWord 5 = .ok (.if_icmp .ne 15, 3) := dk_160 0 15 (dk_at dksX2_isWord_0 5 rfl rfl)
theorem dX2_isWord_8 : decode cX2_isWord 8 = .ok (.aload_n 0, 1) := dk_42 (dk_at dksX2_isWord_0 8 rfl rfl)
theorem dX2_isWord_9 : decode cX2_isWord 9 = .ok (.getfield 67, 3) := dk_180 0 67 (dk_at dksX2_isWord_0 9 rfl rfl)
theorem dX2_isWord_12 : decode cX2_isWord 12 = .ok (.iload_n 1, 1) := dk_27 (dk_at dksX2_isWord_0 12 rfl rfl)
theorem dX2_isWord_13 : decode cX2_isWord 13 = .ok (.if_icmp .ne 7, 3) := dk_160 0 7 (dk_at dksX2_isWord_0 13 rfl rfl)
theorem dX2_isWord_16 : decode cX2_isWord 16 = .ok (.iconst 1, 1) := dk_4 (dk_at dksX2_isWord_0 16 rfl rfl)
theorem dX2_isWord_17 : decode cX2_isWord 17 = .ok (.goto 4, 3) := dk_167 0 4 (dk_at dksX2_isWord_0 17 rfl rfl)
theorem dX2_isWord_20 : decode cX2_isWord 20 = .ok (.iconst 0, 1) := dk_3 (dk_at dksX2_isWord_0 20 rfl rfl)
theorem dX2_isWord_21 : decode cX2_isWord 21 = .ok (.ireturn, 1) := dk_172 (dk_at dksX2_isWord_0 21 rfl rfl)
abbrev cX2_errand : ByteArray := prog_9_method_18_code
def yX2_errand : MethodName := ⟨RX2, "errand", "()V"⟩
def dkwX2_errand_2 : List UInt8 := [182, 0, 63, 42, 182, 0, 82, 42, 180, 0, 25, 27, 28, 42, 28, 182, 0, 106, 182, 0, 120, 177]
abbrev dktX2_errand_2 : List UInt8 := dkwX2_errand_2 ++ []
def dkwX2_errand_1 : List UInt8 := [16, 60, 182, 0, 92, 60, 42, 16, 14, 3, 16, 6, 182, 0, 109, 61, 42, 42, 16, 15, 182, 0, 89]
abbrev dktX2_errand_1 : List UInt8 := dkwX2_errand_1 ++ dktX2_errand_2
def dkwX2_errand_0 : List UInt8 := [42, 42, 180, 0, 25, 180, 0, 117, 16, 8, 162, 0, 7, 4, 167, 0, 4, 3, 182, 0, 63, 42, 4]
abbrev dktX2_errand_0 : List UInt8 := dkwX2_errand_0 ++ dktX2_errand_1
theorem dksX2_errand_0 : cX2_errand.data.toList.drop 0 = dktX2_errand_0 := by decide +kernel
theorem dksX2_errand_1 : cX2_errand.data.toList.drop 23 = dktX2_errand_1 := dk_seg dksX2_errand_0 23 rfl rfl
theorem dksX2_errand_2 : cX2_errand.data.toList.drop 46 = dktX2_errand_2 := dk_seg dksX2_errand_1 23 rfl rfl
theorem dX2_errand_0 : decode cX2_errand 0 = .ok (.aload_n 0, 1) := dk_42 (dk_at dksX2_errand_0 0 rfl rfl)
theorem dX2_errand_1 : decode cX2_errand 1 = .ok (.aload_n 0, 1) := dk_42 (dk_at dksX2_errand_0 1 rfl rfl)
theorem dX2_errand_2 : decode cX2_errand 2 = .ok (.getfield 25, 3) := dk_180 0 25 (dk_at dksX2_errand_0 2 rfl rfl)
theorem dX2_errand_5 : decode cX2_errand 5 = .ok (.getfield 117, 3) := dk_180 0 117 (dk_at dksX2_errand_0 5 rfl rfl)
theorem dX2_errand_8 : decode cX2_errand 8 = .ok (.bipush 8, 2) := dk_16 8 (dk_at dksX2_errand_0 8 rfl rfl)
theorem dX2_errand_10 : decode cX2_errand 10 = .ok (.if_icmp .ge 7, 3) := dk_162 0 7 (dk_at dksX2_errand_0 10 rfl rfl)
theorem dX2_errand_13 : decode cX2_errand 13 = .ok (.iconst 1, 1) := dk_4 (dk_at dksX2_errand_0 13 rfl rfl)
theorem dX2_errand_14 : decode cX2_errand 14 = .ok (.goto 4, 3) := dk_167 0 4 (dk_at dksX2_errand_0 14 rfl rfl)
theorem dX2_errand_17 : decode cX2_errand 17 = .ok (.iconst 0, 1) := dk_3 (dk_at dksX2_errand_0 17 rfl rfl)
theorem dX2_errand_18 : decode cX2_errand 18 = .ok (.invokevirtual 63, 3) := dk_182 0 63 (dk_at dksX2_errand_0 18 rfl rfl)
theorem dX2_errand_21 : decode cX2_errand 21 = .ok (.aload_n 0, 1) := dk_42 (dk_at dksX2_errand_0 21 rfl rfl)
theorem dX2_errand_22 : decode cX2_errand 22 = .ok (.iconst 1, 1) := dk_4 (dk_at dksX2_errand_0 22 rfl rfl)
theorem dX2_errand_23 : decode cX2_errand 23 = .ok (.bipush 60, 2) := dk_16 60 (dk_at dksX2_errand_1 0 rfl rfl)
theorem dX2_errand_25 : decode cX2_errand 25 = .ok (.invokevirtual 92, 3) := dk_182 0 92 (dk_at dksX2_errand_1 2 rfl rfl)
theorem dX2_errand_28 : decode cX2_errand 28 = .ok (.istore_n 1, 1) := dk_60 (dk_at dksX2_errand_1 5 rfl rfl)
theorem dX2_errand_29 : decode cX2_errand 29 = .ok (.aload_n 0, 1) := dk_42 (dk_at dksX2_errand_1 6 rfl rfl)
theorem dX2_errand_30 : decode cX2_errand 30 = .ok (.bipush 14, 2) := dk_16 14 (dk_at dksX2_errand_1 7 rfl rfl)
theorem dX2_errand_32 : decode cX2_errand 32 = .ok (.iconst 0, 1) := dk_3 (dk_at dksX2_errand_1 9 rfl rfl)
theorem dX2_errand_33 : decode cX2_errand 33 = .ok (.bipush 6, 2) := dk_16 6 (dk_at dksX2_errand_1 10 rfl rfl)
theorem dX2_errand_35 : decode cX2_errand 35 = .ok (.invokevirtual 109, 3) := dk_182 0 109 (dk_at dksX2_errand_1 12 rfl rfl)
theorem dX2_errand_38 : decode cX2_errand 38 = .ok (.istore_n 2, 1) := dk_61 (dk_at dksX2_errand_1 15 rfl rfl)
theorem dX2_errand_39 : decode cX2_errand 39 = .ok (.aload_n 0, 1) := dk_42 (dk_at dksX2_errand_1 16 rfl rfl)
theorem dX2_errand_40 : decode cX2_errand 40 = .ok (.aload_n 0, 1) := dk_42 (dk_at dksX2_errand_1 17 rfl rfl)
theorem dX2_errand_41 : decode cX2_errand 41 = .ok (.bipush 15, 2) := dk_16 15 (dk_at dksX2_errand_1 18 rfl rfl)
theorem dX2_errand_43 : decode cX2_errand 43 = .ok (.invokevirtual 89, 3) := dk_182 0 89 (dk_at dksX2_errand_1 20 rfl rfl)
theorem dX2_errand_46 : decode cX2_errand 46 = .ok (.invokevirtual 63, 3) := dk_182 0 63 (dk_at dksX2_errand_2 0 rfl rfl)
theorem dX2_errand_49 : decode cX2_errand 49 = .ok (.aload_n 0, 1) := dk_42 (dk_at dksX2_errand_2 3 rfl rfl)
theorem dX2_errand_50 : decode cX2_errand 50 = .ok (.invokevirtual 82, 3) := dk_182 0 82 (dk_at dksX2_errand_2 4 rfl rfl)
theorem dX2_errand_53 : decode cX2_errand 53 = .ok (.aload_n 0, 1) := dk_42 (dk_at dksX2_errand_2 7 rfl rfl)
theorem dX2_errand_54 : decode cX2_errand 54 = .ok (.getfield 25, 3) := dk_180 0 25 (dk_at dksX2_errand_2 8 rfl rfl)
theorem dX2_errand_57 : decode cX2_errand 57 = .ok (.iload_n 1, 1) := dk_27 (dk_at dksX2_errand_2 11 rfl rfl)
theorem dX2_errand_58 : decode cX2_errand 58 = .ok (.iload_n 2, 1) := dk_28 (dk_at dksX2_errand_2 12 rfl rfl)
theorem dX2_errand_59 : decode cX2_errand 59 = .ok (.aload_n 0, 1) := dk_42 (dk_at dksX2_errand_2 13 rfl rfl)
theorem dX2_errand_60 : decode cX2_errand 60 = .ok (.iload_n 2, 1) := dk_28 (dk_at dksX2_errand_2 14 rfl rfl)
theorem dX2_errand_61 : decode cX2_errand 61 = .ok (.invokevirtual 106, 3) := dk_182 0 106 (dk_at dksX2_errand_2 15 rfl rfl)
theorem dX2_errand_64 : decode cX2_errand 64 = .ok (.invokevirtual 120, 3) := dk_182 0 120 (dk_at dksX2_errand_2 18 rfl rfl)
theorem dX2_errand_67 : decode cX2_errand 67 = .ok (.return_, 1) := dk_177 (dk_at dksX2_errand_2 21 rfl rfl)
abbrev cX2_ware : ByteArray := prog_9_method_19_code
def yX2_ware : MethodName := ⟨RX2, "ware", "()V"⟩
def dkwX2_ware_1 : List UInt8 := [180, 0, 25, 42, 4, 17, 39, 15, 182, 0, 92, 182, 0, 126, 177]
abbrev dktX2_ware_1 : List UInt8 := dkwX2_ware_1 ++ []
def dkwX2_ware_0 : List UInt8 := [42, 42, 180, 0, 25, 180, 0, 123, 16, 6, 162, 0, 7, 4, 167, 0, 4, 3, 182, 0, 63, 42]
abbrev dktX2_ware_0 : List UInt8 := dkwX2_ware_0 ++ dktX2_ware_1
theorem dksX2_ware_0 : cX2_ware.data.toList.drop 0 = dktX2_ware_0 := by decide +kernel
theorem dksX2_ware_1 : cX2_ware.data.toList.drop 22 = dktX2_ware_1 := dk_seg dksX2_ware_0 22 rfl rfl
theorem dX2_ware_0 : decode cX2_ware 0 = .ok (.aload_n 0, 1) := dk_42 (dk_at dksX2_ware_0 0 rfl rfl)
theorem dX2_ware_1 : decode cX2_ware 1 = .ok (.aload_n 0, 1) := dk_42 (dk_at dksX2_ware_0 1 rfl rfl)
theorem dX2_ware_2 : decode cX2_ware 2 = .ok (.getfield 25, 3) := dk_180 0 25 (dk_at dksX2_ware_0 2 rfl rfl)
theorem dX2_ware_5 : decode cX2_ware 5 = .ok (.getfield 123, 3) := dk_180 0 123 (dk_at dksX2_ware_0 5 rfl rfl)
theorem dX2_ware_8 : decode cX2_ware 8 = .ok (.bipush 6, 2) := dk_16 6 (dk_at dksX2_ware_0 8 rfl rfl)
theorem dX2_ware_10 : decode cX2_ware 10 = .ok (.if_icmp .ge 7, 3) := dk_162 0 7 (dk_at dksX2_ware_0 10 rfl rfl)
theorem dX2_ware_13 : decode cX2_ware 13 = .ok (.iconst 1, 1) := dk_4 (dk_at dksX2_ware_0 13 rfl rfl)
theorem dX2_ware_14 : decode cX2_ware 14 = .ok (.goto 4, 3) := dk_167 0 4 (dk_at dksX2_ware_0 14 rfl rfl)
theorem dX2_ware_17 : decode cX2_ware 17 = .ok (.iconst 0, 1) := dk_3 (dk_at dksX2_ware_0 17 rfl rfl)
theorem dX2_ware_18 : decode cX2_ware 18 = .ok (.invokevirtual 63, 3) := dk_182 0 63 (dk_at dksX2_ware_0 18 rfl rfl)
theorem dX2_ware_21 : decode cX2_ware 21 = .ok (.aload_n 0, 1) := dk_42 (dk_at dksX2_ware_0 21 rfl rfl)
theorem dX2_ware_22 : decode cX2_ware 22 = .ok (.getfield 25, 3) := dk_180 0 25 (dk_at dksX2_ware_1 0 rfl rfl)
theorem dX2_ware_25 : decode cX2_ware 25 = .ok (.aload_n 0, 1) := dk_42 (dk_at dksX2_ware_1 3 rfl rfl)
theorem dX2_ware_26 : decode cX2_ware 26 = .ok (.iconst 1, 1) := dk_4 (dk_at dksX2_ware_1 4 rfl rfl)
theorem dX2_ware_27 : decode cX2_ware 27 = .ok (.sipush 9999, 3) := dk_17 39 15 (dk_at dksX2_ware_1 5 rfl rfl)
theorem dX2_ware_30 : decode cX2_ware 30 = .ok (.invokevirtual 92, 3) := dk_182 0 92 (dk_at dksX2_ware_1 8 rfl rfl)
theorem dX2_ware_33 : decode cX2_ware 33 = .ok (.invokevirtual 126, 3) := dk_182 0 126 (dk_at dksX2_ware_1 11 rfl rfl)
theorem dX2_ware_36 : decode cX2_ware 36 = .ok (.return_, 1) := dk_177 (dk_at dksX2_ware_1 14 rfl rfl)
abbrev cX2_carrier : ByteArray := prog_9_method_14_code
def yX2_carrier : MethodName := ⟨RX2, "carrier", "(I)V"⟩
def dkwX2_carrier_2 : List UInt8 := [16, 99, 16, 20, 182, 0, 98, 182, 0, 102, 177]
abbrev dktX2_carrier_2 : List UInt8 := dkwX2_carrier_2 ++ []
def dkwX2_carrier_1 : List UInt8 := [182, 0, 82, 42, 16, 10, 3, 16, 6, 3, 182, 0, 98, 61, 42, 180, 0, 25, 27, 28, 42, 16, 11, 4]
abbrev dktX2_carrier_1 : List UInt8 := dkwX2_carrier_1 ++ dktX2_carrier_2
def dkwX2_carrier_0 : List UInt8 := [42, 42, 180, 0, 25, 180, 0, 95, 16, 6, 162, 0, 7, 4, 167, 0, 4, 3, 182, 0, 63, 42]
abbrev dktX2_carrier_0 : List UInt8 := dkwX2_carrier_0 ++ dktX2_carrier_1
theorem dksX2_carrier_0 : cX2_carrier.data.toList.drop 0 = dktX2_carrier_0 := by decide +kernel
theorem dksX2_carrier_1 : cX2_carrier.data.toList.drop 22 = dktX2_carrier_1 := dk_seg dksX2_carrier_0 22 rfl rfl
theorem dksX2_carrier_2 : cX2_carrier.data.toList.drop 46 = dktX2_carrier_2 := dk_seg dksX2_carrier_1 24 rfl rfl
theorem dX2_carrier_0 : decode cX2_carrier 0 = .ok (.aload_n 0, 1) := dk_42 (dk_at dksX2_carrier_0 0 rfl rfl)
theorem dX2_carrier_1 : decode cX2_carrier 1 = .ok (.aload_n 0, 1) := dk_42 (dk_at dksX2_carrier_0 1 rfl rfl)
theorem dX2_carrier_2 : decode cX2_carrier 2 = .ok (.getfield 25, 3) := dk_180 0 25 (dk_at dksX2_carrier_0 2 rfl rfl)
theorem dX2_carrier_5 : decode cX2_carrier 5 = .ok (.getfield 95, 3) := dk_180 0 95 (dk_at dksX2_carrier_0 5 rfl rfl)
theorem dX2_carrier_8 : decode cX2_carrier 8 = .ok (.bipush 6, 2) := dk_16 6 (dk_at dksX2_carrier_0 8 rfl rfl)
theorem dX2_carrier_10 : decode cX2_carrier 10 = .ok (.if_icmp .ge 7, 3) := dk_162 0 7 (dk_at dksX2_carrier_0 10 rfl rfl)
theorem dX2_carrier_13 : decode cX2_carrier 13 = .ok (.iconst 1, 1) := dk_4 (dk_at dksX2_carrier_0 13 rfl rfl)
theorem dX2_carrier_14 : decode cX2_carrier 14 = .ok (.goto 4, 3) := dk_167 0 4 (dk_at dksX2_carrier_0 14 rfl rfl)
theorem dX2_carrier_17 : decode cX2_carrier 17 = .ok (.iconst 0, 1) := dk_3 (dk_at dksX2_carrier_0 17 rfl rfl)
theorem dX2_carrier_18 : decode cX2_carrier 18 = .ok (.invokevirtual 63, 3) := dk_182 0 63 (dk_at dksX2_carrier_0 18 rfl rfl)
theorem dX2_carrier_21 : decode cX2_carrier 21 = .ok (.aload_n 0, 1) := dk_42 (dk_at dksX2_carrier_0 21 rfl rfl)
theorem dX2_carrier_22 : decode cX2_carrier 22 = .ok (.invokevirtual 82, 3) := dk_182 0 82 (dk_at dksX2_carrier_1 0 rfl rfl)
theorem dX2_carrier_25 : decode cX2_carrier 25 = .ok (.aload_n 0, 1) := dk_42 (dk_at dksX2_carrier_1 3 rfl rfl)
theorem dX2_carrier_26 : decode cX2_carrier 26 = .ok (.bipush 10, 2) := dk_16 10 (dk_at dksX2_carrier_1 4 rfl rfl)
theorem dX2_carrier_28 : decode cX2_carrier 28 = .ok (.iconst 0, 1) := dk_3 (dk_at dksX2_carrier_1 6 rfl rfl)
theorem dX2_carrier_29 : decode cX2_carrier 29 = .ok (.bipush 6, 2) := dk_16 6 (dk_at dksX2_carrier_1 7 rfl rfl)
theorem dX2_carrier_31 : decode cX2_carrier 31 = .ok (.iconst 0, 1) := dk_3 (dk_at dksX2_carrier_1 9 rfl rfl)
theorem dX2_carrier_32 : decode cX2_carrier 32 = .ok (.invokevirtual 98, 3) := dk_182 0 98 (dk_at dksX2_carrier_1 10 rfl rfl)
theorem dX2_carrier_35 : decode cX2_carrier 35 = .ok (.istore_n 2, 1) := dk_61 (dk_at dksX2_carrier_1 13 rfl rfl)
theorem dX2_carrier_36 : decode cX2_carrier 36 = .ok (.aload_n 0, 1) := dk_42 (dk_at dksX2_carrier_1 14 rfl rfl)
theorem dX2_carrier_37 : decode cX2_carrier 37 = .ok (.getfield 25, 3) := dk_180 0 25 (dk_at dksX2_carrier_1 15 rfl rfl)
theorem dX2_carrier_40 : decode cX2_carrier 40 = .ok (.iload_n 1, 1) := dk_27 (dk_at dksX2_carrier_1 18 rfl rfl)
theorem dX2_carrier_41 : decode cX2_carrier 41 = .ok (.iload_n 2, 1) := dk_28 (dk_at dksX2_carrier_1 19 rfl rfl)
theorem dX2_carrier_42 : decode cX2_carrier 42 = .ok (.aload_n 0, 1) := dk_42 (dk_at dksX2_carrier_1 20 rfl rfl)
theorem dX2_carrier_43 : decode cX2_carrier 43 = .ok (.bipush 11, 2) := dk_16 11 (dk_at dksX2_carrier_1 21 rfl rfl)
theorem dX2_carrier_45 : decode cX2_carrier 45 = .ok (.iconst 1, 1) := dk_4 (dk_at dksX2_carrier_1 23 rfl rfl)
theorem dX2_carrier_46 : decode cX2_carrier 46 = .ok (.bipush 99, 2) := dk_16 99 (dk_at dksX2_carrier_2 0 rfl rfl)
theorem dX2_carrier_48 : decode cX2_carrier 48 = .ok (.bipush 20, 2) := dk_16 20 (dk_at dksX2_carrier_2 2 rfl rfl)
theorem dX2_carrier_50 : decode cX2_carrier 50 = .ok (.invokevirtual 98, 3) := dk_182 0 98 (dk_at dksX2_carrier_2 4 rfl rfl)
theorem dX2_carrier_53 : decode cX2_carrier 53 = .ok (.invokevirtual 102, 3) := dk_182 0 102 (dk_at dksX2_carrier_2 7 rfl rfl)
theorem dX2_carrier_56 : decode cX2_carrier 56 = .ok (.return_, 1) := dk_177 (dk_at dksX2_carrier_2 10 rfl rfl)
abbrev cX2_perhaps : ByteArray := prog_9_method_13_code
def yX2_perhaps : MethodName := ⟨RX2, "perhaps", "(IIII)I"⟩
def dkwX2_perhaps_0 : List UInt8 := [42, 27, 182, 0, 89, 153, 0, 12, 42, 28, 29, 182, 0, 92, 167, 0, 5, 21, 4, 172]
abbrev dktX2_perhaps_0 : List UInt8 := dkwX2_perhaps_0 ++ []
theorem dksX2_perhaps_0 : cX2_perhaps.data.toList.drop 0 = dktX2_perhaps_0 := by decide +kernel
theorem dX2_perhaps_0 : decode cX2_perhaps 0 = .ok (.aload_n 0, 1) := dk_42 (dk_at dksX2_perhaps_0 0 rfl rfl)
theorem dX2_perhaps_1 : decode cX2_perhaps 1 = .ok (.iload_n 1, 1) := dk_27 (dk_at dksX2_perhaps_0 1 rfl rfl)
theorem dX2_perhaps_2 : decode cX2_perhaps 2 = .ok (.invokevirtual 89, 3) := dk_182 0 89 (dk_at dksX2_perhaps_0 2 rfl rfl)
theorem dX2_perhaps_5 : decode cX2_perhaps 5 = .ok (.ifCond .eq 12, 3) := dk_153 0 12 (dk_at dksX2_perhaps_0 5 rfl rfl)
theorem dX2_perhaps_8 : decode cX2_perhaps 8 = .ok (.aload_n 0, 1) := dk_42 (dk_at dksX2_perhaps_0 8 rfl rfl)
theorem dX2_perhaps_9 : decode cX2_perhaps 9 = .ok (.iload_n 2, 1) := dk_28 (dk_at dksX2_perhaps_0 9 rfl rfl)
theorem dX2_perhaps_10 : decode cX2_perhaps 10 = .ok (.iload_n 3, 1) := dk_29 (dk_at dksX2_perhaps_0 10 rfl rfl)
theorem dX2_perhaps_11 : decode cX2_perhaps 11 = .ok (.invokevirtual 92, 3) := dk_182 0 92 (dk_at dksX2_perhaps_0 11 rfl rfl)
theorem dX2_perhaps_14 : decode cX2_perhaps 14 = .ok (.goto 5, 3) := dk_167 0 5 (dk_at dksX2_perhaps_0 14 rfl rfl)
theorem dX2_perhaps_17 : decode cX2_perhaps 17 = .ok (.iload 4, 2) := dk_21 4 (dk_at dksX2_perhaps_0 17 rfl rfl)
theorem dX2_perhaps_19 : decode cX2_perhaps 19 = .ok (.ireturn, 1) := dk_172 (dk_at dksX2_perhaps_0 19 rfl rfl)
theorem q131 : (Jvm.Cond.initialized "CarryFair$Reader") ∈ lw_all := lw_g (lw_at lw_m1 6 rfl) rfl
theorem q227 : (Jvm.Cond.instantiable "CarryFair$Reader" (8 : Nat)) ∈ lw_all := lw_g (lw_at lw_m1 102 rfl) rfl
theorem q229 : (Jvm.Cond.instanceMethod ({ cls := "CarryFair$Reader", name := "<init>", desc := "()V" } : Jvm.MethodName)) ∈ lw_all := lw_g (lw_at lw_m1 104 rfl) rfl
theorem q230 : (Jvm.Cond.code ({ cls := "CarryFair$Reader", name := "<init>", desc := "()V" } : Jvm.MethodName) prog_9_method_1_code (1 : Nat) (Option.none : Option Jvm.ClassFile.FieldType)) ∈ lw_all := lw_g (lw_at lw_m1 105 rfl) rfl
theorem q231 : (Jvm.Cond.methodLink "CarryFair$Reader" (3 : Nat) ({ cls := "java/lang/Object", name := "<init>", desc := "()V" } : Jvm.MethodName)) ∈ lw_all := lw_g (lw_at lw_m1 106 rfl) rfl
theorem q232 : (Jvm.Cond.classLink "CarryFair$Reader" (9 : Nat) "CarryFair$Wrong") ∈ lw_all := lw_g (lw_at lw_m1 107 rfl) rfl
theorem q241 : (Jvm.Cond.methodLink "CarryFair$Reader" (11 : Nat) ({ cls := "CarryFair$Wrong", name := "<init>", desc := "()V" } : Jvm.MethodName)) ∈ lw_all := lw_g (lw_at lw_m1 116 rfl) rfl
theorem q247 : (Jvm.Cond.classLink "CarryFair$Reader" (22 : Nat) "CarryFair$World") ∈ lw_all := lw_g (lw_at lw_m1 122 rfl) rfl
theorem q249 : (Jvm.Cond.methodLink "CarryFair$Reader" (24 : Nat) ({ cls := "CarryFair$World", name := "<init>", desc := "()V" } : Jvm.MethodName)) ∈ lw_all := lw_g (lw_at lw_m1 124 rfl) rfl
theorem q256 : (Jvm.Cond.fieldLinkNest "CarryFair$Reader" (95 : Nat) "CarryFair$World" "carriers" "I" "CarryFair") ∈ lw_tbl := lw_at lw_m1 131 rfl
theorem q263 : (Jvm.Cond.fieldLinkNest "CarryFair$Reader" (117 : Nat) "CarryFair$World" "errands" "I" "CarryFair") ∈ lw_tbl := lw_at lw_m1 138 rfl
theorem q268 : (Jvm.Cond.fieldLinkNest "CarryFair$Reader" (123 : Nat) "CarryFair$World" "wares" "I" "CarryFair") ∈ lw_tbl := lw_at lw_m1 143 rfl
theorem q302 : (Jvm.Cond.fieldLink "CarryFair$Reader" (12 : Nat) "CarryFair$Reader" "wrong" "LCarryFair$Wrong;") ∈ lw_all := lw_g (lw_at lw_m1 177 rfl) rfl
theorem q303 : (Jvm.Cond.fieldLink "CarryFair$Reader" (18 : Nat) "CarryFair$Reader" "tape" "[B") ∈ lw_all := lw_g (lw_at lw_m1 178 rfl) rfl
theorem q305 : (Jvm.Cond.fieldLink "CarryFair$Reader" (25 : Nat) "CarryFair$Reader" "told" "LCarryFair$World;") ∈ lw_all := lw_g (lw_at lw_m1 180 rfl) rfl
theorem q307 : (Jvm.Cond.fieldLink "CarryFair$Reader" (29 : Nat) "CarryFair$Reader" "length" "I") ∈ lw_all := lw_g (lw_at lw_m1 182 rfl) rfl
theorem q309 : (Jvm.Cond.fieldLink "CarryFair$Reader" (37 : Nat) "CarryFair$Reader" "at" "I") ∈ lw_all := lw_g (lw_at lw_m1 184 rfl) rfl
theorem q310 : (Jvm.Cond.fieldLink "CarryFair$Reader" (44 : Nat) "CarryFair$Reader" "begin" "I") ∈ lw_all := lw_g (lw_at lw_m1 185 rfl) rfl
theorem q312 : (Jvm.Cond.fieldLink "CarryFair$Reader" (47 : Nat) "CarryFair$Reader" "token" "I") ∈ lw_all := lw_g (lw_at lw_m1 187 rfl) rfl
theorem q313 : (Jvm.Cond.fieldLink "CarryFair$Reader" (67 : Nat) "CarryFair$Reader" "value" "I") ∈ lw_all := lw_g (lw_at lw_m1 188 rfl) rfl
theorem q314 : (Jvm.Cond.laysFinal "CarryFair$Reader" "CarryFair$Reader" "wrong" "LCarryFair$Wrong;") ∈ lw_all := lw_g (lw_at lw_m1 189 rfl) rfl
theorem q315 : (Jvm.Cond.soleField "CarryFair$Reader" "wrong") ∈ lw_all := lw_g (lw_at lw_m1 190 rfl) rfl
theorem q316 : (Jvm.Cond.laysFinal "CarryFair$Reader" "CarryFair$Reader" "tape" "[B") ∈ lw_all := lw_g (lw_at lw_m1 191 rfl) rfl
theorem q317 : (Jvm.Cond.soleField "CarryFair$Reader" "tape") ∈ lw_all := lw_g (lw_at lw_m1 192 rfl) rfl
theorem q318 : (Jvm.Cond.laysFinal "CarryFair$Reader" "CarryFair$Reader" "told" "LCarryFair$World;") ∈ lw_all := lw_g (lw_at lw_m1 193 rfl) rfl
theorem q319 : (Jvm.Cond.soleField "CarryFair$Reader" "told") ∈ lw_all := lw_g (lw_at lw_m1 194 rfl) rfl
theorem q320 : (Jvm.Cond.lays "CarryFair$Reader" "CarryFair$Reader" "length" "I") ∈ lw_all := lw_g (lw_at lw_m1 195 rfl) rfl
theorem q321 : (Jvm.Cond.soleField "CarryFair$Reader" "length") ∈ lw_all := lw_g (lw_at lw_m1 196 rfl) rfl
theorem q322 : (Jvm.Cond.lays "CarryFair$Reader" "CarryFair$Reader" "at" "I") ∈ lw_all := lw_g (lw_at lw_m1 197 rfl) rfl
theorem q323 : (Jvm.Cond.soleField "CarryFair$Reader" "at") ∈ lw_all := lw_g (lw_at lw_m1 198 rfl) rfl
theorem q324 : (Jvm.Cond.lays "CarryFair$Reader" "CarryFair$Reader" "begin" "I") ∈ lw_all := lw_g (lw_at lw_m1 199 rfl) rfl
theorem q325 : (Jvm.Cond.soleField "CarryFair$Reader" "begin") ∈ lw_all := lw_g (lw_at lw_m1 200 rfl) rfl
theorem q326 : (Jvm.Cond.lays "CarryFair$Reader" "CarryFair$Reader" "token" "I") ∈ lw_all := lw_g (lw_at lw_m1 201 rfl) rfl
theorem q327 : (Jvm.Cond.soleField "CarryFair$Reader" "token") ∈ lw_all := lw_g (lw_at lw_m1 202 rfl) rfl
theorem q328 : (Jvm.Cond.lays "CarryFair$Reader" "CarryFair$Reader" "value" "I") ∈ lw_all := lw_g (lw_at lw_m1 203 rfl) rfl
theorem q329 : (Jvm.Cond.soleField "CarryFair$Reader" "value") ∈ lw_all := lw_g (lw_at lw_m1 204 rfl) rfl
theorem q330 : (Jvm.Cond.superclass "CarryFair$Reader" "java/lang/Object") ∈ lw_all := lw_g (lw_at lw_m1 205 rfl) rfl
theorem q1071 : (Jvm.Cond.instanceMethod ({ cls := "CarryFair$Reader", name := "whole", desc := "()I" } : Jvm.MethodName)) ∈ lw_all := lw_g (lw_at lw_m4 226 rfl) rfl
theorem q1072 : (Jvm.Cond.selects "CarryFair$Reader" ({ cls := "CarryFair$Reader", name := "whole", desc := "()I" } : Jvm.MethodName) ({ cls := "CarryFair$Reader", name := "whole", desc := "()I" } : Jvm.MethodName)) ∈ lw_all := lw_g (lw_at lw_m4 227 rfl) rfl
theorem q1073 : (Jvm.Cond.code ({ cls := "CarryFair$Reader", name := "whole", desc := "()I" } : Jvm.MethodName) prog_9_method_21_code (2 : Nat) (Option.some Jvm.ClassFile.FieldType.int)) ∈ lw_all := lw_g (lw_at lw_m4 228 rfl) rfl
theorem q1074 : (Jvm.Cond.methodLink "CarryFair$Reader" (82 : Nat) ({ cls := "CarryFair$Reader", name := "next", desc := "()V" } : Jvm.MethodName)) ∈ lw_all := lw_g (lw_at lw_m4 229 rfl) rfl
theorem q1075 : (Jvm.Cond.privateMethod ({ cls := "CarryFair$Reader", name := "next", desc := "()V" } : Jvm.MethodName)) ∈ lw_tbl := lw_at lw_m4 230 rfl
theorem q1076 : (Jvm.Cond.instanceMethod ({ cls := "CarryFair$Reader", name := "next", desc := "()V" } : Jvm.MethodName)) ∈ lw_all := lw_g (lw_at lw_m4 231 rfl) rfl
theorem q1077 : (Jvm.Cond.code ({ cls := "CarryFair$Reader", name := "next", desc := "()V" } : Jvm.MethodName) prog_9_method_6_code (2 : Nat) (Option.none : Option Jvm.ClassFile.FieldType)) ∈ lw_all := lw_g (lw_at lw_m4 232 rfl) rfl
theorem q1078 : (Jvm.Cond.methodLink "CarryFair$Reader" (40 : Nat) ({ cls := "CarryFair$Reader", name := "byteAt", desc := "(I)I" } : Jvm.MethodName)) ∈ lw_all := lw_g (lw_at lw_m4 233 rfl) rfl
theorem q1079 : (Jvm.Cond.privateMethod ({ cls := "CarryFair$Reader", name := "byteAt", desc := "(I)I" } : Jvm.MethodName)) ∈ lw_tbl := lw_at lw_m4 234 rfl
theorem q1080 : (Jvm.Cond.instanceMethod ({ cls := "CarryFair$Reader", name := "byteAt", desc := "(I)I" } : Jvm.MethodName)) ∈ lw_all := lw_g (lw_at lw_m4 235 rfl) rfl
theorem q1081 : (Jvm.Cond.code ({ cls := "CarryFair$Reader", name := "byteAt", desc := "(I)I" } : Jvm.MethodName) prog_9_method_3_code (2 : Nat) (Option.some Jvm.ClassFile.FieldType.int)) ∈ lw_all := lw_g (lw_at lw_m4 236 rfl) rfl
theorem q1082 : (Jvm.Cond.methodLink "CarryFair$Reader" (50 : Nat) ({ cls := "CarryFair$Reader", name := "isLetter", desc := "(I)Z" } : Jvm.MethodName)) ∈ lw_all := lw_g (lw_at lw_m4 237 rfl) rfl
theorem q1083 : (Jvm.Cond.static ({ cls := "CarryFair$Reader", name := "isLetter", desc := "(I)Z" } : Jvm.MethodName)) ∈ lw_all := lw_g (lw_at lw_m4 238 rfl) rfl
theorem q1084 : (Jvm.Cond.code ({ cls := "CarryFair$Reader", name := "isLetter", desc := "(I)Z" } : Jvm.MethodName) prog_9_method_5_code (1 : Nat) (Option.some Jvm.ClassFile.FieldType.boolean)) ∈ lw_all := lw_g (lw_at lw_m4 239 rfl) rfl
theorem q1085 : (Jvm.Cond.methodLinkNest "CarryFair$Reader" (33 : Nat) ({ cls := "CarryFair", name := "in", desc := "(III)Z" } : Jvm.MethodName) "CarryFair") ∈ lw_tbl := lw_at lw_m5 0 rfl
theorem q1086 : (Jvm.Cond.methodLink "CarryFair$Reader" (54 : Nat) ({ cls := "CarryFair$Reader", name := "word", desc := "()V" } : Jvm.MethodName)) ∈ lw_all := lw_g (lw_at lw_m5 1 rfl) rfl
theorem q1087 : (Jvm.Cond.privateMethod ({ cls := "CarryFair$Reader", name := "word", desc := "()V" } : Jvm.MethodName)) ∈ lw_tbl := lw_at lw_m5 2 rfl
theorem q1088 : (Jvm.Cond.instanceMethod ({ cls := "CarryFair$Reader", name := "word", desc := "()V" } : Jvm.MethodName)) ∈ lw_all := lw_g (lw_at lw_m5 3 rfl) rfl
theorem q1089 : (Jvm.Cond.code ({ cls := "CarryFair$Reader", name := "word", desc := "()V" } : Jvm.MethodName) prog_9_method_8_code (2 : Nat) (Option.none : Option Jvm.ClassFile.FieldType)) ∈ lw_all := lw_g (lw_at lw_m5 4 rfl) rfl
theorem q1090 : (Jvm.Cond.methodLink "CarryFair$Reader" (70 : Nat) ({ cls := "CarryFair$Reader", name := "isKey", desc := "(II)Z" } : Jvm.MethodName)) ∈ lw_all := lw_g (lw_at lw_m5 5 rfl) rfl
theorem q1091 : (Jvm.Cond.privateMethod ({ cls := "CarryFair$Reader", name := "isKey", desc := "(II)Z" } : Jvm.MethodName)) ∈ lw_tbl := lw_at lw_m5 6 rfl
theorem q1092 : (Jvm.Cond.instanceMethod ({ cls := "CarryFair$Reader", name := "isKey", desc := "(II)Z" } : Jvm.MethodName)) ∈ lw_all := lw_g (lw_at lw_m5 7 rfl) rfl
theorem q1093 : (Jvm.Cond.code ({ cls := "CarryFair$Reader", name := "isKey", desc := "(II)Z" } : Jvm.MethodName) prog_9_method_9_code (5 : Nat) (Option.some Jvm.ClassFile.FieldType.boolean)) ∈ lw_all := lw_g (lw_at lw_m5 8 rfl) rfl
theorem q1094 : (Jvm.Cond.stringRef "CarryFair$Reader" (74 : Nat) "carrier old     paired  cheatinghanded  watery  boated  way     errand  ware    at      strong  yards   river   from    to      ") ∈ lw_tbl := lw_at lw_m5 9 rfl
theorem q1095 : (Jvm.Cond.methodLink "CarryFair$Reader" (76 : Nat) ({ cls := "java/lang/String", name := "charAt", desc := "(I)C" } : Jvm.MethodName)) ∈ lw_all := lw_g (lw_at lw_m5 10 rfl) rfl
theorem q1135 : (Jvm.Cond.methodLink "CarryFair$Reader" (63 : Nat) ({ cls := "CarryFair$Reader", name := "need", desc := "(Z)V" } : Jvm.MethodName)) ∈ lw_all := lw_g (lw_at lw_m5 50 rfl) rfl
theorem q1136 : (Jvm.Cond.privateMethod ({ cls := "CarryFair$Reader", name := "need", desc := "(Z)V" } : Jvm.MethodName)) ∈ lw_tbl := lw_at lw_m5 51 rfl
theorem q1137 : (Jvm.Cond.instanceMethod ({ cls := "CarryFair$Reader", name := "need", desc := "(Z)V" } : Jvm.MethodName)) ∈ lw_all := lw_g (lw_at lw_m5 52 rfl) rfl
theorem q1138 : (Jvm.Cond.code ({ cls := "CarryFair$Reader", name := "need", desc := "(Z)V" } : Jvm.MethodName) prog_9_method_2_code (2 : Nat) (Option.none : Option Jvm.ClassFile.FieldType)) ∈ lw_all := lw_g (lw_at lw_m5 53 rfl) rfl
theorem q1139 : (Jvm.Cond.methodLink "CarryFair$Reader" (57 : Nat) ({ cls := "CarryFair$Reader", name := "isDigit", desc := "(I)Z" } : Jvm.MethodName)) ∈ lw_all := lw_g (lw_at lw_m5 54 rfl) rfl
theorem q1140 : (Jvm.Cond.static ({ cls := "CarryFair$Reader", name := "isDigit", desc := "(I)Z" } : Jvm.MethodName)) ∈ lw_all := lw_g (lw_at lw_m5 55 rfl) rfl
theorem q1141 : (Jvm.Cond.code ({ cls := "CarryFair$Reader", name := "isDigit", desc := "(I)Z" } : Jvm.MethodName) prog_9_method_4_code (1 : Nat) (Option.some Jvm.ClassFile.FieldType.boolean)) ∈ lw_all := lw_g (lw_at lw_m5 56 rfl) rfl
theorem q1142 : (Jvm.Cond.methodLink "CarryFair$Reader" (60 : Nat) ({ cls := "CarryFair$Reader", name := "digits", desc := "()V" } : Jvm.MethodName)) ∈ lw_all := lw_g (lw_at lw_m5 57 rfl) rfl
theorem q1143 : (Jvm.Cond.privateMethod ({ cls := "CarryFair$Reader", name := "digits", desc := "()V" } : Jvm.MethodName)) ∈ lw_tbl := lw_at lw_m5 58 rfl
theorem q1144 : (Jvm.Cond.instanceMethod ({ cls := "CarryFair$Reader", name := "digits", desc := "()V" } : Jvm.MethodName)) ∈ lw_all := lw_g (lw_at lw_m5 59 rfl) rfl
theorem q1145 : (Jvm.Cond.code ({ cls := "CarryFair$Reader", name := "digits", desc := "()V" } : Jvm.MethodName) prog_9_method_7_code (2 : Nat) (Option.none : Option Jvm.ClassFile.FieldType)) ∈ lw_all := lw_g (lw_at lw_m5 60 rfl) rfl
theorem q1146 : (Jvm.Cond.methodLink "CarryFair$Reader" (142 : Nat) ({ cls := "CarryFair$Reader", name := "item", desc := "()V" } : Jvm.MethodName)) ∈ lw_all := lw_g (lw_at lw_m5 61 rfl) rfl
theorem q1147 : (Jvm.Cond.privateMethod ({ cls := "CarryFair$Reader", name := "item", desc := "()V" } : Jvm.MethodName)) ∈ lw_tbl := lw_at lw_m5 62 rfl
theorem q1148 : (Jvm.Cond.instanceMethod ({ cls := "CarryFair$Reader", name := "item", desc := "()V" } : Jvm.MethodName)) ∈ lw_all := lw_g (lw_at lw_m5 63 rfl) rfl
theorem q1149 : (Jvm.Cond.code ({ cls := "CarryFair$Reader", name := "item", desc := "()V" } : Jvm.MethodName) prog_9_method_20_code (1 : Nat) (Option.none : Option Jvm.ClassFile.FieldType)) ∈ lw_all := lw_g (lw_at lw_m5 64 rfl) rfl
theorem q1150 : (Jvm.Cond.methodLink "CarryFair$Reader" (130 : Nat) ({ cls := "CarryFair$Reader", name := "way", desc := "()V" } : Jvm.MethodName)) ∈ lw_all := lw_g (lw_at lw_m5 65 rfl) rfl
theorem q1151 : (Jvm.Cond.privateMethod ({ cls := "CarryFair$Reader", name := "way", desc := "()V" } : Jvm.MethodName)) ∈ lw_tbl := lw_at lw_m5 66 rfl
theorem q1152 : (Jvm.Cond.instanceMethod ({ cls := "CarryFair$Reader", name := "way", desc := "()V" } : Jvm.MethodName)) ∈ lw_all := lw_g (lw_at lw_m5 67 rfl) rfl
theorem q1153 : (Jvm.Cond.code ({ cls := "CarryFair$Reader", name := "way", desc := "()V" } : Jvm.MethodName) prog_9_method_17_code (5 : Nat) (Option.none : Option Jvm.ClassFile.FieldType)) ∈ lw_all := lw_g (lw_at lw_m5 68 rfl) rfl
theorem q1154 : (Jvm.Cond.methodLink "CarryFair$Reader" (92 : Nat) ({ cls := "CarryFair$Reader", name := "behind", desc := "(II)I" } : Jvm.MethodName)) ∈ lw_all := lw_g (lw_at lw_m5 69 rfl) rfl
theorem q1155 : (Jvm.Cond.privateMethod ({ cls := "CarryFair$Reader", name := "behind", desc := "(II)I" } : Jvm.MethodName)) ∈ lw_tbl := lw_at lw_m5 70 rfl
theorem q1156 : (Jvm.Cond.instanceMethod ({ cls := "CarryFair$Reader", name := "behind", desc := "(II)I" } : Jvm.MethodName)) ∈ lw_all := lw_g (lw_at lw_m5 71 rfl) rfl
theorem q1157 : (Jvm.Cond.code ({ cls := "CarryFair$Reader", name := "behind", desc := "(II)I" } : Jvm.MethodName) prog_9_method_12_code (3 : Nat) (Option.some Jvm.ClassFile.FieldType.int)) ∈ lw_all := lw_g (lw_at lw_m5 72 rfl) rfl
theorem q1158 : (Jvm.Cond.methodLink "CarryFair$Reader" (85 : Nat) ({ cls := "CarryFair$Reader", name := "number", desc := "(II)I" } : Jvm.MethodName)) ∈ lw_all := lw_g (lw_at lw_m5 73 rfl) rfl
theorem q1159 : (Jvm.Cond.privateMethod ({ cls := "CarryFair$Reader", name := "number", desc := "(II)I" } : Jvm.MethodName)) ∈ lw_tbl := lw_at lw_m5 74 rfl
theorem q1160 : (Jvm.Cond.instanceMethod ({ cls := "CarryFair$Reader", name := "number", desc := "(II)I" } : Jvm.MethodName)) ∈ lw_all := lw_g (lw_at lw_m5 75 rfl) rfl
theorem q1161 : (Jvm.Cond.code ({ cls := "CarryFair$Reader", name := "number", desc := "(II)I" } : Jvm.MethodName) prog_9_method_11_code (4 : Nat) (Option.some Jvm.ClassFile.FieldType.int)) ∈ lw_all := lw_g (lw_at lw_m5 76 rfl) rfl
theorem q1162 : (Jvm.Cond.methodLink "CarryFair$Reader" (106 : Nat) ({ cls := "CarryFair$Reader", name := "unlike", desc := "(I)I" } : Jvm.MethodName)) ∈ lw_all := lw_g (lw_at lw_m5 77 rfl) rfl
theorem q1163 : (Jvm.Cond.privateMethod ({ cls := "CarryFair$Reader", name := "unlike", desc := "(I)I" } : Jvm.MethodName)) ∈ lw_tbl := lw_at lw_m5 78 rfl
theorem q1164 : (Jvm.Cond.instanceMethod ({ cls := "CarryFair$Reader", name := "unlike", desc := "(I)I" } : Jvm.MethodName)) ∈ lw_all := lw_g (lw_at lw_m5 79 rfl) rfl
theorem q1165 : (Jvm.Cond.code ({ cls := "CarryFair$Reader", name := "unlike", desc := "(I)I" } : Jvm.MethodName) prog_9_method_15_code (2 : Nat) (Option.some Jvm.ClassFile.FieldType.int)) ∈ lw_all := lw_g (lw_at lw_m5 80 rfl) rfl
theorem q1166 : (Jvm.Cond.methodLink "CarryFair$Reader" (109 : Nat) ({ cls := "CarryFair$Reader", name := "after", desc := "(III)I" } : Jvm.MethodName)) ∈ lw_all := lw_g (lw_at lw_m5 81 rfl) rfl
theorem q1167 : (Jvm.Cond.privateMethod ({ cls := "CarryFair$Reader", name := "after", desc := "(III)I" } : Jvm.MethodName)) ∈ lw_tbl := lw_at lw_m5 82 rfl
theorem q1168 : (Jvm.Cond.instanceMethod ({ cls := "CarryFair$Reader", name := "after", desc := "(III)I" } : Jvm.MethodName)) ∈ lw_all := lw_g (lw_at lw_m5 83 rfl) rfl
theorem q1169 : (Jvm.Cond.code ({ cls := "CarryFair$Reader", name := "after", desc := "(III)I" } : Jvm.MethodName) prog_9_method_16_code (4 : Nat) (Option.some Jvm.ClassFile.FieldType.int)) ∈ lw_all := lw_g (lw_at lw_m5 84 rfl) rfl
theorem q1170 : (Jvm.Cond.methodLink "CarryFair$Reader" (89 : Nat) ({ cls := "CarryFair$Reader", name := "isWord", desc := "(I)Z" } : Jvm.MethodName)) ∈ lw_all := lw_g (lw_at lw_m5 85 rfl) rfl
theorem q1171 : (Jvm.Cond.privateMethod ({ cls := "CarryFair$Reader", name := "isWord", desc := "(I)Z" } : Jvm.MethodName)) ∈ lw_tbl := lw_at lw_m5 86 rfl
theorem q1172 : (Jvm.Cond.instanceMethod ({ cls := "CarryFair$Reader", name := "isWord", desc := "(I)Z" } : Jvm.MethodName)) ∈ lw_all := lw_g (lw_at lw_m5 87 rfl) rfl
theorem q1173 : (Jvm.Cond.code ({ cls := "CarryFair$Reader", name := "isWord", desc := "(I)Z" } : Jvm.MethodName) prog_9_method_10_code (2 : Nat) (Option.some Jvm.ClassFile.FieldType.boolean)) ∈ lw_all := lw_g (lw_at lw_m5 88 rfl) rfl
theorem q1174 : (Jvm.Cond.methodLink "CarryFair$Reader" (113 : Nat) ({ cls := "CarryFair$World", name := "lays", desc := "(IIII)V" } : Jvm.MethodName)) ∈ lw_all := lw_g (lw_at lw_m5 89 rfl) rfl
theorem q1175 : (Jvm.Cond.methodLink "CarryFair$Reader" (133 : Nat) ({ cls := "CarryFair$Reader", name := "errand", desc := "()V" } : Jvm.MethodName)) ∈ lw_all := lw_g (lw_at lw_m5 90 rfl) rfl
theorem q1176 : (Jvm.Cond.privateMethod ({ cls := "CarryFair$Reader", name := "errand", desc := "()V" } : Jvm.MethodName)) ∈ lw_tbl := lw_at lw_m5 91 rfl
theorem q1177 : (Jvm.Cond.instanceMethod ({ cls := "CarryFair$Reader", name := "errand", desc := "()V" } : Jvm.MethodName)) ∈ lw_all := lw_g (lw_at lw_m5 92 rfl) rfl
theorem q1178 : (Jvm.Cond.code ({ cls := "CarryFair$Reader", name := "errand", desc := "()V" } : Jvm.MethodName) prog_9_method_18_code (3 : Nat) (Option.none : Option Jvm.ClassFile.FieldType)) ∈ lw_all := lw_g (lw_at lw_m5 93 rfl) rfl
theorem q1179 : (Jvm.Cond.methodLink "CarryFair$Reader" (120 : Nat) ({ cls := "CarryFair$World", name := "addErrand", desc := "(III)V" } : Jvm.MethodName)) ∈ lw_all := lw_g (lw_at lw_m5 94 rfl) rfl
theorem q1180 : (Jvm.Cond.methodLink "CarryFair$Reader" (136 : Nat) ({ cls := "CarryFair$Reader", name := "ware", desc := "()V" } : Jvm.MethodName)) ∈ lw_all := lw_g (lw_at lw_m5 95 rfl) rfl
theorem q1181 : (Jvm.Cond.privateMethod ({ cls := "CarryFair$Reader", name := "ware", desc := "()V" } : Jvm.MethodName)) ∈ lw_tbl := lw_at lw_m5 96 rfl
theorem q1182 : (Jvm.Cond.instanceMethod ({ cls := "CarryFair$Reader", name := "ware", desc := "()V" } : Jvm.MethodName)) ∈ lw_all := lw_g (lw_at lw_m5 97 rfl) rfl
theorem q1183 : (Jvm.Cond.code ({ cls := "CarryFair$Reader", name := "ware", desc := "()V" } : Jvm.MethodName) prog_9_method_19_code (1 : Nat) (Option.none : Option Jvm.ClassFile.FieldType)) ∈ lw_all := lw_g (lw_at lw_m5 98 rfl) rfl
theorem q1184 : (Jvm.Cond.methodLink "CarryFair$Reader" (126 : Nat) ({ cls := "CarryFair$World", name := "addWare", desc := "(I)V" } : Jvm.MethodName)) ∈ lw_all := lw_g (lw_at lw_m5 99 rfl) rfl
theorem q1185 : (Jvm.Cond.methodLink "CarryFair$Reader" (139 : Nat) ({ cls := "CarryFair$Reader", name := "carrier", desc := "(I)V" } : Jvm.MethodName)) ∈ lw_all := lw_g (lw_at lw_m5 100 rfl) rfl
theorem q1186 : (Jvm.Cond.privateMethod ({ cls := "CarryFair$Reader", name := "carrier", desc := "(I)V" } : Jvm.MethodName)) ∈ lw_tbl := lw_at lw_m5 101 rfl
theorem q1187 : (Jvm.Cond.instanceMethod ({ cls := "CarryFair$Reader", name := "carrier", desc := "(I)V" } : Jvm.MethodName)) ∈ lw_all := lw_g (lw_at lw_m5 102 rfl) rfl
theorem q1188 : (Jvm.Cond.code ({ cls := "CarryFair$Reader", name := "carrier", desc := "(I)V" } : Jvm.MethodName) prog_9_method_14_code (3 : Nat) (Option.none : Option Jvm.ClassFile.FieldType)) ∈ lw_all := lw_g (lw_at lw_m5 103 rfl) rfl
theorem q1189 : (Jvm.Cond.methodLink "CarryFair$Reader" (98 : Nat) ({ cls := "CarryFair$Reader", name := "perhaps", desc := "(IIII)I" } : Jvm.MethodName)) ∈ lw_all := lw_g (lw_at lw_m5 104 rfl) rfl
theorem q1190 : (Jvm.Cond.privateMethod ({ cls := "CarryFair$Reader", name := "perhaps", desc := "(IIII)I" } : Jvm.MethodName)) ∈ lw_tbl := lw_at lw_m5 105 rfl
theorem q1191 : (Jvm.Cond.instanceMethod ({ cls := "CarryFair$Reader", name := "perhaps", desc := "(IIII)I" } : Jvm.MethodName)) ∈ lw_all := lw_g (lw_at lw_m5 106 rfl) rfl
theorem q1192 : (Jvm.Cond.code ({ cls := "CarryFair$Reader", name := "perhaps", desc := "(IIII)I" } : Jvm.MethodName) prog_9_method_13_code (5 : Nat) (Option.some Jvm.ClassFile.FieldType.int)) ∈ lw_all := lw_g (lw_at lw_m5 107 rfl) rfl
theorem q1193 : (Jvm.Cond.methodLink "CarryFair$Reader" (102 : Nat) ({ cls := "CarryFair$World", name := "addCarrier", desc := "(III)V" } : Jvm.MethodName)) ∈ lw_all := lw_g (lw_at lw_m5 108 rfl) rfl
theorem in_X2 : ∀ w ∈ wsX20, w ∈ lw_all := lw_in wsX20 [314, 316, 318, 320, 322, 324, 326, 328] (by decide +kernel) (by decide +kernel)

/-! CarryFair$Wrong -/
set_option maxRecDepth 100000
def RX3 : String := "CarryFair$Wrong"
def TX3 : u_T := fun k => match k with
  | 0 => ("java/lang/Throwable", "cause", "Ljava/lang/Throwable;", false)
  | 1 => ("java/lang/Throwable", "stackTrace", "[Ljava/lang/StackTraceElement;", false)
  | 2 => ("java/lang/Throwable", "suppressedExceptions", "Ljava/util/List;", false)
  | 3 => ("java/lang/Throwable", "detailMessage", "Ljava/lang/String;", false)
  | 4 => ("java/lang/Throwable", "backtrace", "Ljava/lang/Object;", false)
  | _ => ("java/lang/Throwable", "depth", "I", false)
def tyX3 : Nat → FieldType := fun k => match k with
  | 0 => .object "java/lang/Throwable"
  | 1 => .array (.object "java/lang/StackTraceElement")
  | 2 => .object "java/util/List"
  | 3 => .object "java/lang/String"
  | 4 => .object "java/lang/Object"
  | _ => .int
abbrev wsX30 : List Cond := u_ws RX3 TX3 6
theorem nmX3 : ∀ a, a < 6 → ∀ b, b < 6 → a ≠ b → (TX3 a).2.1 ≠ (TX3 b).2.1 := by decide +kernel
theorem tyX3_ok : ∀ k, k < 6 → parseFieldDescriptor (TX3 k).2.2.1 = some (tyX3 k) := by decide +kernel
abbrev cX3_init : ByteArray := prog_14_method_1_code
def yX3_init : MethodName := ⟨RX3, "<init>", "()V"⟩
def dkwX3_init_0 : List UInt8 := [42, 1, 1, 3, 3, 183, 0, 1, 177]
abbrev dktX3_init_0 : List UInt8 := dkwX3_init_0 ++ []
theorem dksX3_init_0 : cX3_init.data.toList.drop 0 = dktX3_init_0 := by decide +kernel
theorem dX3_init_0 : decode cX3_init 0 = .ok (.aload_n 0, 1) := dk_42 (dk_at dksX3_init_0 0 rfl rfl)
theorem dX3_init_1 : decode cX3_init 1 = .ok (.aconst_null, 1) := dk_1 (dk_at dksX3_init_0 1 rfl rfl)
theorem dX3_init_2 : decode cX3_init 2 = .ok (.aconst_null, 1) := dk_1 (dk_at dksX3_init_0 2 rfl rfl)
theorem dX3_init_3 : decode cX3_init 3 = .ok (.iconst 0, 1) := dk_3 (dk_at dksX3_init_0 3 rfl rfl)
theorem dX3_init_4 : decode cX3_init 4 = .ok (.iconst 0, 1) := dk_3 (dk_at dksX3_init_0 4 rfl rfl)
theorem dX3_init_5 : decode cX3_init 5 = .ok (.invokespecial 1, 3) := dk_183 0 1 (dk_at dksX3_init_0 5 rfl rfl)
theorem dX3_init_8 : decode cX3_init 8 = .ok (.return_, 1) := dk_177 (dk_at dksX3_init_0 8 rfl rfl)
theorem q132 : (Jvm.Cond.initialized "CarryFair$Wrong") ∈ lw_all := lw_g (lw_at lw_m1 7 rfl) rfl
theorem q191 : (Jvm.Cond.selects "CarryFair$Wrong" ({ cls := "java/lang/Throwable", name := "fillInStackTrace", desc := "()Ljava/lang/Throwable;" } : Jvm.MethodName) ({ cls := "java/lang/Throwable", name := "fillInStackTrace", desc := "()Ljava/lang/Throwable;" } : Jvm.MethodName)) ∈ lw_all := lw_g (lw_at lw_m1 66 rfl) rfl
theorem q233 : (Jvm.Cond.instantiable "CarryFair$Wrong" (6 : Nat)) ∈ lw_all := lw_g (lw_at lw_m1 108 rfl) rfl
theorem q234 : (Jvm.Cond.castable "CarryFair$Wrong" "CarryFair$Wrong") ∈ lw_tbl := lw_at lw_m1 109 rfl
theorem q235 : (Jvm.Cond.selects "CarryFair$Wrong" ({ cls := "java/lang/Throwable", name := "fillInStackTrace", desc := "(I)Ljava/lang/Throwable;" } : Jvm.MethodName) ({ cls := "java/lang/Throwable", name := "fillInStackTrace", desc := "(I)Ljava/lang/Throwable;" } : Jvm.MethodName)) ∈ lw_all := lw_g (lw_at lw_m1 110 rfl) rfl
theorem q236 : (Jvm.Cond.lays "CarryFair$Wrong" "java/lang/Throwable" "cause" "Ljava/lang/Throwable;") ∈ lw_all := lw_g (lw_at lw_m1 111 rfl) rfl
theorem q237 : (Jvm.Cond.lays "CarryFair$Wrong" "java/lang/Throwable" "stackTrace" "[Ljava/lang/StackTraceElement;") ∈ lw_all := lw_g (lw_at lw_m1 112 rfl) rfl
theorem q238 : (Jvm.Cond.lays "CarryFair$Wrong" "java/lang/Throwable" "suppressedExceptions" "Ljava/util/List;") ∈ lw_all := lw_g (lw_at lw_m1 113 rfl) rfl
theorem q239 : (Jvm.Cond.lays "CarryFair$Wrong" "java/lang/Throwable" "detailMessage" "Ljava/lang/String;") ∈ lw_all := lw_g (lw_at lw_m1 114 rfl) rfl
theorem q240 : (Jvm.Cond.lays "CarryFair$Wrong" "java/lang/Throwable" "backtrace" "Ljava/lang/Object;") ∈ lw_all := lw_g (lw_at lw_m1 115 rfl) rfl
theorem q242 : (Jvm.Cond.instanceMethod ({ cls := "CarryFair$Wrong", name := "<init>", desc := "()V" } : Jvm.MethodName)) ∈ lw_all := lw_g (lw_at lw_m1 117 rfl) rfl
theorem q243 : (Jvm.Cond.code ({ cls := "CarryFair$Wrong", name := "<init>", desc := "()V" } : Jvm.MethodName) prog_14_method_1_code (1 : Nat) (Option.none : Option Jvm.ClassFile.FieldType)) ∈ lw_all := lw_g (lw_at lw_m1 118 rfl) rfl
theorem q244 : (Jvm.Cond.methodLink "CarryFair$Wrong" (1 : Nat) ({ cls := "java/lang/RuntimeException", name := "<init>", desc := "(Ljava/lang/String;Ljava/lang/Throwable;ZZ)V" } : Jvm.MethodName)) ∈ lw_all := lw_g (lw_at lw_m1 119 rfl) rfl
theorem q245 : (Jvm.Cond.lays "CarryFair$Wrong" "java/lang/Throwable" "depth" "I") ∈ lw_all := lw_g (lw_at lw_m1 120 rfl) rfl
theorem q246 : (Jvm.Cond.superclass "CarryFair$Wrong" "java/lang/RuntimeException") ∈ lw_all := lw_g (lw_at lw_m1 121 rfl) rfl
theorem in_X3 : ∀ w ∈ wsX30, w ∈ lw_all := lw_in wsX30 [236, 237, 238, 239, 240, 245] (by decide +kernel) (by decide +kernel)

/-! CarryFair$World -/
set_option maxRecDepth 100000
def RX4 : String := "CarryFair$World"
def TX4 : u_T := fun k => match k with
  | 0 => ("CarryFair$World", "carriers", "I", false)
  | 1 => ("CarryFair$World", "carrier", "[[I", true)
  | 2 => ("CarryFair$World", "errands", "I", false)
  | 3 => ("CarryFair$World", "errand", "[[I", true)
  | 4 => ("CarryFair$World", "wares", "I", false)
  | 5 => ("CarryFair$World", "ware", "[[I", true)
  | 6 => ("CarryFair$World", "yards", "[[I", true)
  | 7 => ("CarryFair$World", "river", "[[I", true)
  | 8 => ("CarryFair$World", "z", "I", false)
  | _ => ("CarryFair$World", "holds", "[I", true)
def tyX4 : Nat → FieldType := fun k => match k with
  | 0 => .int
  | 1 => .array (.array .int)
  | 2 => .int
  | 3 => .array (.array .int)
  | 4 => .int
  | 5 => .array (.array .int)
  | 6 => .array (.array .int)
  | 7 => .array (.array .int)
  | 8 => .int
  | _ => .array .int
abbrev wsX40 : List Cond := u_ws RX4 TX4 10
theorem nmX4 : ∀ a, a < 10 → ∀ b, b < 10 → a ≠ b → (TX4 a).2.1 ≠ (TX4 b).2.1 := by decide +kernel
theorem tyX4_ok : ∀ k, k < 10 → parseFieldDescriptor (TX4 k).2.2.1 = some (tyX4 k) := by decide +kernel
abbrev cX4_init : ByteArray := prog_13_method_1_code
def yX4_init : MethodName := ⟨RX4, "<init>", "()V"⟩
def dkwX4_init_4 : List UInt8 := [167, 255, 240, 177]
abbrev dktX4_init_4 : List UInt8 := dkwX4_init_4 ++ []
def dkwX4_init_3 : List UInt8 := [188, 10, 181, 0, 32, 3, 60, 27, 16, 10, 162, 0, 16, 42, 180, 0, 32, 27, 2, 79, 132, 1, 1]
abbrev dktX4_init_3 : List UInt8 := dkwX4_init_3 ++ dktX4_init_4
def dkwX4_init_2 : List UInt8 := [181, 0, 22, 42, 16, 7, 16, 7, 197, 0, 9, 2, 181, 0, 25, 42, 4, 181, 0, 28, 42, 16, 10]
abbrev dktX4_init_2 : List UInt8 := dkwX4_init_2 ++ dktX4_init_3
def dkwX4_init_1 : List UInt8 := [181, 0, 16, 42, 5, 16, 6, 197, 0, 9, 2, 181, 0, 19, 42, 16, 7, 16, 7, 197, 0, 9, 2]
abbrev dktX4_init_1 : List UInt8 := dkwX4_init_1 ++ dktX4_init_2
def dkwX4_init_0 : List UInt8 := [42, 183, 0, 3, 42, 8, 16, 6, 197, 0, 9, 2, 181, 0, 11, 42, 8, 16, 8, 197, 0, 9, 2]
abbrev dktX4_init_0 : List UInt8 := dkwX4_init_0 ++ dktX4_init_1
theorem dksX4_init_0 : cX4_init.data.toList.drop 0 = dktX4_init_0 := by decide +kernel
theorem dksX4_init_1 : cX4_init.data.toList.drop 23 = dktX4_init_1 := dk_seg dksX4_init_0 23 rfl rfl
theorem dksX4_init_2 : cX4_init.data.toList.drop 46 = dktX4_init_2 := dk_seg dksX4_init_1 23 rfl rfl
theorem dksX4_init_3 : cX4_init.data.toList.drop 69 = dktX4_init_3 := dk_seg dksX4_init_2 23 rfl rfl
theorem dksX4_init_4 : cX4_init.data.toList.drop 92 = dktX4_init_4 := dk_seg dksX4_init_3 23 rfl rfl
theorem dX4_init_0 : decode cX4_init 0 = .ok (.aload_n 0, 1) := dk_42 (dk_at dksX4_init_0 0 rfl rfl)
theorem dX4_init_1 : decode cX4_init 1 = .ok (.invokespecial 3, 3) := dk_183 0 3 (dk_at dksX4_init_0 1 rfl rfl)
theorem dX4_init_4 : decode cX4_init 4 = .ok (.aload_n 0, 1) := dk_42 (dk_at dksX4_init_0 4 rfl rfl)
theorem dX4_init_5 : decode cX4_init 5 = .ok (.iconst 5, 1) := dk_8 (dk_at dksX4_init_0 5 rfl rfl)
theorem dX4_init_6 : decode cX4_init 6 = .ok (.bipush 6, 2) := dk_16 6 (dk_at dksX4_init_0 6 rfl rfl)
theorem dX4_init_8 : decode cX4_init 8 = .ok (.multianewarray 9 2, 4) := by decide +kernel
theorem dX4_init_12 : decode cX4_init 12 = .ok (.putfield 11, 3) := dk_181 0 11 (dk_at dksX4_init_0 12 rfl rfl)
theorem dX4_init_15 : decode cX4_init 15 = .ok (.aload_n 0, 1) := dk_42 (dk_at dksX4_init_0 15 rfl rfl)
theorem dX4_init_16 : decode cX4_init 16 = .ok (.iconst 5, 1) := dk_8 (dk_at dksX4_init_0 16 rfl rfl)
theorem dX4_init_17 : decode cX4_init 17 = .ok (.bipush 8, 2) := dk_16 8 (dk_at dksX4_init_0 17 rfl rfl)
theorem dX4_init_19 : decode cX4_init 19 = .ok (.multianewarray 9 2, 4) := by decide +kernel
theorem dX4_init_23 : decode cX4_init 23 = .ok (.putfield 16, 3) := dk_181 0 16 (dk_at dksX4_init_1 0 rfl rfl)
theorem dX4_init_26 : decode cX4_init 26 = .ok (.aload_n 0, 1) := dk_42 (dk_at dksX4_init_1 3 rfl rfl)
theorem dX4_init_27 : decode cX4_init 27 = .ok (.iconst 2, 1) := dk_5 (dk_at dksX4_init_1 4 rfl rfl)
theorem dX4_init_28 : decode cX4_init 28 = .ok (.bipush 6, 2) := dk_16 6 (dk_at dksX4_init_1 5 rfl rfl)
theorem dX4_init_30 : decode cX4_init 30 = .ok (.multianewarray 9 2, 4) := by decide +kernel
theorem dX4_init_34 : decode cX4_init 34 = .ok (.putfield 19, 3) := dk_181 0 19 (dk_at dksX4_init_1 11 rfl rfl)
theorem dX4_init_37 : decode cX4_init 37 = .ok (.aload_n 0, 1) := dk_42 (dk_at dksX4_init_1 14 rfl rfl)
theorem dX4_init_38 : decode cX4_init 38 = .ok (.bipush 7, 2) := dk_16 7 (dk_at dksX4_init_1 15 rfl rfl)
theorem dX4_init_40 : decode cX4_init 40 = .ok (.bipush 7, 2) := dk_16 7 (dk_at dksX4_init_1 17 rfl rfl)
theorem dX4_init_42 : decode cX4_init 42 = .ok (.multianewarray 9 2, 4) := by decide +kernel
theorem dX4_init_46 : decode cX4_init 46 = .ok (.putfield 22, 3) := dk_181 0 22 (dk_at dksX4_init_2 0 rfl rfl)
theorem dX4_init_49 : decode cX4_init 49 = .ok (.aload_n 0, 1) := dk_42 (dk_at dksX4_init_2 3 rfl rfl)
theorem dX4_init_50 : decode cX4_init 50 = .ok (.bipush 7, 2) := dk_16 7 (dk_at dksX4_init_2 4 rfl rfl)
theorem dX4_init_52 : decode cX4_init 52 = .ok (.bipush 7, 2) := dk_16 7 (dk_at dksX4_init_2 6 rfl rfl)
theorem dX4_init_54 : decode cX4_init 54 = .ok (.multianewarray 9 2, 4) := by decide +kernel
theorem dX4_init_58 : decode cX4_init 58 = .ok (.putfield 25, 3) := dk_181 0 25 (dk_at dksX4_init_2 12 rfl rfl)
theorem dX4_init_61 : decode cX4_init 61 = .ok (.aload_n 0, 1) := dk_42 (dk_at dksX4_init_2 15 rfl rfl)
theorem dX4_init_62 : decode cX4_init 62 = .ok (.iconst 1, 1) := dk_4 (dk_at dksX4_init_2 16 rfl rfl)
theorem dX4_init_63 : decode cX4_init 63 = .ok (.putfield 28, 3) := dk_181 0 28 (dk_at dksX4_init_2 17 rfl rfl)
theorem dX4_init_66 : decode cX4_init 66 = .ok (.aload_n 0, 1) := dk_42 (dk_at dksX4_init_2 20 rfl rfl)
theorem dX4_init_67 : decode cX4_init 67 = .ok (.bipush 10, 2) := dk_16 10 (dk_at dksX4_init_2 21 rfl rfl)
theorem dX4_init_69 : decode cX4_init 69 = .ok (.newarray .int, 2) := dk_188_10 (dk_at dksX4_init_3 0 rfl rfl)
theorem dX4_init_71 : decode cX4_init 71 = .ok (.putfield 32, 3) := dk_181 0 32 (dk_at dksX4_init_3 2 rfl rfl)
theorem dX4_init_74 : decode cX4_init 74 = .ok (.iconst 0, 1) := dk_3 (dk_at dksX4_init_3 5 rfl rfl)
theorem dX4_init_75 : decode cX4_init 75 = .ok (.istore_n 1, 1) := dk_60 (dk_at dksX4_init_3 6 rfl rfl)
theorem dX4_init_76 : decode cX4_init 76 = .ok (.iload_n 1, 1) := dk_27 (dk_at dksX4_init_3 7 rfl rfl)
theorem dX4_init_77 : decode cX4_init 77 = .ok (.bipush 10, 2) := dk_16 10 (dk_at dksX4_init_3 8 rfl rfl)
theorem dX4_init_79 : decode cX4_init 79 = .ok (.if_icmp .ge 16, 3) := dk_162 0 16 (dk_at dksX4_init_3 10 rfl rfl)
theorem dX4_init_82 : decode cX4_init 82 = .ok (.aload_n 0, 1) := dk_42 (dk_at dksX4_init_3 13 rfl rfl)
theorem dX4_init_83 : decode cX4_init 83 = .ok (.getfield 32, 3) := dk_180 0 32 (dk_at dksX4_init_3 14 rfl rfl)
theorem dX4_init_86 : decode cX4_init 86 = .ok (.iload_n 1, 1) := dk_27 (dk_at dksX4_init_3 17 rfl rfl)
theorem dX4_init_87 : decode cX4_init 87 = .ok (.iconst (-1), 1) := dk_2 (dk_at dksX4_init_3 18 rfl rfl)
theorem dX4_init_88 : decode cX4_init 88 = .ok (.iastore, 1) := dk_79 (dk_at dksX4_init_3 19 rfl rfl)
theorem dX4_init_89 : decode cX4_init 89 = .ok (.iinc 1 1, 3) := dk_132 1 1 (dk_at dksX4_init_3 20 rfl rfl)
theorem dX4_init_92 : decode cX4_init 92 = .ok (.goto (-16), 3) := dk_167 255 240 (dk_at dksX4_init_4 0 rfl rfl)
theorem dX4_init_95 : decode cX4_init 95 = .ok (.return_, 1) := dk_177 (dk_at dksX4_init_4 3 rfl rfl)
abbrev cX4_addCarrier : ByteArray := prog_13_method_6_code
def yX4_addCarrier : MethodName := ⟨RX4, "addCarrier", "(III)V"⟩
def dkwX4_addCarrier_2 : List UInt8 := [42, 180, 0, 11, 7, 50, 42, 180, 0, 46, 3, 79, 42, 89, 180, 0, 46, 4, 96, 181, 0, 46, 177]
abbrev dktX4_addCarrier_2 : List UInt8 := dkwX4_addCarrier_2 ++ []
def dkwX4_addCarrier_1 : List UInt8 := [42, 180, 0, 11, 5, 50, 42, 180, 0, 46, 29, 79, 42, 180, 0, 11, 6, 50, 42, 180, 0, 46, 3, 79]
abbrev dktX4_addCarrier_1 : List UInt8 := dkwX4_addCarrier_1 ++ dktX4_addCarrier_2
def dkwX4_addCarrier_0 : List UInt8 := [42, 180, 0, 11, 3, 50, 42, 180, 0, 46, 27, 79, 42, 180, 0, 11, 4, 50, 42, 180, 0, 46, 28, 79]
abbrev dktX4_addCarrier_0 : List UInt8 := dkwX4_addCarrier_0 ++ dktX4_addCarrier_1
theorem dksX4_addCarrier_0 : cX4_addCarrier.data.toList.drop 0 = dktX4_addCarrier_0 := by decide +kernel
theorem dksX4_addCarrier_1 : cX4_addCarrier.data.toList.drop 24 = dktX4_addCarrier_1 := dk_seg dksX4_addCarrier_0 24 rfl rfl
theorem dksX4_addCarrier_2 : cX4_addCarrier.data.toList.drop 48 = dktX4_addCarrier_2 := dk_seg dksX4_addCarrier_1 24 rfl rfl
theorem dX4_addCarrier_0 : decode cX4_addCarrier 0 = .ok (.aload_n 0, 1) := dk_42 (dk_at dksX4_addCarrier_0 0 rfl rfl)
theorem dX4_addCarrier_1 : decode cX4_addCarrier 1 = .ok (.getfield 11, 3) := dk_180 0 11 (dk_at dksX4_addCarrier_0 1 rfl rfl)
theorem dX4_addCarrier_4 : decode cX4_addCarrier 4 = .ok (.iconst 0, 1) := dk_3 (dk_at dksX4_addCarrier_0 4 rfl rfl)
theorem dX4_addCarrier_5 : decode cX4_addCarrier 5 = .ok (.aaload, 1) := dk_50 (dk_at dksX4_addCarrier_0 5 rfl rfl)
theorem dX4_addCarrier_6 : decode cX4_addCarrier 6 = .ok (.aload_n 0, 1) := dk_42 (dk_at dksX4_addCarrier_0 6 rfl rfl)
theorem dX4_addCarrier_7 : decode cX4_addCarrier 7 = .ok (.getfield 46, 3) := dk_180 0 46 (dk_at dksX4_addCarrier_0 7 rfl rfl)
theorem dX4_addCarrier_10 : decode cX4_addCarrier 10 = .ok (.iload_n 1, 1) := dk_27 (dk_at dksX4_addCarrier_0 10 rfl rfl)
theorem dX4_addCarrier_11 : decode cX4_addCarrier 11 = .ok (.iastore, 1) := dk_79 (dk_at dksX4_addCarrier_0 11 rfl rfl)
theorem dX4_addCarrier_12 : decode cX4_addCarrier 12 = .ok (.aload_n 0, 1) := dk_42 (dk_at dksX4_addCarrier_0 12 rfl rfl)
theorem dX4_addCarrier_13 : decode cX4_addCarrier 13 = .ok (.getfield 11, 3) := dk_180 0 11 (dk_at dksX4_addCarrier_0 13 rfl rfl)
theorem dX4_addCarrier_16 : decode cX4_addCarrier 16 = .ok (.iconst 1, 1) := dk_4 (dk_at dksX4_addCarrier_0 16 rfl rfl)
theorem dX4_addCarrier_17 : decode cX4_addCarrier 17 = .ok (.aaload, 1) := dk_50 (dk_at dksX4_addCarrier_0 17 rfl rfl)
theorem dX4_addCarrier_18 : decode cX4_addCarrier 18 = .ok (.aload_n 0, 1) := dk_42 (dk_at dksX4_addCarrier_0 18 rfl rfl)
theorem dX4_addCarrier_19 : decode cX4_addCarrier 19 = .ok (.getfield 46, 3) := dk_180 0 46 (dk_at dksX4_addCarrier_0 19 rfl rfl)
theorem dX4_addCarrier_22 : decode cX4_addCarrier 22 = .ok (.iload_n 2, 1) := dk_28 (dk_at dksX4_addCarrier_0 22 rfl rfl)
theorem dX4_addCarrier_23 : decode cX4_addCarrier 23 = .ok (.iastore, 1) := dk_79 (dk_at dksX4_addCarrier_0 23 rfl rfl)
theorem dX4_addCarrier_24 : decode cX4_addCarrier 24 = .ok (.aload_n 0, 1) := dk_42 (dk_at dksX4_addCarrier_1 0 rfl rfl)
theorem dX4_addCarrier_25 : decode cX4_addCarrier 25 = .ok (.getfield 11, 3) := dk_180 0 11 (dk_at dksX4_addCarrier_1 1 rfl rfl)
theorem dX4_addCarrier_28 : decode cX4_addCarrier 28 = .ok (.iconst 2, 1) := dk_5 (dk_at dksX4_addCarrier_1 4 rfl rfl)
theorem dX4_addCarrier_29 : decode cX4_addCarrier 29 = .ok (.aaload, 1) := dk_50 (dk_at dksX4_addCarrier_1 5 rfl rfl)
theorem dX4_addCarrier_30 : decode cX4_addCarrier 30 = .ok (.aload_n 0, 1) := dk_42 (dk_at dksX4_addCarrier_1 6 rfl rfl)
theorem dX4_addCarrier_31 : decode cX4_addCarrier 31 = .ok (.getfield 46, 3) := dk_180 0 46 (dk_at dksX4_addCarrier_1 7 rfl rfl)
theorem dX4_addCarrier_34 : decode cX4_addCarrier 34 = .ok (.iload_n 3, 1) := dk_29 (dk_at dksX4_addCarrier_1 10 rfl rfl)
theorem dX4_addCarrier_35 : decode cX4_addCarrier 35 = .ok (.iastore, 1) := dk_79 (dk_at dksX4_addCarrier_1 11 rfl rfl)
theorem dX4_addCarrier_36 : decode cX4_addCarrier 36 = .ok (.aload_n 0, 1) := dk_42 (dk_at dksX4_addCarrier_1 12 rfl rfl)
theorem dX4_addCarrier_37 : decode cX4_addCarrier 37 = .ok (.getfield 11, 3) := dk_180 0 11 (dk_at dksX4_addCarrier_1 13 rfl rfl)
theorem dX4_addCarrier_40 : decode cX4_addCarrier 40 = .ok (.iconst 3, 1) := dk_6 (dk_at dksX4_addCarrier_1 16 rfl rfl)
theorem dX4_addCarrier_41 : decode cX4_addCarrier 41 = .ok (.aaload, 1) := dk_50 (dk_at dksX4_addCarrier_1 17 rfl rfl)
theorem dX4_addCarrier_42 : decode cX4_addCarrier 42 = .ok (.aload_n 0, 1) := dk_42 (dk_at dksX4_addCarrier_1 18 rfl rfl)
theorem dX4_addCarrier_43 : decode cX4_addCarrier 43 = .ok (.getfield 46, 3) := dk_180 0 46 (dk_at dksX4_addCarrier_1 19 rfl rfl)
theorem dX4_addCarrier_46 : decode cX4_addCarrier 46 = .ok (.iconst 0, 1) := dk_3 (dk_at dksX4_addCarrier_1 22 rfl rfl)
theorem dX4_addCarrier_47 : decode cX4_addCarrier 47 = .ok (.iastore, 1) := dk_79 (dk_at dksX4_addCarrier_1 23 rfl rfl)
theorem dX4_addCarrier_48 : decode cX4_addCarrier 48 = .ok (.aload_n 0, 1) := dk_42 (dk_at dksX4_addCarrier_2 0 rfl rfl)
theorem dX4_addCarrier_49 : decode cX4_addCarrier 49 = .ok (.getfield 11, 3) := dk_180 0 11 (dk_at dksX4_addCarrier_2 1 rfl rfl)
theorem dX4_addCarrier_52 : decode cX4_addCarrier 52 = .ok (.iconst 4, 1) := dk_7 (dk_at dksX4_addCarrier_2 4 rfl rfl)
theorem dX4_addCarrier_53 : decode cX4_addCarrier 53 = .ok (.aaload, 1) := dk_50 (dk_at dksX4_addCarrier_2 5 rfl rfl)
theorem dX4_addCarrier_54 : decode cX4_addCarrier 54 = .ok (.aload_n 0, 1) := dk_42 (dk_at dksX4_addCarrier_2 6 rfl rfl)
theorem dX4_addCarrier_55 : decode cX4_addCarrier 55 = .ok (.getfield 46, 3) := dk_180 0 46 (dk_at dksX4_addCarrier_2 7 rfl rfl)
theorem dX4_addCarrier_58 : decode cX4_addCarrier 58 = .ok (.iconst 0, 1) := dk_3 (dk_at dksX4_addCarrier_2 10 rfl rfl)
theorem dX4_addCarrier_59 : decode cX4_addCarrier 59 = .ok (.iastore, 1) := dk_79 (dk_at dksX4_addCarrier_2 11 rfl rfl)
theorem dX4_addCarrier_60 : decode cX4_addCarrier 60 = .ok (.aload_n 0, 1) := dk_42 (dk_at dksX4_addCarrier_2 12 rfl rfl)
theorem dX4_addCarrier_61 : decode cX4_addCarrier 61 = .ok (.dup, 1) := dk_89 (dk_at dksX4_addCarrier_2 13 rfl rfl)
theorem dX4_addCarrier_62 : decode cX4_addCarrier 62 = .ok (.getfield 46, 3) := dk_180 0 46 (dk_at dksX4_addCarrier_2 14 rfl rfl)
theorem dX4_addCarrier_65 : decode cX4_addCarrier 65 = .ok (.iconst 1, 1) := dk_4 (dk_at dksX4_addCarrier_2 17 rfl rfl)
theorem dX4_addCarrier_66 : decode cX4_addCarrier 66 = .ok (.iadd, 1) := dk_96 (dk_at dksX4_addCarrier_2 18 rfl rfl)
theorem dX4_addCarrier_67 : decode cX4_addCarrier 67 = .ok (.putfield 46, 3) := dk_181 0 46 (dk_at dksX4_addCarrier_2 19 rfl rfl)
theorem dX4_addCarrier_70 : decode cX4_addCarrier 70 = .ok (.return_, 1) := dk_177 (dk_at dksX4_addCarrier_2 22 rfl rfl)
abbrev cX4_carriedBy : ByteArray := prog_13_method_11_code
def yX4_carriedBy : MethodName := ⟨RX4, "carriedBy", "(I)I"⟩
def dkwX4_carriedBy_2 : List UInt8 := [132, 3, 1, 167, 255, 211, 28, 172]
abbrev dktX4_carriedBy_2 : List UInt8 := dkwX4_carriedBy_2 ++ []
def dkwX4_carriedBy_1 : List UInt8 := [160, 0, 21, 42, 180, 0, 16, 7, 50, 29, 46, 27, 160, 0, 9, 4, 29, 120, 167, 0, 4, 3, 128, 61]
abbrev dktX4_carriedBy_1 : List UInt8 := dkwX4_carriedBy_1 ++ dktX4_carriedBy_2
def dkwX4_carriedBy_0 : List UInt8 := [3, 61, 3, 62, 29, 42, 180, 0, 49, 162, 0, 43, 28, 42, 180, 0, 16, 6, 50, 29, 46, 4]
abbrev dktX4_carriedBy_0 : List UInt8 := dkwX4_carriedBy_0 ++ dktX4_carriedBy_1
theorem dksX4_carriedBy_0 : cX4_carriedBy.data.toList.drop 0 = dktX4_carriedBy_0 := by decide +kernel
theorem dksX4_carriedBy_1 : cX4_carriedBy.data.toList.drop 22 = dktX4_carriedBy_1 := dk_seg dksX4_carriedBy_0 22 rfl rfl
theorem dksX4_carriedBy_2 : cX4_carriedBy.data.toList.drop 46 = dktX4_carriedBy_2 := dk_seg dksX4_carriedBy_1 24 rfl rfl
theorem dX4_carriedBy_0 : decode cX4_carriedBy 0 = .ok (.iconst 0, 1) := dk_3 (dk_at dksX4_carriedBy_0 0 rfl rfl)
theorem dX4_carriedBy_1 : decode cX4_carriedBy 1 = .ok (.istore_n 2, 1) := dk_61 (dk_at dksX4_carriedBy_0 1 rfl rfl)
theorem dX4_carriedBy_2 : decode cX4_carriedBy 2 = .ok (.iconst 0, 1) := dk_3 (dk_at dksX4_carriedBy_0 2 rfl rfl)
theorem dX4_carriedBy_3 : decode cX4_carriedBy 3 = .ok (.istore_n 3, 1) := dk_62 (dk_at dksX4_carriedBy_0 3 rfl rfl)
theorem dX4_carriedBy_4 : decode cX4_carriedBy 4 = .ok (.iload_n 3, 1) := dk_29 (dk_at dksX4_carriedBy_0 4 rfl rfl)
theorem dX4_carriedBy_5 : decode cX4_carriedBy 5 = .ok (.aload_n 0, 1) := dk_42 (dk_at dksX4_carriedBy_0 5 rfl rfl)
theorem dX4_carriedBy_6 : decode cX4_carriedBy 6 = .ok (.getfield 49, 3) := dk_180 0 49 (dk_at dksX4_carriedBy_0 6 rfl rfl)
theorem dX4_carriedBy_9 : decode cX4_carriedBy 9 = .ok (.if_icmp .ge 43, 3) := dk_162 0 43 (dk_at dksX4_carriedBy_0 9 rfl rfl)
theorem dX4_carriedBy_12 : decode cX4_carriedBy 12 = .ok (.iload_n 2, 1) := dk_28 (dk_at dksX4_carriedBy_0 12 rfl rfl)
theorem dX4_carriedBy_13 : decode cX4_carriedBy 13 = .ok (.aload_n 0, 1) := dk_42 (dk_at dksX4_carriedBy_0 13 rfl rfl)
theorem dX4_carriedBy_14 : decode cX4_carriedBy 14 = .ok (.getfield 16, 3) := dk_180 0 16 (dk_at dksX4_carriedBy_0 14 rfl rfl)
theorem dX4_carriedBy_17 : decode cX4_carriedBy 17 = .ok (.iconst 3, 1) := dk_6 (dk_at dksX4_carriedBy_0 17 rfl rfl)
theorem dX4_carriedBy_18 : decode cX4_carriedBy 18 = .ok (.aaload, 1) := dk_50 (dk_at dksX4_carriedBy_0 18 rfl rfl)
theorem dX4_carriedBy_19 : decode cX4_carriedBy 19 = .ok (.iload_n 3, 1) := dk_29 (dk_at dksX4_carriedBy_0 19 rfl rfl)
theorem dX4_carriedBy_20 : decode cX4_carriedBy 20 = .ok (.iaload, 1) := dk_46 (dk_at dksX4_carriedBy_0 20 rfl rfl)
theorem dX4_carriedBy_21 : decode cX4_carriedBy 21 = .ok (.iconst 1, 1) := dk_4 (dk_at dksX4_carriedBy_0 21 rfl rfl)
theorem dX4_carriedBy_22 : decode cX4_carriedBy 22 = .ok (.if_icmp .ne 21, 3) := dk_160 0 21 (dk_at dksX4_carriedBy_1 0 rfl rfl)
theorem dX4_carriedBy_25 : decode cX4_carriedBy 25 = .ok (.aload_n 0, 1) := dk_42 (dk_at dksX4_carriedBy_1 3 rfl rfl)
theorem dX4_carriedBy_26 : decode cX4_carriedBy 26 = .ok (.getfield 16, 3) := dk_180 0 16 (dk_at dksX4_carriedBy_1 4 rfl rfl)
theorem dX4_carriedBy_29 : decode cX4_carriedBy 29 = .ok (.iconst 4, 1) := dk_7 (dk_at dksX4_carriedBy_1 7 rfl rfl)
theorem dX4_carriedBy_30 : decode cX4_carriedBy 30 = .ok (.aaload, 1) := dk_50 (dk_at dksX4_carriedBy_1 8 rfl rfl)
theorem dX4_carriedBy_31 : decode cX4_carriedBy 31 = .ok (.iload_n 3, 1) := dk_29 (dk_at dksX4_carriedBy_1 9 rfl rfl)
theorem dX4_carriedBy_32 : decode cX4_carriedBy 32 = .ok (.iaload, 1) := dk_46 (dk_at dksX4_carriedBy_1 10 rfl rfl)
theorem dX4_carriedBy_33 : decode cX4_carriedBy 33 = .ok (.iload_n 1, 1) := dk_27 (dk_at dksX4_carriedBy_1 11 rfl rfl)
theorem dX4_carriedBy_34 : decode cX4_carriedBy 34 = .ok (.if_icmp .ne 9, 3) := dk_160 0 9 (dk_at dksX4_carriedBy_1 12 rfl rfl)
theorem dX4_carriedBy_37 : decode cX4_carriedBy 37 = .ok (.iconst 1, 1) := dk_4 (dk_at dksX4_carriedBy_1 15 rfl rfl)
theorem dX4_carriedBy_38 : decode cX4_carriedBy 38 = .ok (.iload_n 3, 1) := dk_29 (dk_at dksX4_carriedBy_1 16 rfl rfl)
theorem dX4_carriedBy_39 : decode cX4_carriedBy 39 = .ok (.ishl, 1) := dk_120 (dk_at dksX4_carriedBy_1 17 rfl rfl)
theorem dX4_carriedBy_40 : decode cX4_carriedBy 40 = .ok (.goto 4, 3) := dk_167 0 4 (dk_at dksX4_carriedBy_1 18 rfl rfl)
theorem dX4_carriedBy_43 : decode cX4_carriedBy 43 = .ok (.iconst 0, 1) := dk_3 (dk_at dksX4_carriedBy_1 21 rfl rfl)
theorem dX4_carriedBy_44 : decode cX4_carriedBy 44 = .ok (.ior, 1) := dk_128 (dk_at dksX4_carriedBy_1 22 rfl rfl)
theorem dX4_carriedBy_45 : decode cX4_carriedBy 45 = .ok (.istore_n 2, 1) := dk_61 (dk_at dksX4_carriedBy_1 23 rfl rfl)
theorem dX4_carriedBy_46 : decode cX4_carriedBy 46 = .ok (.iinc 3 1, 3) := dk_132 3 1 (dk_at dksX4_carriedBy_2 0 rfl rfl)
theorem dX4_carriedBy_49 : decode cX4_carriedBy 49 = .ok (.goto (-45), 3) := dk_167 255 211 (dk_at dksX4_carriedBy_2 3 rfl rfl)
theorem dX4_carriedBy_52 : decode cX4_carriedBy 52 = .ok (.iload_n 2, 1) := dk_28 (dk_at dksX4_carriedBy_2 6 rfl rfl)
theorem dX4_carriedBy_53 : decode cX4_carriedBy 53 = .ok (.ireturn, 1) := dk_172 (dk_at dksX4_carriedBy_2 7 rfl rfl)
abbrev cX4_weight : ByteArray := prog_13_method_12_code
def yX4_weight : MethodName := ⟨RX4, "weight", "(I)I"⟩
def dkwX4_weight_1 : List UInt8 := [180, 0, 16, 3, 50, 29, 46, 167, 0, 4, 3, 96, 61, 132, 3, 1, 167, 255, 222, 28, 172]
abbrev dktX4_weight_1 : List UInt8 := dkwX4_weight_1 ++ []
def dkwX4_weight_0 : List UInt8 := [3, 61, 3, 62, 29, 42, 180, 0, 49, 162, 0, 32, 28, 27, 29, 184, 0, 60, 153, 0, 14, 42]
abbrev dktX4_weight_0 : List UInt8 := dkwX4_weight_0 ++ dktX4_weight_1
theorem dksX4_weight_0 : cX4_weight.data.toList.drop 0 = dktX4_weight_0 := by decide +kernel
theorem dksX4_weight_1 : cX4_weight.data.toList.drop 22 = dktX4_weight_1 := dk_seg dksX4_weight_0 22 rfl rfl
theorem dX4_weight_0 : decode cX4_weight 0 = .ok (.iconst 0, 1) := dk_3 (dk_at dksX4_weight_0 0 rfl rfl)
theorem dX4_weight_1 : decode cX4_weight 1 = .ok (.istore_n 2, 1) := dk_61 (dk_at dksX4_weight_0 1 rfl rfl)
theorem dX4_weight_2 : decode cX4_weight 2 = .ok (.iconst 0, 1) := dk_3 (dk_at dksX4_weight_0 2 rfl rfl)
theorem dX4_weight_3 : decode cX4_weight 3 = .ok (.istore_n 3, 1) := dk_62 (dk_at dksX4_weight_0 3 rfl rfl)
theorem dX4_weight_4 : decode cX4_weight 4 = .ok (.iload_n 3, 1) := dk_29 (dk_at dksX4_weight_0 4 rfl rfl)
theorem dX4_weight_5 : decode cX4_weight 5 = .ok (.aload_n 0, 1) := dk_42 (dk_at dksX4_weight_0 5 rfl rfl)
theorem dX4_weight_6 : decode cX4_weight 6 = .ok (.getfield 49, 3) := dk_180 0 49 (dk_at dksX4_weight_0 6 rfl rfl)
theorem dX4_weight_9 : decode cX4_weight 9 = .ok (.if_icmp .ge 32, 3) := dk_162 0 32 (dk_at dksX4_weight_0 9 rfl rfl)
theorem dX4_weight_12 : decode cX4_weight 12 = .ok (.iload_n 2, 1) := dk_28 (dk_at dksX4_weight_0 12 rfl rfl)
theorem dX4_weight_13 : decode cX4_weight 13 = .ok (.iload_n 1, 1) := dk_27 (dk_at dksX4_weight_0 13 rfl rfl)
theorem dX4_weight_14 : decode cX4_weight 14 = .ok (.iload_n 3, 1) := dk_29 (dk_at dksX4_weight_0 14 rfl rfl)
theorem dX4_weight_15 : decode cX4_weight 15 = .ok (.invokestatic 60, 3) := dk_184 0 60 (dk_at dksX4_weight_0 15 rfl rfl)
theorem dX4_weight_18 : decode cX4_weight 18 = .ok (.ifCond .eq 14, 3) := dk_153 0 14 (dk_at dksX4_weight_0 18 rfl rfl)
theorem dX4_weight_21 : decode cX4_weight 21 = .ok (.aload_n 0, 1) := dk_42 (dk_at dksX4_weight_0 21 rfl rfl)
theorem dX4_weight_22 : decode cX4_weight 22 = .ok (.getfield 16, 3) := dk_180 0 16 (dk_at dksX4_weight_1 0 rfl rfl)
theorem dX4_weight_25 : decode cX4_weight 25 = .ok (.iconst 0, 1) := dk_3 (dk_at dksX4_weight_1 3 rfl rfl)
theorem dX4_weight_26 : decode cX4_weight 26 = .ok (.aaload, 1) := dk_50 (dk_at dksX4_weight_1 4 rfl rfl)
theorem dX4_weight_27 : decode cX4_weight 27 = .ok (.iload_n 3, 1) := dk_29 (dk_at dksX4_weight_1 5 rfl rfl)
theorem dX4_weight_28 : decode cX4_weight 28 = .ok (.iaload, 1) := dk_46 (dk_at dksX4_weight_1 6 rfl rfl)
theorem dX4_weight_29 : decode cX4_weight 29 = .ok (.goto 4, 3) := dk_167 0 4 (dk_at dksX4_weight_1 7 rfl rfl)
theorem dX4_weight_32 : decode cX4_weight 32 = .ok (.iconst 0, 1) := dk_3 (dk_at dksX4_weight_1 10 rfl rfl)
theorem dX4_weight_33 : decode cX4_weight 33 = .ok (.iadd, 1) := dk_96 (dk_at dksX4_weight_1 11 rfl rfl)
theorem dX4_weight_34 : decode cX4_weight 34 = .ok (.istore_n 2, 1) := dk_61 (dk_at dksX4_weight_1 12 rfl rfl)
theorem dX4_weight_35 : decode cX4_weight 35 = .ok (.iinc 3 1, 3) := dk_132 3 1 (dk_at dksX4_weight_1 13 rfl rfl)
theorem dX4_weight_38 : decode cX4_weight 38 = .ok (.goto (-34), 3) := dk_167 255 222 (dk_at dksX4_weight_1 16 rfl rfl)
theorem dX4_weight_41 : decode cX4_weight 41 = .ok (.iload_n 2, 1) := dk_28 (dk_at dksX4_weight_1 19 rfl rfl)
theorem dX4_weight_42 : decode cX4_weight 42 = .ok (.ireturn, 1) := dk_172 (dk_at dksX4_weight_1 20 rfl rfl)
abbrev cX4_lays : ByteArray := prog_13_method_9_code
def yX4_lays : MethodName := ⟨RX4, "lays", "(IIII)V"⟩
def dkwX4_lays_1 : List UInt8 := [28, 21, 4, 79, 42, 180, 0, 25, 28, 50, 27, 21, 4, 79, 177]
abbrev dktX4_lays_1 : List UInt8 := dkwX4_lays_1 ++ []
def dkwX4_lays_0 : List UInt8 := [42, 180, 0, 22, 27, 50, 28, 29, 79, 42, 180, 0, 22, 28, 50, 27, 29, 79, 42, 180, 0, 25, 27, 50]
abbrev dktX4_lays_0 : List UInt8 := dkwX4_lays_0 ++ dktX4_lays_1
theorem dksX4_lays_0 : cX4_lays.data.toList.drop 0 = dktX4_lays_0 := by decide +kernel
theorem dksX4_lays_1 : cX4_lays.data.toList.drop 24 = dktX4_lays_1 := dk_seg dksX4_lays_0 24 rfl rfl
theorem dX4_lays_0 : decode cX4_lays 0 = .ok (.aload_n 0, 1) := dk_42 (dk_at dksX4_lays_0 0 rfl rfl)
theorem dX4_lays_1 : decode cX4_lays 1 = .ok (.getfield 22, 3) := dk_180 0 22 (dk_at dksX4_lays_0 1 rfl rfl)
theorem dX4_lays_4 : decode cX4_lays 4 = .ok (.iload_n 1, 1) := dk_27 (dk_at dksX4_lays_0 4 rfl rfl)
theorem dX4_lays_5 : decode cX4_lays 5 = .ok (.aaload, 1) := dk_50 (dk_at dksX4_lays_0 5 rfl rfl)
theorem dX4_lays_6 : decode cX4_lays 6 = .ok (.iload_n 2, 1) := dk_28 (dk_at dksX4_lays_0 6 rfl rfl)
theorem dX4_lays_7 : decode cX4_lays 7 = .ok (.iload_n 3, 1) := dk_29 (dk_at dksX4_lays_0 7 rfl rfl)
theorem dX4_lays_8 : decode cX4_lays 8 = .ok (.iastore, 1) := dk_79 (dk_at dksX4_lays_0 8 rfl rfl)
theorem dX4_lays_9 : decode cX4_lays 9 = .ok (.aload_n 0, 1) := dk_42 (dk_at dksX4_lays_0 9 rfl rfl)
theorem dX4_lays_10 : decode cX4_lays 10 = .ok (.getfield 22, 3) := dk_180 0 22 (dk_at dksX4_lays_0 10 rfl rfl)
theorem dX4_lays_13 : decode cX4_lays 13 = .ok (.iload_n 2, 1) := dk_28 (dk_at dksX4_lays_0 13 rfl rfl)
theorem dX4_lays_14 : decode cX4_lays 14 = .ok (.aaload, 1) := dk_50 (dk_at dksX4_lays_0 14 rfl rfl)
theorem dX4_lays_15 : decode cX4_lays 15 = .ok (.iload_n 1, 1) := dk_27 (dk_at dksX4_lays_0 15 rfl rfl)
theorem dX4_lays_16 : decode cX4_lays 16 = .ok (.iload_n 3, 1) := dk_29 (dk_at dksX4_lays_0 16 rfl rfl)
theorem dX4_lays_17 : decode cX4_lays 17 = .ok (.iastore, 1) := dk_79 (dk_at dksX4_lays_0 17 rfl rfl)
theorem dX4_lays_18 : decode cX4_lays 18 = .ok (.aload_n 0, 1) := dk_42 (dk_at dksX4_lays_0 18 rfl rfl)
theorem dX4_lays_19 : decode cX4_lays 19 = .ok (.getfield 25, 3) := dk_180 0 25 (dk_at dksX4_lays_0 19 rfl rfl)
theorem dX4_lays_22 : decode cX4_lays 22 = .ok (.iload_n 1, 1) := dk_27 (dk_at dksX4_lays_0 22 rfl rfl)
theorem dX4_lays_23 : decode cX4_lays 23 = .ok (.aaload, 1) := dk_50 (dk_at dksX4_lays_0 23 rfl rfl)
theorem dX4_lays_24 : decode cX4_lays 24 = .ok (.iload_n 2, 1) := dk_28 (dk_at dksX4_lays_1 0 rfl rfl)
theorem dX4_lays_25 : decode cX4_lays 25 = .ok (.iload 4, 2) := dk_21 4 (dk_at dksX4_lays_1 1 rfl rfl)
theorem dX4_lays_27 : decode cX4_lays 27 = .ok (.iastore, 1) := dk_79 (dk_at dksX4_lays_1 3 rfl rfl)
theorem dX4_lays_28 : decode cX4_lays 28 = .ok (.aload_n 0, 1) := dk_42 (dk_at dksX4_lays_1 4 rfl rfl)
theorem dX4_lays_29 : decode cX4_lays 29 = .ok (.getfield 25, 3) := dk_180 0 25 (dk_at dksX4_lays_1 5 rfl rfl)
theorem dX4_lays_32 : decode cX4_lays 32 = .ok (.iload_n 2, 1) := dk_28 (dk_at dksX4_lays_1 8 rfl rfl)
theorem dX4_lays_33 : decode cX4_lays 33 = .ok (.aaload, 1) := dk_50 (dk_at dksX4_lays_1 9 rfl rfl)
theorem dX4_lays_34 : decode cX4_lays 34 = .ok (.iload_n 1, 1) := dk_27 (dk_at dksX4_lays_1 10 rfl rfl)
theorem dX4_lays_35 : decode cX4_lays 35 = .ok (.iload 4, 2) := dk_21 4 (dk_at dksX4_lays_1 11 rfl rfl)
theorem dX4_lays_37 : decode cX4_lays 37 = .ok (.iastore, 1) := dk_79 (dk_at dksX4_lays_1 13 rfl rfl)
theorem dX4_lays_38 : decode cX4_lays 38 = .ok (.return_, 1) := dk_177 (dk_at dksX4_lays_1 14 rfl rfl)
abbrev cX4_addErrand : ByteArray := prog_13_method_7_code
def yX4_addErrand : MethodName := ⟨RX4, "addErrand", "(III)V"⟩
def dkwX4_addErrand_2 : List UInt8 := [42, 180, 0, 16, 7, 50, 42, 180, 0, 49, 2, 79, 42, 89, 180, 0, 49, 4, 96, 181, 0, 49, 177]
abbrev dktX4_addErrand_2 : List UInt8 := dkwX4_addErrand_2 ++ []
def dkwX4_addErrand_1 : List UInt8 := [42, 180, 0, 16, 5, 50, 42, 180, 0, 49, 29, 79, 42, 180, 0, 16, 6, 50, 42, 180, 0, 49, 3, 79]
abbrev dktX4_addErrand_1 : List UInt8 := dkwX4_addErrand_1 ++ dktX4_addErrand_2
def dkwX4_addErrand_0 : List UInt8 := [42, 180, 0, 16, 3, 50, 42, 180, 0, 49, 27, 79, 42, 180, 0, 16, 4, 50, 42, 180, 0, 49, 28, 79]
abbrev dktX4_addErrand_0 : List UInt8 := dkwX4_addErrand_0 ++ dktX4_addErrand_1
theorem dksX4_addErrand_0 : cX4_addErrand.data.toList.drop 0 = dktX4_addErrand_0 := by decide +kernel
theorem dksX4_addErrand_1 : cX4_addErrand.data.toList.drop 24 = dktX4_addErrand_1 := dk_seg dksX4_addErrand_0 24 rfl rfl
theorem dksX4_addErrand_2 : cX4_addErrand.data.toList.drop 48 = dktX4_addErrand_2 := dk_seg dksX4_addErrand_1 24 rfl rfl
theorem dX4_addErrand_0 : decode cX4_addErrand 0 = .ok (.aload_n 0, 1) := dk_42 (dk_at dksX4_addErrand_0 0 rfl rfl)
theorem dX4_addErrand_1 : decode cX4_addErrand 1 = .ok (.getfield 16, 3) := dk_180 0 16 (dk_at dksX4_addErrand_0 1 rfl rfl)
theorem dX4_addErrand_4 : decode cX4_addErrand 4 = .ok (.iconst 0, 1) := dk_3 (dk_at dksX4_addErrand_0 4 rfl rfl)
theorem dX4_addErrand_5 : decode cX4_addErrand 5 = .ok (.aaload, 1) := dk_50 (dk_at dksX4_addErrand_0 5 rfl rfl)
theorem dX4_addErrand_6 : decode cX4_addErrand 6 = .ok (.aload_n 0, 1) := dk_42 (dk_at dksX4_addErrand_0 6 rfl rfl)
theorem dX4_addErrand_7 : decode cX4_addErrand 7 = .ok (.getfield 49, 3) := dk_180 0 49 (dk_at dksX4_addErrand_0 7 rfl rfl)
theorem dX4_addErrand_10 : decode cX4_addErrand 10 = .ok (.iload_n 1, 1) := dk_27 (dk_at dksX4_addErrand_0 10 rfl rfl)
theorem dX4_addErrand_11 : decode cX4_addErrand 11 = .ok (.iastore, 1) := dk_79 (dk_at dksX4_addErrand_0 11 rfl rfl)
theorem dX4_addErrand_12 : decode cX4_addErrand 12 = .ok (.aload_n 0, 1) := dk_42 (dk_at dksX4_addErrand_0 12 rfl rfl)
theorem dX4_addErrand_13 : decode cX4_addErrand 13 = .ok (.getfield 16, 3) := dk_180 0 16 (dk_at dksX4_addErrand_0 13 rfl rfl)
theorem dX4_addErrand_16 : decode cX4_addErrand 16 = .ok (.iconst 1, 1) := dk_4 (dk_at dksX4_addErrand_0 16 rfl rfl)
theorem dX4_addErrand_17 : decode cX4_addErrand 17 = .ok (.aaload, 1) := dk_50 (dk_at dksX4_addErrand_0 17 rfl rfl)
theorem dX4_addErrand_18 : decode cX4_addErrand 18 = .ok (.aload_n 0, 1) := dk_42 (dk_at dksX4_addErrand_0 18 rfl rfl)
theorem dX4_addErrand_19 : decode cX4_addErrand 19 = .ok (.getfield 49, 3) := dk_180 0 49 (dk_at dksX4_addErrand_0 19 rfl rfl)
theorem dX4_addErrand_22 : decode cX4_addErrand 22 = .ok (.iload_n 2, 1) := dk_28 (dk_at dksX4_addErrand_0 22 rfl rfl)
theorem dX4_addErrand_23 : decode cX4_addErrand 23 = .ok (.iastore, 1) := dk_79 (dk_at dksX4_addErrand_0 23 rfl rfl)
theorem dX4_addErrand_24 : decode cX4_addErrand 24 = .ok (.aload_n 0, 1) := dk_42 (dk_at dksX4_addErrand_1 0 rfl rfl)
theorem dX4_addErrand_25 : decode cX4_addErrand 25 = .ok (.getfield 16, 3) := dk_180 0 16 (dk_at dksX4_addErrand_1 1 rfl rfl)
theorem dX4_addErrand_28 : decode cX4_addErrand 28 = .ok (.iconst 2, 1) := dk_5 (dk_at dksX4_addErrand_1 4 rfl rfl)
theorem dX4_addErrand_29 : decode cX4_addErrand 29 = .ok (.aaload, 1) := dk_50 (dk_at dksX4_addErrand_1 5 rfl rfl)
theorem dX4_addErrand_30 : decode cX4_addErrand 30 = .ok (.aload_n 0, 1) := dk_42 (dk_at dksX4_addErrand_1 6 rfl rfl)
theorem dX4_addErrand_31 : decode cX4_addErrand 31 = .ok (.getfield 49, 3) := dk_180 0 49 (dk_at dksX4_addErrand_1 7 rfl rfl)
theorem dX4_addErrand_34 : decode cX4_addErrand 34 = .ok (.iload_n 3, 1) := dk_29 (dk_at dksX4_addErrand_1 10 rfl rfl)
theorem dX4_addErrand_35 : decode cX4_addErrand 35 = .ok (.iastore, 1) := dk_79 (dk_at dksX4_addErrand_1 11 rfl rfl)
theorem dX4_addErrand_36 : decode cX4_addErrand 36 = .ok (.aload_n 0, 1) := dk_42 (dk_at dksX4_addErrand_1 12 rfl rfl)
theorem dX4_addErrand_37 : decode cX4_addErrand 37 = .ok (.getfield 16, 3) := dk_180 0 16 (dk_at dksX4_addErrand_1 13 rfl rfl)
theorem dX4_addErrand_40 : decode cX4_addErrand 40 = .ok (.iconst 3, 1) := dk_6 (dk_at dksX4_addErrand_1 16 rfl rfl)
theorem dX4_addErrand_41 : decode cX4_addErrand 41 = .ok (.aaload, 1) := dk_50 (dk_at dksX4_addErrand_1 17 rfl rfl)
theorem dX4_addErrand_42 : decode cX4_addErrand 42 = .ok (.aload_n 0, 1) := dk_42 (dk_at dksX4_addErrand_1 18 rfl rfl)
theorem dX4_addErrand_43 : decode cX4_addErrand 43 = .ok (.getfield 49, 3) := dk_180 0 49 (dk_at dksX4_addErrand_1 19 rfl rfl)
theorem dX4_addErrand_46 : decode cX4_addErrand 46 = .ok (.iconst 0, 1) := dk_3 (dk_at dksX4_addErrand_1 22 rfl rfl)
theorem dX4_addErrand_47 : decode cX4_addErrand 47 = .ok (.iastore, 1) := dk_79 (dk_at dksX4_addErrand_1 23 rfl rfl)
theorem dX4_addErrand_48 : decode cX4_addErrand 48 = .ok (.aload_n 0, 1) := dk_42 (dk_at dksX4_addErrand_2 0 rfl rfl)
theorem dX4_addErrand_49 : decode cX4_addErrand 49 = .ok (.getfield 16, 3) := dk_180 0 16 (dk_at dksX4_addErrand_2 1 rfl rfl)
theorem dX4_addErrand_52 : decode cX4_addErrand 52 = .ok (.iconst 4, 1) := dk_7 (dk_at dksX4_addErrand_2 4 rfl rfl)
theorem dX4_addErrand_53 : decode cX4_addErrand 53 = .ok (.aaload, 1) := dk_50 (dk_at dksX4_addErrand_2 5 rfl rfl)
theorem dX4_addErrand_54 : decode cX4_addErrand 54 = .ok (.aload_n 0, 1) := dk_42 (dk_at dksX4_addErrand_2 6 rfl rfl)
theorem dX4_addErrand_55 : decode cX4_addErrand 55 = .ok (.getfield 49, 3) := dk_180 0 49 (dk_at dksX4_addErrand_2 7 rfl rfl)
theorem dX4_addErrand_58 : decode cX4_addErrand 58 = .ok (.iconst (-1), 1) := dk_2 (dk_at dksX4_addErrand_2 10 rfl rfl)
theorem dX4_addErrand_59 : decode cX4_addErrand 59 = .ok (.iastore, 1) := dk_79 (dk_at dksX4_addErrand_2 11 rfl rfl)
theorem dX4_addErrand_60 : decode cX4_addErrand 60 = .ok (.aload_n 0, 1) := dk_42 (dk_at dksX4_addErrand_2 12 rfl rfl)
theorem dX4_addErrand_61 : decode cX4_addErrand 61 = .ok (.dup, 1) := dk_89 (dk_at dksX4_addErrand_2 13 rfl rfl)
theorem dX4_addErrand_62 : decode cX4_addErrand 62 = .ok (.getfield 49, 3) := dk_180 0 49 (dk_at dksX4_addErrand_2 14 rfl rfl)
theorem dX4_addErrand_65 : decode cX4_addErrand 65 = .ok (.iconst 1, 1) := dk_4 (dk_at dksX4_addErrand_2 17 rfl rfl)
theorem dX4_addErrand_66 : decode cX4_addErrand 66 = .ok (.iadd, 1) := dk_96 (dk_at dksX4_addErrand_2 18 rfl rfl)
theorem dX4_addErrand_67 : decode cX4_addErrand 67 = .ok (.putfield 49, 3) := dk_181 0 49 (dk_at dksX4_addErrand_2 19 rfl rfl)
theorem dX4_addErrand_70 : decode cX4_addErrand 70 = .ok (.return_, 1) := dk_177 (dk_at dksX4_addErrand_2 22 rfl rfl)
abbrev cX4_addWare : ByteArray := prog_13_method_8_code
def yX4_addWare : MethodName := ⟨RX4, "addWare", "(I)V"⟩
def dkwX4_addWare_1 : List UInt8 := [42, 89, 180, 0, 52, 4, 96, 181, 0, 52, 177]
abbrev dktX4_addWare_1 : List UInt8 := dkwX4_addWare_1 ++ []
def dkwX4_addWare_0 : List UInt8 := [42, 180, 0, 19, 3, 50, 42, 180, 0, 52, 27, 79, 42, 180, 0, 19, 4, 50, 42, 180, 0, 52, 2, 79]
abbrev dktX4_addWare_0 : List UInt8 := dkwX4_addWare_0 ++ dktX4_addWare_1
theorem dksX4_addWare_0 : cX4_addWare.data.toList.drop 0 = dktX4_addWare_0 := by decide +kernel
theorem dksX4_addWare_1 : cX4_addWare.data.toList.drop 24 = dktX4_addWare_1 := dk_seg dksX4_addWare_0 24 rfl rfl
theorem dX4_addWare_0 : decode cX4_addWare 0 = .ok (.aload_n 0, 1) := dk_42 (dk_at dksX4_addWare_0 0 rfl rfl)
theorem dX4_addWare_1 : decode cX4_addWare 1 = .ok (.getfield 19, 3) := dk_180 0 19 (dk_at dksX4_addWare_0 1 rfl rfl)
theorem dX4_addWare_4 : decode cX4_addWare 4 = .ok (.iconst 0, 1) := dk_3 (dk_at dksX4_addWare_0 4 rfl rfl)
theorem dX4_addWare_5 : decode cX4_addWare 5 = .ok (.aaload, 1) := dk_50 (dk_at dksX4_addWare_0 5 rfl rfl)
theorem dX4_addWare_6 : decode cX4_addWare 6 = .ok (.aload_n 0, 1) := dk_42 (dk_at dksX4_addWare_0 6 rfl rfl)
theorem dX4_addWare_7 : decode cX4_addWare 7 = .ok (.getfield 52, 3) := dk_180 0 52 (dk_at dksX4_addWare_0 7 rfl rfl)
theorem dX4_addWare_10 : decode cX4_addWare 10 = .ok (.iload_n 1, 1) := dk_27 (dk_at dksX4_addWare_0 10 rfl rfl)
theorem dX4_addWare_11 : decode cX4_addWare 11 = .ok (.iastore, 1) := dk_79 (dk_at dksX4_addWare_0 11 rfl rfl)
theorem dX4_addWare_12 : decode cX4_addWare 12 = .ok (.aload_n 0, 1) := dk_42 (dk_at dksX4_addWare_0 12 rfl rfl)
theorem dX4_addWare_13 : decode cX4_addWare 13 = .ok (.getfield 19, 3) := dk_180 0 19 (dk_at dksX4_addWare_0 13 rfl rfl)
theorem dX4_addWare_16 : decode cX4_addWare 16 = .ok (.iconst 1, 1) := dk_4 (dk_at dksX4_addWare_0 16 rfl rfl)
theorem dX4_addWare_17 : decode cX4_addWare 17 = .ok (.aaload, 1) := dk_50 (dk_at dksX4_addWare_0 17 rfl rfl)
theorem dX4_addWare_18 : decode cX4_addWare 18 = .ok (.aload_n 0, 1) := dk_42 (dk_at dksX4_addWare_0 18 rfl rfl)
theorem dX4_addWare_19 : decode cX4_addWare 19 = .ok (.getfield 52, 3) := dk_180 0 52 (dk_at dksX4_addWare_0 19 rfl rfl)
theorem dX4_addWare_22 : decode cX4_addWare 22 = .ok (.iconst (-1), 1) := dk_2 (dk_at dksX4_addWare_0 22 rfl rfl)
theorem dX4_addWare_23 : decode cX4_addWare 23 = .ok (.iastore, 1) := dk_79 (dk_at dksX4_addWare_0 23 rfl rfl)
theorem dX4_addWare_24 : decode cX4_addWare 24 = .ok (.aload_n 0, 1) := dk_42 (dk_at dksX4_addWare_1 0 rfl rfl)
theorem dX4_addWare_25 : decode cX4_addWare 25 = .ok (.dup, 1) := dk_89 (dk_at dksX4_addWare_1 1 rfl rfl)
theorem dX4_addWare_26 : decode cX4_addWare 26 = .ok (.getfield 52, 3) := dk_180 0 52 (dk_at dksX4_addWare_1 2 rfl rfl)
theorem dX4_addWare_29 : decode cX4_addWare 29 = .ok (.iconst 1, 1) := dk_4 (dk_at dksX4_addWare_1 5 rfl rfl)
theorem dX4_addWare_30 : decode cX4_addWare 30 = .ok (.iadd, 1) := dk_96 (dk_at dksX4_addWare_1 6 rfl rfl)
theorem dX4_addWare_31 : decode cX4_addWare 31 = .ok (.putfield 52, 3) := dk_181 0 52 (dk_at dksX4_addWare_1 7 rfl rfl)
theorem dX4_addWare_34 : decode cX4_addWare 34 = .ok (.return_, 1) := dk_177 (dk_at dksX4_addWare_1 10 rfl rfl)
abbrev cX4_liesAt : ByteArray := prog_13_method_15_code
def yX4_liesAt : MethodName := ⟨RX4, "liesAt", "(II)Z"⟩
def dkwX4_liesAt_1 : List UInt8 := [167, 0, 4, 3, 172]
abbrev dktX4_liesAt_1 : List UInt8 := dkwX4_liesAt_1 ++ []
def dkwX4_liesAt_0 : List UInt8 := [42, 180, 0, 16, 6, 50, 27, 46, 154, 0, 19, 42, 180, 0, 16, 4, 50, 27, 46, 28, 160, 0, 7, 4]
abbrev dktX4_liesAt_0 : List UInt8 := dkwX4_liesAt_0 ++ dktX4_liesAt_1
theorem dksX4_liesAt_0 : cX4_liesAt.data.toList.drop 0 = dktX4_liesAt_0 := by decide +kernel
theorem dksX4_liesAt_1 : cX4_liesAt.data.toList.drop 24 = dktX4_liesAt_1 := dk_seg dksX4_liesAt_0 24 rfl rfl
theorem dX4_liesAt_0 : decode cX4_liesAt 0 = .ok (.aload_n 0, 1) := dk_42 (dk_at dksX4_liesAt_0 0 rfl rfl)
theorem dX4_liesAt_1 : decode cX4_liesAt 1 = .ok (.getfield 16, 3) := dk_180 0 16 (dk_at dksX4_liesAt_0 1 rfl rfl)
theorem dX4_liesAt_4 : decode cX4_liesAt 4 = .ok (.iconst 3, 1) := dk_6 (dk_at dksX4_liesAt_0 4 rfl rfl)
theorem dX4_liesAt_5 : decode cX4_liesAt 5 = .ok (.aaload, 1) := dk_50 (dk_at dksX4_liesAt_0 5 rfl rfl)
theorem dX4_liesAt_6 : decode cX4_liesAt 6 = .ok (.iload_n 1, 1) := dk_27 (dk_at dksX4_liesAt_0 6 rfl rfl)
theorem dX4_liesAt_7 : decode cX4_liesAt 7 = .ok (.iaload, 1) := dk_46 (dk_at dksX4_liesAt_0 7 rfl rfl)
theorem dX4_liesAt_8 : decode cX4_liesAt 8 = .ok (.ifCond .ne 19, 3) := dk_154 0 19 (dk_at dksX4_liesAt_0 8 rfl rfl)
theorem dX4_liesAt_11 : decode cX4_liesAt 11 = .ok (.aload_n 0, 1) := dk_42 (dk_at dksX4_liesAt_0 11 rfl rfl)
theorem dX4_liesAt_12 : decode cX4_liesAt 12 = .ok (.getfield 16, 3) := dk_180 0 16 (dk_at dksX4_liesAt_0 12 rfl rfl)
theorem dX4_liesAt_15 : decode cX4_liesAt 15 = .ok (.iconst 1, 1) := dk_4 (dk_at dksX4_liesAt_0 15 rfl rfl)
theorem dX4_liesAt_16 : decode cX4_liesAt 16 = .ok (.aaload, 1) := dk_50 (dk_at dksX4_liesAt_0 16 rfl rfl)
theorem dX4_liesAt_17 : decode cX4_liesAt 17 = .ok (.iload_n 1, 1) := dk_27 (dk_at dksX4_liesAt_0 17 rfl rfl)
theorem dX4_liesAt_18 : decode cX4_liesAt 18 = .ok (.iaload, 1) := dk_46 (dk_at dksX4_liesAt_0 18 rfl rfl)
theorem dX4_liesAt_19 : decode cX4_liesAt 19 = .ok (.iload_n 2, 1) := dk_28 (dk_at dksX4_liesAt_0 19 rfl rfl)
theorem dX4_liesAt_20 : decode cX4_liesAt 20 = .ok (.if_icmp .ne 7, 3) := dk_160 0 7 (dk_at dksX4_liesAt_0 20 rfl rfl)
theorem dX4_liesAt_23 : decode cX4_liesAt 23 = .ok (.iconst 1, 1) := dk_4 (dk_at dksX4_liesAt_0 23 rfl rfl)
theorem dX4_liesAt_24 : decode cX4_liesAt 24 = .ok (.goto 4, 3) := dk_167 0 4 (dk_at dksX4_liesAt_1 0 rfl rfl)
theorem dX4_liesAt_27 : decode cX4_liesAt 27 = .ok (.iconst 0, 1) := dk_3 (dk_at dksX4_liesAt_1 3 rfl rfl)
theorem dX4_liesAt_28 : decode cX4_liesAt 28 = .ok (.ireturn, 1) := dk_172 (dk_at dksX4_liesAt_1 4 rfl rfl)
abbrev cX4_puts : ByteArray := prog_13_method_16_code
def yX4_puts : MethodName := ⟨RX4, "puts", "(III)V"⟩
def dkwX4_puts_0 : List UInt8 := [42, 180, 0, 16, 6, 50, 27, 28, 79, 42, 180, 0, 16, 7, 50, 27, 29, 79, 177]
abbrev dktX4_puts_0 : List UInt8 := dkwX4_puts_0 ++ []
theorem dksX4_puts_0 : cX4_puts.data.toList.drop 0 = dktX4_puts_0 := by decide +kernel
theorem dX4_puts_0 : decode cX4_puts 0 = .ok (.aload_n 0, 1) := dk_42 (dk_at dksX4_puts_0 0 rfl rfl)
theorem dX4_puts_1 : decode cX4_puts 1 = .ok (.getfield 16, 3) := dk_180 0 16 (dk_at dksX4_puts_0 1 rfl rfl)
theorem dX4_puts_4 : decode cX4_puts 4 = .ok (.iconst 3, 1) := dk_6 (dk_at dksX4_puts_0 4 rfl rfl)
theorem dX4_puts_5 : decode cX4_puts 5 = .ok (.aaload, 1) := dk_50 (dk_at dksX4_puts_0 5 rfl rfl)
theorem dX4_puts_6 : decode cX4_puts 6 = .ok (.iload_n 1, 1) := dk_27 (dk_at dksX4_puts_0 6 rfl rfl)
theorem dX4_puts_7 : decode cX4_puts 7 = .ok (.iload_n 2, 1) := dk_28 (dk_at dksX4_puts_0 7 rfl rfl)
theorem dX4_puts_8 : decode cX4_puts 8 = .ok (.iastore, 1) := dk_79 (dk_at dksX4_puts_0 8 rfl rfl)
theorem dX4_puts_9 : decode cX4_puts 9 = .ok (.aload_n 0, 1) := dk_42 (dk_at dksX4_puts_0 9 rfl rfl)
theorem dX4_puts_10 : decode cX4_puts 10 = .ok (.getfield 16, 3) := dk_180 0 16 (dk_at dksX4_puts_0 10 rfl rfl)
theorem dX4_puts_13 : decode cX4_puts 13 = .ok (.iconst 4, 1) := dk_7 (dk_at dksX4_puts_0 13 rfl rfl)
theorem dX4_puts_14 : decode cX4_puts 14 = .ok (.aaload, 1) := dk_50 (dk_at dksX4_puts_0 14 rfl rfl)
theorem dX4_puts_15 : decode cX4_puts 15 = .ok (.iload_n 1, 1) := dk_27 (dk_at dksX4_puts_0 15 rfl rfl)
theorem dX4_puts_16 : decode cX4_puts 16 = .ok (.iload_n 3, 1) := dk_29 (dk_at dksX4_puts_0 16 rfl rfl)
theorem dX4_puts_17 : decode cX4_puts 17 = .ok (.iastore, 1) := dk_79 (dk_at dksX4_puts_0 17 rfl rfl)
theorem dX4_puts_18 : decode cX4_puts 18 = .ok (.return_, 1) := dk_177 (dk_at dksX4_puts_0 18 rfl rfl)
abbrev cX4_being : ByteArray := prog_13_method_10_code
def yX4_being : MethodName := ⟨RX4, "being", "(I)I"⟩
def dkwX4_being_1 : List UInt8 := [160, 0, 9, 4, 29, 120, 167, 0, 4, 3, 128, 61, 132, 3, 1, 167, 255, 223, 28, 172]
abbrev dktX4_being_1 : List UInt8 := dkwX4_being_1 ++ []
def dkwX4_being_0 : List UInt8 := [3, 61, 3, 62, 29, 42, 180, 0, 49, 162, 0, 31, 28, 42, 180, 0, 16, 6, 50, 29, 46, 27]
abbrev dktX4_being_0 : List UInt8 := dkwX4_being_0 ++ dktX4_being_1
theorem dksX4_being_0 : cX4_being.data.toList.drop 0 = dktX4_being_0 := by decide +kernel
theorem dksX4_being_1 : cX4_being.data.toList.drop 22 = dktX4_being_1 := dk_seg dksX4_being_0 22 rfl rfl
theorem dX4_being_0 : decode cX4_being 0 = .ok (.iconst 0, 1) := dk_3 (dk_at dksX4_being_0 0 rfl rfl)
theorem dX4_being_1 : decode cX4_being 1 = .ok (.istore_n 2, 1) := dk_61 (dk_at dksX4_being_0 1 rfl rfl)
theorem dX4_being_2 : decode cX4_being 2 = .ok (.iconst 0, 1) := dk_3 (dk_at dksX4_being_0 2 rfl rfl)
theorem dX4_being_3 : decode cX4_being 3 = .ok (.istore_n 3, 1) := dk_62 (dk_at dksX4_being_0 3 rfl rfl)
theorem dX4_being_4 : decode cX4_being 4 = .ok (.iload_n 3, 1) := dk_29 (dk_at dksX4_being_0 4 rfl rfl)
theorem dX4_being_5 : decode cX4_being 5 = .ok (.aload_n 0, 1) := dk_42 (dk_at dksX4_being_0 5 rfl rfl)
theorem dX4_being_6 : decode cX4_being 6 = .ok (.getfield 49, 3) := dk_180 0 49 (dk_at dksX4_being_0 6 rfl rfl)
theorem dX4_being_9 : decode cX4_being 9 = .ok (.if_icmp .ge 31, 3) := dk_162 0 31 (dk_at dksX4_being_0 9 rfl rfl)
theorem dX4_being_12 : decode cX4_being 12 = .ok (.iload_n 2, 1) := dk_28 (dk_at dksX4_being_0 12 rfl rfl)
theorem dX4_being_13 : decode cX4_being 13 = .ok (.aload_n 0, 1) := dk_42 (dk_at dksX4_being_0 13 rfl rfl)
theorem dX4_being_14 : decode cX4_being 14 = .ok (.getfield 16, 3) := dk_180 0 16 (dk_at dksX4_being_0 14 rfl rfl)
theorem dX4_being_17 : decode cX4_being 17 = .ok (.iconst 3, 1) := dk_6 (dk_at dksX4_being_0 17 rfl rfl)
theorem dX4_being_18 : decode cX4_being 18 = .ok (.aaload, 1) := dk_50 (dk_at dksX4_being_0 18 rfl rfl)
theorem dX4_being_19 : decode cX4_being 19 = .ok (.iload_n 3, 1) := dk_29 (dk_at dksX4_being_0 19 rfl rfl)
theorem dX4_being_20 : decode cX4_being 20 = .ok (.iaload, 1) := dk_46 (dk_at dksX4_being_0 20 rfl rfl)
theorem dX4_being_21 : decode cX4_being 21 = .ok (.iload_n 1, 1) := dk_27 (dk_at dksX4_being_0 21 rfl rfl)
theorem dX4_being_22 : decode cX4_being 22 = .ok (.if_icmp .ne 9, 3) := dk_160 0 9 (dk_at dksX4_being_1 0 rfl rfl)
theorem dX4_being_25 : decode cX4_being 25 = .ok (.iconst 1, 1) := dk_4 (dk_at dksX4_being_1 3 rfl rfl)
theorem dX4_being_26 : decode cX4_being 26 = .ok (.iload_n 3, 1) := dk_29 (dk_at dksX4_being_1 4 rfl rfl)
theorem dX4_being_27 : decode cX4_being 27 = .ok (.ishl, 1) := dk_120 (dk_at dksX4_being_1 5 rfl rfl)
theorem dX4_being_28 : decode cX4_being 28 = .ok (.goto 4, 3) := dk_167 0 4 (dk_at dksX4_being_1 6 rfl rfl)
theorem dX4_being_31 : decode cX4_being 31 = .ok (.iconst 0, 1) := dk_3 (dk_at dksX4_being_1 9 rfl rfl)
theorem dX4_being_32 : decode cX4_being 32 = .ok (.ior, 1) := dk_128 (dk_at dksX4_being_1 10 rfl rfl)
theorem dX4_being_33 : decode cX4_being 33 = .ok (.istore_n 2, 1) := dk_61 (dk_at dksX4_being_1 11 rfl rfl)
theorem dX4_being_34 : decode cX4_being 34 = .ok (.iinc 3 1, 3) := dk_132 3 1 (dk_at dksX4_being_1 12 rfl rfl)
theorem dX4_being_37 : decode cX4_being 37 = .ok (.goto (-33), 3) := dk_167 255 223 (dk_at dksX4_being_1 15 rfl rfl)
theorem dX4_being_40 : decode cX4_being 40 = .ok (.iload_n 2, 1) := dk_28 (dk_at dksX4_being_1 18 rfl rfl)
theorem dX4_being_41 : decode cX4_being 41 = .ok (.ireturn, 1) := dk_172 (dk_at dksX4_being_1 19 rfl rfl)
abbrev cX4_sold : ByteArray := prog_13_method_14_code
def yX4_sold : MethodName := ⟨RX4, "sold", "()I"⟩
def dkwX4_sold_1 : List UInt8 := [160, 0, 7, 3, 167, 0, 6, 4, 28, 120, 128, 60, 132, 2, 1, 167, 255, 223, 27, 172]
abbrev dktX4_sold_1 : List UInt8 := dkwX4_sold_1 ++ []
def dkwX4_sold_0 : List UInt8 := [3, 60, 3, 61, 28, 42, 180, 0, 52, 162, 0, 31, 27, 42, 180, 0, 19, 4, 50, 28, 46, 2]
abbrev dktX4_sold_0 : List UInt8 := dkwX4_sold_0 ++ dktX4_sold_1
theorem dksX4_sold_0 : cX4_sold.data.toList.drop 0 = dktX4_sold_0 := by decide +kernel
theorem dksX4_sold_1 : cX4_sold.data.toList.drop 22 = dktX4_sold_1 := dk_seg dksX4_sold_0 22 rfl rfl
theorem dX4_sold_0 : decode cX4_sold 0 = .ok (.iconst 0, 1) := dk_3 (dk_at dksX4_sold_0 0 rfl rfl)
theorem dX4_sold_1 : decode cX4_sold 1 = .ok (.istore_n 1, 1) := dk_60 (dk_at dksX4_sold_0 1 rfl rfl)
theorem dX4_sold_2 : decode cX4_sold 2 = .ok (.iconst 0, 1) := dk_3 (dk_at dksX4_sold_0 2 rfl rfl)
theorem dX4_sold_3 : decode cX4_sold 3 = .ok (.istore_n 2, 1) := dk_61 (dk_at dksX4_sold_0 3 rfl rfl)
theorem dX4_sold_4 : decode cX4_sold 4 = .ok (.iload_n 2, 1) := dk_28 (dk_at dksX4_sold_0 4 rfl rfl)
theorem dX4_sold_5 : decode cX4_sold 5 = .ok (.aload_n 0, 1) := dk_42 (dk_at dksX4_sold_0 5 rfl rfl)
theorem dX4_sold_6 : decode cX4_sold 6 = .ok (.getfield 52, 3) := dk_180 0 52 (dk_at dksX4_sold_0 6 rfl rfl)
theorem dX4_sold_9 : decode cX4_sold 9 = .ok (.if_icmp .ge 31, 3) := dk_162 0 31 (dk_at dksX4_sold_0 9 rfl rfl)
theorem dX4_sold_12 : decode cX4_sold 12 = .ok (.iload_n 1, 1) := dk_27 (dk_at dksX4_sold_0 12 rfl rfl)
theorem dX4_sold_13 : decode cX4_sold 13 = .ok (.aload_n 0, 1) := dk_42 (dk_at dksX4_sold_0 13 rfl rfl)
theorem dX4_sold_14 : decode cX4_sold 14 = .ok (.getfield 19, 3) := dk_180 0 19 (dk_at dksX4_sold_0 14 rfl rfl)
theorem dX4_sold_17 : decode cX4_sold 17 = .ok (.iconst 1, 1) := dk_4 (dk_at dksX4_sold_0 17 rfl rfl)
theorem dX4_sold_18 : decode cX4_sold 18 = .ok (.aaload, 1) := dk_50 (dk_at dksX4_sold_0 18 rfl rfl)
theorem dX4_sold_19 : decode cX4_sold 19 = .ok (.iload_n 2, 1) := dk_28 (dk_at dksX4_sold_0 19 rfl rfl)
theorem dX4_sold_20 : decode cX4_sold 20 = .ok (.iaload, 1) := dk_46 (dk_at dksX4_sold_0 20 rfl rfl)
theorem dX4_sold_21 : decode cX4_sold 21 = .ok (.iconst (-1), 1) := dk_2 (dk_at dksX4_sold_0 21 rfl rfl)
theorem dX4_sold_22 : decode cX4_sold 22 = .ok (.if_icmp .ne 7, 3) := dk_160 0 7 (dk_at dksX4_sold_1 0 rfl rfl)
theorem dX4_sold_25 : decode cX4_sold 25 = .ok (.iconst 0, 1) := dk_3 (dk_at dksX4_sold_1 3 rfl rfl)
theorem dX4_sold_26 : decode cX4_sold 26 = .ok (.goto 6, 3) := dk_167 0 6 (dk_at dksX4_sold_1 4 rfl rfl)
theorem dX4_sold_29 : decode cX4_sold 29 = .ok (.iconst 1, 1) := dk_4 (dk_at dksX4_sold_1 7 rfl rfl)
theorem dX4_sold_30 : decode cX4_sold 30 = .ok (.iload_n 2, 1) := dk_28 (dk_at dksX4_sold_1 8 rfl rfl)
theorem dX4_sold_31 : decode cX4_sold 31 = .ok (.ishl, 1) := dk_120 (dk_at dksX4_sold_1 9 rfl rfl)
theorem dX4_sold_32 : decode cX4_sold 32 = .ok (.ior, 1) := dk_128 (dk_at dksX4_sold_1 10 rfl rfl)
theorem dX4_sold_33 : decode cX4_sold 33 = .ok (.istore_n 1, 1) := dk_60 (dk_at dksX4_sold_1 11 rfl rfl)
theorem dX4_sold_34 : decode cX4_sold 34 = .ok (.iinc 2 1, 3) := dk_132 2 1 (dk_at dksX4_sold_1 12 rfl rfl)
theorem dX4_sold_37 : decode cX4_sold 37 = .ok (.goto (-33), 3) := dk_167 255 223 (dk_at dksX4_sold_1 15 rfl rfl)
theorem dX4_sold_40 : decode cX4_sold 40 = .ok (.iload_n 1, 1) := dk_27 (dk_at dksX4_sold_1 18 rfl rfl)
theorem dX4_sold_41 : decode cX4_sold 41 = .ok (.ireturn, 1) := dk_172 (dk_at dksX4_sold_1 19 rfl rfl)
abbrev cX4_sumOf : ByteArray := prog_13_method_13_code
def yX4_sumOf : MethodName := ⟨RX4, "sumOf", "(I)I"⟩
def dkwX4_sumOf_1 : List UInt8 := [132, 3, 1, 167, 255, 234, 28, 172]
abbrev dktX4_sumOf_1 : List UInt8 := dkwX4_sumOf_1 ++ []
def dkwX4_sumOf_0 : List UInt8 := [3, 61, 3, 62, 29, 42, 180, 0, 46, 162, 0, 20, 28, 42, 180, 0, 11, 27, 50, 29, 46, 96, 61]
abbrev dktX4_sumOf_0 : List UInt8 := dkwX4_sumOf_0 ++ dktX4_sumOf_1
theorem dksX4_sumOf_0 : cX4_sumOf.data.toList.drop 0 = dktX4_sumOf_0 := by decide +kernel
theorem dksX4_sumOf_1 : cX4_sumOf.data.toList.drop 23 = dktX4_sumOf_1 := dk_seg dksX4_sumOf_0 23 rfl rfl
theorem dX4_sumOf_0 : decode cX4_sumOf 0 = .ok (.iconst 0, 1) := dk_3 (dk_at dksX4_sumOf_0 0 rfl rfl)
theorem dX4_sumOf_1 : decode cX4_sumOf 1 = .ok (.istore_n 2, 1) := dk_61 (dk_at dksX4_sumOf_0 1 rfl rfl)
theorem dX4_sumOf_2 : decode cX4_sumOf 2 = .ok (.iconst 0, 1) := dk_3 (dk_at dksX4_sumOf_0 2 rfl rfl)
theorem dX4_sumOf_3 : decode cX4_sumOf 3 = .ok (.istore_n 3, 1) := dk_62 (dk_at dksX4_sumOf_0 3 rfl rfl)
theorem dX4_sumOf_4 : decode cX4_sumOf 4 = .ok (.iload_n 3, 1) := dk_29 (dk_at dksX4_sumOf_0 4 rfl rfl)
theorem dX4_sumOf_5 : decode cX4_sumOf 5 = .ok (.aload_n 0, 1) := dk_42 (dk_at dksX4_sumOf_0 5 rfl rfl)
theorem dX4_sumOf_6 : decode cX4_sumOf 6 = .ok (.getfield 46, 3) := dk_180 0 46 (dk_at dksX4_sumOf_0 6 rfl rfl)
theorem dX4_sumOf_9 : decode cX4_sumOf 9 = .ok (.if_icmp .ge 20, 3) := dk_162 0 20 (dk_at dksX4_sumOf_0 9 rfl rfl)
theorem dX4_sumOf_12 : decode cX4_sumOf 12 = .ok (.iload_n 2, 1) := dk_28 (dk_at dksX4_sumOf_0 12 rfl rfl)
theorem dX4_sumOf_13 : decode cX4_sumOf 13 = .ok (.aload_n 0, 1) := dk_42 (dk_at dksX4_sumOf_0 13 rfl rfl)
theorem dX4_sumOf_14 : decode cX4_sumOf 14 = .ok (.getfield 11, 3) := dk_180 0 11 (dk_at dksX4_sumOf_0 14 rfl rfl)
theorem dX4_sumOf_17 : decode cX4_sumOf 17 = .ok (.iload_n 1, 1) := dk_27 (dk_at dksX4_sumOf_0 17 rfl rfl)
theorem dX4_sumOf_18 : decode cX4_sumOf 18 = .ok (.aaload, 1) := dk_50 (dk_at dksX4_sumOf_0 18 rfl rfl)
theorem dX4_sumOf_19 : decode cX4_sumOf 19 = .ok (.iload_n 3, 1) := dk_29 (dk_at dksX4_sumOf_0 19 rfl rfl)
theorem dX4_sumOf_20 : decode cX4_sumOf 20 = .ok (.iaload, 1) := dk_46 (dk_at dksX4_sumOf_0 20 rfl rfl)
theorem dX4_sumOf_21 : decode cX4_sumOf 21 = .ok (.iadd, 1) := dk_96 (dk_at dksX4_sumOf_0 21 rfl rfl)
theorem dX4_sumOf_22 : decode cX4_sumOf 22 = .ok (.istore_n 2, 1) := dk_61 (dk_at dksX4_sumOf_0 22 rfl rfl)
theorem dX4_sumOf_23 : decode cX4_sumOf 23 = .ok (.iinc 3 1, 3) := dk_132 3 1 (dk_at dksX4_sumOf_1 0 rfl rfl)
theorem dX4_sumOf_26 : decode cX4_sumOf 26 = .ok (.goto (-22), 3) := dk_167 255 234 (dk_at dksX4_sumOf_1 3 rfl rfl)
theorem dX4_sumOf_29 : decode cX4_sumOf 29 = .ok (.iload_n 2, 1) := dk_28 (dk_at dksX4_sumOf_1 6 rfl rfl)
theorem dX4_sumOf_30 : decode cX4_sumOf 30 = .ok (.ireturn, 1) := dk_172 (dk_at dksX4_sumOf_1 7 rfl rfl)
abbrev cX4_withWays : ByteArray := prog_13_method_17_code
def yX4_withWays : MethodName := ⟨RX4, "withWays", "()I"⟩
def dkwX4_withWays_2 : List UInt8 := [167, 255, 212, 27, 172]
abbrev dktX4_withWays_2 : List UInt8 := dkwX4_withWays_2 ++ []
def dkwX4_withWays_1 : List UInt8 := [50, 29, 46, 158, 0, 9, 4, 28, 120, 167, 0, 4, 3, 128, 60, 132, 3, 1, 167, 255, 226, 132, 2, 1]
abbrev dktX4_withWays_1 : List UInt8 := dkwX4_withWays_1 ++ dktX4_withWays_2
def dkwX4_withWays_0 : List UInt8 := [3, 60, 3, 61, 28, 16, 7, 162, 0, 44, 3, 62, 29, 16, 7, 162, 0, 30, 27, 42, 180, 0, 22, 28]
abbrev dktX4_withWays_0 : List UInt8 := dkwX4_withWays_0 ++ dktX4_withWays_1
theorem dksX4_withWays_0 : cX4_withWays.data.toList.drop 0 = dktX4_withWays_0 := by decide +kernel
theorem dksX4_withWays_1 : cX4_withWays.data.toList.drop 24 = dktX4_withWays_1 := dk_seg dksX4_withWays_0 24 rfl rfl
theorem dksX4_withWays_2 : cX4_withWays.data.toList.drop 48 = dktX4_withWays_2 := dk_seg dksX4_withWays_1 24 rfl rfl
theorem dX4_withWays_0 : decode cX4_withWays 0 = .ok (.iconst 0, 1) := dk_3 (dk_at dksX4_withWays_0 0 rfl rfl)
theorem dX4_withWays_1 : decode cX4_withWays 1 = .ok (.istore_n 1, 1) := dk_60 (dk_at dksX4_withWays_0 1 rfl rfl)
theorem dX4_withWays_2 : decode cX4_withWays 2 = .ok (.iconst 0, 1) := dk_3 (dk_at dksX4_withWays_0 2 rfl rfl)
theorem dX4_withWays_3 : decode cX4_withWays 3 = .ok (.istore_n 2, 1) := dk_61 (dk_at dksX4_withWays_0 3 rfl rfl)
theorem dX4_withWays_4 : decode cX4_withWays 4 = .ok (.iload_n 2, 1) := dk_28 (dk_at dksX4_withWays_0 4 rfl rfl)
theorem dX4_withWays_5 : decode cX4_withWays 5 = .ok (.bipush 7, 2) := dk_16 7 (dk_at dksX4_withWays_0 5 rfl rfl)
theorem dX4_withWays_7 : decode cX4_withWays 7 = .ok (.if_icmp .ge 44, 3) := dk_162 0 44 (dk_at dksX4_withWays_0 7 rfl rfl)
theorem dX4_withWays_10 : decode cX4_withWays 10 = .ok (.iconst 0, 1) := dk_3 (dk_at dksX4_withWays_0 10 rfl rfl)
theorem dX4_withWays_11 : decode cX4_withWays 11 = .ok (.istore_n 3, 1) := dk_62 (dk_at dksX4_withWays_0 11 rfl rfl)
theorem dX4_withWays_12 : decode cX4_withWays 12 = .ok (.iload_n 3, 1) := dk_29 (dk_at dksX4_withWays_0 12 rfl rfl)
theorem dX4_withWays_13 : decode cX4_withWays 13 = .ok (.bipush 7, 2) := dk_16 7 (dk_at dksX4_withWays_0 13 rfl rfl)
theorem dX4_withWays_15 : decode cX4_withWays 15 = .ok (.if_icmp .ge 30, 3) := dk_162 0 30 (dk_at dksX4_withWays_0 15 rfl rfl)
theorem dX4_withWays_18 : decode cX4_withWays 18 = .ok (.iload_n 1, 1) := dk_27 (dk_at dksX4_withWays_0 18 rfl rfl)
theorem dX4_withWays_19 : decode cX4_withWays 19 = .ok (.aload_n 0, 1) := dk_42 (dk_at dksX4_withWays_0 19 rfl rfl)
theorem dX4_withWays_20 : decode cX4_withWays 20 = .ok (.getfield 22, 3) := dk_180 0 22 (dk_at dksX4_withWays_0 20 rfl rfl)
theorem dX4_withWays_23 : decode cX4_withWays 23 = .ok (.iload_n 2, 1) := dk_28 (dk_at dksX4_withWays_0 23 rfl rfl)
theorem dX4_withWays_24 : decode cX4_withWays 24 = .ok (.aaload, 1) := dk_50 (dk_at dksX4_withWays_1 0 rfl rfl)
theorem dX4_withWays_25 : decode cX4_withWays 25 = .ok (.iload_n 3, 1) := dk_29 (dk_at dksX4_withWays_1 1 rfl rfl)
theorem dX4_withWays_26 : decode cX4_withWays 26 = .ok (.iaload, 1) := dk_46 (dk_at dksX4_withWays_1 2 rfl rfl)
theorem dX4_withWays_27 : decode cX4_withWays 27 = .ok (.ifCond .le 9, 3) := dk_158 0 9 (dk_at dksX4_withWays_1 3 rfl rfl)
theorem dX4_withWays_30 : decode cX4_withWays 30 = .ok (.iconst 1, 1) := dk_4 (dk_at dksX4_withWays_1 6 rfl rfl)
theorem dX4_withWays_31 : decode cX4_withWays 31 = .ok (.iload_n 2, 1) := dk_28 (dk_at dksX4_withWays_1 7 rfl rfl)
theorem dX4_withWays_32 : decode cX4_withWays 32 = .ok (.ishl, 1) := dk_120 (dk_at dksX4_withWays_1 8 rfl rfl)
theorem dX4_withWays_33 : decode cX4_withWays 33 = .ok (.goto 4, 3) := dk_167 0 4 (dk_at dksX4_withWays_1 9 rfl rfl)
theorem dX4_withWays_36 : decode cX4_withWays 36 = .ok (.iconst 0, 1) := dk_3 (dk_at dksX4_withWays_1 12 rfl rfl)
theorem dX4_withWays_37 : decode cX4_withWays 37 = .ok (.ior, 1) := dk_128 (dk_at dksX4_withWays_1 13 rfl rfl)
theorem dX4_withWays_38 : decode cX4_withWays 38 = .ok (.istore_n 1, 1) := dk_60 (dk_at dksX4_withWays_1 14 rfl rfl)
theorem dX4_withWays_39 : decode cX4_withWays 39 = .ok (.iinc 3 1, 3) := dk_132 3 1 (dk_at dksX4_withWays_1 15 rfl rfl)
theorem dX4_withWays_42 : decode cX4_withWays 42 = .ok (.goto (-30), 3) := dk_167 255 226 (dk_at dksX4_withWays_1 18 rfl rfl)
theorem dX4_withWays_45 : decode cX4_withWays 45 = .ok (.iinc 2 1, 3) := dk_132 2 1 (dk_at dksX4_withWays_1 21 rfl rfl)
theorem dX4_withWays_48 : decode cX4_withWays 48 = .ok (.goto (-44), 3) := dk_167 255 212 (dk_at dksX4_withWays_2 0 rfl rfl)
theorem dX4_withWays_51 : decode cX4_withWays 51 = .ok (.iload_n 1, 1) := dk_27 (dk_at dksX4_withWays_2 3 rfl rfl)
theorem dX4_withWays_52 : decode cX4_withWays 52 = .ok (.ireturn, 1) := dk_172 (dk_at dksX4_withWays_2 4 rfl rfl)
abbrev cX4_draw : ByteArray := prog_13_method_5_code
def yX4_draw : MethodName := ⟨RX4, "draw", "()I"⟩
def dkwX4_draw_0 : List UInt8 := [42, 42, 180, 0, 28, 18, 59, 104, 17, 48, 57, 96, 181, 0, 28, 42, 180, 0, 28, 16, 8, 124, 172]
abbrev dktX4_draw_0 : List UInt8 := dkwX4_draw_0 ++ []
theorem dksX4_draw_0 : cX4_draw.data.toList.drop 0 = dktX4_draw_0 := by decide +kernel
theorem dX4_draw_0 : decode cX4_draw 0 = .ok (.aload_n 0, 1) := dk_42 (dk_at dksX4_draw_0 0 rfl rfl)
theorem dX4_draw_1 : decode cX4_draw 1 = .ok (.aload_n 0, 1) := dk_42 (dk_at dksX4_draw_0 1 rfl rfl)
theorem dX4_draw_2 : decode cX4_draw 2 = .ok (.getfield 28, 3) := dk_180 0 28 (dk_at dksX4_draw_0 2 rfl rfl)
theorem dX4_draw_5 : decode cX4_draw 5 = .ok (.ldc 59, 2) := dk_18 59 (dk_at dksX4_draw_0 5 rfl rfl)
theorem dX4_draw_7 : decode cX4_draw 7 = .ok (.imul, 1) := dk_104 (dk_at dksX4_draw_0 7 rfl rfl)
theorem dX4_draw_8 : decode cX4_draw 8 = .ok (.sipush 12345, 3) := dk_17 48 57 (dk_at dksX4_draw_0 8 rfl rfl)
theorem dX4_draw_11 : decode cX4_draw 11 = .ok (.iadd, 1) := dk_96 (dk_at dksX4_draw_0 11 rfl rfl)
theorem dX4_draw_12 : decode cX4_draw 12 = .ok (.putfield 28, 3) := dk_181 0 28 (dk_at dksX4_draw_0 12 rfl rfl)
theorem dX4_draw_15 : decode cX4_draw 15 = .ok (.aload_n 0, 1) := dk_42 (dk_at dksX4_draw_0 15 rfl rfl)
theorem dX4_draw_16 : decode cX4_draw 16 = .ok (.getfield 28, 3) := dk_180 0 28 (dk_at dksX4_draw_0 16 rfl rfl)
theorem dX4_draw_19 : decode cX4_draw 19 = .ok (.bipush 8, 2) := dk_16 8 (dk_at dksX4_draw_0 19 rfl rfl)
theorem dX4_draw_21 : decode cX4_draw 21 = .ok (.iushr, 1) := dk_124 (dk_at dksX4_draw_0 21 rfl rfl)
theorem dX4_draw_22 : decode cX4_draw 22 = .ok (.ireturn, 1) := dk_172 (dk_at dksX4_draw_0 22 rfl rfl)
abbrev cX4_become : ByteArray := prog_13_method_4_code
def yX4_become : MethodName := ⟨RX4, "become", "(LCarryFair$World;)V"⟩
def dkwX4_become_4 : List UInt8 := [180, 0, 32, 184, 0, 42, 177]
abbrev dktX4_become_4 : List UInt8 := dkwX4_become_4 ++ []
def dkwX4_become_3 : List UInt8 := [180, 0, 22, 184, 0, 55, 43, 180, 0, 25, 42, 180, 0, 25, 184, 0, 55, 43, 180, 0, 32, 42]
abbrev dktX4_become_3 : List UInt8 := dkwX4_become_3 ++ dktX4_become_4
def dkwX4_become_2 : List UInt8 := [180, 0, 16, 184, 0, 55, 43, 180, 0, 19, 42, 180, 0, 19, 184, 0, 55, 43, 180, 0, 22, 42]
abbrev dktX4_become_2 : List UInt8 := dkwX4_become_2 ++ dktX4_become_3
def dkwX4_become_1 : List UInt8 := [42, 43, 180, 0, 28, 181, 0, 28, 43, 180, 0, 11, 42, 180, 0, 11, 184, 0, 55, 43, 180, 0, 16, 42]
abbrev dktX4_become_1 : List UInt8 := dkwX4_become_1 ++ dktX4_become_2
def dkwX4_become_0 : List UInt8 := [42, 43, 180, 0, 46, 181, 0, 46, 42, 43, 180, 0, 49, 181, 0, 49, 42, 43, 180, 0, 52, 181, 0, 52]
abbrev dktX4_become_0 : List UInt8 := dkwX4_become_0 ++ dktX4_become_1
theorem dksX4_become_0 : cX4_become.data.toList.drop 0 = dktX4_become_0 := by decide +kernel
theorem dksX4_become_1 : cX4_become.data.toList.drop 24 = dktX4_become_1 := dk_seg dksX4_become_0 24 rfl rfl
theorem dksX4_become_2 : cX4_become.data.toList.drop 48 = dktX4_become_2 := dk_seg dksX4_become_1 24 rfl rfl
theorem dksX4_become_3 : cX4_become.data.toList.drop 70 = dktX4_become_3 := dk_seg dksX4_become_2 22 rfl rfl
theorem dksX4_become_4 : cX4_become.data.toList.drop 92 = dktX4_become_4 := dk_seg dksX4_become_3 22 rfl rfl
theorem dX4_become_0 : decode cX4_become 0 = .ok (.aload_n 0, 1) := dk_42 (dk_at dksX4_become_0 0 rfl rfl)
theorem dX4_become_1 : decode cX4_become 1 = .ok (.aload_n 1, 1) := dk_43 (dk_at dksX4_become_0 1 rfl rfl)
theorem dX4_become_2 : decode cX4_become 2 = .ok (.getfield 46, 3) := dk_180 0 46 (dk_at dksX4_become_0 2 rfl rfl)
theorem dX4_become_5 : decode cX4_become 5 = .ok (.putfield 46, 3) := dk_181 0 46 (dk_at dksX4_become_0 5 rfl rfl)
theorem dX4_become_8 : decode cX4_become 8 = .ok (.aload_n 0, 1) := dk_42 (dk_at dksX4_become_0 8 rfl rfl)
theorem dX4_become_9 : decode cX4_become 9 = .ok (.aload_n 1, 1) := dk_43 (dk_at dksX4_become_0 9 rfl rfl)
theorem dX4_become_10 : decode cX4_become 10 = .ok (.getfield 49, 3) := dk_180 0 49 (dk_at dksX4_become_0 10 rfl rfl)
theorem dX4_become_13 : decode cX4_become 13 = .ok (.putfield 49, 3) := dk_181 0 49 (dk_at dksX4_become_0 13 rfl rfl)
theorem dX4_become_16 : decode cX4_become 16 = .ok (.aload_n 0, 1) := dk_42 (dk_at dksX4_become_0 16 rfl rfl)
theorem dX4_become_17 : decode cX4_become 17 = .ok (.aload_n 1, 1) := dk_43 (dk_at dksX4_become_0 17 rfl rfl)
theorem dX4_become_18 : decode cX4_become 18 = .ok (.getfield 52, 3) := dk_180 0 52 (dk_at dksX4_become_0 18 rfl rfl)
theorem dX4_become_21 : decode cX4_become 21 = .ok (.putfield 52, 3) := dk_181 0 52 (dk_at dksX4_become_0 21 rfl rfl)
theorem dX4_become_24 : decode cX4_become 24 = .ok (.aload_n 0, 1) := dk_42 (dk_at dksX4_become_1 0 rfl rfl)
theorem dX4_become_25 : decode cX4_become 25 = .ok (.aload_n 1, 1) := dk_43 (dk_at dksX4_become_1 1 rfl rfl)
theorem dX4_become_26 : decode cX4_become 26 = .ok (.getfield 28, 3) := dk_180 0 28 (dk_at dksX4_become_1 2 rfl rfl)
theorem dX4_become_29 : decode cX4_become 29 = .ok (.putfield 28, 3) := dk_181 0 28 (dk_at dksX4_become_1 5 rfl rfl)
theorem dX4_become_32 : decode cX4_become 32 = .ok (.aload_n 1, 1) := dk_43 (dk_at dksX4_become_1 8 rfl rfl)
theorem dX4_become_33 : decode cX4_become 33 = .ok (.getfield 11, 3) := dk_180 0 11 (dk_at dksX4_become_1 9 rfl rfl)
theorem dX4_become_36 : decode cX4_become 36 = .ok (.aload_n 0, 1) := dk_42 (dk_at dksX4_become_1 12 rfl rfl)
theorem dX4_become_37 : decode cX4_become 37 = .ok (.getfield 11, 3) := dk_180 0 11 (dk_at dksX4_become_1 13 rfl rfl)
theorem dX4_become_40 : decode cX4_become 40 = .ok (.invokestatic 55, 3) := dk_184 0 55 (dk_at dksX4_become_1 16 rfl rfl)
theorem dX4_become_43 : decode cX4_become 43 = .ok (.aload_n 1, 1) := dk_43 (dk_at dksX4_become_1 19 rfl rfl)
theorem dX4_become_44 : decode cX4_become 44 = .ok (.getfield 16, 3) := dk_180 0 16 (dk_at dksX4_become_1 20 rfl rfl)
theorem dX4_become_47 : decode cX4_become 47 = .ok (.aload_n 0, 1) := dk_42 (dk_at dksX4_become_1 23 rfl rfl)
theorem dX4_become_48 : decode cX4_become 48 = .ok (.getfield 16, 3) := dk_180 0 16 (dk_at dksX4_become_2 0 rfl rfl)
theorem dX4_become_51 : decode cX4_become 51 = .ok (.invokestatic 55, 3) := dk_184 0 55 (dk_at dksX4_become_2 3 rfl rfl)
theorem dX4_become_54 : decode cX4_become 54 = .ok (.aload_n 1, 1) := dk_43 (dk_at dksX4_become_2 6 rfl rfl)
theorem dX4_become_55 : decode cX4_become 55 = .ok (.getfield 19, 3) := dk_180 0 19 (dk_at dksX4_become_2 7 rfl rfl)
theorem dX4_become_58 : decode cX4_become 58 = .ok (.aload_n 0, 1) := dk_42 (dk_at dksX4_become_2 10 rfl rfl)
theorem dX4_become_59 : decode cX4_become 59 = .ok (.getfield 19, 3) := dk_180 0 19 (dk_at dksX4_become_2 11 rfl rfl)
theorem dX4_become_62 : decode cX4_become 62 = .ok (.invokestatic 55, 3) := dk_184 0 55 (dk_at dksX4_become_2 14 rfl rfl)
theorem dX4_become_65 : decode cX4_become 65 = .ok (.aload_n 1, 1) := dk_43 (dk_at dksX4_become_2 17 rfl rfl)
theorem dX4_become_66 : decode cX4_become 66 = .ok (.getfield 22, 3) := dk_180 0 22 (dk_at dksX4_become_2 18 rfl rfl)
theorem dX4_become_69 : decode cX4_become 69 = .ok (.aload_n 0, 1) := dk_42 (dk_at dksX4_become_2 21 rfl rfl)
theorem dX4_become_70 : decode cX4_become 70 = .ok (.getfield 22, 3) := dk_180 0 22 (dk_at dksX4_become_3 0 rfl rfl)
theorem dX4_become_73 : decode cX4_become 73 = .ok (.invokestatic 55, 3) := dk_184 0 55 (dk_at dksX4_become_3 3 rfl rfl)
theorem dX4_become_76 : decode cX4_become 76 = .ok (.aload_n 1, 1) := dk_43 (dk_at dksX4_become_3 6 rfl rfl)
theorem dX4_become_77 : decode cX4_become 77 = .ok (.getfield 25, 3) := dk_180 0 25 (dk_at dksX4_become_3 7 rfl rfl)
theorem dX4_become_80 : decode cX4_become 80 = .ok (.aload_n 0, 1) := dk_42 (dk_at dksX4_become_3 10 rfl rfl)
theorem dX4_become_81 : decode cX4_become 81 = .ok (.getfield 25, 3) := dk_180 0 25 (dk_at dksX4_become_3 11 rfl rfl)
theorem dX4_become_84 : decode cX4_become 84 = .ok (.invokestatic 55, 3) := dk_184 0 55 (dk_at dksX4_become_3 14 rfl rfl)
theorem dX4_become_87 : decode cX4_become 87 = .ok (.aload_n 1, 1) := dk_43 (dk_at dksX4_become_3 17 rfl rfl)
theorem dX4_become_88 : decode cX4_become 88 = .ok (.getfield 32, 3) := dk_180 0 32 (dk_at dksX4_become_3 18 rfl rfl)
theorem dX4_become_91 : decode cX4_become 91 = .ok (.aload_n 0, 1) := dk_42 (dk_at dksX4_become_3 21 rfl rfl)
theorem dX4_become_92 : decode cX4_become 92 = .ok (.getfield 32, 3) := dk_180 0 32 (dk_at dksX4_become_4 0 rfl rfl)
theorem dX4_become_95 : decode cX4_become 95 = .ok (.invokestatic 42, 3) := dk_184 0 42 (dk_at dksX4_become_4 3 rfl rfl)
theorem dX4_become_98 : decode cX4_become 98 = .ok (.return_, 1) := dk_177 (dk_at dksX4_become_4 6 rfl rfl)
abbrev cX4_copyAll : ByteArray := prog_13_method_3_code
def yX4_copyAll : MethodName := ⟨RX4, "copyAll", "([[I[[I)V"⟩
def dkwX4_copyAll_0 : List UInt8 := [3, 61, 28, 43, 190, 162, 0, 18, 42, 28, 50, 43, 28, 50, 184, 0, 42, 132, 2, 1, 167, 255, 238, 177]
abbrev dktX4_copyAll_0 : List UInt8 := dkwX4_copyAll_0 ++ []
theorem dksX4_copyAll_0 : cX4_copyAll.data.toList.drop 0 = dktX4_copyAll_0 := by decide +kernel
theorem dX4_copyAll_0 : decode cX4_copyAll 0 = .ok (.iconst 0, 1) := dk_3 (dk_at dksX4_copyAll_0 0 rfl rfl)
theorem dX4_copyAll_1 : decode cX4_copyAll 1 = .ok (.istore_n 2, 1) := dk_61 (dk_at dksX4_copyAll_0 1 rfl rfl)
theorem dX4_copyAll_2 : decode cX4_copyAll 2 = .ok (.iload_n 2, 1) := dk_28 (dk_at dksX4_copyAll_0 2 rfl rfl)
theorem dX4_copyAll_3 : decode cX4_copyAll 3 = .ok (.aload_n 1, 1) := dk_43 (dk_at dksX4_copyAll_0 3 rfl rfl)
theorem dX4_copyAll_4 : decode cX4_copyAll 4 = .ok (.arraylength, 1) := dk_190 (dk_at dksX4_copyAll_0 4 rfl rfl)
theorem dX4_copyAll_5 : decode cX4_copyAll 5 = .ok (.if_icmp .ge 18, 3) := dk_162 0 18 (dk_at dksX4_copyAll_0 5 rfl rfl)
theorem dX4_copyAll_8 : decode cX4_copyAll 8 = .ok (.aload_n 0, 1) := dk_42 (dk_at dksX4_copyAll_0 8 rfl rfl)
theorem dX4_copyAll_9 : decode cX4_copyAll 9 = .ok (.iload_n 2, 1) := dk_28 (dk_at dksX4_copyAll_0 9 rfl rfl)
theorem dX4_copyAll_10 : decode cX4_copyAll 10 = .ok (.aaload, 1) := dk_50 (dk_at dksX4_copyAll_0 10 rfl rfl)
theorem dX4_copyAll_11 : decode cX4_copyAll 11 = .ok (.aload_n 1, 1) := dk_43 (dk_at dksX4_copyAll_0 11 rfl rfl)
theorem dX4_copyAll_12 : decode cX4_copyAll 12 = .ok (.iload_n 2, 1) := dk_28 (dk_at dksX4_copyAll_0 12 rfl rfl)
theorem dX4_copyAll_13 : decode cX4_copyAll 13 = .ok (.aaload, 1) := dk_50 (dk_at dksX4_copyAll_0 13 rfl rfl)
theorem dX4_copyAll_14 : decode cX4_copyAll 14 = .ok (.invokestatic 42, 3) := dk_184 0 42 (dk_at dksX4_copyAll_0 14 rfl rfl)
theorem dX4_copyAll_17 : decode cX4_copyAll 17 = .ok (.iinc 2 1, 3) := dk_132 2 1 (dk_at dksX4_copyAll_0 17 rfl rfl)
theorem dX4_copyAll_20 : decode cX4_copyAll 20 = .ok (.goto (-18), 3) := dk_167 255 238 (dk_at dksX4_copyAll_0 20 rfl rfl)
theorem dX4_copyAll_23 : decode cX4_copyAll 23 = .ok (.return_, 1) := dk_177 (dk_at dksX4_copyAll_0 23 rfl rfl)
abbrev cX4_copy : ByteArray := prog_13_method_2_code
def yX4_copy : MethodName := ⟨RX4, "copy", "([I[I)V"⟩
def dkwX4_copy_0 : List UInt8 := [42, 3, 43, 3, 43, 190, 184, 0, 36, 177]
abbrev dktX4_copy_0 : List UInt8 := dkwX4_copy_0 ++ []
theorem dksX4_copy_0 : cX4_copy.data.toList.drop 0 = dktX4_copy_0 := by decide +kernel
theorem dX4_copy_0 : decode cX4_copy 0 = .ok (.aload_n 0, 1) := dk_42 (dk_at dksX4_copy_0 0 rfl rfl)
theorem dX4_copy_1 : decode cX4_copy 1 = .ok (.iconst 0, 1) := dk_3 (dk_at dksX4_copy_0 1 rfl rfl)
theorem dX4_copy_2 : decode cX4_copy 2 = .ok (.aload_n 1, 1) := dk_43 (dk_at dksX4_copy_0 2 rfl rfl)
theorem dX4_copy_3 : decode cX4_copy 3 = .ok (.iconst 0, 1) := dk_3 (dk_at dksX4_copy_0 3 rfl rfl)
theorem dX4_copy_4 : decode cX4_copy 4 = .ok (.aload_n 1, 1) := dk_43 (dk_at dksX4_copy_0 4 rfl rfl)
theorem dX4_copy_5 : decode cX4_copy 5 = .ok (.arraylength, 1) := dk_190 (dk_at dksX4_copy_0 5 rfl rfl)
theorem dX4_copy_6 : decode cX4_copy 6 = .ok (.invokestatic 36, 3) := dk_184 0 36 (dk_at dksX4_copy_0 6 rfl rfl)
theorem dX4_copy_9 : decode cX4_copy 9 = .ok (.return_, 1) := dk_177 (dk_at dksX4_copy_0 9 rfl rfl)
theorem q133 : (Jvm.Cond.initialized "CarryFair$World") ∈ lw_all := lw_g (lw_at lw_m1 8 rfl) rfl
theorem q248 : (Jvm.Cond.instantiable "CarryFair$World" (10 : Nat)) ∈ lw_all := lw_g (lw_at lw_m1 123 rfl) rfl
theorem q250 : (Jvm.Cond.instanceMethod ({ cls := "CarryFair$World", name := "<init>", desc := "()V" } : Jvm.MethodName)) ∈ lw_all := lw_g (lw_at lw_m1 125 rfl) rfl
theorem q251 : (Jvm.Cond.code ({ cls := "CarryFair$World", name := "<init>", desc := "()V" } : Jvm.MethodName) prog_13_method_1_code (2 : Nat) (Option.none : Option Jvm.ClassFile.FieldType)) ∈ lw_all := lw_g (lw_at lw_m1 126 rfl) rfl
theorem q252 : (Jvm.Cond.methodLink "CarryFair$World" (3 : Nat) ({ cls := "java/lang/Object", name := "<init>", desc := "()V" } : Jvm.MethodName)) ∈ lw_all := lw_g (lw_at lw_m1 127 rfl) rfl
theorem q253 : (Jvm.Cond.classLink "CarryFair$World" (9 : Nat) "[[I") ∈ lw_all := lw_g (lw_at lw_m1 128 rfl) rfl
theorem q255 : (Jvm.Cond.fieldLink "CarryFair$World" (46 : Nat) "CarryFair$World" "carriers" "I") ∈ lw_all := lw_g (lw_at lw_m1 130 rfl) rfl
theorem q258 : (Jvm.Cond.fieldLink "CarryFair$World" (11 : Nat) "CarryFair$World" "carrier" "[[I") ∈ lw_all := lw_g (lw_at lw_m1 133 rfl) rfl
theorem q261 : (Jvm.Cond.fieldLink "CarryFair$World" (49 : Nat) "CarryFair$World" "errands" "I") ∈ lw_all := lw_g (lw_at lw_m1 136 rfl) rfl
theorem q264 : (Jvm.Cond.fieldLink "CarryFair$World" (16 : Nat) "CarryFair$World" "errand" "[[I") ∈ lw_all := lw_g (lw_at lw_m1 139 rfl) rfl
theorem q266 : (Jvm.Cond.fieldLink "CarryFair$World" (52 : Nat) "CarryFair$World" "wares" "I") ∈ lw_all := lw_g (lw_at lw_m1 141 rfl) rfl
theorem q269 : (Jvm.Cond.fieldLink "CarryFair$World" (19 : Nat) "CarryFair$World" "ware" "[[I") ∈ lw_all := lw_g (lw_at lw_m1 144 rfl) rfl
theorem q271 : (Jvm.Cond.fieldLink "CarryFair$World" (22 : Nat) "CarryFair$World" "yards" "[[I") ∈ lw_all := lw_g (lw_at lw_m1 146 rfl) rfl
theorem q273 : (Jvm.Cond.fieldLink "CarryFair$World" (25 : Nat) "CarryFair$World" "river" "[[I") ∈ lw_all := lw_g (lw_at lw_m1 148 rfl) rfl
theorem q275 : (Jvm.Cond.fieldLink "CarryFair$World" (28 : Nat) "CarryFair$World" "z" "I") ∈ lw_all := lw_g (lw_at lw_m1 150 rfl) rfl
theorem q277 : (Jvm.Cond.fieldLink "CarryFair$World" (32 : Nat) "CarryFair$World" "holds" "[I") ∈ lw_all := lw_g (lw_at lw_m1 152 rfl) rfl
theorem q279 : (Jvm.Cond.lays "CarryFair$World" "CarryFair$World" "carriers" "I") ∈ lw_all := lw_g (lw_at lw_m1 154 rfl) rfl
theorem q280 : (Jvm.Cond.soleField "CarryFair$World" "carriers") ∈ lw_all := lw_g (lw_at lw_m1 155 rfl) rfl
theorem q281 : (Jvm.Cond.laysFinal "CarryFair$World" "CarryFair$World" "carrier" "[[I") ∈ lw_all := lw_g (lw_at lw_m1 156 rfl) rfl
theorem q282 : (Jvm.Cond.soleField "CarryFair$World" "carrier") ∈ lw_all := lw_g (lw_at lw_m1 157 rfl) rfl
theorem q283 : (Jvm.Cond.lays "CarryFair$World" "CarryFair$World" "errands" "I") ∈ lw_all := lw_g (lw_at lw_m1 158 rfl) rfl
theorem q284 : (Jvm.Cond.soleField "CarryFair$World" "errands") ∈ lw_all := lw_g (lw_at lw_m1 159 rfl) rfl
theorem q285 : (Jvm.Cond.laysFinal "CarryFair$World" "CarryFair$World" "errand" "[[I") ∈ lw_all := lw_g (lw_at lw_m1 160 rfl) rfl
theorem q286 : (Jvm.Cond.soleField "CarryFair$World" "errand") ∈ lw_all := lw_g (lw_at lw_m1 161 rfl) rfl
theorem q287 : (Jvm.Cond.lays "CarryFair$World" "CarryFair$World" "wares" "I") ∈ lw_all := lw_g (lw_at lw_m1 162 rfl) rfl
theorem q288 : (Jvm.Cond.soleField "CarryFair$World" "wares") ∈ lw_all := lw_g (lw_at lw_m1 163 rfl) rfl
theorem q289 : (Jvm.Cond.laysFinal "CarryFair$World" "CarryFair$World" "ware" "[[I") ∈ lw_all := lw_g (lw_at lw_m1 164 rfl) rfl
theorem q290 : (Jvm.Cond.soleField "CarryFair$World" "ware") ∈ lw_all := lw_g (lw_at lw_m1 165 rfl) rfl
theorem q291 : (Jvm.Cond.laysFinal "CarryFair$World" "CarryFair$World" "yards" "[[I") ∈ lw_all := lw_g (lw_at lw_m1 166 rfl) rfl
theorem q292 : (Jvm.Cond.soleField "CarryFair$World" "yards") ∈ lw_all := lw_g (lw_at lw_m1 167 rfl) rfl
theorem q293 : (Jvm.Cond.laysFinal "CarryFair$World" "CarryFair$World" "river" "[[I") ∈ lw_all := lw_g (lw_at lw_m1 168 rfl) rfl
theorem q294 : (Jvm.Cond.soleField "CarryFair$World" "river") ∈ lw_all := lw_g (lw_at lw_m1 169 rfl) rfl
theorem q295 : (Jvm.Cond.lays "CarryFair$World" "CarryFair$World" "z" "I") ∈ lw_all := lw_g (lw_at lw_m1 170 rfl) rfl
theorem q296 : (Jvm.Cond.soleField "CarryFair$World" "z") ∈ lw_all := lw_g (lw_at lw_m1 171 rfl) rfl
theorem q297 : (Jvm.Cond.laysFinal "CarryFair$World" "CarryFair$World" "holds" "[I") ∈ lw_all := lw_g (lw_at lw_m1 172 rfl) rfl
theorem q298 : (Jvm.Cond.soleField "CarryFair$World" "holds") ∈ lw_all := lw_g (lw_at lw_m1 173 rfl) rfl
theorem q299 : (Jvm.Cond.superclass "CarryFair$World" "java/lang/Object") ∈ lw_all := lw_g (lw_at lw_m1 174 rfl) rfl
theorem q516 : (Jvm.Cond.instanceMethod ({ cls := "CarryFair$World", name := "addCarrier", desc := "(III)V" } : Jvm.MethodName)) ∈ lw_all := lw_g (lw_at lw_m2 151 rfl) rfl
theorem q517 : (Jvm.Cond.selects "CarryFair$World" ({ cls := "CarryFair$World", name := "addCarrier", desc := "(III)V" } : Jvm.MethodName) ({ cls := "CarryFair$World", name := "addCarrier", desc := "(III)V" } : Jvm.MethodName)) ∈ lw_all := lw_g (lw_at lw_m2 152 rfl) rfl
theorem q518 : (Jvm.Cond.code ({ cls := "CarryFair$World", name := "addCarrier", desc := "(III)V" } : Jvm.MethodName) prog_13_method_6_code (4 : Nat) (Option.none : Option Jvm.ClassFile.FieldType)) ∈ lw_all := lw_g (lw_at lw_m2 153 rfl) rfl
theorem q607 : (Jvm.Cond.instanceMethod ({ cls := "CarryFair$World", name := "carriedBy", desc := "(I)I" } : Jvm.MethodName)) ∈ lw_all := lw_g (lw_at lw_m3 2 rfl) rfl
theorem q608 : (Jvm.Cond.selects "CarryFair$World" ({ cls := "CarryFair$World", name := "carriedBy", desc := "(I)I" } : Jvm.MethodName) ({ cls := "CarryFair$World", name := "carriedBy", desc := "(I)I" } : Jvm.MethodName)) ∈ lw_all := lw_g (lw_at lw_m3 3 rfl) rfl
theorem q609 : (Jvm.Cond.code ({ cls := "CarryFair$World", name := "carriedBy", desc := "(I)I" } : Jvm.MethodName) prog_13_method_11_code (4 : Nat) (Option.some Jvm.ClassFile.FieldType.int)) ∈ lw_all := lw_g (lw_at lw_m3 4 rfl) rfl
theorem q611 : (Jvm.Cond.instanceMethod ({ cls := "CarryFair$World", name := "weight", desc := "(I)I" } : Jvm.MethodName)) ∈ lw_all := lw_g (lw_at lw_m3 6 rfl) rfl
theorem q612 : (Jvm.Cond.selects "CarryFair$World" ({ cls := "CarryFair$World", name := "weight", desc := "(I)I" } : Jvm.MethodName) ({ cls := "CarryFair$World", name := "weight", desc := "(I)I" } : Jvm.MethodName)) ∈ lw_all := lw_g (lw_at lw_m3 7 rfl) rfl
theorem q613 : (Jvm.Cond.code ({ cls := "CarryFair$World", name := "weight", desc := "(I)I" } : Jvm.MethodName) prog_13_method_12_code (4 : Nat) (Option.some Jvm.ClassFile.FieldType.int)) ∈ lw_all := lw_g (lw_at lw_m3 8 rfl) rfl
theorem q614 : (Jvm.Cond.methodLinkNest "CarryFair$World" (60 : Nat) ({ cls := "CarryFair", name := "has", desc := "(II)Z" } : Jvm.MethodName) "CarryFair") ∈ lw_tbl := lw_at lw_m3 9 rfl
theorem q636 : (Jvm.Cond.instanceMethod ({ cls := "CarryFair$World", name := "lays", desc := "(IIII)V" } : Jvm.MethodName)) ∈ lw_all := lw_g (lw_at lw_m3 31 rfl) rfl
theorem q637 : (Jvm.Cond.selects "CarryFair$World" ({ cls := "CarryFair$World", name := "lays", desc := "(IIII)V" } : Jvm.MethodName) ({ cls := "CarryFair$World", name := "lays", desc := "(IIII)V" } : Jvm.MethodName)) ∈ lw_all := lw_g (lw_at lw_m3 32 rfl) rfl
theorem q638 : (Jvm.Cond.code ({ cls := "CarryFair$World", name := "lays", desc := "(IIII)V" } : Jvm.MethodName) prog_13_method_9_code (5 : Nat) (Option.none : Option Jvm.ClassFile.FieldType)) ∈ lw_all := lw_g (lw_at lw_m3 33 rfl) rfl
theorem q648 : (Jvm.Cond.instanceMethod ({ cls := "CarryFair$World", name := "addErrand", desc := "(III)V" } : Jvm.MethodName)) ∈ lw_all := lw_g (lw_at lw_m3 43 rfl) rfl
theorem q649 : (Jvm.Cond.selects "CarryFair$World" ({ cls := "CarryFair$World", name := "addErrand", desc := "(III)V" } : Jvm.MethodName) ({ cls := "CarryFair$World", name := "addErrand", desc := "(III)V" } : Jvm.MethodName)) ∈ lw_all := lw_g (lw_at lw_m3 44 rfl) rfl
theorem q650 : (Jvm.Cond.code ({ cls := "CarryFair$World", name := "addErrand", desc := "(III)V" } : Jvm.MethodName) prog_13_method_7_code (4 : Nat) (Option.none : Option Jvm.ClassFile.FieldType)) ∈ lw_all := lw_g (lw_at lw_m3 45 rfl) rfl
theorem q719 : (Jvm.Cond.instanceMethod ({ cls := "CarryFair$World", name := "addWare", desc := "(I)V" } : Jvm.MethodName)) ∈ lw_all := lw_g (lw_at lw_m3 114 rfl) rfl
theorem q720 : (Jvm.Cond.selects "CarryFair$World" ({ cls := "CarryFair$World", name := "addWare", desc := "(I)V" } : Jvm.MethodName) ({ cls := "CarryFair$World", name := "addWare", desc := "(I)V" } : Jvm.MethodName)) ∈ lw_all := lw_g (lw_at lw_m3 115 rfl) rfl
theorem q721 : (Jvm.Cond.code ({ cls := "CarryFair$World", name := "addWare", desc := "(I)V" } : Jvm.MethodName) prog_13_method_8_code (2 : Nat) (Option.none : Option Jvm.ClassFile.FieldType)) ∈ lw_all := lw_g (lw_at lw_m3 116 rfl) rfl
theorem q755 : (Jvm.Cond.instanceMethod ({ cls := "CarryFair$World", name := "liesAt", desc := "(II)Z" } : Jvm.MethodName)) ∈ lw_all := lw_g (lw_at lw_m3 150 rfl) rfl
theorem q756 : (Jvm.Cond.selects "CarryFair$World" ({ cls := "CarryFair$World", name := "liesAt", desc := "(II)Z" } : Jvm.MethodName) ({ cls := "CarryFair$World", name := "liesAt", desc := "(II)Z" } : Jvm.MethodName)) ∈ lw_all := lw_g (lw_at lw_m3 151 rfl) rfl
theorem q757 : (Jvm.Cond.code ({ cls := "CarryFair$World", name := "liesAt", desc := "(II)Z" } : Jvm.MethodName) prog_13_method_15_code (3 : Nat) (Option.some Jvm.ClassFile.FieldType.boolean)) ∈ lw_all := lw_g (lw_at lw_m3 152 rfl) rfl
theorem q763 : (Jvm.Cond.instanceMethod ({ cls := "CarryFair$World", name := "puts", desc := "(III)V" } : Jvm.MethodName)) ∈ lw_all := lw_g (lw_at lw_m3 158 rfl) rfl
theorem q764 : (Jvm.Cond.selects "CarryFair$World" ({ cls := "CarryFair$World", name := "puts", desc := "(III)V" } : Jvm.MethodName) ({ cls := "CarryFair$World", name := "puts", desc := "(III)V" } : Jvm.MethodName)) ∈ lw_all := lw_g (lw_at lw_m3 159 rfl) rfl
theorem q765 : (Jvm.Cond.code ({ cls := "CarryFair$World", name := "puts", desc := "(III)V" } : Jvm.MethodName) prog_13_method_16_code (4 : Nat) (Option.none : Option Jvm.ClassFile.FieldType)) ∈ lw_all := lw_g (lw_at lw_m3 160 rfl) rfl
theorem q833 : (Jvm.Cond.instanceMethod ({ cls := "CarryFair$World", name := "being", desc := "(I)I" } : Jvm.MethodName)) ∈ lw_all := lw_g (lw_at lw_m3 228 rfl) rfl
theorem q834 : (Jvm.Cond.selects "CarryFair$World" ({ cls := "CarryFair$World", name := "being", desc := "(I)I" } : Jvm.MethodName) ({ cls := "CarryFair$World", name := "being", desc := "(I)I" } : Jvm.MethodName)) ∈ lw_all := lw_g (lw_at lw_m3 229 rfl) rfl
theorem q835 : (Jvm.Cond.code ({ cls := "CarryFair$World", name := "being", desc := "(I)I" } : Jvm.MethodName) prog_13_method_10_code (4 : Nat) (Option.some Jvm.ClassFile.FieldType.int)) ∈ lw_all := lw_g (lw_at lw_m3 230 rfl) rfl
theorem q837 : (Jvm.Cond.instanceMethod ({ cls := "CarryFair$World", name := "sold", desc := "()I" } : Jvm.MethodName)) ∈ lw_all := lw_g (lw_at lw_m3 232 rfl) rfl
theorem q838 : (Jvm.Cond.selects "CarryFair$World" ({ cls := "CarryFair$World", name := "sold", desc := "()I" } : Jvm.MethodName) ({ cls := "CarryFair$World", name := "sold", desc := "()I" } : Jvm.MethodName)) ∈ lw_all := lw_g (lw_at lw_m3 233 rfl) rfl
theorem q839 : (Jvm.Cond.code ({ cls := "CarryFair$World", name := "sold", desc := "()I" } : Jvm.MethodName) prog_13_method_14_code (3 : Nat) (Option.some Jvm.ClassFile.FieldType.int)) ∈ lw_all := lw_g (lw_at lw_m3 234 rfl) rfl
theorem q841 : (Jvm.Cond.instanceMethod ({ cls := "CarryFair$World", name := "sumOf", desc := "(I)I" } : Jvm.MethodName)) ∈ lw_all := lw_g (lw_at lw_m3 236 rfl) rfl
theorem q842 : (Jvm.Cond.selects "CarryFair$World" ({ cls := "CarryFair$World", name := "sumOf", desc := "(I)I" } : Jvm.MethodName) ({ cls := "CarryFair$World", name := "sumOf", desc := "(I)I" } : Jvm.MethodName)) ∈ lw_all := lw_g (lw_at lw_m3 237 rfl) rfl
theorem q843 : (Jvm.Cond.code ({ cls := "CarryFair$World", name := "sumOf", desc := "(I)I" } : Jvm.MethodName) prog_13_method_13_code (4 : Nat) (Option.some Jvm.ClassFile.FieldType.int)) ∈ lw_all := lw_g (lw_at lw_m3 238 rfl) rfl
theorem q1003 : (Jvm.Cond.instanceMethod ({ cls := "CarryFair$World", name := "withWays", desc := "()I" } : Jvm.MethodName)) ∈ lw_all := lw_g (lw_at lw_m4 158 rfl) rfl
theorem q1004 : (Jvm.Cond.selects "CarryFair$World" ({ cls := "CarryFair$World", name := "withWays", desc := "()I" } : Jvm.MethodName) ({ cls := "CarryFair$World", name := "withWays", desc := "()I" } : Jvm.MethodName)) ∈ lw_all := lw_g (lw_at lw_m4 159 rfl) rfl
theorem q1005 : (Jvm.Cond.code ({ cls := "CarryFair$World", name := "withWays", desc := "()I" } : Jvm.MethodName) prog_13_method_17_code (4 : Nat) (Option.some Jvm.ClassFile.FieldType.int)) ∈ lw_all := lw_g (lw_at lw_m4 160 rfl) rfl
theorem q1028 : (Jvm.Cond.instanceMethod ({ cls := "CarryFair$World", name := "draw", desc := "()I" } : Jvm.MethodName)) ∈ lw_all := lw_g (lw_at lw_m4 183 rfl) rfl
theorem q1029 : (Jvm.Cond.selects "CarryFair$World" ({ cls := "CarryFair$World", name := "draw", desc := "()I" } : Jvm.MethodName) ({ cls := "CarryFair$World", name := "draw", desc := "()I" } : Jvm.MethodName)) ∈ lw_all := lw_g (lw_at lw_m4 184 rfl) rfl
theorem q1030 : (Jvm.Cond.code ({ cls := "CarryFair$World", name := "draw", desc := "()I" } : Jvm.MethodName) prog_13_method_5_code (1 : Nat) (Option.some Jvm.ClassFile.FieldType.int)) ∈ lw_all := lw_g (lw_at lw_m4 185 rfl) rfl
theorem q1031 : (Jvm.Cond.constant "CarryFair$World" (59 : Nat) (1103515245 : Int32)) ∈ lw_all := lw_g (lw_at lw_m4 186 rfl) rfl
theorem q1041 : (Jvm.Cond.instanceMethod ({ cls := "CarryFair$World", name := "become", desc := "(LCarryFair$World;)V" } : Jvm.MethodName)) ∈ lw_all := lw_g (lw_at lw_m4 196 rfl) rfl
theorem q1042 : (Jvm.Cond.selects "CarryFair$World" ({ cls := "CarryFair$World", name := "become", desc := "(LCarryFair$World;)V" } : Jvm.MethodName) ({ cls := "CarryFair$World", name := "become", desc := "(LCarryFair$World;)V" } : Jvm.MethodName)) ∈ lw_all := lw_g (lw_at lw_m4 197 rfl) rfl
theorem q1043 : (Jvm.Cond.code ({ cls := "CarryFair$World", name := "become", desc := "(LCarryFair$World;)V" } : Jvm.MethodName) prog_13_method_4_code (2 : Nat) (Option.none : Option Jvm.ClassFile.FieldType)) ∈ lw_all := lw_g (lw_at lw_m4 198 rfl) rfl
theorem q1044 : (Jvm.Cond.methodLink "CarryFair$World" (55 : Nat) ({ cls := "CarryFair$World", name := "copyAll", desc := "([[I[[I)V" } : Jvm.MethodName)) ∈ lw_all := lw_g (lw_at lw_m4 199 rfl) rfl
theorem q1045 : (Jvm.Cond.static ({ cls := "CarryFair$World", name := "copyAll", desc := "([[I[[I)V" } : Jvm.MethodName)) ∈ lw_all := lw_g (lw_at lw_m4 200 rfl) rfl
theorem q1046 : (Jvm.Cond.code ({ cls := "CarryFair$World", name := "copyAll", desc := "([[I[[I)V" } : Jvm.MethodName) prog_13_method_3_code (3 : Nat) (Option.none : Option Jvm.ClassFile.FieldType)) ∈ lw_all := lw_g (lw_at lw_m4 201 rfl) rfl
theorem q1047 : (Jvm.Cond.methodLink "CarryFair$World" (42 : Nat) ({ cls := "CarryFair$World", name := "copy", desc := "([I[I)V" } : Jvm.MethodName)) ∈ lw_all := lw_g (lw_at lw_m4 202 rfl) rfl
theorem q1048 : (Jvm.Cond.static ({ cls := "CarryFair$World", name := "copy", desc := "([I[I)V" } : Jvm.MethodName)) ∈ lw_all := lw_g (lw_at lw_m4 203 rfl) rfl
theorem q1049 : (Jvm.Cond.code ({ cls := "CarryFair$World", name := "copy", desc := "([I[I)V" } : Jvm.MethodName) prog_13_method_2_code (2 : Nat) (Option.none : Option Jvm.ClassFile.FieldType)) ∈ lw_all := lw_g (lw_at lw_m4 204 rfl) rfl
theorem q1050 : (Jvm.Cond.methodLink "CarryFair$World" (36 : Nat) ({ cls := "java/lang/System", name := "arraycopy", desc := "(Ljava/lang/Object;ILjava/lang/Object;II)V" } : Jvm.MethodName)) ∈ lw_all := lw_g (lw_at lw_m4 205 rfl) rfl
theorem in_X4 : ∀ w ∈ wsX40, w ∈ lw_all := lw_in wsX40 [279, 281, 283, 285, 287, 289, 291, 293, 295, 297] (by decide +kernel) (by decide +kernel)

/-! CarryFair$Slot -/
set_option maxRecDepth 100000
def RX5 : String := "CarryFair$Slot"
def TX5 : u_T := fun k => match k with
  | _ => ("CarryFair$Slot", "thing", "Ljava/lang/Object;", false)
def tyX5 : Nat → FieldType := fun k => match k with
  | _ => .object "java/lang/Object"
abbrev wsX50 : List Cond := u_ws RX5 TX5 1
theorem nmX5 : ∀ a, a < 1 → ∀ b, b < 1 → a ≠ b → (TX5 a).2.1 ≠ (TX5 b).2.1 := by decide +kernel
theorem tyX5_ok : ∀ k, k < 1 → parseFieldDescriptor (TX5 k).2.2.1 = some (tyX5 k) := by decide +kernel
abbrev cX5_init : ByteArray := prog_11_method_1_code
def yX5_init : MethodName := ⟨RX5, "<init>", "()V"⟩
theorem dX5_init_0 : decode cX5_init 0 = .ok (.aload_n 0, 1) := by decide +kernel
theorem dX5_init_1 : decode cX5_init 1 = .ok (.invokespecial 1, 3) := by decide +kernel
theorem dX5_init_4 : decode cX5_init 4 = .ok (.return_, 1) := by decide +kernel
theorem q134 : (Jvm.Cond.initialized "CarryFair$Slot") ∈ lw_all := lw_g (lw_at lw_m1 9 rfl) rfl
theorem q336 : (Jvm.Cond.instantiable "CarryFair$Slot" (1 : Nat)) ∈ lw_all := lw_g (lw_at lw_m1 211 rfl) rfl
theorem q338 : (Jvm.Cond.instanceMethod ({ cls := "CarryFair$Slot", name := "<init>", desc := "()V" } : Jvm.MethodName)) ∈ lw_all := lw_g (lw_at lw_m1 213 rfl) rfl
theorem q339 : (Jvm.Cond.code ({ cls := "CarryFair$Slot", name := "<init>", desc := "()V" } : Jvm.MethodName) prog_11_method_1_code (1 : Nat) (Option.none : Option Jvm.ClassFile.FieldType)) ∈ lw_all := lw_g (lw_at lw_m1 214 rfl) rfl
theorem q340 : (Jvm.Cond.methodLink "CarryFair$Slot" (1 : Nat) ({ cls := "java/lang/Object", name := "<init>", desc := "()V" } : Jvm.MethodName)) ∈ lw_all := lw_g (lw_at lw_m1 215 rfl) rfl
theorem q342 : (Jvm.Cond.lays "CarryFair$Slot" "CarryFair$Slot" "thing" "Ljava/lang/Object;") ∈ lw_all := lw_g (lw_at lw_m1 217 rfl) rfl
theorem q343 : (Jvm.Cond.soleField "CarryFair$Slot" "thing") ∈ lw_all := lw_g (lw_at lw_m1 218 rfl) rfl
theorem q344 : (Jvm.Cond.superclass "CarryFair$Slot" "java/lang/Object") ∈ lw_all := lw_g (lw_at lw_m1 219 rfl) rfl
theorem in_X5 : ∀ w ∈ wsX50, w ∈ lw_all := lw_in wsX50 [342] (by decide +kernel) (by decide +kernel)

/-! CarryFair$Carrier -/
set_option maxRecDepth 100000
def RX6 : String := "CarryFair$Carrier"
def TX6 : u_T := fun k => match k with
  | 0 => ("CarryFair$Carrier", "number", "I", true)
  | _ => ("CarryFair$Carrier", "this$0", "LCarryFair;", true)
def tyX6 : Nat → FieldType := fun k => match k with
  | 0 => .int
  | _ => .object "CarryFair"
abbrev wsX60 : List Cond := u_ws RX6 TX6 2
theorem nmX6 : ∀ a, a < 2 → ∀ b, b < 2 → a ≠ b → (TX6 a).2.1 ≠ (TX6 b).2.1 := by decide +kernel
theorem tyX6_ok : ∀ k, k < 2 → parseFieldDescriptor (TX6 k).2.2.1 = some (tyX6 k) := by decide +kernel
abbrev cX6_init : ByteArray := prog_3_method_1_code
def yX6_init : MethodName := ⟨RX6, "<init>", "(LCarryFair;I)V"⟩
def dkwX6_init_0 : List UInt8 := [42, 43, 181, 0, 3, 42, 183, 0, 9, 42, 28, 181, 0, 15, 177]
abbrev dktX6_init_0 : List UInt8 := dkwX6_init_0 ++ []
theorem dksX6_init_0 : cX6_init.data.toList.drop 0 = dktX6_init_0 := by decide +kernel
theorem dX6_init_0 : decode cX6_init 0 = .ok (.aload_n 0, 1) := dk_42 (dk_at dksX6_init_0 0 rfl rfl)
theorem dX6_init_1 : decode cX6_init 1 = .ok (.aload_n 1, 1) := dk_43 (dk_at dksX6_init_0 1 rfl rfl)
theorem dX6_init_2 : decode cX6_init 2 = .ok (.putfield 3, 3) := dk_181 0 3 (dk_at dksX6_init_0 2 rfl rfl)
theorem dX6_init_5 : decode cX6_init 5 = .ok (.aload_n 0, 1) := dk_42 (dk_at dksX6_init_0 5 rfl rfl)
theorem dX6_init_6 : decode cX6_init 6 = .ok (.invokespecial 9, 3) := dk_183 0 9 (dk_at dksX6_init_0 6 rfl rfl)
theorem dX6_init_9 : decode cX6_init 9 = .ok (.aload_n 0, 1) := dk_42 (dk_at dksX6_init_0 9 rfl rfl)
theorem dX6_init_10 : decode cX6_init 10 = .ok (.iload_n 2, 1) := dk_28 (dk_at dksX6_init_0 10 rfl rfl)
theorem dX6_init_11 : decode cX6_init 11 = .ok (.putfield 15, 3) := dk_181 0 15 (dk_at dksX6_init_0 11 rfl rfl)
theorem dX6_init_14 : decode cX6_init 14 = .ok (.return_, 1) := dk_177 (dk_at dksX6_init_0 14 rfl rfl)
abbrev cX6_kind : ByteArray := prog_3_method_2_code
def yX6_kind : MethodName := ⟨RX6, "kind", "()I"⟩
theorem dX6_kind_0 : decode cX6_kind 0 = .ok (.iconst 0, 1) := by decide +kernel
theorem dX6_kind_1 : decode cX6_kind 1 = .ok (.ireturn, 1) := by decide +kernel
abbrev cX6_bears : ByteArray := prog_3_method_4_code
def yX6_bears : MethodName := ⟨RX6, "bears", "()I"⟩
def dkwX6_bears_0 : List UInt8 := [42, 180, 0, 3, 180, 0, 23, 180, 0, 27, 5, 50, 42, 180, 0, 15, 46, 172]
abbrev dktX6_bears_0 : List UInt8 := dkwX6_bears_0 ++ []
theorem dksX6_bears_0 : cX6_bears.data.toList.drop 0 = dktX6_bears_0 := by decide +kernel
theorem dX6_bears_0 : decode cX6_bears 0 = .ok (.aload_n 0, 1) := dk_42 (dk_at dksX6_bears_0 0 rfl rfl)
theorem dX6_bears_1 : decode cX6_bears 1 = .ok (.getfield 3, 3) := dk_180 0 3 (dk_at dksX6_bears_0 1 rfl rfl)
theorem dX6_bears_4 : decode cX6_bears 4 = .ok (.getfield 23, 3) := dk_180 0 23 (dk_at dksX6_bears_0 4 rfl rfl)
theorem dX6_bears_7 : decode cX6_bears 7 = .ok (.getfield 27, 3) := dk_180 0 27 (dk_at dksX6_bears_0 7 rfl rfl)
theorem dX6_bears_10 : decode cX6_bears 10 = .ok (.iconst 2, 1) := dk_5 (dk_at dksX6_bears_0 10 rfl rfl)
theorem dX6_bears_11 : decode cX6_bears 11 = .ok (.aaload, 1) := dk_50 (dk_at dksX6_bears_0 11 rfl rfl)
theorem dX6_bears_12 : decode cX6_bears 12 = .ok (.aload_n 0, 1) := dk_42 (dk_at dksX6_bears_0 12 rfl rfl)
theorem dX6_bears_13 : decode cX6_bears 13 = .ok (.getfield 15, 3) := dk_180 0 15 (dk_at dksX6_bears_0 13 rfl rfl)
theorem dX6_bears_16 : decode cX6_bears 16 = .ok (.iaload, 1) := dk_46 (dk_at dksX6_bears_0 16 rfl rfl)
theorem dX6_bears_17 : decode cX6_bears 17 = .ok (.ireturn, 1) := dk_172 (dk_at dksX6_bears_0 17 rfl rfl)
abbrev cX6_counts : ByteArray := prog_3_method_5_code
def yX6_counts : MethodName := ⟨RX6, "counts", "(IZ)I"⟩
def dkwX6_counts_0 : List UInt8 := [28, 153, 0, 9, 5, 27, 104, 167, 0, 4, 27, 172]
abbrev dktX6_counts_0 : List UInt8 := dkwX6_counts_0 ++ []
theorem dksX6_counts_0 : cX6_counts.data.toList.drop 0 = dktX6_counts_0 := by decide +kernel
theorem dX6_counts_0 : decode cX6_counts 0 = .ok (.iload_n 2, 1) := dk_28 (dk_at dksX6_counts_0 0 rfl rfl)
theorem dX6_counts_1 : decode cX6_counts 1 = .ok (.ifCond .eq 9, 3) := dk_153 0 9 (dk_at dksX6_counts_0 1 rfl rfl)
theorem dX6_counts_4 : decode cX6_counts 4 = .ok (.iconst 2, 1) := dk_5 (dk_at dksX6_counts_0 4 rfl rfl)
theorem dX6_counts_5 : decode cX6_counts 5 = .ok (.iload_n 1, 1) := dk_27 (dk_at dksX6_counts_0 5 rfl rfl)
theorem dX6_counts_6 : decode cX6_counts 6 = .ok (.imul, 1) := dk_104 (dk_at dksX6_counts_0 6 rfl rfl)
theorem dX6_counts_7 : decode cX6_counts 7 = .ok (.goto 4, 3) := dk_167 0 4 (dk_at dksX6_counts_0 7 rfl rfl)
theorem dX6_counts_10 : decode cX6_counts 10 = .ok (.iload_n 1, 1) := dk_27 (dk_at dksX6_counts_0 10 rfl rfl)
theorem dX6_counts_11 : decode cX6_counts 11 = .ok (.ireturn, 1) := dk_172 (dk_at dksX6_counts_0 11 rfl rfl)
abbrev cX6_gets : ByteArray := prog_3_method_6_code
def yX6_gets : MethodName := ⟨RX6, "gets", "(I)I"⟩
theorem dX6_gets_0 : decode cX6_gets 0 = .ok (.iload_n 1, 1) := by decide +kernel
theorem dX6_gets_1 : decode cX6_gets 1 = .ok (.ireturn, 1) := by decide +kernel
abbrev cX6_isUnder : ByteArray := prog_3_method_3_code
def yX6_isUnder : MethodName := ⟨RX6, "isUnder", "(I)Z"⟩
def dkwX6_isUnder_0 : List UInt8 := [27, 153, 0, 11, 27, 42, 182, 0, 19, 160, 0, 7, 4, 167, 0, 4, 3, 172]
abbrev dktX6_isUnder_0 : List UInt8 := dkwX6_isUnder_0 ++ []
theorem dksX6_isUnder_0 : cX6_isUnder.data.toList.drop 0 = dktX6_isUnder_0 := by decide +kernel
theorem dX6_isUnder_0 : decode cX6_isUnder 0 = .ok (.iload_n 1, 1) := dk_27 (dk_at dksX6_isUnder_0 0 rfl rfl)
theorem dX6_isUnder_1 : decode cX6_isUnder 1 = .ok (.ifCond .eq 11, 3) := dk_153 0 11 (dk_at dksX6_isUnder_0 1 rfl rfl)
theorem dX6_isUnder_4 : decode cX6_isUnder 4 = .ok (.iload_n 1, 1) := dk_27 (dk_at dksX6_isUnder_0 4 rfl rfl)
theorem dX6_isUnder_5 : decode cX6_isUnder 5 = .ok (.aload_n 0, 1) := dk_42 (dk_at dksX6_isUnder_0 5 rfl rfl)
theorem dX6_isUnder_6 : decode cX6_isUnder 6 = .ok (.invokevirtual 19, 3) := dk_182 0 19 (dk_at dksX6_isUnder_0 6 rfl rfl)
theorem dX6_isUnder_9 : decode cX6_isUnder 9 = .ok (.if_icmp .ne 7, 3) := dk_160 0 7 (dk_at dksX6_isUnder_0 9 rfl rfl)
theorem dX6_isUnder_12 : decode cX6_isUnder 12 = .ok (.iconst 1, 1) := dk_4 (dk_at dksX6_isUnder_0 12 rfl rfl)
theorem dX6_isUnder_13 : decode cX6_isUnder 13 = .ok (.goto 4, 3) := dk_167 0 4 (dk_at dksX6_isUnder_0 13 rfl rfl)
theorem dX6_isUnder_16 : decode cX6_isUnder 16 = .ok (.iconst 0, 1) := dk_3 (dk_at dksX6_isUnder_0 16 rfl rfl)
theorem dX6_isUnder_17 : decode cX6_isUnder 17 = .ok (.ireturn, 1) := dk_172 (dk_at dksX6_isUnder_0 17 rfl rfl)
theorem q135 : (Jvm.Cond.initialized "CarryFair$Carrier") ∈ lw_all := lw_g (lw_at lw_m1 10 rfl) rfl
theorem q259 : (Jvm.Cond.fieldLinkNest "CarryFair$Carrier" (27 : Nat) "CarryFair$World" "carrier" "[[I" "CarryFair") ∈ lw_tbl := lw_at lw_m1 134 rfl
theorem q355 : (Jvm.Cond.instanceMethod ({ cls := "CarryFair$Carrier", name := "<init>", desc := "(LCarryFair;I)V" } : Jvm.MethodName)) ∈ lw_all := lw_g (lw_at lw_m1 230 rfl) rfl
theorem q356 : (Jvm.Cond.code ({ cls := "CarryFair$Carrier", name := "<init>", desc := "(LCarryFair;I)V" } : Jvm.MethodName) prog_3_method_1_code (3 : Nat) (Option.none : Option Jvm.ClassFile.FieldType)) ∈ lw_all := lw_g (lw_at lw_m1 231 rfl) rfl
theorem q357 : (Jvm.Cond.methodLink "CarryFair$Carrier" (9 : Nat) ({ cls := "java/lang/Object", name := "<init>", desc := "()V" } : Jvm.MethodName)) ∈ lw_all := lw_g (lw_at lw_m1 232 rfl) rfl
theorem q359 : (Jvm.Cond.fieldLink "CarryFair$Carrier" (15 : Nat) "CarryFair$Carrier" "number" "I") ∈ lw_all := lw_g (lw_at lw_m1 234 rfl) rfl
theorem q361 : (Jvm.Cond.fieldLink "CarryFair$Carrier" (3 : Nat) "CarryFair$Carrier" "this$0" "LCarryFair;") ∈ lw_all := lw_g (lw_at lw_m1 236 rfl) rfl
theorem q365 : (Jvm.Cond.soleField "CarryFair$Carrier" "number") ∈ lw_all := lw_g (lw_at lw_m2 0 rfl) rfl
theorem q367 : (Jvm.Cond.soleField "CarryFair$Carrier" "this$0") ∈ lw_all := lw_g (lw_at lw_m2 2 rfl) rfl
theorem q433 : (Jvm.Cond.instantiable "CarryFair$Carrier" (2 : Nat)) ∈ lw_all := lw_g (lw_at lw_m2 68 rfl) rfl
theorem q435 : (Jvm.Cond.laysFinal "CarryFair$Carrier" "CarryFair$Carrier" "number" "I") ∈ lw_all := lw_g (lw_at lw_m2 70 rfl) rfl
theorem q436 : (Jvm.Cond.laysFinal "CarryFair$Carrier" "CarryFair$Carrier" "this$0" "LCarryFair;") ∈ lw_all := lw_g (lw_at lw_m2 71 rfl) rfl
theorem q437 : (Jvm.Cond.superclass "CarryFair$Carrier" "java/lang/Object") ∈ lw_all := lw_g (lw_at lw_m2 72 rfl) rfl
theorem q441 : (Jvm.Cond.fieldLinkNest "CarryFair$Carrier" (23 : Nat) "CarryFair" "d" "LCarryFair$World;" "CarryFair") ∈ lw_tbl := lw_at lw_m2 76 rfl
theorem q532 : (Jvm.Cond.instanceMethod ({ cls := "CarryFair$Carrier", name := "kind", desc := "()I" } : Jvm.MethodName)) ∈ lw_all := lw_g (lw_at lw_m2 167 rfl) rfl
theorem q533 : (Jvm.Cond.selects "CarryFair$Carrier" ({ cls := "CarryFair$Carrier", name := "kind", desc := "()I" } : Jvm.MethodName) ({ cls := "CarryFair$Carrier", name := "kind", desc := "()I" } : Jvm.MethodName)) ∈ lw_all := lw_g (lw_at lw_m2 168 rfl) rfl
theorem q534 : (Jvm.Cond.sameMethod "CarryFair$Carrier" "CarryFair$Carrier" "kind" "()I") ∈ lw_all := lw_g (lw_at lw_m2 169 rfl) rfl
theorem q559 : (Jvm.Cond.code ({ cls := "CarryFair$Carrier", name := "kind", desc := "()I" } : Jvm.MethodName) prog_3_method_2_code (1 : Nat) (Option.some Jvm.ClassFile.FieldType.int)) ∈ lw_all := lw_g (lw_at lw_m2 194 rfl) rfl
theorem q571 : (Jvm.Cond.instanceMethod ({ cls := "CarryFair$Carrier", name := "bears", desc := "()I" } : Jvm.MethodName)) ∈ lw_all := lw_g (lw_at lw_m2 206 rfl) rfl
theorem q572 : (Jvm.Cond.publicMethod ({ cls := "CarryFair$Carrier", name := "bears", desc := "()I" } : Jvm.MethodName)) ∈ lw_tbl := lw_at lw_m2 207 rfl
theorem q573 : (Jvm.Cond.code ({ cls := "CarryFair$Carrier", name := "bears", desc := "()I" } : Jvm.MethodName) prog_3_method_4_code (1 : Nat) (Option.some Jvm.ClassFile.FieldType.int)) ∈ lw_all := lw_g (lw_at lw_m2 208 rfl) rfl
theorem q574 : (Jvm.Cond.castable "CarryFair$Carrier" "CarryFair$Carries") ∈ lw_tbl := lw_at lw_m2 209 rfl
theorem q575 : (Jvm.Cond.selects "CarryFair$Carrier" ({ cls := "CarryFair$Carries", name := "bears", desc := "()I" } : Jvm.MethodName) ({ cls := "CarryFair$Carrier", name := "bears", desc := "()I" } : Jvm.MethodName)) ∈ lw_all := lw_g (lw_at lw_m2 210 rfl) rfl
theorem q576 : (Jvm.Cond.unhidden "CarryFair$Carrier" "bears" "()I") ∈ lw_tbl := lw_at lw_m2 211 rfl
theorem q688 : (Jvm.Cond.selects "CarryFair$Carrier" ({ cls := "CarryFair$Carries", name := "counts", desc := "(IZ)I" } : Jvm.MethodName) ({ cls := "CarryFair$Carrier", name := "counts", desc := "(IZ)I" } : Jvm.MethodName)) ∈ lw_all := lw_g (lw_at lw_m3 83 rfl) rfl
theorem q689 : (Jvm.Cond.unhidden "CarryFair$Carrier" "counts" "(IZ)I") ∈ lw_tbl := lw_at lw_m3 84 rfl
theorem q690 : (Jvm.Cond.instanceMethod ({ cls := "CarryFair$Carrier", name := "counts", desc := "(IZ)I" } : Jvm.MethodName)) ∈ lw_all := lw_g (lw_at lw_m3 85 rfl) rfl
theorem q691 : (Jvm.Cond.publicMethod ({ cls := "CarryFair$Carrier", name := "counts", desc := "(IZ)I" } : Jvm.MethodName)) ∈ lw_tbl := lw_at lw_m3 86 rfl
theorem q692 : (Jvm.Cond.code ({ cls := "CarryFair$Carrier", name := "counts", desc := "(IZ)I" } : Jvm.MethodName) prog_3_method_5_code (3 : Nat) (Option.some Jvm.ClassFile.FieldType.int)) ∈ lw_all := lw_g (lw_at lw_m3 87 rfl) rfl
theorem q793 : (Jvm.Cond.instanceMethod ({ cls := "CarryFair$Carrier", name := "gets", desc := "(I)I" } : Jvm.MethodName)) ∈ lw_all := lw_g (lw_at lw_m3 188 rfl) rfl
theorem q794 : (Jvm.Cond.publicMethod ({ cls := "CarryFair$Carrier", name := "gets", desc := "(I)I" } : Jvm.MethodName)) ∈ lw_tbl := lw_at lw_m3 189 rfl
theorem q795 : (Jvm.Cond.code ({ cls := "CarryFair$Carrier", name := "gets", desc := "(I)I" } : Jvm.MethodName) prog_3_method_6_code (2 : Nat) (Option.some Jvm.ClassFile.FieldType.int)) ∈ lw_all := lw_g (lw_at lw_m3 190 rfl) rfl
theorem q796 : (Jvm.Cond.selects "CarryFair$Carrier" ({ cls := "CarryFair$Carries", name := "gets", desc := "(I)I" } : Jvm.MethodName) ({ cls := "CarryFair$Carrier", name := "gets", desc := "(I)I" } : Jvm.MethodName)) ∈ lw_all := lw_g (lw_at lw_m3 191 rfl) rfl
theorem q797 : (Jvm.Cond.unhidden "CarryFair$Carrier" "gets" "(I)I") ∈ lw_tbl := lw_at lw_m3 192 rfl
theorem q805 : (Jvm.Cond.declares ({ cls := "CarryFair$Carrier", name := "gets", desc := "(I)I" } : Jvm.MethodName)) ∈ lw_tbl := lw_at lw_m3 200 rfl
theorem q1210 : (Jvm.Cond.instanceMethod ({ cls := "CarryFair$Carrier", name := "isUnder", desc := "(I)Z" } : Jvm.MethodName)) ∈ lw_all := lw_g (lw_at lw_m5 125 rfl) rfl
theorem q1211 : (Jvm.Cond.selects "CarryFair$Carrier" ({ cls := "CarryFair$Carrier", name := "isUnder", desc := "(I)Z" } : Jvm.MethodName) ({ cls := "CarryFair$Carrier", name := "isUnder", desc := "(I)Z" } : Jvm.MethodName)) ∈ lw_all := lw_g (lw_at lw_m5 126 rfl) rfl
theorem q1212 : (Jvm.Cond.sameMethod "CarryFair$Carrier" "CarryFair$Carrier" "isUnder" "(I)Z") ∈ lw_all := lw_g (lw_at lw_m5 127 rfl) rfl
theorem q1228 : (Jvm.Cond.code ({ cls := "CarryFair$Carrier", name := "isUnder", desc := "(I)Z" } : Jvm.MethodName) prog_3_method_3_code (2 : Nat) (Option.some Jvm.ClassFile.FieldType.boolean)) ∈ lw_all := lw_g (lw_at lw_m5 143 rfl) rfl
theorem q1229 : (Jvm.Cond.methodLink "CarryFair$Carrier" (19 : Nat) ({ cls := "CarryFair$Carrier", name := "kind", desc := "()I" } : Jvm.MethodName)) ∈ lw_all := lw_g (lw_at lw_m5 144 rfl) rfl
theorem q1917 : (Jvm.Cond.sameMethod "CarryFair$Carrier" "CarryFair$Carrier" "bears" "()I") ∈ lw_all := lw_g (lw_at lw_m8 112 rfl) rfl
theorem q1920 : (Jvm.Cond.sameMethod "CarryFair$Carrier" "CarryFair$Carrier" "gets" "(I)I") ∈ lw_all := lw_g (lw_at lw_m8 115 rfl) rfl
theorem in_X6 : ∀ w ∈ wsX60, w ∈ lw_all := lw_in wsX60 [435, 436] (by decide +kernel) (by decide +kernel)

/-! CarryFair$Old -/
set_option maxRecDepth 100000
def RX7 : String := "CarryFair$Old"
def TX7 : u_T := fun k => match k with
  | 0 => ("CarryFair$Carrier", "number", "I", true)
  | 1 => ("CarryFair$Carrier", "this$0", "LCarryFair;", true)
  | _ => ("CarryFair$Old", "this$0", "LCarryFair;", true)
def tyX7 : Nat → FieldType := fun k => match k with
  | 0 => .int
  | 1 => .object "CarryFair"
  | _ => .object "CarryFair"
abbrev wsX70 : List Cond := u_ws RX7 TX7 3
-- two fields of one name: no nmX7
theorem tyX7_ok : ∀ k, k < 3 → parseFieldDescriptor (TX7 k).2.2.1 = some (tyX7 k) := by decide +kernel
abbrev cX7_init : ByteArray := prog_7_method_1_code
def yX7_init : MethodName := ⟨RX7, "<init>", "(LCarryFair;I)V"⟩
def dkwX7_init_0 : List UInt8 := [42, 43, 181, 0, 3, 42, 43, 28, 183, 0, 9, 177]
abbrev dktX7_init_0 : List UInt8 := dkwX7_init_0 ++ []
theorem dksX7_init_0 : cX7_init.data.toList.drop 0 = dktX7_init_0 := by decide +kernel
theorem dX7_init_0 : decode cX7_init 0 = .ok (.aload_n 0, 1) := dk_42 (dk_at dksX7_init_0 0 rfl rfl)
theorem dX7_init_1 : decode cX7_init 1 = .ok (.aload_n 1, 1) := dk_43 (dk_at dksX7_init_0 1 rfl rfl)
theorem dX7_init_2 : decode cX7_init 2 = .ok (.putfield 3, 3) := dk_181 0 3 (dk_at dksX7_init_0 2 rfl rfl)
theorem dX7_init_5 : decode cX7_init 5 = .ok (.aload_n 0, 1) := dk_42 (dk_at dksX7_init_0 5 rfl rfl)
theorem dX7_init_6 : decode cX7_init 6 = .ok (.aload_n 1, 1) := dk_43 (dk_at dksX7_init_0 6 rfl rfl)
theorem dX7_init_7 : decode cX7_init 7 = .ok (.iload_n 2, 1) := dk_28 (dk_at dksX7_init_0 7 rfl rfl)
theorem dX7_init_8 : decode cX7_init 8 = .ok (.invokespecial 9, 3) := dk_183 0 9 (dk_at dksX7_init_0 8 rfl rfl)
theorem dX7_init_11 : decode cX7_init 11 = .ok (.return_, 1) := dk_177 (dk_at dksX7_init_0 11 rfl rfl)
abbrev cX7_kind : ByteArray := prog_7_method_2_code
def yX7_kind : MethodName := ⟨RX7, "kind", "()I"⟩
def dkwX7_kind_0 : List UInt8 := [4, 42, 183, 0, 15, 96, 172]
abbrev dktX7_kind_0 : List UInt8 := dkwX7_kind_0 ++ []
theorem dksX7_kind_0 : cX7_kind.data.toList.drop 0 = dktX7_kind_0 := by decide +kernel
theorem dX7_kind_0 : decode cX7_kind 0 = .ok (.iconst 1, 1) := dk_4 (dk_at dksX7_kind_0 0 rfl rfl)
theorem dX7_kind_1 : decode cX7_kind 1 = .ok (.aload_n 0, 1) := dk_42 (dk_at dksX7_kind_0 1 rfl rfl)
theorem dX7_kind_2 : decode cX7_kind 2 = .ok (.invokespecial 15, 3) := dk_183 0 15 (dk_at dksX7_kind_0 2 rfl rfl)
theorem dX7_kind_5 : decode cX7_kind 5 = .ok (.iadd, 1) := dk_96 (dk_at dksX7_kind_0 5 rfl rfl)
theorem dX7_kind_6 : decode cX7_kind 6 = .ok (.ireturn, 1) := dk_172 (dk_at dksX7_kind_0 6 rfl rfl)
abbrev cX7_bears : ByteArray := prog_7_method_4_code
def yX7_bears : MethodName := ⟨RX7, "bears", "()I"⟩
def dkwX7_bears_0 : List UInt8 := [42, 42, 183, 0, 23, 182, 0, 26, 172]
abbrev dktX7_bears_0 : List UInt8 := dkwX7_bears_0 ++ []
theorem dksX7_bears_0 : cX7_bears.data.toList.drop 0 = dktX7_bears_0 := by decide +kernel
theorem dX7_bears_0 : decode cX7_bears 0 = .ok (.aload_n 0, 1) := dk_42 (dk_at dksX7_bears_0 0 rfl rfl)
theorem dX7_bears_1 : decode cX7_bears 1 = .ok (.aload_n 0, 1) := dk_42 (dk_at dksX7_bears_0 1 rfl rfl)
theorem dX7_bears_2 : decode cX7_bears 2 = .ok (.invokespecial 23, 3) := dk_183 0 23 (dk_at dksX7_bears_0 2 rfl rfl)
theorem dX7_bears_5 : decode cX7_bears 5 = .ok (.invokevirtual 26, 3) := dk_182 0 26 (dk_at dksX7_bears_0 5 rfl rfl)
theorem dX7_bears_8 : decode cX7_bears 8 = .ok (.ireturn, 1) := dk_172 (dk_at dksX7_bears_0 8 rfl rfl)
abbrev cX7_isUnder : ByteArray := prog_7_method_3_code
def yX7_isUnder : MethodName := ⟨RX7, "isUnder", "(I)Z"⟩
def dkwX7_isUnder_0 : List UInt8 := [27, 4, 159, 0, 11, 42, 27, 183, 0, 19, 153, 0, 7, 4, 167, 0, 4, 3, 172]
abbrev dktX7_isUnder_0 : List UInt8 := dkwX7_isUnder_0 ++ []
theorem dksX7_isUnder_0 : cX7_isUnder.data.toList.drop 0 = dktX7_isUnder_0 := by decide +kernel
theorem dX7_isUnder_0 : decode cX7_isUnder 0 = .ok (.iload_n 1, 1) := dk_27 (dk_at dksX7_isUnder_0 0 rfl rfl)
theorem dX7_isUnder_1 : decode cX7_isUnder 1 = .ok (.iconst 1, 1) := dk_4 (dk_at dksX7_isUnder_0 1 rfl rfl)
theorem dX7_isUnder_2 : decode cX7_isUnder 2 = .ok (.if_icmp .eq 11, 3) := dk_159 0 11 (dk_at dksX7_isUnder_0 2 rfl rfl)
theorem dX7_isUnder_5 : decode cX7_isUnder 5 = .ok (.aload_n 0, 1) := dk_42 (dk_at dksX7_isUnder_0 5 rfl rfl)
theorem dX7_isUnder_6 : decode cX7_isUnder 6 = .ok (.iload_n 1, 1) := dk_27 (dk_at dksX7_isUnder_0 6 rfl rfl)
theorem dX7_isUnder_7 : decode cX7_isUnder 7 = .ok (.invokespecial 19, 3) := dk_183 0 19 (dk_at dksX7_isUnder_0 7 rfl rfl)
theorem dX7_isUnder_10 : decode cX7_isUnder 10 = .ok (.ifCond .eq 7, 3) := dk_153 0 7 (dk_at dksX7_isUnder_0 10 rfl rfl)
theorem dX7_isUnder_13 : decode cX7_isUnder 13 = .ok (.iconst 1, 1) := dk_4 (dk_at dksX7_isUnder_0 13 rfl rfl)
theorem dX7_isUnder_14 : decode cX7_isUnder 14 = .ok (.goto 4, 3) := dk_167 0 4 (dk_at dksX7_isUnder_0 14 rfl rfl)
theorem dX7_isUnder_17 : decode cX7_isUnder 17 = .ok (.iconst 0, 1) := dk_3 (dk_at dksX7_isUnder_0 17 rfl rfl)
theorem dX7_isUnder_18 : decode cX7_isUnder 18 = .ok (.ireturn, 1) := dk_172 (dk_at dksX7_isUnder_0 18 rfl rfl)
theorem q136 : (Jvm.Cond.initialized "CarryFair$Old") ∈ lw_all := lw_g (lw_at lw_m1 11 rfl) rfl
theorem q350 : (Jvm.Cond.instantiable "CarryFair$Old" (3 : Nat)) ∈ lw_all := lw_g (lw_at lw_m1 225 rfl) rfl
theorem q352 : (Jvm.Cond.instanceMethod ({ cls := "CarryFair$Old", name := "<init>", desc := "(LCarryFair;I)V" } : Jvm.MethodName)) ∈ lw_all := lw_g (lw_at lw_m1 227 rfl) rfl
theorem q353 : (Jvm.Cond.code ({ cls := "CarryFair$Old", name := "<init>", desc := "(LCarryFair;I)V" } : Jvm.MethodName) prog_7_method_1_code (3 : Nat) (Option.none : Option Jvm.ClassFile.FieldType)) ∈ lw_all := lw_g (lw_at lw_m1 228 rfl) rfl
theorem q354 : (Jvm.Cond.methodLink "CarryFair$Old" (9 : Nat) ({ cls := "CarryFair$Carrier", name := "<init>", desc := "(LCarryFair;I)V" } : Jvm.MethodName)) ∈ lw_all := lw_g (lw_at lw_m1 229 rfl) rfl
theorem q358 : (Jvm.Cond.fieldLink "CarryFair$Old" (3 : Nat) "CarryFair$Old" "this$0" "LCarryFair;") ∈ lw_all := lw_g (lw_at lw_m1 233 rfl) rfl
theorem q362 : (Jvm.Cond.laysFinal "CarryFair$Old" "CarryFair$Old" "this$0" "LCarryFair;") ∈ lw_all := lw_g (lw_at lw_m1 237 rfl) rfl
theorem q363 : (Jvm.Cond.soleField "CarryFair$Old" "this$0") ∈ lw_all := lw_g (lw_at lw_m1 238 rfl) rfl
theorem q364 : (Jvm.Cond.laysFinal "CarryFair$Old" "CarryFair$Carrier" "number" "I") ∈ lw_all := lw_g (lw_at lw_m1 239 rfl) rfl
theorem q366 : (Jvm.Cond.laysFinal "CarryFair$Old" "CarryFair$Carrier" "this$0" "LCarryFair;") ∈ lw_all := lw_g (lw_at lw_m2 1 rfl) rfl
theorem q368 : (Jvm.Cond.superclass "CarryFair$Old" "CarryFair$Carrier") ∈ lw_all := lw_g (lw_at lw_m2 3 rfl) rfl
theorem q546 : (Jvm.Cond.instanceMethod ({ cls := "CarryFair$Old", name := "kind", desc := "()I" } : Jvm.MethodName)) ∈ lw_all := lw_g (lw_at lw_m2 181 rfl) rfl
theorem q547 : (Jvm.Cond.code ({ cls := "CarryFair$Old", name := "kind", desc := "()I" } : Jvm.MethodName) prog_7_method_2_code (1 : Nat) (Option.some Jvm.ClassFile.FieldType.int)) ∈ lw_all := lw_g (lw_at lw_m2 182 rfl) rfl
theorem q548 : (Jvm.Cond.methodLink "CarryFair$Old" (15 : Nat) ({ cls := "CarryFair$Carrier", name := "kind", desc := "()I" } : Jvm.MethodName)) ∈ lw_all := lw_g (lw_at lw_m2 183 rfl) rfl
theorem q556 : (Jvm.Cond.selects "CarryFair$Old" ({ cls := "CarryFair$Carrier", name := "kind", desc := "()I" } : Jvm.MethodName) ({ cls := "CarryFair$Old", name := "kind", desc := "()I" } : Jvm.MethodName)) ∈ lw_all := lw_g (lw_at lw_m2 191 rfl) rfl
theorem q580 : (Jvm.Cond.instanceMethod ({ cls := "CarryFair$Old", name := "bears", desc := "()I" } : Jvm.MethodName)) ∈ lw_all := lw_g (lw_at lw_m2 215 rfl) rfl
theorem q581 : (Jvm.Cond.publicMethod ({ cls := "CarryFair$Old", name := "bears", desc := "()I" } : Jvm.MethodName)) ∈ lw_tbl := lw_at lw_m2 216 rfl
theorem q582 : (Jvm.Cond.code ({ cls := "CarryFair$Old", name := "bears", desc := "()I" } : Jvm.MethodName) prog_7_method_4_code (1 : Nat) (Option.some Jvm.ClassFile.FieldType.int)) ∈ lw_all := lw_g (lw_at lw_m2 217 rfl) rfl
theorem q583 : (Jvm.Cond.methodLink "CarryFair$Old" (23 : Nat) ({ cls := "CarryFair$Carrier", name := "bears", desc := "()I" } : Jvm.MethodName)) ∈ lw_all := lw_g (lw_at lw_m2 218 rfl) rfl
theorem q586 : (Jvm.Cond.unhidden "CarryFair$Old" "half" "(I)I") ∈ lw_tbl := lw_at lw_m2 221 rfl
theorem q597 : (Jvm.Cond.castable "CarryFair$Old" "CarryFair$Carries") ∈ lw_tbl := lw_at lw_m2 232 rfl
theorem q598 : (Jvm.Cond.selects "CarryFair$Old" ({ cls := "CarryFair$Carries", name := "bears", desc := "()I" } : Jvm.MethodName) ({ cls := "CarryFair$Old", name := "bears", desc := "()I" } : Jvm.MethodName)) ∈ lw_all := lw_g (lw_at lw_m2 233 rfl) rfl
theorem q599 : (Jvm.Cond.unhidden "CarryFair$Old" "bears" "()I") ∈ lw_tbl := lw_at lw_m2 234 rfl
theorem q697 : (Jvm.Cond.selects "CarryFair$Old" ({ cls := "CarryFair$Carries", name := "counts", desc := "(IZ)I" } : Jvm.MethodName) ({ cls := "CarryFair$Carrier", name := "counts", desc := "(IZ)I" } : Jvm.MethodName)) ∈ lw_all := lw_g (lw_at lw_m3 92 rfl) rfl
theorem q698 : (Jvm.Cond.unhidden "CarryFair$Old" "counts" "(IZ)I") ∈ lw_tbl := lw_at lw_m3 93 rfl
theorem q804 : (Jvm.Cond.sameMethod "CarryFair$Old" "CarryFair$Carrier" "gets" "(I)I") ∈ lw_all := lw_g (lw_at lw_m3 199 rfl) rfl
theorem q817 : (Jvm.Cond.selects "CarryFair$Old" ({ cls := "CarryFair$Carries", name := "gets", desc := "(I)I" } : Jvm.MethodName) ({ cls := "CarryFair$Carrier", name := "gets", desc := "(I)I" } : Jvm.MethodName)) ∈ lw_all := lw_g (lw_at lw_m3 212 rfl) rfl
theorem q818 : (Jvm.Cond.unhidden "CarryFair$Old" "gets" "(I)I") ∈ lw_tbl := lw_at lw_m3 213 rfl
theorem q1218 : (Jvm.Cond.instanceMethod ({ cls := "CarryFair$Old", name := "isUnder", desc := "(I)Z" } : Jvm.MethodName)) ∈ lw_all := lw_g (lw_at lw_m5 133 rfl) rfl
theorem q1219 : (Jvm.Cond.code ({ cls := "CarryFair$Old", name := "isUnder", desc := "(I)Z" } : Jvm.MethodName) prog_7_method_3_code (2 : Nat) (Option.some Jvm.ClassFile.FieldType.boolean)) ∈ lw_all := lw_g (lw_at lw_m5 134 rfl) rfl
theorem q1220 : (Jvm.Cond.methodLink "CarryFair$Old" (19 : Nat) ({ cls := "CarryFair$Carrier", name := "isUnder", desc := "(I)Z" } : Jvm.MethodName)) ∈ lw_all := lw_g (lw_at lw_m5 135 rfl) rfl
theorem q1225 : (Jvm.Cond.selects "CarryFair$Old" ({ cls := "CarryFair$Carrier", name := "isUnder", desc := "(I)Z" } : Jvm.MethodName) ({ cls := "CarryFair$Old", name := "isUnder", desc := "(I)Z" } : Jvm.MethodName)) ∈ lw_all := lw_g (lw_at lw_m5 140 rfl) rfl
theorem q1915 : (Jvm.Cond.sameMethod "CarryFair$Old" "CarryFair$Old" "kind" "()I") ∈ lw_all := lw_g (lw_at lw_m8 110 rfl) rfl
theorem q1924 : (Jvm.Cond.castable "CarryFair$Old" "CarryFair$Carrier") ∈ lw_tbl := lw_at lw_m8 119 rfl
theorem in_X7 : ∀ w ∈ wsX70, w ∈ lw_all := lw_in wsX70 [364, 366, 362] (by decide +kernel) (by decide +kernel)

/-! CarryFair$Paired -/
set_option maxRecDepth 100000
def RX8 : String := "CarryFair$Paired"
def TX8 : u_T := fun k => match k with
  | 0 => ("CarryFair$Carrier", "number", "I", true)
  | 1 => ("CarryFair$Carrier", "this$0", "LCarryFair;", true)
  | _ => ("CarryFair$Paired", "this$0", "LCarryFair;", true)
def tyX8 : Nat → FieldType := fun k => match k with
  | 0 => .int
  | 1 => .object "CarryFair"
  | _ => .object "CarryFair"
abbrev wsX80 : List Cond := u_ws RX8 TX8 3
-- two fields of one name: no nmX8
theorem tyX8_ok : ∀ k, k < 3 → parseFieldDescriptor (TX8 k).2.2.1 = some (tyX8 k) := by decide +kernel
abbrev cX8_init : ByteArray := prog_8_method_1_code
def yX8_init : MethodName := ⟨RX8, "<init>", "(LCarryFair;I)V"⟩
def dkwX8_init_0 : List UInt8 := [42, 43, 181, 0, 3, 42, 43, 28, 183, 0, 9, 177]
abbrev dktX8_init_0 : List UInt8 := dkwX8_init_0 ++ []
theorem dksX8_init_0 : cX8_init.data.toList.drop 0 = dktX8_init_0 := by decide +kernel
theorem dX8_init_0 : decode cX8_init 0 = .ok (.aload_n 0, 1) := dk_42 (dk_at dksX8_init_0 0 rfl rfl)
theorem dX8_init_1 : decode cX8_init 1 = .ok (.aload_n 1, 1) := dk_43 (dk_at dksX8_init_0 1 rfl rfl)
theorem dX8_init_2 : decode cX8_init 2 = .ok (.putfield 3, 3) := dk_181 0 3 (dk_at dksX8_init_0 2 rfl rfl)
theorem dX8_init_5 : decode cX8_init 5 = .ok (.aload_n 0, 1) := dk_42 (dk_at dksX8_init_0 5 rfl rfl)
theorem dX8_init_6 : decode cX8_init 6 = .ok (.aload_n 1, 1) := dk_43 (dk_at dksX8_init_0 6 rfl rfl)
theorem dX8_init_7 : decode cX8_init 7 = .ok (.iload_n 2, 1) := dk_28 (dk_at dksX8_init_0 7 rfl rfl)
theorem dX8_init_8 : decode cX8_init 8 = .ok (.invokespecial 9, 3) := dk_183 0 9 (dk_at dksX8_init_0 8 rfl rfl)
theorem dX8_init_11 : decode cX8_init 11 = .ok (.return_, 1) := dk_177 (dk_at dksX8_init_0 11 rfl rfl)
abbrev cX8_kind : ByteArray := prog_8_method_2_code
def yX8_kind : MethodName := ⟨RX8, "kind", "()I"⟩
def dkwX8_kind_0 : List UInt8 := [5, 42, 183, 0, 15, 96, 172]
abbrev dktX8_kind_0 : List UInt8 := dkwX8_kind_0 ++ []
theorem dksX8_kind_0 : cX8_kind.data.toList.drop 0 = dktX8_kind_0 := by decide +kernel
theorem dX8_kind_0 : decode cX8_kind 0 = .ok (.iconst 2, 1) := dk_5 (dk_at dksX8_kind_0 0 rfl rfl)
theorem dX8_kind_1 : decode cX8_kind 1 = .ok (.aload_n 0, 1) := dk_42 (dk_at dksX8_kind_0 1 rfl rfl)
theorem dX8_kind_2 : decode cX8_kind 2 = .ok (.invokespecial 15, 3) := dk_183 0 15 (dk_at dksX8_kind_0 2 rfl rfl)
theorem dX8_kind_5 : decode cX8_kind 5 = .ok (.iadd, 1) := dk_96 (dk_at dksX8_kind_0 5 rfl rfl)
theorem dX8_kind_6 : decode cX8_kind 6 = .ok (.ireturn, 1) := dk_172 (dk_at dksX8_kind_0 6 rfl rfl)
abbrev cX8_bears : ByteArray := prog_8_method_4_code
def yX8_bears : MethodName := ⟨RX8, "bears", "()I"⟩
def dkwX8_bears_0 : List UInt8 := [5, 42, 183, 0, 23, 104, 172]
abbrev dktX8_bears_0 : List UInt8 := dkwX8_bears_0 ++ []
theorem dksX8_bears_0 : cX8_bears.data.toList.drop 0 = dktX8_bears_0 := by decide +kernel
theorem dX8_bears_0 : decode cX8_bears 0 = .ok (.iconst 2, 1) := dk_5 (dk_at dksX8_bears_0 0 rfl rfl)
theorem dX8_bears_1 : decode cX8_bears 1 = .ok (.aload_n 0, 1) := dk_42 (dk_at dksX8_bears_0 1 rfl rfl)
theorem dX8_bears_2 : decode cX8_bears 2 = .ok (.invokespecial 23, 3) := dk_183 0 23 (dk_at dksX8_bears_0 2 rfl rfl)
theorem dX8_bears_5 : decode cX8_bears 5 = .ok (.imul, 1) := dk_104 (dk_at dksX8_bears_0 5 rfl rfl)
theorem dX8_bears_6 : decode cX8_bears 6 = .ok (.ireturn, 1) := dk_172 (dk_at dksX8_bears_0 6 rfl rfl)
abbrev cX8_gets : ByteArray := prog_8_method_5_code
def yX8_gets : MethodName := ⟨RX8, "gets", "(I)I"⟩
def dkwX8_gets_0 : List UInt8 := [42, 42, 27, 183, 0, 26, 182, 0, 30, 172]
abbrev dktX8_gets_0 : List UInt8 := dkwX8_gets_0 ++ []
theorem dksX8_gets_0 : cX8_gets.data.toList.drop 0 = dktX8_gets_0 := by decide +kernel
theorem dX8_gets_0 : decode cX8_gets 0 = .ok (.aload_n 0, 1) := dk_42 (dk_at dksX8_gets_0 0 rfl rfl)
theorem dX8_gets_1 : decode cX8_gets 1 = .ok (.aload_n 0, 1) := dk_42 (dk_at dksX8_gets_0 1 rfl rfl)
theorem dX8_gets_2 : decode cX8_gets 2 = .ok (.iload_n 1, 1) := dk_27 (dk_at dksX8_gets_0 2 rfl rfl)
theorem dX8_gets_3 : decode cX8_gets 3 = .ok (.invokespecial 26, 3) := dk_183 0 26 (dk_at dksX8_gets_0 3 rfl rfl)
theorem dX8_gets_6 : decode cX8_gets 6 = .ok (.invokevirtual 30, 3) := dk_182 0 30 (dk_at dksX8_gets_0 6 rfl rfl)
theorem dX8_gets_9 : decode cX8_gets 9 = .ok (.ireturn, 1) := dk_172 (dk_at dksX8_gets_0 9 rfl rfl)
abbrev cX8_isUnder : ByteArray := prog_8_method_3_code
def yX8_isUnder : MethodName := ⟨RX8, "isUnder", "(I)Z"⟩
def dkwX8_isUnder_0 : List UInt8 := [27, 5, 159, 0, 11, 42, 27, 183, 0, 19, 153, 0, 7, 4, 167, 0, 4, 3, 172]
abbrev dktX8_isUnder_0 : List UInt8 := dkwX8_isUnder_0 ++ []
theorem dksX8_isUnder_0 : cX8_isUnder.data.toList.drop 0 = dktX8_isUnder_0 := by decide +kernel
theorem dX8_isUnder_0 : decode cX8_isUnder 0 = .ok (.iload_n 1, 1) := dk_27 (dk_at dksX8_isUnder_0 0 rfl rfl)
theorem dX8_isUnder_1 : decode cX8_isUnder 1 = .ok (.iconst 2, 1) := dk_5 (dk_at dksX8_isUnder_0 1 rfl rfl)
theorem dX8_isUnder_2 : decode cX8_isUnder 2 = .ok (.if_icmp .eq 11, 3) := dk_159 0 11 (dk_at dksX8_isUnder_0 2 rfl rfl)
theorem dX8_isUnder_5 : decode cX8_isUnder 5 = .ok (.aload_n 0, 1) := dk_42 (dk_at dksX8_isUnder_0 5 rfl rfl)
theorem dX8_isUnder_6 : decode cX8_isUnder 6 = .ok (.iload_n 1, 1) := dk_27 (dk_at dksX8_isUnder_0 6 rfl rfl)
theorem dX8_isUnder_7 : decode cX8_isUnder 7 = .ok (.invokespecial 19, 3) := dk_183 0 19 (dk_at dksX8_isUnder_0 7 rfl rfl)
theorem dX8_isUnder_10 : decode cX8_isUnder 10 = .ok (.ifCond .eq 7, 3) := dk_153 0 7 (dk_at dksX8_isUnder_0 10 rfl rfl)
theorem dX8_isUnder_13 : decode cX8_isUnder 13 = .ok (.iconst 1, 1) := dk_4 (dk_at dksX8_isUnder_0 13 rfl rfl)
theorem dX8_isUnder_14 : decode cX8_isUnder 14 = .ok (.goto 4, 3) := dk_167 0 4 (dk_at dksX8_isUnder_0 14 rfl rfl)
theorem dX8_isUnder_17 : decode cX8_isUnder 17 = .ok (.iconst 0, 1) := dk_3 (dk_at dksX8_isUnder_0 17 rfl rfl)
theorem dX8_isUnder_18 : decode cX8_isUnder 18 = .ok (.ireturn, 1) := dk_172 (dk_at dksX8_isUnder_0 18 rfl rfl)
theorem q137 : (Jvm.Cond.initialized "CarryFair$Paired") ∈ lw_all := lw_g (lw_at lw_m1 12 rfl) rfl
theorem q370 : (Jvm.Cond.instantiable "CarryFair$Paired" (3 : Nat)) ∈ lw_all := lw_g (lw_at lw_m2 5 rfl) rfl
theorem q372 : (Jvm.Cond.instanceMethod ({ cls := "CarryFair$Paired", name := "<init>", desc := "(LCarryFair;I)V" } : Jvm.MethodName)) ∈ lw_all := lw_g (lw_at lw_m2 7 rfl) rfl
theorem q373 : (Jvm.Cond.code ({ cls := "CarryFair$Paired", name := "<init>", desc := "(LCarryFair;I)V" } : Jvm.MethodName) prog_8_method_1_code (3 : Nat) (Option.none : Option Jvm.ClassFile.FieldType)) ∈ lw_all := lw_g (lw_at lw_m2 8 rfl) rfl
theorem q374 : (Jvm.Cond.methodLink "CarryFair$Paired" (9 : Nat) ({ cls := "CarryFair$Carrier", name := "<init>", desc := "(LCarryFair;I)V" } : Jvm.MethodName)) ∈ lw_all := lw_g (lw_at lw_m2 9 rfl) rfl
theorem q375 : (Jvm.Cond.fieldLink "CarryFair$Paired" (3 : Nat) "CarryFair$Paired" "this$0" "LCarryFair;") ∈ lw_all := lw_g (lw_at lw_m2 10 rfl) rfl
theorem q376 : (Jvm.Cond.laysFinal "CarryFair$Paired" "CarryFair$Paired" "this$0" "LCarryFair;") ∈ lw_all := lw_g (lw_at lw_m2 11 rfl) rfl
theorem q377 : (Jvm.Cond.soleField "CarryFair$Paired" "this$0") ∈ lw_all := lw_g (lw_at lw_m2 12 rfl) rfl
theorem q378 : (Jvm.Cond.laysFinal "CarryFair$Paired" "CarryFair$Carrier" "number" "I") ∈ lw_all := lw_g (lw_at lw_m2 13 rfl) rfl
theorem q379 : (Jvm.Cond.laysFinal "CarryFair$Paired" "CarryFair$Carrier" "this$0" "LCarryFair;") ∈ lw_all := lw_g (lw_at lw_m2 14 rfl) rfl
theorem q380 : (Jvm.Cond.superclass "CarryFair$Paired" "CarryFair$Carrier") ∈ lw_all := lw_g (lw_at lw_m2 15 rfl) rfl
theorem q553 : (Jvm.Cond.instanceMethod ({ cls := "CarryFair$Paired", name := "kind", desc := "()I" } : Jvm.MethodName)) ∈ lw_all := lw_g (lw_at lw_m2 188 rfl) rfl
theorem q554 : (Jvm.Cond.code ({ cls := "CarryFair$Paired", name := "kind", desc := "()I" } : Jvm.MethodName) prog_8_method_2_code (1 : Nat) (Option.some Jvm.ClassFile.FieldType.int)) ∈ lw_all := lw_g (lw_at lw_m2 189 rfl) rfl
theorem q555 : (Jvm.Cond.methodLink "CarryFair$Paired" (15 : Nat) ({ cls := "CarryFair$Carrier", name := "kind", desc := "()I" } : Jvm.MethodName)) ∈ lw_all := lw_g (lw_at lw_m2 190 rfl) rfl
theorem q557 : (Jvm.Cond.selects "CarryFair$Paired" ({ cls := "CarryFair$Carrier", name := "kind", desc := "()I" } : Jvm.MethodName) ({ cls := "CarryFair$Paired", name := "kind", desc := "()I" } : Jvm.MethodName)) ∈ lw_all := lw_g (lw_at lw_m2 192 rfl) rfl
theorem q593 : (Jvm.Cond.instanceMethod ({ cls := "CarryFair$Paired", name := "bears", desc := "()I" } : Jvm.MethodName)) ∈ lw_all := lw_g (lw_at lw_m2 228 rfl) rfl
theorem q594 : (Jvm.Cond.publicMethod ({ cls := "CarryFair$Paired", name := "bears", desc := "()I" } : Jvm.MethodName)) ∈ lw_tbl := lw_at lw_m2 229 rfl
theorem q595 : (Jvm.Cond.code ({ cls := "CarryFair$Paired", name := "bears", desc := "()I" } : Jvm.MethodName) prog_8_method_4_code (1 : Nat) (Option.some Jvm.ClassFile.FieldType.int)) ∈ lw_all := lw_g (lw_at lw_m2 230 rfl) rfl
theorem q596 : (Jvm.Cond.methodLink "CarryFair$Paired" (23 : Nat) ({ cls := "CarryFair$Carrier", name := "bears", desc := "()I" } : Jvm.MethodName)) ∈ lw_all := lw_g (lw_at lw_m2 231 rfl) rfl
theorem q600 : (Jvm.Cond.castable "CarryFair$Paired" "CarryFair$Carries") ∈ lw_tbl := lw_at lw_m2 235 rfl
theorem q601 : (Jvm.Cond.selects "CarryFair$Paired" ({ cls := "CarryFair$Carries", name := "bears", desc := "()I" } : Jvm.MethodName) ({ cls := "CarryFair$Paired", name := "bears", desc := "()I" } : Jvm.MethodName)) ∈ lw_all := lw_g (lw_at lw_m2 236 rfl) rfl
theorem q602 : (Jvm.Cond.unhidden "CarryFair$Paired" "bears" "()I") ∈ lw_tbl := lw_at lw_m2 237 rfl
theorem q699 : (Jvm.Cond.selects "CarryFair$Paired" ({ cls := "CarryFair$Carries", name := "counts", desc := "(IZ)I" } : Jvm.MethodName) ({ cls := "CarryFair$Carrier", name := "counts", desc := "(IZ)I" } : Jvm.MethodName)) ∈ lw_all := lw_g (lw_at lw_m3 94 rfl) rfl
theorem q700 : (Jvm.Cond.unhidden "CarryFair$Paired" "counts" "(IZ)I") ∈ lw_tbl := lw_at lw_m3 95 rfl
theorem q812 : (Jvm.Cond.instanceMethod ({ cls := "CarryFair$Paired", name := "gets", desc := "(I)I" } : Jvm.MethodName)) ∈ lw_all := lw_g (lw_at lw_m3 207 rfl) rfl
theorem q813 : (Jvm.Cond.code ({ cls := "CarryFair$Paired", name := "gets", desc := "(I)I" } : Jvm.MethodName) prog_8_method_5_code (2 : Nat) (Option.some Jvm.ClassFile.FieldType.int)) ∈ lw_all := lw_g (lw_at lw_m3 208 rfl) rfl
theorem q814 : (Jvm.Cond.methodLink "CarryFair$Paired" (26 : Nat) ({ cls := "CarryFair$Carrier", name := "gets", desc := "(I)I" } : Jvm.MethodName)) ∈ lw_all := lw_g (lw_at lw_m3 209 rfl) rfl
theorem q816 : (Jvm.Cond.unhidden "CarryFair$Paired" "half" "(I)I") ∈ lw_tbl := lw_at lw_m3 211 rfl
theorem q819 : (Jvm.Cond.selects "CarryFair$Paired" ({ cls := "CarryFair$Carries", name := "gets", desc := "(I)I" } : Jvm.MethodName) ({ cls := "CarryFair$Paired", name := "gets", desc := "(I)I" } : Jvm.MethodName)) ∈ lw_all := lw_g (lw_at lw_m3 214 rfl) rfl
theorem q820 : (Jvm.Cond.unhidden "CarryFair$Paired" "gets" "(I)I") ∈ lw_tbl := lw_at lw_m3 215 rfl
theorem q821 : (Jvm.Cond.publicMethod ({ cls := "CarryFair$Paired", name := "gets", desc := "(I)I" } : Jvm.MethodName)) ∈ lw_tbl := lw_at lw_m3 216 rfl
theorem q1222 : (Jvm.Cond.instanceMethod ({ cls := "CarryFair$Paired", name := "isUnder", desc := "(I)Z" } : Jvm.MethodName)) ∈ lw_all := lw_g (lw_at lw_m5 137 rfl) rfl
theorem q1223 : (Jvm.Cond.code ({ cls := "CarryFair$Paired", name := "isUnder", desc := "(I)Z" } : Jvm.MethodName) prog_8_method_3_code (2 : Nat) (Option.some Jvm.ClassFile.FieldType.boolean)) ∈ lw_all := lw_g (lw_at lw_m5 138 rfl) rfl
theorem q1224 : (Jvm.Cond.methodLink "CarryFair$Paired" (19 : Nat) ({ cls := "CarryFair$Carrier", name := "isUnder", desc := "(I)Z" } : Jvm.MethodName)) ∈ lw_all := lw_g (lw_at lw_m5 139 rfl) rfl
theorem q1226 : (Jvm.Cond.selects "CarryFair$Paired" ({ cls := "CarryFair$Carrier", name := "isUnder", desc := "(I)Z" } : Jvm.MethodName) ({ cls := "CarryFair$Paired", name := "isUnder", desc := "(I)Z" } : Jvm.MethodName)) ∈ lw_all := lw_g (lw_at lw_m5 141 rfl) rfl
theorem q1916 : (Jvm.Cond.sameMethod "CarryFair$Paired" "CarryFair$Paired" "kind" "()I") ∈ lw_all := lw_g (lw_at lw_m8 111 rfl) rfl
theorem q1919 : (Jvm.Cond.sameMethod "CarryFair$Paired" "CarryFair$Paired" "gets" "(I)I") ∈ lw_all := lw_g (lw_at lw_m8 114 rfl) rfl
theorem q1925 : (Jvm.Cond.castable "CarryFair$Paired" "CarryFair$Carrier") ∈ lw_tbl := lw_at lw_m8 120 rfl
theorem in_X8 : ∀ w ∈ wsX80, w ∈ lw_all := lw_in wsX80 [378, 379, 376] (by decide +kernel) (by decide +kernel)

/-! CarryFair$Cheating -/
set_option maxRecDepth 100000
def RX9 : String := "CarryFair$Cheating"
def TX9 : u_T := fun k => match k with
  | 0 => ("CarryFair$Carrier", "number", "I", true)
  | 1 => ("CarryFair$Carrier", "this$0", "LCarryFair;", true)
  | 2 => ("CarryFair$Old", "this$0", "LCarryFair;", true)
  | _ => ("CarryFair$Cheating", "this$0", "LCarryFair;", true)
def tyX9 : Nat → FieldType := fun k => match k with
  | 0 => .int
  | 1 => .object "CarryFair"
  | 2 => .object "CarryFair"
  | _ => .object "CarryFair"
abbrev wsX90 : List Cond := u_ws RX9 TX9 4
-- two fields of one name: no nmX9
theorem tyX9_ok : ∀ k, k < 4 → parseFieldDescriptor (TX9 k).2.2.1 = some (tyX9 k) := by decide +kernel
abbrev cX9_init : ByteArray := prog_5_method_1_code
def yX9_init : MethodName := ⟨RX9, "<init>", "(LCarryFair;I)V"⟩
def dkwX9_init_0 : List UInt8 := [42, 43, 181, 0, 1, 42, 43, 28, 183, 0, 7, 177]
abbrev dktX9_init_0 : List UInt8 := dkwX9_init_0 ++ []
theorem dksX9_init_0 : cX9_init.data.toList.drop 0 = dktX9_init_0 := by decide +kernel
theorem dX9_init_0 : decode cX9_init 0 = .ok (.aload_n 0, 1) := dk_42 (dk_at dksX9_init_0 0 rfl rfl)
theorem dX9_init_1 : decode cX9_init 1 = .ok (.aload_n 1, 1) := dk_43 (dk_at dksX9_init_0 1 rfl rfl)
theorem dX9_init_2 : decode cX9_init 2 = .ok (.putfield 1, 3) := dk_181 0 1 (dk_at dksX9_init_0 2 rfl rfl)
theorem dX9_init_5 : decode cX9_init 5 = .ok (.aload_n 0, 1) := dk_42 (dk_at dksX9_init_0 5 rfl rfl)
theorem dX9_init_6 : decode cX9_init 6 = .ok (.aload_n 1, 1) := dk_43 (dk_at dksX9_init_0 6 rfl rfl)
theorem dX9_init_7 : decode cX9_init 7 = .ok (.iload_n 2, 1) := dk_28 (dk_at dksX9_init_0 7 rfl rfl)
theorem dX9_init_8 : decode cX9_init 8 = .ok (.invokespecial 7, 3) := dk_183 0 7 (dk_at dksX9_init_0 8 rfl rfl)
theorem dX9_init_11 : decode cX9_init 11 = .ok (.return_, 1) := dk_177 (dk_at dksX9_init_0 11 rfl rfl)
abbrev cX9_kind : ByteArray := prog_5_method_2_code
def yX9_kind : MethodName := ⟨RX9, "kind", "()I"⟩
def dkwX9_kind_0 : List UInt8 := [5, 42, 183, 0, 13, 96, 172]
abbrev dktX9_kind_0 : List UInt8 := dkwX9_kind_0 ++ []
theorem dksX9_kind_0 : cX9_kind.data.toList.drop 0 = dktX9_kind_0 := by decide +kernel
theorem dX9_kind_0 : decode cX9_kind 0 = .ok (.iconst 2, 1) := dk_5 (dk_at dksX9_kind_0 0 rfl rfl)
theorem dX9_kind_1 : decode cX9_kind 1 = .ok (.aload_n 0, 1) := dk_42 (dk_at dksX9_kind_0 1 rfl rfl)
theorem dX9_kind_2 : decode cX9_kind 2 = .ok (.invokespecial 13, 3) := dk_183 0 13 (dk_at dksX9_kind_0 2 rfl rfl)
theorem dX9_kind_5 : decode cX9_kind 5 = .ok (.iadd, 1) := dk_96 (dk_at dksX9_kind_0 5 rfl rfl)
theorem dX9_kind_6 : decode cX9_kind 6 = .ok (.ireturn, 1) := dk_172 (dk_at dksX9_kind_0 6 rfl rfl)
abbrev cX9_gets : ByteArray := prog_5_method_3_code
def yX9_gets : MethodName := ⟨RX9, "gets", "(I)I"⟩
def dkwX9_gets_0 : List UInt8 := [42, 27, 183, 0, 17, 27, 16, 10, 108, 96, 172]
abbrev dktX9_gets_0 : List UInt8 := dkwX9_gets_0 ++ []
theorem dksX9_gets_0 : cX9_gets.data.toList.drop 0 = dktX9_gets_0 := by decide +kernel
theorem dX9_gets_0 : decode cX9_gets 0 = .ok (.aload_n 0, 1) := dk_42 (dk_at dksX9_gets_0 0 rfl rfl)
theorem dX9_gets_1 : decode cX9_gets 1 = .ok (.iload_n 1, 1) := dk_27 (dk_at dksX9_gets_0 1 rfl rfl)
theorem dX9_gets_2 : decode cX9_gets 2 = .ok (.invokespecial 17, 3) := dk_183 0 17 (dk_at dksX9_gets_0 2 rfl rfl)
theorem dX9_gets_5 : decode cX9_gets 5 = .ok (.iload_n 1, 1) := dk_27 (dk_at dksX9_gets_0 5 rfl rfl)
theorem dX9_gets_6 : decode cX9_gets 6 = .ok (.bipush 10, 2) := dk_16 10 (dk_at dksX9_gets_0 6 rfl rfl)
theorem dX9_gets_8 : decode cX9_gets 8 = .ok (.idiv, 1) := dk_108 (dk_at dksX9_gets_0 8 rfl rfl)
theorem dX9_gets_9 : decode cX9_gets 9 = .ok (.iadd, 1) := dk_96 (dk_at dksX9_gets_0 9 rfl rfl)
theorem dX9_gets_10 : decode cX9_gets 10 = .ok (.ireturn, 1) := dk_172 (dk_at dksX9_gets_0 10 rfl rfl)
theorem q138 : (Jvm.Cond.initialized "CarryFair$Cheating") ∈ lw_all := lw_g (lw_at lw_m1 13 rfl) rfl
theorem q382 : (Jvm.Cond.instantiable "CarryFair$Cheating" (4 : Nat)) ∈ lw_all := lw_g (lw_at lw_m2 17 rfl) rfl
theorem q384 : (Jvm.Cond.instanceMethod ({ cls := "CarryFair$Cheating", name := "<init>", desc := "(LCarryFair;I)V" } : Jvm.MethodName)) ∈ lw_all := lw_g (lw_at lw_m2 19 rfl) rfl
theorem q385 : (Jvm.Cond.code ({ cls := "CarryFair$Cheating", name := "<init>", desc := "(LCarryFair;I)V" } : Jvm.MethodName) prog_5_method_1_code (3 : Nat) (Option.none : Option Jvm.ClassFile.FieldType)) ∈ lw_all := lw_g (lw_at lw_m2 20 rfl) rfl
theorem q386 : (Jvm.Cond.methodLink "CarryFair$Cheating" (7 : Nat) ({ cls := "CarryFair$Old", name := "<init>", desc := "(LCarryFair;I)V" } : Jvm.MethodName)) ∈ lw_all := lw_g (lw_at lw_m2 21 rfl) rfl
theorem q387 : (Jvm.Cond.fieldLink "CarryFair$Cheating" (1 : Nat) "CarryFair$Cheating" "this$0" "LCarryFair;") ∈ lw_all := lw_g (lw_at lw_m2 22 rfl) rfl
theorem q388 : (Jvm.Cond.laysFinal "CarryFair$Cheating" "CarryFair$Cheating" "this$0" "LCarryFair;") ∈ lw_all := lw_g (lw_at lw_m2 23 rfl) rfl
theorem q389 : (Jvm.Cond.soleField "CarryFair$Cheating" "this$0") ∈ lw_all := lw_g (lw_at lw_m2 24 rfl) rfl
theorem q390 : (Jvm.Cond.laysFinal "CarryFair$Cheating" "CarryFair$Old" "this$0" "LCarryFair;") ∈ lw_all := lw_g (lw_at lw_m2 25 rfl) rfl
theorem q391 : (Jvm.Cond.laysFinal "CarryFair$Cheating" "CarryFair$Carrier" "number" "I") ∈ lw_all := lw_g (lw_at lw_m2 26 rfl) rfl
theorem q392 : (Jvm.Cond.laysFinal "CarryFair$Cheating" "CarryFair$Carrier" "this$0" "LCarryFair;") ∈ lw_all := lw_g (lw_at lw_m2 27 rfl) rfl
theorem q393 : (Jvm.Cond.superclass "CarryFair$Cheating" "CarryFair$Old") ∈ lw_all := lw_g (lw_at lw_m2 28 rfl) rfl
theorem q542 : (Jvm.Cond.selects "CarryFair$Cheating" ({ cls := "CarryFair$Carrier", name := "kind", desc := "()I" } : Jvm.MethodName) ({ cls := "CarryFair$Cheating", name := "kind", desc := "()I" } : Jvm.MethodName)) ∈ lw_all := lw_g (lw_at lw_m2 177 rfl) rfl
theorem q543 : (Jvm.Cond.instanceMethod ({ cls := "CarryFair$Cheating", name := "kind", desc := "()I" } : Jvm.MethodName)) ∈ lw_all := lw_g (lw_at lw_m2 178 rfl) rfl
theorem q544 : (Jvm.Cond.code ({ cls := "CarryFair$Cheating", name := "kind", desc := "()I" } : Jvm.MethodName) prog_5_method_2_code (1 : Nat) (Option.some Jvm.ClassFile.FieldType.int)) ∈ lw_all := lw_g (lw_at lw_m2 179 rfl) rfl
theorem q545 : (Jvm.Cond.methodLink "CarryFair$Cheating" (13 : Nat) ({ cls := "CarryFair$Old", name := "kind", desc := "()I" } : Jvm.MethodName)) ∈ lw_all := lw_g (lw_at lw_m2 180 rfl) rfl
theorem q577 : (Jvm.Cond.castable "CarryFair$Cheating" "CarryFair$Carries") ∈ lw_tbl := lw_at lw_m2 212 rfl
theorem q578 : (Jvm.Cond.selects "CarryFair$Cheating" ({ cls := "CarryFair$Carries", name := "bears", desc := "()I" } : Jvm.MethodName) ({ cls := "CarryFair$Old", name := "bears", desc := "()I" } : Jvm.MethodName)) ∈ lw_all := lw_g (lw_at lw_m2 213 rfl) rfl
theorem q579 : (Jvm.Cond.unhidden "CarryFair$Cheating" "bears" "()I") ∈ lw_tbl := lw_at lw_m2 214 rfl
theorem q585 : (Jvm.Cond.unhidden "CarryFair$Cheating" "half" "(I)I") ∈ lw_tbl := lw_at lw_m2 220 rfl
theorem q693 : (Jvm.Cond.selects "CarryFair$Cheating" ({ cls := "CarryFair$Carries", name := "counts", desc := "(IZ)I" } : Jvm.MethodName) ({ cls := "CarryFair$Carrier", name := "counts", desc := "(IZ)I" } : Jvm.MethodName)) ∈ lw_all := lw_g (lw_at lw_m3 88 rfl) rfl
theorem q694 : (Jvm.Cond.unhidden "CarryFair$Cheating" "counts" "(IZ)I") ∈ lw_tbl := lw_at lw_m3 89 rfl
theorem q798 : (Jvm.Cond.selects "CarryFair$Cheating" ({ cls := "CarryFair$Carries", name := "gets", desc := "(I)I" } : Jvm.MethodName) ({ cls := "CarryFair$Cheating", name := "gets", desc := "(I)I" } : Jvm.MethodName)) ∈ lw_all := lw_g (lw_at lw_m3 193 rfl) rfl
theorem q799 : (Jvm.Cond.unhidden "CarryFair$Cheating" "gets" "(I)I") ∈ lw_tbl := lw_at lw_m3 194 rfl
theorem q800 : (Jvm.Cond.instanceMethod ({ cls := "CarryFair$Cheating", name := "gets", desc := "(I)I" } : Jvm.MethodName)) ∈ lw_all := lw_g (lw_at lw_m3 195 rfl) rfl
theorem q801 : (Jvm.Cond.publicMethod ({ cls := "CarryFair$Cheating", name := "gets", desc := "(I)I" } : Jvm.MethodName)) ∈ lw_tbl := lw_at lw_m3 196 rfl
theorem q802 : (Jvm.Cond.code ({ cls := "CarryFair$Cheating", name := "gets", desc := "(I)I" } : Jvm.MethodName) prog_5_method_3_code (2 : Nat) (Option.some Jvm.ClassFile.FieldType.int)) ∈ lw_all := lw_g (lw_at lw_m3 197 rfl) rfl
theorem q803 : (Jvm.Cond.methodLink "CarryFair$Cheating" (17 : Nat) ({ cls := "CarryFair$Old", name := "gets", desc := "(I)I" } : Jvm.MethodName)) ∈ lw_all := lw_g (lw_at lw_m3 198 rfl) rfl
theorem q1217 : (Jvm.Cond.selects "CarryFair$Cheating" ({ cls := "CarryFair$Carrier", name := "isUnder", desc := "(I)Z" } : Jvm.MethodName) ({ cls := "CarryFair$Old", name := "isUnder", desc := "(I)Z" } : Jvm.MethodName)) ∈ lw_all := lw_g (lw_at lw_m5 132 rfl) rfl
theorem q1922 : (Jvm.Cond.castable "CarryFair$Cheating" "CarryFair$Carrier") ∈ lw_tbl := lw_at lw_m8 117 rfl
theorem q1927 : (Jvm.Cond.castable "CarryFair$Cheating" "CarryFair$Old") ∈ lw_tbl := lw_at lw_m8 122 rfl
theorem in_X9 : ∀ w ∈ wsX90, w ∈ lw_all := lw_in wsX90 [391, 392, 390, 388] (by decide +kernel) (by decide +kernel)

