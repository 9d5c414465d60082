/-! DECODE ROWS BY BYTES: one lemma an opcode; a method's code is cut into short pieces once, and a row reads its own piece alone. -/
set_option maxRecDepth 100000
/-- the code has just these bytes from pc on -/
def DkAt (code : ByteArray) (pc : Nat) (bs : List UInt8) : Prop := ∀ (j : Nat) (b : UInt8), bs[j]? = some b → code.data.toList[pc + j]? = some b
/-- the piece W has the bytes bs from its place j on -/
def dkIn (W : List UInt8) (j : Nat) (bs : List UInt8) : Bool := decide ((W.drop j).take bs.length = bs)
theorem dk_seg {l W T : List UInt8} {o o2 : Nat} (h : l.drop o = W ++ T) (n : Nat) (hn : W.length = n) (ho : o + n = o2) : l.drop o2 = T := by
  subst ho
  rw [← List.drop_drop, h, List.drop_left' hn]
theorem dk_at {code : ByteArray} {W T bs : List UInt8} {o pc : Nat} (h : code.data.toList.drop o = W ++ T) (j : Nat) (hp : o + j = pc) (hw : dkIn W j bs = true) : DkAt code pc bs := by
  subst hp
  intro i b e
  have h1 := of_decide_eq_true hw
  have h2 : i < bs.length := (List.getElem?_eq_some_iff.mp e).1
  have h3 : W[j + i]? = some b := by
    rw [← h1, List.getElem?_take, if_pos h2, List.getElem?_drop] at e
    exact e
  have h4 : j + i < W.length := (List.getElem?_eq_some_iff.mp h3).1
  have h5 : (code.data.toList.drop o)[j + i]? = some b := by
    rw [h, List.getElem?_append_left h4]
    exact h3
  rw [List.getElem?_drop, ← Nat.add_assoc] at h5
  exact h5
theorem dk_u1 {A : ByteArray} {p : Nat} {b : UInt8} (h : A.data.toList[p]? = some b) : (Reader.u1 : Reader DecodeError Nat) A p = .ok (b.toNat, p + 1) := by
  obtain ⟨h1, h2⟩ := List.getElem?_eq_some_iff.mp h
  have h3 : p < A.size := by simpa using h1
  have h4 : A[p]'h3 = b := h2
  have e : (Reader.u1 : Reader DecodeError Nat) A p = (if h : p < A.size then .ok (A[p].toNat, p + 1) else .error (HasTruncated.truncated p)) := by
    show (do if h : p < A.size then do set (p + 1); Pure.pure A[p].toNat else MonadExcept.throw (HasTruncated.truncated p) : Reader DecodeError Nat) A p = _
    by_cases hi : p < A.size
    · rw [dif_pos hi, dif_pos hi]; rfl
    · rw [dif_neg hi, dif_neg hi]; rfl
  rw [e, dif_pos h3, h4]
theorem dk_bind {α β : Type} {r : Reader DecodeError α} {f : α → Reader DecodeError β} {A : ByteArray} {p s : Nat} {a : α} (h : r A p = .ok (a, s)) : (r >>= f) A p = f a A s := by
  show (do let (a, s) ← r A p; f a A s : Except DecodeError (β × Nat)) = _
  rw [h]
  rfl
theorem dk_map {α β : Type} {r : Reader DecodeError α} {g : α → β} {A : ByteArray} {p s : Nat} {a : α} (h : r A p = .ok (a, s)) : (g <$> r) A p = .ok (g a, s) := by
  show (do let (a, s) ← r A p; .ok (g a, s) : Except DecodeError (β × Nat)) = _
  rw [h]
  rfl
theorem dk_u2 {A : ByteArray} {p : Nat} {a b : UInt8} (h : A.data.toList[p]? = some a) (h2 : A.data.toList[p + 1]? = some b) : (Reader.u2 : Reader DecodeError Nat) A p = .ok (a.toNat * 256 + b.toNat, p + 2) := by
  show (Reader.u1 >>= fun hi => Reader.u1 >>= fun lo => Pure.pure (hi * 256 + lo) : Reader DecodeError Nat) A p = _
  rw [dk_bind (dk_u1 h), dk_bind (dk_u1 h2)]
  rfl
theorem dk_of {code : ByteArray} {pc n : Nat} {i : Instr} (h : Decoder.instr pc code pc = .ok (i, pc + n)) : decode code pc = .ok (i, n) := by
  have e : decode code pc = (match Decoder.instr pc code pc with | .error x => .error x | .ok (j, s) => .ok (j, s - pc)) := by
    show (do let (j, s) ← Decoder.instr pc code pc; Pure.pure (j, s - pc) : Except DecodeError (Instr × Nat)) = _
    cases Decoder.instr pc code pc <;> rfl
  rw [e, h]
  show Except.ok (i, pc + n - pc) = _
  rw [Nat.add_sub_cancel_left]
theorem dk_1 {code : ByteArray} {pc : Nat} (h : DkAt code pc [1]) : decode code pc = .ok (.aconst_null, 1) := dk_of ((dk_bind (dk_u1 (h 0 _ rfl))).trans rfl)
theorem dk_2 {code : ByteArray} {pc : Nat} (h : DkAt code pc [2]) : decode code pc = .ok (.iconst (-1), 1) := dk_of ((dk_bind (dk_u1 (h 0 _ rfl))).trans rfl)
theorem dk_3 {code : ByteArray} {pc : Nat} (h : DkAt code pc [3]) : decode code pc = .ok (.iconst 0, 1) := dk_of ((dk_bind (dk_u1 (h 0 _ rfl))).trans rfl)
theorem dk_4 {code : ByteArray} {pc : Nat} (h : DkAt code pc [4]) : decode code pc = .ok (.iconst 1, 1) := dk_of ((dk_bind (dk_u1 (h 0 _ rfl))).trans rfl)
theorem dk_5 {code : ByteArray} {pc : Nat} (h : DkAt code pc [5]) : decode code pc = .ok (.iconst 2, 1) := dk_of ((dk_bind (dk_u1 (h 0 _ rfl))).trans rfl)
theorem dk_6 {code : ByteArray} {pc : Nat} (h : DkAt code pc [6]) : decode code pc = .ok (.iconst 3, 1) := dk_of ((dk_bind (dk_u1 (h 0 _ rfl))).trans rfl)
theorem dk_7 {code : ByteArray} {pc : Nat} (h : DkAt code pc [7]) : decode code pc = .ok (.iconst 4, 1) := dk_of ((dk_bind (dk_u1 (h 0 _ rfl))).trans rfl)
theorem dk_8 {code : ByteArray} {pc : Nat} (h : DkAt code pc [8]) : decode code pc = .ok (.iconst 5, 1) := dk_of ((dk_bind (dk_u1 (h 0 _ rfl))).trans rfl)
theorem dk_9 {code : ByteArray} {pc : Nat} (h : DkAt code pc [9]) : decode code pc = .ok (.lconst 0, 1) := dk_of ((dk_bind (dk_u1 (h 0 _ rfl))).trans rfl)
theorem dk_10 {code : ByteArray} {pc : Nat} (h : DkAt code pc [10]) : decode code pc = .ok (.lconst 1, 1) := dk_of ((dk_bind (dk_u1 (h 0 _ rfl))).trans rfl)
theorem dk_16 {code : ByteArray} {pc : Nat} (a : UInt8) (h : DkAt code pc [16, a]) : decode code pc = .ok (.bipush (Reader.signed 8 a.toNat), 2) := dk_of ((dk_bind (dk_u1 (h 0 _ rfl))).trans ((dk_bind (dk_map (dk_u1 (h 1 _ rfl)))).trans rfl))
theorem dk_17 {code : ByteArray} {pc : Nat} (a b : UInt8) (h : DkAt code pc [17, a, b]) : decode code pc = .ok (.sipush (Reader.signed 16 (a.toNat * 256 + b.toNat)), 3) := dk_of ((dk_bind (dk_u1 (h 0 _ rfl))).trans ((dk_bind (dk_map (dk_u2 (h 1 _ rfl) (h 2 _ rfl)))).trans rfl))
theorem dk_20 {code : ByteArray} {pc : Nat} (a b : UInt8) (h : DkAt code pc [20, a, b]) : decode code pc = .ok (.ldc2_w (a.toNat * 256 + b.toNat), 3) := dk_of ((dk_bind (dk_u1 (h 0 _ rfl))).trans ((dk_bind (dk_u2 (h 1 _ rfl) (h 2 _ rfl))).trans rfl))
theorem dk_21 {code : ByteArray} {pc : Nat} (a : UInt8) (h : DkAt code pc [21, a]) : decode code pc = .ok (.iload a.toNat, 2) := dk_of ((dk_bind (dk_u1 (h 0 _ rfl))).trans ((dk_bind (dk_u1 (h 1 _ rfl))).trans rfl))
theorem dk_22 {code : ByteArray} {pc : Nat} (a : UInt8) (h : DkAt code pc [22, a]) : decode code pc = .ok (.lload a.toNat, 2) := dk_of ((dk_bind (dk_u1 (h 0 _ rfl))).trans ((dk_bind (dk_u1 (h 1 _ rfl))).trans rfl))
theorem dk_25 {code : ByteArray} {pc : Nat} (a : UInt8) (h : DkAt code pc [25, a]) : decode code pc = .ok (.aload a.toNat, 2) := dk_of ((dk_bind (dk_u1 (h 0 _ rfl))).trans ((dk_bind (dk_u1 (h 1 _ rfl))).trans rfl))
theorem dk_26 {code : ByteArray} {pc : Nat} (h : DkAt code pc [26]) : decode code pc = .ok (.iload_n 0, 1) := dk_of ((dk_bind (dk_u1 (h 0 _ rfl))).trans rfl)
theorem dk_27 {code : ByteArray} {pc : Nat} (h : DkAt code pc [27]) : decode code pc = .ok (.iload_n 1, 1) := dk_of ((dk_bind (dk_u1 (h 0 _ rfl))).trans rfl)
theorem dk_28 {code : ByteArray} {pc : Nat} (h : DkAt code pc [28]) : decode code pc = .ok (.iload_n 2, 1) := dk_of ((dk_bind (dk_u1 (h 0 _ rfl))).trans rfl)
theorem dk_29 {code : ByteArray} {pc : Nat} (h : DkAt code pc [29]) : decode code pc = .ok (.iload_n 3, 1) := dk_of ((dk_bind (dk_u1 (h 0 _ rfl))).trans rfl)
theorem dk_30 {code : ByteArray} {pc : Nat} (h : DkAt code pc [30]) : decode code pc = .ok (.lload_n 0, 1) := dk_of ((dk_bind (dk_u1 (h 0 _ rfl))).trans rfl)
theorem dk_31 {code : ByteArray} {pc : Nat} (h : DkAt code pc [31]) : decode code pc = .ok (.lload_n 1, 1) := dk_of ((dk_bind (dk_u1 (h 0 _ rfl))).trans rfl)
theorem dk_32 {code : ByteArray} {pc : Nat} (h : DkAt code pc [32]) : decode code pc = .ok (.lload_n 2, 1) := dk_of ((dk_bind (dk_u1 (h 0 _ rfl))).trans rfl)
theorem dk_42 {code : ByteArray} {pc : Nat} (h : DkAt code pc [42]) : decode code pc = .ok (.aload_n 0, 1) := dk_of ((dk_bind (dk_u1 (h 0 _ rfl))).trans rfl)
theorem dk_43 {code : ByteArray} {pc : Nat} (h : DkAt code pc [43]) : decode code pc = .ok (.aload_n 1, 1) := dk_of ((dk_bind (dk_u1 (h 0 _ rfl))).trans rfl)
theorem dk_44 {code : ByteArray} {pc : Nat} (h : DkAt code pc [44]) : decode code pc = .ok (.aload_n 2, 1) := dk_of ((dk_bind (dk_u1 (h 0 _ rfl))).trans rfl)
theorem dk_46 {code : ByteArray} {pc : Nat} (h : DkAt code pc [46]) : decode code pc = .ok (.iaload, 1) := dk_of ((dk_bind (dk_u1 (h 0 _ rfl))).trans rfl)
theorem dk_50 {code : ByteArray} {pc : Nat} (h : DkAt code pc [50]) : decode code pc = .ok (.aaload, 1) := dk_of ((dk_bind (dk_u1 (h 0 _ rfl))).trans rfl)
theorem dk_51 {code : ByteArray} {pc : Nat} (h : DkAt code pc [51]) : decode code pc = .ok (.baload, 1) := dk_of ((dk_bind (dk_u1 (h 0 _ rfl))).trans rfl)
theorem dk_54 {code : ByteArray} {pc : Nat} (a : UInt8) (h : DkAt code pc [54, a]) : decode code pc = .ok (.istore a.toNat, 2) := dk_of ((dk_bind (dk_u1 (h 0 _ rfl))).trans ((dk_bind (dk_u1 (h 1 _ rfl))).trans rfl))
theorem dk_58 {code : ByteArray} {pc : Nat} (a : UInt8) (h : DkAt code pc [58, a]) : decode code pc = .ok (.astore a.toNat, 2) := dk_of ((dk_bind (dk_u1 (h 0 _ rfl))).trans ((dk_bind (dk_u1 (h 1 _ rfl))).trans rfl))
theorem dk_60 {code : ByteArray} {pc : Nat} (h : DkAt code pc [60]) : decode code pc = .ok (.istore_n 1, 1) := dk_of ((dk_bind (dk_u1 (h 0 _ rfl))).trans rfl)
theorem dk_61 {code : ByteArray} {pc : Nat} (h : DkAt code pc [61]) : decode code pc = .ok (.istore_n 2, 1) := dk_of ((dk_bind (dk_u1 (h 0 _ rfl))).trans rfl)
theorem dk_62 {code : ByteArray} {pc : Nat} (h : DkAt code pc [62]) : decode code pc = .ok (.istore_n 3, 1) := dk_of ((dk_bind (dk_u1 (h 0 _ rfl))).trans rfl)
theorem dk_76 {code : ByteArray} {pc : Nat} (h : DkAt code pc [76]) : decode code pc = .ok (.astore_n 1, 1) := dk_of ((dk_bind (dk_u1 (h 0 _ rfl))).trans rfl)
theorem dk_77 {code : ByteArray} {pc : Nat} (h : DkAt code pc [77]) : decode code pc = .ok (.astore_n 2, 1) := dk_of ((dk_bind (dk_u1 (h 0 _ rfl))).trans rfl)
theorem dk_79 {code : ByteArray} {pc : Nat} (h : DkAt code pc [79]) : decode code pc = .ok (.iastore, 1) := dk_of ((dk_bind (dk_u1 (h 0 _ rfl))).trans rfl)
theorem dk_83 {code : ByteArray} {pc : Nat} (h : DkAt code pc [83]) : decode code pc = .ok (.aastore, 1) := dk_of ((dk_bind (dk_u1 (h 0 _ rfl))).trans rfl)
theorem dk_84 {code : ByteArray} {pc : Nat} (h : DkAt code pc [84]) : decode code pc = .ok (.bastore, 1) := dk_of ((dk_bind (dk_u1 (h 0 _ rfl))).trans rfl)
theorem dk_87 {code : ByteArray} {pc : Nat} (h : DkAt code pc [87]) : decode code pc = .ok (.pop, 1) := dk_of ((dk_bind (dk_u1 (h 0 _ rfl))).trans rfl)
theorem dk_89 {code : ByteArray} {pc : Nat} (h : DkAt code pc [89]) : decode code pc = .ok (.dup, 1) := dk_of ((dk_bind (dk_u1 (h 0 _ rfl))).trans rfl)
theorem dk_90 {code : ByteArray} {pc : Nat} (h : DkAt code pc [90]) : decode code pc = .ok (.dup_x1, 1) := dk_of ((dk_bind (dk_u1 (h 0 _ rfl))).trans rfl)
theorem dk_92 {code : ByteArray} {pc : Nat} (h : DkAt code pc [92]) : decode code pc = .ok (.dup2, 1) := dk_of ((dk_bind (dk_u1 (h 0 _ rfl))).trans rfl)
theorem dk_96 {code : ByteArray} {pc : Nat} (h : DkAt code pc [96]) : decode code pc = .ok (.iadd, 1) := dk_of ((dk_bind (dk_u1 (h 0 _ rfl))).trans rfl)
theorem dk_97 {code : ByteArray} {pc : Nat} (h : DkAt code pc [97]) : decode code pc = .ok (.ladd, 1) := dk_of ((dk_bind (dk_u1 (h 0 _ rfl))).trans rfl)
theorem dk_100 {code : ByteArray} {pc : Nat} (h : DkAt code pc [100]) : decode code pc = .ok (.isub, 1) := dk_of ((dk_bind (dk_u1 (h 0 _ rfl))).trans rfl)
theorem dk_104 {code : ByteArray} {pc : Nat} (h : DkAt code pc [104]) : decode code pc = .ok (.imul, 1) := dk_of ((dk_bind (dk_u1 (h 0 _ rfl))).trans rfl)
theorem dk_105 {code : ByteArray} {pc : Nat} (h : DkAt code pc [105]) : decode code pc = .ok (.lmul, 1) := dk_of ((dk_bind (dk_u1 (h 0 _ rfl))).trans rfl)
theorem dk_108 {code : ByteArray} {pc : Nat} (h : DkAt code pc [108]) : decode code pc = .ok (.idiv, 1) := dk_of ((dk_bind (dk_u1 (h 0 _ rfl))).trans rfl)
theorem dk_112 {code : ByteArray} {pc : Nat} (h : DkAt code pc [112]) : decode code pc = .ok (.irem, 1) := dk_of ((dk_bind (dk_u1 (h 0 _ rfl))).trans rfl)
theorem dk_113 {code : ByteArray} {pc : Nat} (h : DkAt code pc [113]) : decode code pc = .ok (.lrem, 1) := dk_of ((dk_bind (dk_u1 (h 0 _ rfl))).trans rfl)
theorem dk_120 {code : ByteArray} {pc : Nat} (h : DkAt code pc [120]) : decode code pc = .ok (.ishl, 1) := dk_of ((dk_bind (dk_u1 (h 0 _ rfl))).trans rfl)
theorem dk_121 {code : ByteArray} {pc : Nat} (h : DkAt code pc [121]) : decode code pc = .ok (.lshl, 1) := dk_of ((dk_bind (dk_u1 (h 0 _ rfl))).trans rfl)
theorem dk_122 {code : ByteArray} {pc : Nat} (h : DkAt code pc [122]) : decode code pc = .ok (.ishr, 1) := dk_of ((dk_bind (dk_u1 (h 0 _ rfl))).trans rfl)
theorem dk_123 {code : ByteArray} {pc : Nat} (h : DkAt code pc [123]) : decode code pc = .ok (.lshr, 1) := dk_of ((dk_bind (dk_u1 (h 0 _ rfl))).trans rfl)
theorem dk_125 {code : ByteArray} {pc : Nat} (h : DkAt code pc [125]) : decode code pc = .ok (.lushr, 1) := dk_of ((dk_bind (dk_u1 (h 0 _ rfl))).trans rfl)
theorem dk_126 {code : ByteArray} {pc : Nat} (h : DkAt code pc [126]) : decode code pc = .ok (.iand, 1) := dk_of ((dk_bind (dk_u1 (h 0 _ rfl))).trans rfl)
theorem dk_127 {code : ByteArray} {pc : Nat} (h : DkAt code pc [127]) : decode code pc = .ok (.land, 1) := dk_of ((dk_bind (dk_u1 (h 0 _ rfl))).trans rfl)
theorem dk_128 {code : ByteArray} {pc : Nat} (h : DkAt code pc [128]) : decode code pc = .ok (.ior, 1) := dk_of ((dk_bind (dk_u1 (h 0 _ rfl))).trans rfl)
theorem dk_129 {code : ByteArray} {pc : Nat} (h : DkAt code pc [129]) : decode code pc = .ok (.lor, 1) := dk_of ((dk_bind (dk_u1 (h 0 _ rfl))).trans rfl)
theorem dk_132 {code : ByteArray} {pc : Nat} (a b : UInt8) (h : DkAt code pc [132, a, b]) : decode code pc = .ok (.iinc a.toNat (Reader.signed 8 b.toNat), 3) := dk_of ((dk_bind (dk_u1 (h 0 _ rfl))).trans ((dk_bind (dk_u1 (h 1 _ rfl))).trans ((dk_bind (dk_map (dk_u1 (h 2 _ rfl)))).trans rfl)))
theorem dk_133 {code : ByteArray} {pc : Nat} (h : DkAt code pc [133]) : decode code pc = .ok (.i2l, 1) := dk_of ((dk_bind (dk_u1 (h 0 _ rfl))).trans rfl)
theorem dk_136 {code : ByteArray} {pc : Nat} (h : DkAt code pc [136]) : decode code pc = .ok (.l2i, 1) := dk_of ((dk_bind (dk_u1 (h 0 _ rfl))).trans rfl)
theorem dk_145 {code : ByteArray} {pc : Nat} (h : DkAt code pc [145]) : decode code pc = .ok (.i2b, 1) := dk_of ((dk_bind (dk_u1 (h 0 _ rfl))).trans rfl)
theorem dk_148 {code : ByteArray} {pc : Nat} (h : DkAt code pc [148]) : decode code pc = .ok (.lcmp, 1) := dk_of ((dk_bind (dk_u1 (h 0 _ rfl))).trans rfl)
theorem dk_153 {code : ByteArray} {pc : Nat} (a b : UInt8) (h : DkAt code pc [153, a, b]) : decode code pc = .ok (.ifCond .eq (Reader.signed 16 (a.toNat * 256 + b.toNat)), 3) := dk_of ((dk_bind (dk_u1 (h 0 _ rfl))).trans ((dk_bind (dk_map (dk_u2 (h 1 _ rfl) (h 2 _ rfl)))).trans rfl))
theorem dk_154 {code : ByteArray} {pc : Nat} (a b : UInt8) (h : DkAt code pc [154, a, b]) : decode code pc = .ok (.ifCond .ne (Reader.signed 16 (a.toNat * 256 + b.toNat)), 3) := dk_of ((dk_bind (dk_u1 (h 0 _ rfl))).trans ((dk_bind (dk_map (dk_u2 (h 1 _ rfl) (h 2 _ rfl)))).trans rfl))
theorem dk_155 {code : ByteArray} {pc : Nat} (a b : UInt8) (h : DkAt code pc [155, a, b]) : decode code pc = .ok (.ifCond .lt (Reader.signed 16 (a.toNat * 256 + b.toNat)), 3) := dk_of ((dk_bind (dk_u1 (h 0 _ rfl))).trans ((dk_bind (dk_map (dk_u2 (h 1 _ rfl) (h 2 _ rfl)))).trans rfl))
theorem dk_157 {code : ByteArray} {pc : Nat} (a b : UInt8) (h : DkAt code pc [157, a, b]) : decode code pc = .ok (.ifCond .gt (Reader.signed 16 (a.toNat * 256 + b.toNat)), 3) := dk_of ((dk_bind (dk_u1 (h 0 _ rfl))).trans ((dk_bind (dk_map (dk_u2 (h 1 _ rfl) (h 2 _ rfl)))).trans rfl))
theorem dk_158 {code : ByteArray} {pc : Nat} (a b : UInt8) (h : DkAt code pc [158, a, b]) : decode code pc = .ok (.ifCond .le (Reader.signed 16 (a.toNat * 256 + b.toNat)), 3) := dk_of ((dk_bind (dk_u1 (h 0 _ rfl))).trans ((dk_bind (dk_map (dk_u2 (h 1 _ rfl) (h 2 _ rfl)))).trans rfl))
theorem dk_159 {code : ByteArray} {pc : Nat} (a b : UInt8) (h : DkAt code pc [159, a, b]) : decode code pc = .ok (.if_icmp .eq (Reader.signed 16 (a.toNat * 256 + b.toNat)), 3) := dk_of ((dk_bind (dk_u1 (h 0 _ rfl))).trans ((dk_bind (dk_map (dk_u2 (h 1 _ rfl) (h 2 _ rfl)))).trans rfl))
theorem dk_160 {code : ByteArray} {pc : Nat} (a b : UInt8) (h : DkAt code pc [160, a, b]) : decode code pc = .ok (.if_icmp .ne (Reader.signed 16 (a.toNat * 256 + b.toNat)), 3) := dk_of ((dk_bind (dk_u1 (h 0 _ rfl))).trans ((dk_bind (dk_map (dk_u2 (h 1 _ rfl) (h 2 _ rfl)))).trans rfl))
theorem dk_161 {code : ByteArray} {pc : Nat} (a b : UInt8) (h : DkAt code pc [161, a, b]) : decode code pc = .ok (.if_icmp .lt (Reader.signed 16 (a.toNat * 256 + b.toNat)), 3) := dk_of ((dk_bind (dk_u1 (h 0 _ rfl))).trans ((dk_bind (dk_map (dk_u2 (h 1 _ rfl) (h 2 _ rfl)))).trans rfl))
theorem dk_162 {code : ByteArray} {pc : Nat} (a b : UInt8) (h : DkAt code pc [162, a, b]) : decode code pc = .ok (.if_icmp .ge (Reader.signed 16 (a.toNat * 256 + b.toNat)), 3) := dk_of ((dk_bind (dk_u1 (h 0 _ rfl))).trans ((dk_bind (dk_map (dk_u2 (h 1 _ rfl) (h 2 _ rfl)))).trans rfl))
theorem dk_163 {code : ByteArray} {pc : Nat} (a b : UInt8) (h : DkAt code pc [163, a, b]) : decode code pc = .ok (.if_icmp .gt (Reader.signed 16 (a.toNat * 256 + b.toNat)), 3) := dk_of ((dk_bind (dk_u1 (h 0 _ rfl))).trans ((dk_bind (dk_map (dk_u2 (h 1 _ rfl) (h 2 _ rfl)))).trans rfl))
theorem dk_164 {code : ByteArray} {pc : Nat} (a b : UInt8) (h : DkAt code pc [164, a, b]) : decode code pc = .ok (.if_icmp .le (Reader.signed 16 (a.toNat * 256 + b.toNat)), 3) := dk_of ((dk_bind (dk_u1 (h 0 _ rfl))).trans ((dk_bind (dk_map (dk_u2 (h 1 _ rfl) (h 2 _ rfl)))).trans rfl))
theorem dk_167 {code : ByteArray} {pc : Nat} (a b : UInt8) (h : DkAt code pc [167, a, b]) : decode code pc = .ok (.goto (Reader.signed 16 (a.toNat * 256 + b.toNat)), 3) := dk_of ((dk_bind (dk_u1 (h 0 _ rfl))).trans ((dk_bind (dk_map (dk_u2 (h 1 _ rfl) (h 2 _ rfl)))).trans rfl))
theorem dk_172 {code : ByteArray} {pc : Nat} (h : DkAt code pc [172]) : decode code pc = .ok (.ireturn, 1) := dk_of ((dk_bind (dk_u1 (h 0 _ rfl))).trans rfl)
theorem dk_177 {code : ByteArray} {pc : Nat} (h : DkAt code pc [177]) : decode code pc = .ok (.return_, 1) := dk_of ((dk_bind (dk_u1 (h 0 _ rfl))).trans rfl)
theorem dk_178 {code : ByteArray} {pc : Nat} (a b : UInt8) (h : DkAt code pc [178, a, b]) : decode code pc = .ok (.getstatic (a.toNat * 256 + b.toNat), 3) := dk_of ((dk_bind (dk_u1 (h 0 _ rfl))).trans ((dk_bind (dk_u2 (h 1 _ rfl) (h 2 _ rfl))).trans rfl))
theorem dk_180 {code : ByteArray} {pc : Nat} (a b : UInt8) (h : DkAt code pc [180, a, b]) : decode code pc = .ok (.getfield (a.toNat * 256 + b.toNat), 3) := dk_of ((dk_bind (dk_u1 (h 0 _ rfl))).trans ((dk_bind (dk_u2 (h 1 _ rfl) (h 2 _ rfl))).trans rfl))
theorem dk_181 {code : ByteArray} {pc : Nat} (a b : UInt8) (h : DkAt code pc [181, a, b]) : decode code pc = .ok (.putfield (a.toNat * 256 + b.toNat), 3) := dk_of ((dk_bind (dk_u1 (h 0 _ rfl))).trans ((dk_bind (dk_u2 (h 1 _ rfl) (h 2 _ rfl))).trans rfl))
theorem dk_182 {code : ByteArray} {pc : Nat} (a b : UInt8) (h : DkAt code pc [182, a, b]) : decode code pc = .ok (.invokevirtual (a.toNat * 256 + b.toNat), 3) := dk_of ((dk_bind (dk_u1 (h 0 _ rfl))).trans ((dk_bind (dk_u2 (h 1 _ rfl) (h 2 _ rfl))).trans rfl))
theorem dk_183 {code : ByteArray} {pc : Nat} (a b : UInt8) (h : DkAt code pc [183, a, b]) : decode code pc = .ok (.invokespecial (a.toNat * 256 + b.toNat), 3) := dk_of ((dk_bind (dk_u1 (h 0 _ rfl))).trans ((dk_bind (dk_u2 (h 1 _ rfl) (h 2 _ rfl))).trans rfl))
theorem dk_184 {code : ByteArray} {pc : Nat} (a b : UInt8) (h : DkAt code pc [184, a, b]) : decode code pc = .ok (.invokestatic (a.toNat * 256 + b.toNat), 3) := dk_of ((dk_bind (dk_u1 (h 0 _ rfl))).trans ((dk_bind (dk_u2 (h 1 _ rfl) (h 2 _ rfl))).trans rfl))
theorem dk_187 {code : ByteArray} {pc : Nat} (a b : UInt8) (h : DkAt code pc [187, a, b]) : decode code pc = .ok (.new (a.toNat * 256 + b.toNat), 3) := dk_of ((dk_bind (dk_u1 (h 0 _ rfl))).trans ((dk_bind (dk_u2 (h 1 _ rfl) (h 2 _ rfl))).trans rfl))
theorem dk_188_8 {code : ByteArray} {pc : Nat} (h : DkAt code pc [188, 8]) : decode code pc = .ok (.newarray .byte, 2) := dk_of ((dk_bind (dk_u1 (h 0 _ rfl))).trans ((dk_bind (dk_u1 (h 1 _ rfl))).trans rfl))
theorem dk_188_10 {code : ByteArray} {pc : Nat} (h : DkAt code pc [188, 10]) : decode code pc = .ok (.newarray .int, 2) := dk_of ((dk_bind (dk_u1 (h 0 _ rfl))).trans ((dk_bind (dk_u1 (h 1 _ rfl))).trans rfl))
theorem dk_189 {code : ByteArray} {pc : Nat} (a b : UInt8) (h : DkAt code pc [189, a, b]) : decode code pc = .ok (.anewarray (a.toNat * 256 + b.toNat), 3) := dk_of ((dk_bind (dk_u1 (h 0 _ rfl))).trans ((dk_bind (dk_u2 (h 1 _ rfl) (h 2 _ rfl))).trans rfl))
theorem dk_190 {code : ByteArray} {pc : Nat} (h : DkAt code pc [190]) : decode code pc = .ok (.arraylength, 1) := dk_of ((dk_bind (dk_u1 (h 0 _ rfl))).trans rfl)
theorem dk_191 {code : ByteArray} {pc : Nat} (h : DkAt code pc [191]) : decode code pc = .ok (.athrow, 1) := dk_of ((dk_bind (dk_u1 (h 0 _ rfl))).trans rfl)

/-! BombFamiliesLaw -/
set_option maxRecDepth 100000
def RX0 : String := "BombFamiliesLaw"
abbrev cX0_cell : ByteArray := method_2_code
def yX0_cell : MethodName := ⟨RX0, "cell", "([II)I"⟩
def dkwX0_cell_0 : List UInt8 := [27, 42, 190, 162, 0, 9, 42, 27, 46, 167, 0, 4, 3, 172]
abbrev dktX0_cell_0 : List UInt8 := dkwX0_cell_0 ++ []
theorem dksX0_cell_0 : cX0_cell.data.toList.drop 0 = dktX0_cell_0 := by decide +kernel
theorem dX0_cell_0 : decode cX0_cell 0 = .ok (.iload_n 1, 1) := dk_27 (dk_at dksX0_cell_0 0 rfl rfl)
theorem dX0_cell_1 : decode cX0_cell 1 = .ok (.aload_n 0, 1) := dk_42 (dk_at dksX0_cell_0 1 rfl rfl)
theorem dX0_cell_2 : decode cX0_cell 2 = .ok (.arraylength, 1) := dk_190 (dk_at dksX0_cell_0 2 rfl rfl)
theorem dX0_cell_3 : decode cX0_cell 3 = .ok (.if_icmp .ge 9, 3) := dk_162 0 9 (dk_at dksX0_cell_0 3 rfl rfl)
theorem dX0_cell_6 : decode cX0_cell 6 = .ok (.aload_n 0, 1) := dk_42 (dk_at dksX0_cell_0 6 rfl rfl)
theorem dX0_cell_7 : decode cX0_cell 7 = .ok (.iload_n 1, 1) := dk_27 (dk_at dksX0_cell_0 7 rfl rfl)
theorem dX0_cell_8 : decode cX0_cell 8 = .ok (.iaload, 1) := dk_46 (dk_at dksX0_cell_0 8 rfl rfl)
theorem dX0_cell_9 : decode cX0_cell 9 = .ok (.goto 4, 3) := dk_167 0 4 (dk_at dksX0_cell_0 9 rfl rfl)
theorem dX0_cell_12 : decode cX0_cell 12 = .ok (.iconst 0, 1) := dk_3 (dk_at dksX0_cell_0 12 rfl rfl)
theorem dX0_cell_13 : decode cX0_cell 13 = .ok (.ireturn, 1) := dk_172 (dk_at dksX0_cell_0 13 rfl rfl)
theorem q41 : (Jvm.Cond.initialized "BombFamiliesLaw") ∈ lw_all := lw_g (lw_at lw_m1 0 rfl) rfl
theorem q53 : (Jvm.Cond.classLink "BombFamiliesLaw" (7 : Nat) "BombFamilies") ∈ lw_all := lw_g (lw_at lw_m1 12 rfl) rfl
theorem q55 : (Jvm.Cond.methodLink "BombFamiliesLaw" (15 : Nat) ({ cls := "BombFamilies", name := "<init>", desc := "(J)V" } : Jvm.MethodName)) ∈ lw_all := lw_g (lw_at lw_m1 14 rfl) rfl
theorem q389 : (Jvm.Cond.methodLink "BombFamiliesLaw" (23 : Nat) ({ cls := "BombFamilies", name := "feed", desc := "(IJ)I" } : Jvm.MethodName)) ∈ lw_all := lw_g (lw_at lw_m2 108 rfl) rfl
theorem q395 : (Jvm.Cond.methodLink "BombFamiliesLaw" (28 : Nat) ({ cls := "BombFamilies", name := "cut", desc := "(I)I" } : Jvm.MethodName)) ∈ lw_all := lw_g (lw_at lw_m2 114 rfl) rfl
theorem q399 : (Jvm.Cond.methodLink "BombFamiliesLaw" (33 : Nat) ({ cls := "BombFamilies", name := "alter", desc := "(II)I" } : Jvm.MethodName)) ∈ lw_all := lw_g (lw_at lw_m2 118 rfl) rfl
theorem q404 : (Jvm.Cond.methodLink "BombFamiliesLaw" (38 : Nat) ({ cls := "BombFamilies", name := "at", desc := "(I)I" } : Jvm.MethodName)) ∈ lw_all := lw_g (lw_at lw_m2 123 rfl) rfl
theorem q408 : (Jvm.Cond.methodLink "BombFamiliesLaw" (42 : Nat) ({ cls := "BombFamilies", name := "mend", desc := "()I" } : Jvm.MethodName)) ∈ lw_all := lw_g (lw_at lw_m2 127 rfl) rfl
theorem q413 : (Jvm.Cond.methodLink "BombFamiliesLaw" (47 : Nat) ({ cls := "BombFamilies", name := "draw", desc := "(II)I" } : Jvm.MethodName)) ∈ lw_all := lw_g (lw_at lw_m2 132 rfl) rfl
theorem q451 : (Jvm.Cond.methodLink "BombFamiliesLaw" (51 : Nat) ({ cls := "BombFamilies", name := "open", desc := "(III)I" } : Jvm.MethodName)) ∈ lw_all := lw_g (lw_at lw_m2 170 rfl) rfl
theorem q463 : (Jvm.Cond.methodLink "BombFamiliesLaw" (56 : Nat) ({ cls := "BombFamilies", name := "place", desc := "()I" } : Jvm.MethodName)) ∈ lw_all := lw_g (lw_at lw_m2 182 rfl) rfl
theorem q467 : (Jvm.Cond.methodLink "BombFamiliesLaw" (60 : Nat) ({ cls := "BombFamilies", name := "out", desc := "(I)I" } : Jvm.MethodName)) ∈ lw_all := lw_g (lw_at lw_m2 186 rfl) rfl
theorem q471 : (Jvm.Cond.methodLink "BombFamiliesLaw" (64 : Nat) ({ cls := "BombFamilies", name := "item", desc := "(II)I" } : Jvm.MethodName)) ∈ lw_all := lw_g (lw_at lw_m2 190 rfl) rfl
theorem q475 : (Jvm.Cond.methodLink "BombFamiliesLaw" (68 : Nat) ({ cls := "BombFamilies", name := "shrink", desc := "(III)I" } : Jvm.MethodName)) ∈ lw_all := lw_g (lw_at lw_m2 194 rfl) rfl
theorem q486 : (Jvm.Cond.methodLink "BombFamiliesLaw" (72 : Nat) ({ cls := "BombFamilies", name := "count", desc := "(I)I" } : Jvm.MethodName)) ∈ lw_all := lw_g (lw_at lw_m2 205 rfl) rfl
theorem q490 : (Jvm.Cond.methodLink "BombFamiliesLaw" (9 : Nat) ({ cls := "BombFamiliesLaw", name := "cell", desc := "([II)I" } : Jvm.MethodName)) ∈ lw_all := lw_g (lw_at lw_m2 209 rfl) rfl
theorem q491 : (Jvm.Cond.static ({ cls := "BombFamiliesLaw", name := "cell", desc := "([II)I" } : Jvm.MethodName)) ∈ lw_all := lw_g (lw_at lw_m2 210 rfl) rfl
theorem q492 : (Jvm.Cond.code ({ cls := "BombFamiliesLaw", name := "cell", desc := "([II)I" } : Jvm.MethodName) method_2_code (2 : Nat) (Option.some Jvm.ClassFile.FieldType.int)) ∈ lw_all := lw_g (lw_at lw_m2 211 rfl) rfl
theorem q493 : (Jvm.Cond.classLink "BombFamiliesLaw" (18 : Nat) "BombFamiliesModel") ∈ lw_all := lw_g (lw_at lw_m2 212 rfl) rfl
theorem q495 : (Jvm.Cond.methodLink "BombFamiliesLaw" (20 : Nat) ({ cls := "BombFamiliesModel", name := "<init>", desc := "(J)V" } : Jvm.MethodName)) ∈ lw_all := lw_g (lw_at lw_m2 214 rfl) rfl
theorem q593 : (Jvm.Cond.methodLink "BombFamiliesLaw" (27 : Nat) ({ cls := "BombFamiliesModel", name := "feed", desc := "(IJ)I" } : Jvm.MethodName)) ∈ lw_all := lw_g (lw_at lw_m3 72 rfl) rfl
theorem q606 : (Jvm.Cond.methodLink "BombFamiliesLaw" (32 : Nat) ({ cls := "BombFamiliesModel", name := "cut", desc := "(I)I" } : Jvm.MethodName)) ∈ lw_all := lw_g (lw_at lw_m3 85 rfl) rfl
theorem q610 : (Jvm.Cond.methodLink "BombFamiliesLaw" (37 : Nat) ({ cls := "BombFamiliesModel", name := "alter", desc := "(II)I" } : Jvm.MethodName)) ∈ lw_all := lw_g (lw_at lw_m3 89 rfl) rfl
theorem q614 : (Jvm.Cond.methodLink "BombFamiliesLaw" (41 : Nat) ({ cls := "BombFamiliesModel", name := "at", desc := "(I)I" } : Jvm.MethodName)) ∈ lw_all := lw_g (lw_at lw_m3 93 rfl) rfl
theorem q618 : (Jvm.Cond.methodLink "BombFamiliesLaw" (46 : Nat) ({ cls := "BombFamiliesModel", name := "mend", desc := "()I" } : Jvm.MethodName)) ∈ lw_all := lw_g (lw_at lw_m3 97 rfl) rfl
theorem q626 : (Jvm.Cond.methodLink "BombFamiliesLaw" (50 : Nat) ({ cls := "BombFamiliesModel", name := "draw", desc := "(II)I" } : Jvm.MethodName)) ∈ lw_all := lw_g (lw_at lw_m3 105 rfl) rfl
theorem q662 : (Jvm.Cond.methodLink "BombFamiliesLaw" (55 : Nat) ({ cls := "BombFamiliesModel", name := "open", desc := "(III)I" } : Jvm.MethodName)) ∈ lw_all := lw_g (lw_at lw_m3 141 rfl) rfl
theorem q731 : (Jvm.Cond.methodLink "BombFamiliesLaw" (59 : Nat) ({ cls := "BombFamiliesModel", name := "place", desc := "()I" } : Jvm.MethodName)) ∈ lw_all := lw_g (lw_at lw_m3 210 rfl) rfl
theorem q735 : (Jvm.Cond.methodLink "BombFamiliesLaw" (63 : Nat) ({ cls := "BombFamiliesModel", name := "out", desc := "(I)I" } : Jvm.MethodName)) ∈ lw_all := lw_g (lw_at lw_m3 214 rfl) rfl
theorem q739 : (Jvm.Cond.methodLink "BombFamiliesLaw" (67 : Nat) ({ cls := "BombFamiliesModel", name := "item", desc := "(II)I" } : Jvm.MethodName)) ∈ lw_all := lw_g (lw_at lw_m3 218 rfl) rfl
theorem q743 : (Jvm.Cond.methodLink "BombFamiliesLaw" (71 : Nat) ({ cls := "BombFamiliesModel", name := "shrink", desc := "(III)I" } : Jvm.MethodName)) ∈ lw_all := lw_g (lw_at lw_m3 222 rfl) rfl
theorem q747 : (Jvm.Cond.methodLink "BombFamiliesLaw" (75 : Nat) ({ cls := "BombFamiliesModel", name := "count", desc := "(I)I" } : Jvm.MethodName)) ∈ lw_all := lw_g (lw_at lw_m3 226 rfl) rfl
theorem q751 : (Jvm.Cond.constantLong "BombFamiliesLaw" (21 : Nat) (4294967295 : Int64)) ∈ lw_all := lw_g (lw_at lw_m3 230 rfl) rfl

/-! BombFamilies$Bytes -/
set_option maxRecDepth 100000
def RX2 : String := "BombFamilies$Bytes"
def TX2 : u_T := fun k => match k with
  | 0 => ("BombFamilies$Bytes", "all", "[B", true)
  | _ => ("BombFamilies$Bytes", "many", "I", false)
def tyX2 : Nat → FieldType := fun k => match k with
  | 0 => .array .byte
  | _ => .int
abbrev wsX20 : List Cond := u_ws RX2 TX2 2
theorem nmX2 : ∀ a, a < 2 → ∀ b, b < 2 → a ≠ b → (TX2 a).2.1 ≠ (TX2 b).2.1 := by decide +kernel
theorem tyX2_ok : ∀ k, k < 2 → parseFieldDescriptor (TX2 k).2.2.1 = some (tyX2 k) := by decide +kernel
abbrev cX2_init : ByteArray := prog_2_method_1_code
def yX2_init : MethodName := ⟨RX2, "<init>", "(I)V"⟩
def dkwX2_init_0 : List UInt8 := [42, 183, 0, 1, 42, 27, 188, 8, 181, 0, 7, 177]
abbrev dktX2_init_0 : List UInt8 := dkwX2_init_0 ++ []
theorem dksX2_init_0 : cX2_init.data.toList.drop 0 = dktX2_init_0 := by decide +kernel
theorem dX2_init_0 : decode cX2_init 0 = .ok (.aload_n 0, 1) := dk_42 (dk_at dksX2_init_0 0 rfl rfl)
theorem dX2_init_1 : decode cX2_init 1 = .ok (.invokespecial 1, 3) := dk_183 0 1 (dk_at dksX2_init_0 1 rfl rfl)
theorem dX2_init_4 : decode cX2_init 4 = .ok (.aload_n 0, 1) := dk_42 (dk_at dksX2_init_0 4 rfl rfl)
theorem dX2_init_5 : decode cX2_init 5 = .ok (.iload_n 1, 1) := dk_27 (dk_at dksX2_init_0 5 rfl rfl)
theorem dX2_init_6 : decode cX2_init 6 = .ok (.newarray .byte, 2) := dk_188_8 (dk_at dksX2_init_0 6 rfl rfl)
theorem dX2_init_8 : decode cX2_init 8 = .ok (.putfield 7, 3) := dk_181 0 7 (dk_at dksX2_init_0 8 rfl rfl)
theorem dX2_init_11 : decode cX2_init 11 = .ok (.return_, 1) := dk_177 (dk_at dksX2_init_0 11 rfl rfl)
abbrev cX2_at : ByteArray := prog_2_method_3_code
def yX2_at : MethodName := ⟨RX2, "at", "(I)I"⟩
def dkwX2_at_0 : List UInt8 := [42, 180, 0, 7, 27, 51, 17, 0, 255, 126, 172]
abbrev dktX2_at_0 : List UInt8 := dkwX2_at_0 ++ []
theorem dksX2_at_0 : cX2_at.data.toList.drop 0 = dktX2_at_0 := by decide +kernel
theorem dX2_at_0 : decode cX2_at 0 = .ok (.aload_n 0, 1) := dk_42 (dk_at dksX2_at_0 0 rfl rfl)
theorem dX2_at_1 : decode cX2_at 1 = .ok (.getfield 7, 3) := dk_180 0 7 (dk_at dksX2_at_0 1 rfl rfl)
theorem dX2_at_4 : decode cX2_at 4 = .ok (.iload_n 1, 1) := dk_27 (dk_at dksX2_at_0 4 rfl rfl)
theorem dX2_at_5 : decode cX2_at 5 = .ok (.baload, 1) := dk_51 (dk_at dksX2_at_0 5 rfl rfl)
theorem dX2_at_6 : decode cX2_at 6 = .ok (.sipush 255, 3) := dk_17 0 255 (dk_at dksX2_at_0 6 rfl rfl)
theorem dX2_at_9 : decode cX2_at 9 = .ok (.iand, 1) := dk_126 (dk_at dksX2_at_0 9 rfl rfl)
theorem dX2_at_10 : decode cX2_at 10 = .ok (.ireturn, 1) := dk_172 (dk_at dksX2_at_0 10 rfl rfl)
abbrev cX2_add : ByteArray := prog_2_method_2_code
def yX2_add : MethodName := ⟨RX2, "add", "(I)V"⟩
def dkwX2_add_0 : List UInt8 := [42, 180, 0, 7, 42, 89, 180, 0, 13, 90, 4, 96, 181, 0, 13, 27, 145, 84, 177]
abbrev dktX2_add_0 : List UInt8 := dkwX2_add_0 ++ []
theorem dksX2_add_0 : cX2_add.data.toList.drop 0 = dktX2_add_0 := by decide +kernel
theorem dX2_add_0 : decode cX2_add 0 = .ok (.aload_n 0, 1) := dk_42 (dk_at dksX2_add_0 0 rfl rfl)
theorem dX2_add_1 : decode cX2_add 1 = .ok (.getfield 7, 3) := dk_180 0 7 (dk_at dksX2_add_0 1 rfl rfl)
theorem dX2_add_4 : decode cX2_add 4 = .ok (.aload_n 0, 1) := dk_42 (dk_at dksX2_add_0 4 rfl rfl)
theorem dX2_add_5 : decode cX2_add 5 = .ok (.dup, 1) := dk_89 (dk_at dksX2_add_0 5 rfl rfl)
theorem dX2_add_6 : decode cX2_add 6 = .ok (.getfield 13, 3) := dk_180 0 13 (dk_at dksX2_add_0 6 rfl rfl)
theorem dX2_add_9 : decode cX2_add 9 = .ok (.dup_x1, 1) := dk_90 (dk_at dksX2_add_0 9 rfl rfl)
theorem dX2_add_10 : decode cX2_add 10 = .ok (.iconst 1, 1) := dk_4 (dk_at dksX2_add_0 10 rfl rfl)
theorem dX2_add_11 : decode cX2_add 11 = .ok (.iadd, 1) := dk_96 (dk_at dksX2_add_0 11 rfl rfl)
theorem dX2_add_12 : decode cX2_add 12 = .ok (.putfield 13, 3) := dk_181 0 13 (dk_at dksX2_add_0 12 rfl rfl)
theorem dX2_add_15 : decode cX2_add 15 = .ok (.iload_n 1, 1) := dk_27 (dk_at dksX2_add_0 15 rfl rfl)
theorem dX2_add_16 : decode cX2_add 16 = .ok (.i2b, 1) := dk_145 (dk_at dksX2_add_0 16 rfl rfl)
theorem dX2_add_17 : decode cX2_add 17 = .ok (.bastore, 1) := dk_84 (dk_at dksX2_add_0 17 rfl rfl)
theorem dX2_add_18 : decode cX2_add 18 = .ok (.return_, 1) := dk_177 (dk_at dksX2_add_0 18 rfl rfl)
abbrev cX2_check : ByteArray := prog_2_method_4_code
def yX2_check : MethodName := ⟨RX2, "check", "(II)I"⟩
def dkwX2_check_1 : List UInt8 := [167, 255, 238, 29, 17, 0, 255, 126, 172]
abbrev dktX2_check_1 : List UInt8 := dkwX2_check_1 ++ []
def dkwX2_check_0 : List UInt8 := [3, 62, 27, 54, 4, 21, 4, 28, 162, 0, 18, 29, 42, 21, 4, 182, 0, 17, 96, 62, 132, 4, 1]
abbrev dktX2_check_0 : List UInt8 := dkwX2_check_0 ++ dktX2_check_1
theorem dksX2_check_0 : cX2_check.data.toList.drop 0 = dktX2_check_0 := by decide +kernel
theorem dksX2_check_1 : cX2_check.data.toList.drop 23 = dktX2_check_1 := dk_seg dksX2_check_0 23 rfl rfl
theorem dX2_check_0 : decode cX2_check 0 = .ok (.iconst 0, 1) := dk_3 (dk_at dksX2_check_0 0 rfl rfl)
theorem dX2_check_1 : decode cX2_check 1 = .ok (.istore_n 3, 1) := dk_62 (dk_at dksX2_check_0 1 rfl rfl)
theorem dX2_check_2 : decode cX2_check 2 = .ok (.iload_n 1, 1) := dk_27 (dk_at dksX2_check_0 2 rfl rfl)
theorem dX2_check_3 : decode cX2_check 3 = .ok (.istore 4, 2) := dk_54 4 (dk_at dksX2_check_0 3 rfl rfl)
theorem dX2_check_5 : decode cX2_check 5 = .ok (.iload 4, 2) := dk_21 4 (dk_at dksX2_check_0 5 rfl rfl)
theorem dX2_check_7 : decode cX2_check 7 = .ok (.iload_n 2, 1) := dk_28 (dk_at dksX2_check_0 7 rfl rfl)
theorem dX2_check_8 : decode cX2_check 8 = .ok (.if_icmp .ge 18, 3) := dk_162 0 18 (dk_at dksX2_check_0 8 rfl rfl)
theorem dX2_check_11 : decode cX2_check 11 = .ok (.iload_n 3, 1) := dk_29 (dk_at dksX2_check_0 11 rfl rfl)
theorem dX2_check_12 : decode cX2_check 12 = .ok (.aload_n 0, 1) := dk_42 (dk_at dksX2_check_0 12 rfl rfl)
theorem dX2_check_13 : decode cX2_check 13 = .ok (.iload 4, 2) := dk_21 4 (dk_at dksX2_check_0 13 rfl rfl)
theorem dX2_check_15 : decode cX2_check 15 = .ok (.invokevirtual 17, 3) := dk_182 0 17 (dk_at dksX2_check_0 15 rfl rfl)
theorem dX2_check_18 : decode cX2_check 18 = .ok (.iadd, 1) := dk_96 (dk_at dksX2_check_0 18 rfl rfl)
theorem dX2_check_19 : decode cX2_check 19 = .ok (.istore_n 3, 1) := dk_62 (dk_at dksX2_check_0 19 rfl rfl)
theorem dX2_check_20 : decode cX2_check 20 = .ok (.iinc 4 1, 3) := dk_132 4 1 (dk_at dksX2_check_0 20 rfl rfl)
theorem dX2_check_23 : decode cX2_check 23 = .ok (.goto (-18), 3) := dk_167 255 238 (dk_at dksX2_check_1 0 rfl rfl)
theorem dX2_check_26 : decode cX2_check 26 = .ok (.iload_n 3, 1) := dk_29 (dk_at dksX2_check_1 3 rfl rfl)
theorem dX2_check_27 : decode cX2_check 27 = .ok (.sipush 255, 3) := dk_17 0 255 (dk_at dksX2_check_1 4 rfl rfl)
theorem dX2_check_30 : decode cX2_check 30 = .ok (.iand, 1) := dk_126 (dk_at dksX2_check_1 7 rfl rfl)
theorem dX2_check_31 : decode cX2_check 31 = .ok (.ireturn, 1) := dk_172 (dk_at dksX2_check_1 8 rfl rfl)
abbrev cX2_become : ByteArray := prog_2_method_5_code
def yX2_become : MethodName := ⟨RX2, "become", "(LBombFamilies$Bytes;II)V"⟩
def dkwX2_become_2 : List UInt8 := [181, 0, 13, 177]
abbrev dktX2_become_2 : List UInt8 := dkwX2_become_2 ++ []
def dkwX2_become_1 : List UInt8 := [180, 0, 7, 28, 43, 180, 0, 13, 28, 100, 29, 100, 184, 0, 21, 42, 43, 180, 0, 13, 29, 100]
abbrev dktX2_become_1 : List UInt8 := dkwX2_become_1 ++ dktX2_become_2
def dkwX2_become_0 : List UInt8 := [43, 180, 0, 7, 3, 42, 180, 0, 7, 3, 28, 184, 0, 21, 43, 180, 0, 7, 28, 29, 96, 42]
abbrev dktX2_become_0 : List UInt8 := dkwX2_become_0 ++ dktX2_become_1
theorem dksX2_become_0 : cX2_become.data.toList.drop 0 = dktX2_become_0 := by decide +kernel
theorem dksX2_become_1 : cX2_become.data.toList.drop 22 = dktX2_become_1 := dk_seg dksX2_become_0 22 rfl rfl
theorem dksX2_become_2 : cX2_become.data.toList.drop 44 = dktX2_become_2 := dk_seg dksX2_become_1 22 rfl rfl
theorem dX2_become_0 : decode cX2_become 0 = .ok (.aload_n 1, 1) := dk_43 (dk_at dksX2_become_0 0 rfl rfl)
theorem dX2_become_1 : decode cX2_become 1 = .ok (.getfield 7, 3) := dk_180 0 7 (dk_at dksX2_become_0 1 rfl rfl)
theorem dX2_become_4 : decode cX2_become 4 = .ok (.iconst 0, 1) := dk_3 (dk_at dksX2_become_0 4 rfl rfl)
theorem dX2_become_5 : decode cX2_become 5 = .ok (.aload_n 0, 1) := dk_42 (dk_at dksX2_become_0 5 rfl rfl)
theorem dX2_become_6 : decode cX2_become 6 = .ok (.getfield 7, 3) := dk_180 0 7 (dk_at dksX2_become_0 6 rfl rfl)
theorem dX2_become_9 : decode cX2_become 9 = .ok (.iconst 0, 1) := dk_3 (dk_at dksX2_become_0 9 rfl rfl)
theorem dX2_become_10 : decode cX2_become 10 = .ok (.iload_n 2, 1) := dk_28 (dk_at dksX2_become_0 10 rfl rfl)
theorem dX2_become_11 : decode cX2_become 11 = .ok (.invokestatic 21, 3) := dk_184 0 21 (dk_at dksX2_become_0 11 rfl rfl)
theorem dX2_become_14 : decode cX2_become 14 = .ok (.aload_n 1, 1) := dk_43 (dk_at dksX2_become_0 14 rfl rfl)
theorem dX2_become_15 : decode cX2_become 15 = .ok (.getfield 7, 3) := dk_180 0 7 (dk_at dksX2_become_0 15 rfl rfl)
theorem dX2_become_18 : decode cX2_become 18 = .ok (.iload_n 2, 1) := dk_28 (dk_at dksX2_become_0 18 rfl rfl)
theorem dX2_become_19 : decode cX2_become 19 = .ok (.iload_n 3, 1) := dk_29 (dk_at dksX2_become_0 19 rfl rfl)
theorem dX2_become_20 : decode cX2_become 20 = .ok (.iadd, 1) := dk_96 (dk_at dksX2_become_0 20 rfl rfl)
theorem dX2_become_21 : decode cX2_become 21 = .ok (.aload_n 0, 1) := dk_42 (dk_at dksX2_become_0 21 rfl rfl)
theorem dX2_become_22 : decode cX2_become 22 = .ok (.getfield 7, 3) := dk_180 0 7 (dk_at dksX2_become_1 0 rfl rfl)
theorem dX2_become_25 : decode cX2_become 25 = .ok (.iload_n 2, 1) := dk_28 (dk_at dksX2_become_1 3 rfl rfl)
theorem dX2_become_26 : decode cX2_become 26 = .ok (.aload_n 1, 1) := dk_43 (dk_at dksX2_become_1 4 rfl rfl)
theorem dX2_become_27 : decode cX2_become 27 = .ok (.getfield 13, 3) := dk_180 0 13 (dk_at dksX2_become_1 5 rfl rfl)
theorem dX2_become_30 : decode cX2_become 30 = .ok (.iload_n 2, 1) := dk_28 (dk_at dksX2_become_1 8 rfl rfl)
theorem dX2_become_31 : decode cX2_become 31 = .ok (.isub, 1) := dk_100 (dk_at dksX2_become_1 9 rfl rfl)
theorem dX2_become_32 : decode cX2_become 32 = .ok (.iload_n 3, 1) := dk_29 (dk_at dksX2_become_1 10 rfl rfl)
theorem dX2_become_33 : decode cX2_become 33 = .ok (.isub, 1) := dk_100 (dk_at dksX2_become_1 11 rfl rfl)
theorem dX2_become_34 : decode cX2_become 34 = .ok (.invokestatic 21, 3) := dk_184 0 21 (dk_at dksX2_become_1 12 rfl rfl)
theorem dX2_become_37 : decode cX2_become 37 = .ok (.aload_n 0, 1) := dk_42 (dk_at dksX2_become_1 15 rfl rfl)
theorem dX2_become_38 : decode cX2_become 38 = .ok (.aload_n 1, 1) := dk_43 (dk_at dksX2_become_1 16 rfl rfl)
theorem dX2_become_39 : decode cX2_become 39 = .ok (.getfield 13, 3) := dk_180 0 13 (dk_at dksX2_become_1 17 rfl rfl)
theorem dX2_become_42 : decode cX2_become 42 = .ok (.iload_n 3, 1) := dk_29 (dk_at dksX2_become_1 20 rfl rfl)
theorem dX2_become_43 : decode cX2_become 43 = .ok (.isub, 1) := dk_100 (dk_at dksX2_become_1 21 rfl rfl)
theorem dX2_become_44 : decode cX2_become 44 = .ok (.putfield 13, 3) := dk_181 0 13 (dk_at dksX2_become_2 0 rfl rfl)
theorem dX2_become_47 : decode cX2_become 47 = .ok (.return_, 1) := dk_177 (dk_at dksX2_become_2 3 rfl rfl)
theorem q43 : (Jvm.Cond.initialized "BombFamilies$Bytes") ∈ lw_all := lw_g (lw_at lw_m1 2 rfl) rfl
theorem q62 : (Jvm.Cond.instantiable "BombFamilies$Bytes" (2 : Nat)) ∈ lw_all := lw_g (lw_at lw_m1 21 rfl) rfl
theorem q64 : (Jvm.Cond.instanceMethod ({ cls := "BombFamilies$Bytes", name := "<init>", desc := "(I)V" } : Jvm.MethodName)) ∈ lw_all := lw_g (lw_at lw_m1 23 rfl) rfl
theorem q65 : (Jvm.Cond.code ({ cls := "BombFamilies$Bytes", name := "<init>", desc := "(I)V" } : Jvm.MethodName) prog_2_method_1_code (2 : Nat) (Option.none : Option Jvm.ClassFile.FieldType)) ∈ lw_all := lw_g (lw_at lw_m1 24 rfl) rfl
theorem q66 : (Jvm.Cond.methodLink "BombFamilies$Bytes" (1 : Nat) ({ cls := "java/lang/Object", name := "<init>", desc := "()V" } : Jvm.MethodName)) ∈ lw_all := lw_g (lw_at lw_m1 25 rfl) rfl
theorem q67 : (Jvm.Cond.fieldLink "BombFamilies$Bytes" (7 : Nat) "BombFamilies$Bytes" "all" "[B") ∈ lw_all := lw_g (lw_at lw_m1 26 rfl) rfl
theorem q69 : (Jvm.Cond.fieldLink "BombFamilies$Bytes" (13 : Nat) "BombFamilies$Bytes" "many" "I") ∈ lw_all := lw_g (lw_at lw_m1 28 rfl) rfl
theorem q72 : (Jvm.Cond.laysFinal "BombFamilies$Bytes" "BombFamilies$Bytes" "all" "[B") ∈ lw_all := lw_g (lw_at lw_m1 31 rfl) rfl
theorem q73 : (Jvm.Cond.soleField "BombFamilies$Bytes" "all") ∈ lw_all := lw_g (lw_at lw_m1 32 rfl) rfl
theorem q74 : (Jvm.Cond.lays "BombFamilies$Bytes" "BombFamilies$Bytes" "many" "I") ∈ lw_all := lw_g (lw_at lw_m1 33 rfl) rfl
theorem q75 : (Jvm.Cond.soleField "BombFamilies$Bytes" "many") ∈ lw_all := lw_g (lw_at lw_m1 34 rfl) rfl
theorem q76 : (Jvm.Cond.superclass "BombFamilies$Bytes" "java/lang/Object") ∈ lw_all := lw_g (lw_at lw_m1 35 rfl) rfl
theorem q98 : (Jvm.Cond.instanceMethod ({ cls := "BombFamilies$Bytes", name := "at", desc := "(I)I" } : Jvm.MethodName)) ∈ lw_all := lw_g (lw_at lw_m1 57 rfl) rfl
theorem q99 : (Jvm.Cond.selects "BombFamilies$Bytes" ({ cls := "BombFamilies$Bytes", name := "at", desc := "(I)I" } : Jvm.MethodName) ({ cls := "BombFamilies$Bytes", name := "at", desc := "(I)I" } : Jvm.MethodName)) ∈ lw_all := lw_g (lw_at lw_m1 58 rfl) rfl
theorem q100 : (Jvm.Cond.code ({ cls := "BombFamilies$Bytes", name := "at", desc := "(I)I" } : Jvm.MethodName) prog_2_method_3_code (2 : Nat) (Option.some Jvm.ClassFile.FieldType.int)) ∈ lw_all := lw_g (lw_at lw_m1 59 rfl) rfl
theorem q114 : (Jvm.Cond.instanceMethod ({ cls := "BombFamilies$Bytes", name := "add", desc := "(I)V" } : Jvm.MethodName)) ∈ lw_all := lw_g (lw_at lw_m1 73 rfl) rfl
theorem q115 : (Jvm.Cond.selects "BombFamilies$Bytes" ({ cls := "BombFamilies$Bytes", name := "add", desc := "(I)V" } : Jvm.MethodName) ({ cls := "BombFamilies$Bytes", name := "add", desc := "(I)V" } : Jvm.MethodName)) ∈ lw_all := lw_g (lw_at lw_m1 74 rfl) rfl
theorem q116 : (Jvm.Cond.code ({ cls := "BombFamilies$Bytes", name := "add", desc := "(I)V" } : Jvm.MethodName) prog_2_method_2_code (2 : Nat) (Option.none : Option Jvm.ClassFile.FieldType)) ∈ lw_all := lw_g (lw_at lw_m1 75 rfl) rfl
theorem q154 : (Jvm.Cond.instanceMethod ({ cls := "BombFamilies$Bytes", name := "check", desc := "(II)I" } : Jvm.MethodName)) ∈ lw_all := lw_g (lw_at lw_m1 113 rfl) rfl
theorem q155 : (Jvm.Cond.selects "BombFamilies$Bytes" ({ cls := "BombFamilies$Bytes", name := "check", desc := "(II)I" } : Jvm.MethodName) ({ cls := "BombFamilies$Bytes", name := "check", desc := "(II)I" } : Jvm.MethodName)) ∈ lw_all := lw_g (lw_at lw_m1 114 rfl) rfl
theorem q156 : (Jvm.Cond.code ({ cls := "BombFamilies$Bytes", name := "check", desc := "(II)I" } : Jvm.MethodName) prog_2_method_4_code (5 : Nat) (Option.some Jvm.ClassFile.FieldType.int)) ∈ lw_all := lw_g (lw_at lw_m1 115 rfl) rfl
theorem q157 : (Jvm.Cond.methodLink "BombFamilies$Bytes" (17 : Nat) ({ cls := "BombFamilies$Bytes", name := "at", desc := "(I)I" } : Jvm.MethodName)) ∈ lw_all := lw_g (lw_at lw_m1 116 rfl) rfl
theorem q480 : (Jvm.Cond.instanceMethod ({ cls := "BombFamilies$Bytes", name := "become", desc := "(LBombFamilies$Bytes;II)V" } : Jvm.MethodName)) ∈ lw_all := lw_g (lw_at lw_m2 199 rfl) rfl
theorem q481 : (Jvm.Cond.selects "BombFamilies$Bytes" ({ cls := "BombFamilies$Bytes", name := "become", desc := "(LBombFamilies$Bytes;II)V" } : Jvm.MethodName) ({ cls := "BombFamilies$Bytes", name := "become", desc := "(LBombFamilies$Bytes;II)V" } : Jvm.MethodName)) ∈ lw_all := lw_g (lw_at lw_m2 200 rfl) rfl
theorem q482 : (Jvm.Cond.code ({ cls := "BombFamilies$Bytes", name := "become", desc := "(LBombFamilies$Bytes;II)V" } : Jvm.MethodName) prog_2_method_5_code (4 : Nat) (Option.none : Option Jvm.ClassFile.FieldType)) ∈ lw_all := lw_g (lw_at lw_m2 201 rfl) rfl
theorem q483 : (Jvm.Cond.methodLink "BombFamilies$Bytes" (21 : Nat) ({ cls := "java/lang/System", name := "arraycopy", desc := "(Ljava/lang/Object;ILjava/lang/Object;II)V" } : Jvm.MethodName)) ∈ lw_all := lw_g (lw_at lw_m2 202 rfl) rfl
theorem in_X2 : ∀ w ∈ wsX20, w ∈ lw_all := lw_in wsX20 [72, 74] (by decide +kernel) (by decide +kernel)

/-! BombFamilies$Table -/
set_option maxRecDepth 100000
def RX3 : String := "BombFamilies$Table"
def TX3 : u_T := fun k => match k with
  | 0 => ("BombFamilies$Table", "symbols", "[I", true)
  | 1 => ("BombFamilies$Table", "lengths", "[I", true)
  | _ => ("BombFamilies$Table", "many", "I", false)
def tyX3 : Nat → FieldType := fun k => match k with
  | 0 => .array .int
  | 1 => .array .int
  | _ => .int
abbrev wsX30 : List Cond := u_ws RX3 TX3 3
theorem nmX3 : ∀ a, a < 3 → ∀ b, b < 3 → a ≠ b → (TX3 a).2.1 ≠ (TX3 b).2.1 := by decide +kernel
theorem tyX3_ok : ∀ k, k < 3 → parseFieldDescriptor (TX3 k).2.2.1 = some (tyX3 k) := by decide +kernel
abbrev cX3_isGood : ByteArray := prog_6_method_2_code
def yX3_isGood : MethodName := ⟨RX3, "isGood", "()Z"⟩
def dkwX3_isGood_3 : List UInt8 := [4, 160, 0, 13, 27, 16, 64, 160, 0, 7, 4, 167, 0, 4, 3, 172]
abbrev dktX3_isGood_3 : List UInt8 := dkwX3_isGood_3 ++ []
def dkwX3_isGood_2 : List UInt8 := [158, 0, 7, 4, 167, 0, 4, 3, 96, 61, 132, 3, 1, 167, 255, 201, 27, 17, 0, 128, 159, 0, 14, 28]
abbrev dktX3_isGood_2 : List UInt8 := dkwX3_isGood_2 ++ dktX3_isGood_3
def dkwX3_isGood_1 : List UInt8 := [4, 16, 7, 42, 180, 0, 15, 29, 46, 100, 120, 167, 0, 4, 3, 96, 60, 28, 42, 180, 0, 15, 29, 46]
abbrev dktX3_isGood_1 : List UInt8 := dkwX3_isGood_1 ++ dktX3_isGood_2
def dkwX3_isGood_0 : List UInt8 := [3, 60, 3, 61, 3, 62, 29, 42, 180, 0, 18, 162, 0, 53, 27, 42, 180, 0, 15, 29, 46, 158, 0, 17]
abbrev dktX3_isGood_0 : List UInt8 := dkwX3_isGood_0 ++ dktX3_isGood_1
theorem dksX3_isGood_0 : cX3_isGood.data.toList.drop 0 = dktX3_isGood_0 := by decide +kernel
theorem dksX3_isGood_1 : cX3_isGood.data.toList.drop 24 = dktX3_isGood_1 := dk_seg dksX3_isGood_0 24 rfl rfl
theorem dksX3_isGood_2 : cX3_isGood.data.toList.drop 48 = dktX3_isGood_2 := dk_seg dksX3_isGood_1 24 rfl rfl
theorem dksX3_isGood_3 : cX3_isGood.data.toList.drop 72 = dktX3_isGood_3 := dk_seg dksX3_isGood_2 24 rfl rfl
theorem dX3_isGood_0 : decode cX3_isGood 0 = .ok (.iconst 0, 1) := dk_3 (dk_at dksX3_isGood_0 0 rfl rfl)
theorem dX3_isGood_1 : decode cX3_isGood 1 = .ok (.istore_n 1, 1) := dk_60 (dk_at dksX3_isGood_0 1 rfl rfl)
theorem dX3_isGood_2 : decode cX3_isGood 2 = .ok (.iconst 0, 1) := dk_3 (dk_at dksX3_isGood_0 2 rfl rfl)
theorem dX3_isGood_3 : decode cX3_isGood 3 = .ok (.istore_n 2, 1) := dk_61 (dk_at dksX3_isGood_0 3 rfl rfl)
theorem dX3_isGood_4 : decode cX3_isGood 4 = .ok (.iconst 0, 1) := dk_3 (dk_at dksX3_isGood_0 4 rfl rfl)
theorem dX3_isGood_5 : decode cX3_isGood 5 = .ok (.istore_n 3, 1) := dk_62 (dk_at dksX3_isGood_0 5 rfl rfl)
theorem dX3_isGood_6 : decode cX3_isGood 6 = .ok (.iload_n 3, 1) := dk_29 (dk_at dksX3_isGood_0 6 rfl rfl)
theorem dX3_isGood_7 : decode cX3_isGood 7 = .ok (.aload_n 0, 1) := dk_42 (dk_at dksX3_isGood_0 7 rfl rfl)
theorem dX3_isGood_8 : decode cX3_isGood 8 = .ok (.getfield 18, 3) := dk_180 0 18 (dk_at dksX3_isGood_0 8 rfl rfl)
theorem dX3_isGood_11 : decode cX3_isGood 11 = .ok (.if_icmp .ge 53, 3) := dk_162 0 53 (dk_at dksX3_isGood_0 11 rfl rfl)
theorem dX3_isGood_14 : decode cX3_isGood 14 = .ok (.iload_n 1, 1) := dk_27 (dk_at dksX3_isGood_0 14 rfl rfl)
theorem dX3_isGood_15 : decode cX3_isGood 15 = .ok (.aload_n 0, 1) := dk_42 (dk_at dksX3_isGood_0 15 rfl rfl)
theorem dX3_isGood_16 : decode cX3_isGood 16 = .ok (.getfield 15, 3) := dk_180 0 15 (dk_at dksX3_isGood_0 16 rfl rfl)
theorem dX3_isGood_19 : decode cX3_isGood 19 = .ok (.iload_n 3, 1) := dk_29 (dk_at dksX3_isGood_0 19 rfl rfl)
theorem dX3_isGood_20 : decode cX3_isGood 20 = .ok (.iaload, 1) := dk_46 (dk_at dksX3_isGood_0 20 rfl rfl)
theorem dX3_isGood_21 : decode cX3_isGood 21 = .ok (.ifCond .le 17, 3) := dk_158 0 17 (dk_at dksX3_isGood_0 21 rfl rfl)
theorem dX3_isGood_24 : decode cX3_isGood 24 = .ok (.iconst 1, 1) := dk_4 (dk_at dksX3_isGood_1 0 rfl rfl)
theorem dX3_isGood_25 : decode cX3_isGood 25 = .ok (.bipush 7, 2) := dk_16 7 (dk_at dksX3_isGood_1 1 rfl rfl)
theorem dX3_isGood_27 : decode cX3_isGood 27 = .ok (.aload_n 0, 1) := dk_42 (dk_at dksX3_isGood_1 3 rfl rfl)
theorem dX3_isGood_28 : decode cX3_isGood 28 = .ok (.getfield 15, 3) := dk_180 0 15 (dk_at dksX3_isGood_1 4 rfl rfl)
theorem dX3_isGood_31 : decode cX3_isGood 31 = .ok (.iload_n 3, 1) := dk_29 (dk_at dksX3_isGood_1 7 rfl rfl)
theorem dX3_isGood_32 : decode cX3_isGood 32 = .ok (.iaload, 1) := dk_46 (dk_at dksX3_isGood_1 8 rfl rfl)
theorem dX3_isGood_33 : decode cX3_isGood 33 = .ok (.isub, 1) := dk_100 (dk_at dksX3_isGood_1 9 rfl rfl)
theorem dX3_isGood_34 : decode cX3_isGood 34 = .ok (.ishl, 1) := dk_120 (dk_at dksX3_isGood_1 10 rfl rfl)
theorem dX3_isGood_35 : decode cX3_isGood 35 = .ok (.goto 4, 3) := dk_167 0 4 (dk_at dksX3_isGood_1 11 rfl rfl)
theorem dX3_isGood_38 : decode cX3_isGood 38 = .ok (.iconst 0, 1) := dk_3 (dk_at dksX3_isGood_1 14 rfl rfl)
theorem dX3_isGood_39 : decode cX3_isGood 39 = .ok (.iadd, 1) := dk_96 (dk_at dksX3_isGood_1 15 rfl rfl)
theorem dX3_isGood_40 : decode cX3_isGood 40 = .ok (.istore_n 1, 1) := dk_60 (dk_at dksX3_isGood_1 16 rfl rfl)
theorem dX3_isGood_41 : decode cX3_isGood 41 = .ok (.iload_n 2, 1) := dk_28 (dk_at dksX3_isGood_1 17 rfl rfl)
theorem dX3_isGood_42 : decode cX3_isGood 42 = .ok (.aload_n 0, 1) := dk_42 (dk_at dksX3_isGood_1 18 rfl rfl)
theorem dX3_isGood_43 : decode cX3_isGood 43 = .ok (.getfield 15, 3) := dk_180 0 15 (dk_at dksX3_isGood_1 19 rfl rfl)
theorem dX3_isGood_46 : decode cX3_isGood 46 = .ok (.iload_n 3, 1) := dk_29 (dk_at dksX3_isGood_1 22 rfl rfl)
theorem dX3_isGood_47 : decode cX3_isGood 47 = .ok (.iaload, 1) := dk_46 (dk_at dksX3_isGood_1 23 rfl rfl)
theorem dX3_isGood_48 : decode cX3_isGood 48 = .ok (.ifCond .le 7, 3) := dk_158 0 7 (dk_at dksX3_isGood_2 0 rfl rfl)
theorem dX3_isGood_51 : decode cX3_isGood 51 = .ok (.iconst 1, 1) := dk_4 (dk_at dksX3_isGood_2 3 rfl rfl)
theorem dX3_isGood_52 : decode cX3_isGood 52 = .ok (.goto 4, 3) := dk_167 0 4 (dk_at dksX3_isGood_2 4 rfl rfl)
theorem dX3_isGood_55 : decode cX3_isGood 55 = .ok (.iconst 0, 1) := dk_3 (dk_at dksX3_isGood_2 7 rfl rfl)
theorem dX3_isGood_56 : decode cX3_isGood 56 = .ok (.iadd, 1) := dk_96 (dk_at dksX3_isGood_2 8 rfl rfl)
theorem dX3_isGood_57 : decode cX3_isGood 57 = .ok (.istore_n 2, 1) := dk_61 (dk_at dksX3_isGood_2 9 rfl rfl)
theorem dX3_isGood_58 : decode cX3_isGood 58 = .ok (.iinc 3 1, 3) := dk_132 3 1 (dk_at dksX3_isGood_2 10 rfl rfl)
theorem dX3_isGood_61 : decode cX3_isGood 61 = .ok (.goto (-55), 3) := dk_167 255 201 (dk_at dksX3_isGood_2 13 rfl rfl)
theorem dX3_isGood_64 : decode cX3_isGood 64 = .ok (.iload_n 1, 1) := dk_27 (dk_at dksX3_isGood_2 16 rfl rfl)
theorem dX3_isGood_65 : decode cX3_isGood 65 = .ok (.sipush 128, 3) := dk_17 0 128 (dk_at dksX3_isGood_2 17 rfl rfl)
theorem dX3_isGood_68 : decode cX3_isGood 68 = .ok (.if_icmp .eq 14, 3) := dk_159 0 14 (dk_at dksX3_isGood_2 20 rfl rfl)
theorem dX3_isGood_71 : decode cX3_isGood 71 = .ok (.iload_n 2, 1) := dk_28 (dk_at dksX3_isGood_2 23 rfl rfl)
theorem dX3_isGood_72 : decode cX3_isGood 72 = .ok (.iconst 1, 1) := dk_4 (dk_at dksX3_isGood_3 0 rfl rfl)
theorem dX3_isGood_73 : decode cX3_isGood 73 = .ok (.if_icmp .ne 13, 3) := dk_160 0 13 (dk_at dksX3_isGood_3 1 rfl rfl)
theorem dX3_isGood_76 : decode cX3_isGood 76 = .ok (.iload_n 1, 1) := dk_27 (dk_at dksX3_isGood_3 4 rfl rfl)
theorem dX3_isGood_77 : decode cX3_isGood 77 = .ok (.bipush 64, 2) := dk_16 64 (dk_at dksX3_isGood_3 5 rfl rfl)
theorem dX3_isGood_79 : decode cX3_isGood 79 = .ok (.if_icmp .ne 7, 3) := dk_160 0 7 (dk_at dksX3_isGood_3 7 rfl rfl)
theorem dX3_isGood_82 : decode cX3_isGood 82 = .ok (.iconst 1, 1) := dk_4 (dk_at dksX3_isGood_3 10 rfl rfl)
theorem dX3_isGood_83 : decode cX3_isGood 83 = .ok (.goto 4, 3) := dk_167 0 4 (dk_at dksX3_isGood_3 11 rfl rfl)
theorem dX3_isGood_86 : decode cX3_isGood 86 = .ok (.iconst 0, 1) := dk_3 (dk_at dksX3_isGood_3 14 rfl rfl)
theorem dX3_isGood_87 : decode cX3_isGood 87 = .ok (.ireturn, 1) := dk_172 (dk_at dksX3_isGood_3 15 rfl rfl)
abbrev cX3_find : ByteArray := prog_6_method_4_code
def yX3_find : MethodName := ⟨RX3, "find", "(II)I"⟩
def dkwX3_find_3 : List UInt8 := [167, 255, 191, 2, 172]
abbrev dktX3_find_3 : List UInt8 := dkwX3_find_3 ++ []
def dkwX3_find_2 : List UInt8 := [160, 0, 11, 42, 180, 0, 9, 21, 5, 46, 172, 132, 3, 1, 132, 5, 1, 167, 255, 210, 132, 4, 1]
abbrev dktX3_find_2 : List UInt8 := dkwX3_find_2 ++ dktX3_find_3
def dkwX3_find_1 : List UInt8 := [162, 0, 43, 42, 180, 0, 15, 21, 5, 46, 21, 4, 160, 0, 25, 21, 4, 28, 160, 0, 16, 29, 27]
abbrev dktX3_find_1 : List UInt8 := dkwX3_find_1 ++ dktX3_find_2
def dkwX3_find_0 : List UInt8 := [3, 62, 4, 54, 4, 21, 4, 28, 163, 0, 65, 29, 4, 120, 62, 3, 54, 5, 21, 5, 42, 180, 0, 18]
abbrev dktX3_find_0 : List UInt8 := dkwX3_find_0 ++ dktX3_find_1
theorem dksX3_find_0 : cX3_find.data.toList.drop 0 = dktX3_find_0 := by decide +kernel
theorem dksX3_find_1 : cX3_find.data.toList.drop 24 = dktX3_find_1 := dk_seg dksX3_find_0 24 rfl rfl
theorem dksX3_find_2 : cX3_find.data.toList.drop 47 = dktX3_find_2 := dk_seg dksX3_find_1 23 rfl rfl
theorem dksX3_find_3 : cX3_find.data.toList.drop 70 = dktX3_find_3 := dk_seg dksX3_find_2 23 rfl rfl
theorem dX3_find_0 : decode cX3_find 0 = .ok (.iconst 0, 1) := dk_3 (dk_at dksX3_find_0 0 rfl rfl)
theorem dX3_find_1 : decode cX3_find 1 = .ok (.istore_n 3, 1) := dk_62 (dk_at dksX3_find_0 1 rfl rfl)
theorem dX3_find_2 : decode cX3_find 2 = .ok (.iconst 1, 1) := dk_4 (dk_at dksX3_find_0 2 rfl rfl)
theorem dX3_find_3 : decode cX3_find 3 = .ok (.istore 4, 2) := dk_54 4 (dk_at dksX3_find_0 3 rfl rfl)
theorem dX3_find_5 : decode cX3_find 5 = .ok (.iload 4, 2) := dk_21 4 (dk_at dksX3_find_0 5 rfl rfl)
theorem dX3_find_7 : decode cX3_find 7 = .ok (.iload_n 2, 1) := dk_28 (dk_at dksX3_find_0 7 rfl rfl)
theorem dX3_find_8 : decode cX3_find 8 = .ok (.if_icmp .gt 65, 3) := dk_163 0 65 (dk_at dksX3_find_0 8 rfl rfl)
theorem dX3_find_11 : decode cX3_find 11 = .ok (.iload_n 3, 1) := dk_29 (dk_at dksX3_find_0 11 rfl rfl)
theorem dX3_find_12 : decode cX3_find 12 = .ok (.iconst 1, 1) := dk_4 (dk_at dksX3_find_0 12 rfl rfl)
theorem dX3_find_13 : decode cX3_find 13 = .ok (.ishl, 1) := dk_120 (dk_at dksX3_find_0 13 rfl rfl)
theorem dX3_find_14 : decode cX3_find 14 = .ok (.istore_n 3, 1) := dk_62 (dk_at dksX3_find_0 14 rfl rfl)
theorem dX3_find_15 : decode cX3_find 15 = .ok (.iconst 0, 1) := dk_3 (dk_at dksX3_find_0 15 rfl rfl)
theorem dX3_find_16 : decode cX3_find 16 = .ok (.istore 5, 2) := dk_54 5 (dk_at dksX3_find_0 16 rfl rfl)
theorem dX3_find_18 : decode cX3_find 18 = .ok (.iload 5, 2) := dk_21 5 (dk_at dksX3_find_0 18 rfl rfl)
theorem dX3_find_20 : decode cX3_find 20 = .ok (.aload_n 0, 1) := dk_42 (dk_at dksX3_find_0 20 rfl rfl)
theorem dX3_find_21 : decode cX3_find 21 = .ok (.getfield 18, 3) := dk_180 0 18 (dk_at dksX3_find_0 21 rfl rfl)
theorem dX3_find_24 : decode cX3_find 24 = .ok (.if_icmp .ge 43, 3) := dk_162 0 43 (dk_at dksX3_find_1 0 rfl rfl)
theorem dX3_find_27 : decode cX3_find 27 = .ok (.aload_n 0, 1) := dk_42 (dk_at dksX3_find_1 3 rfl rfl)
theorem dX3_find_28 : decode cX3_find 28 = .ok (.getfield 15, 3) := dk_180 0 15 (dk_at dksX3_find_1 4 rfl rfl)
theorem dX3_find_31 : decode cX3_find 31 = .ok (.iload 5, 2) := dk_21 5 (dk_at dksX3_find_1 7 rfl rfl)
theorem dX3_find_33 : decode cX3_find 33 = .ok (.iaload, 1) := dk_46 (dk_at dksX3_find_1 9 rfl rfl)
theorem dX3_find_34 : decode cX3_find 34 = .ok (.iload 4, 2) := dk_21 4 (dk_at dksX3_find_1 10 rfl rfl)
theorem dX3_find_36 : decode cX3_find 36 = .ok (.if_icmp .ne 25, 3) := dk_160 0 25 (dk_at dksX3_find_1 12 rfl rfl)
theorem dX3_find_39 : decode cX3_find 39 = .ok (.iload 4, 2) := dk_21 4 (dk_at dksX3_find_1 15 rfl rfl)
theorem dX3_find_41 : decode cX3_find 41 = .ok (.iload_n 2, 1) := dk_28 (dk_at dksX3_find_1 17 rfl rfl)
theorem dX3_find_42 : decode cX3_find 42 = .ok (.if_icmp .ne 16, 3) := dk_160 0 16 (dk_at dksX3_find_1 18 rfl rfl)
theorem dX3_find_45 : decode cX3_find 45 = .ok (.iload_n 3, 1) := dk_29 (dk_at dksX3_find_1 21 rfl rfl)
theorem dX3_find_46 : decode cX3_find 46 = .ok (.iload_n 1, 1) := dk_27 (dk_at dksX3_find_1 22 rfl rfl)
theorem dX3_find_47 : decode cX3_find 47 = .ok (.if_icmp .ne 11, 3) := dk_160 0 11 (dk_at dksX3_find_2 0 rfl rfl)
theorem dX3_find_50 : decode cX3_find 50 = .ok (.aload_n 0, 1) := dk_42 (dk_at dksX3_find_2 3 rfl rfl)
theorem dX3_find_51 : decode cX3_find 51 = .ok (.getfield 9, 3) := dk_180 0 9 (dk_at dksX3_find_2 4 rfl rfl)
theorem dX3_find_54 : decode cX3_find 54 = .ok (.iload 5, 2) := dk_21 5 (dk_at dksX3_find_2 7 rfl rfl)
theorem dX3_find_56 : decode cX3_find 56 = .ok (.iaload, 1) := dk_46 (dk_at dksX3_find_2 9 rfl rfl)
theorem dX3_find_57 : decode cX3_find 57 = .ok (.ireturn, 1) := dk_172 (dk_at dksX3_find_2 10 rfl rfl)
theorem dX3_find_58 : decode cX3_find 58 = .ok (.iinc 3 1, 3) := dk_132 3 1 (dk_at dksX3_find_2 11 rfl rfl)
theorem dX3_find_61 : decode cX3_find 61 = .ok (.iinc 5 1, 3) := dk_132 5 1 (dk_at dksX3_find_2 14 rfl rfl)
theorem dX3_find_64 : decode cX3_find 64 = .ok (.goto (-46), 3) := dk_167 255 210 (dk_at dksX3_find_2 17 rfl rfl)
theorem dX3_find_67 : decode cX3_find 67 = .ok (.iinc 4 1, 3) := dk_132 4 1 (dk_at dksX3_find_2 20 rfl rfl)
theorem dX3_find_70 : decode cX3_find 70 = .ok (.goto (-65), 3) := dk_167 255 191 (dk_at dksX3_find_3 0 rfl rfl)
theorem dX3_find_73 : decode cX3_find 73 = .ok (.iconst (-1), 1) := dk_2 (dk_at dksX3_find_3 3 rfl rfl)
theorem dX3_find_74 : decode cX3_find 74 = .ok (.ireturn, 1) := dk_172 (dk_at dksX3_find_3 4 rfl rfl)
abbrev cX3_hasLonger : ByteArray := prog_6_method_3_code
def yX3_hasLonger : MethodName := ⟨RX3, "hasLonger", "(I)Z"⟩
def dkwX3_hasLonger_1 : List UInt8 := [167, 0, 4, 3, 128, 61, 132, 3, 1, 167, 255, 227, 28, 172]
abbrev dktX3_hasLonger_1 : List UInt8 := dkwX3_hasLonger_1 ++ []
def dkwX3_hasLonger_0 : List UInt8 := [3, 61, 3, 62, 29, 42, 180, 0, 18, 162, 0, 27, 28, 42, 180, 0, 15, 29, 46, 27, 164, 0, 7, 4]
abbrev dktX3_hasLonger_0 : List UInt8 := dkwX3_hasLonger_0 ++ dktX3_hasLonger_1
theorem dksX3_hasLonger_0 : cX3_hasLonger.data.toList.drop 0 = dktX3_hasLonger_0 := by decide +kernel
theorem dksX3_hasLonger_1 : cX3_hasLonger.data.toList.drop 24 = dktX3_hasLonger_1 := dk_seg dksX3_hasLonger_0 24 rfl rfl
theorem dX3_hasLonger_0 : decode cX3_hasLonger 0 = .ok (.iconst 0, 1) := dk_3 (dk_at dksX3_hasLonger_0 0 rfl rfl)
theorem dX3_hasLonger_1 : decode cX3_hasLonger 1 = .ok (.istore_n 2, 1) := dk_61 (dk_at dksX3_hasLonger_0 1 rfl rfl)
theorem dX3_hasLonger_2 : decode cX3_hasLonger 2 = .ok (.iconst 0, 1) := dk_3 (dk_at dksX3_hasLonger_0 2 rfl rfl)
theorem dX3_hasLonger_3 : decode cX3_hasLonger 3 = .ok (.istore_n 3, 1) := dk_62 (dk_at dksX3_hasLonger_0 3 rfl rfl)
theorem dX3_hasLonger_4 : decode cX3_hasLonger 4 = .ok (.iload_n 3, 1) := dk_29 (dk_at dksX3_hasLonger_0 4 rfl rfl)
theorem dX3_hasLonger_5 : decode cX3_hasLonger 5 = .ok (.aload_n 0, 1) := dk_42 (dk_at dksX3_hasLonger_0 5 rfl rfl)
theorem dX3_hasLonger_6 : decode cX3_hasLonger 6 = .ok (.getfield 18, 3) := dk_180 0 18 (dk_at dksX3_hasLonger_0 6 rfl rfl)
theorem dX3_hasLonger_9 : decode cX3_hasLonger 9 = .ok (.if_icmp .ge 27, 3) := dk_162 0 27 (dk_at dksX3_hasLonger_0 9 rfl rfl)
theorem dX3_hasLonger_12 : decode cX3_hasLonger 12 = .ok (.iload_n 2, 1) := dk_28 (dk_at dksX3_hasLonger_0 12 rfl rfl)
theorem dX3_hasLonger_13 : decode cX3_hasLonger 13 = .ok (.aload_n 0, 1) := dk_42 (dk_at dksX3_hasLonger_0 13 rfl rfl)
theorem dX3_hasLonger_14 : decode cX3_hasLonger 14 = .ok (.getfield 15, 3) := dk_180 0 15 (dk_at dksX3_hasLonger_0 14 rfl rfl)
theorem dX3_hasLonger_17 : decode cX3_hasLonger 17 = .ok (.iload_n 3, 1) := dk_29 (dk_at dksX3_hasLonger_0 17 rfl rfl)
theorem dX3_hasLonger_18 : decode cX3_hasLonger 18 = .ok (.iaload, 1) := dk_46 (dk_at dksX3_hasLonger_0 18 rfl rfl)
theorem dX3_hasLonger_19 : decode cX3_hasLonger 19 = .ok (.iload_n 1, 1) := dk_27 (dk_at dksX3_hasLonger_0 19 rfl rfl)
theorem dX3_hasLonger_20 : decode cX3_hasLonger 20 = .ok (.if_icmp .le 7, 3) := dk_164 0 7 (dk_at dksX3_hasLonger_0 20 rfl rfl)
theorem dX3_hasLonger_23 : decode cX3_hasLonger 23 = .ok (.iconst 1, 1) := dk_4 (dk_at dksX3_hasLonger_0 23 rfl rfl)
theorem dX3_hasLonger_24 : decode cX3_hasLonger 24 = .ok (.goto 4, 3) := dk_167 0 4 (dk_at dksX3_hasLonger_1 0 rfl rfl)
theorem dX3_hasLonger_27 : decode cX3_hasLonger 27 = .ok (.iconst 0, 1) := dk_3 (dk_at dksX3_hasLonger_1 3 rfl rfl)
theorem dX3_hasLonger_28 : decode cX3_hasLonger 28 = .ok (.ior, 1) := dk_128 (dk_at dksX3_hasLonger_1 4 rfl rfl)
theorem dX3_hasLonger_29 : decode cX3_hasLonger 29 = .ok (.istore_n 2, 1) := dk_61 (dk_at dksX3_hasLonger_1 5 rfl rfl)
theorem dX3_hasLonger_30 : decode cX3_hasLonger 30 = .ok (.iinc 3 1, 3) := dk_132 3 1 (dk_at dksX3_hasLonger_1 6 rfl rfl)
theorem dX3_hasLonger_33 : decode cX3_hasLonger 33 = .ok (.goto (-29), 3) := dk_167 255 227 (dk_at dksX3_hasLonger_1 9 rfl rfl)
theorem dX3_hasLonger_36 : decode cX3_hasLonger 36 = .ok (.iload_n 2, 1) := dk_28 (dk_at dksX3_hasLonger_1 12 rfl rfl)
theorem dX3_hasLonger_37 : decode cX3_hasLonger 37 = .ok (.ireturn, 1) := dk_172 (dk_at dksX3_hasLonger_1 13 rfl rfl)
abbrev cX3_init : ByteArray := prog_6_method_1_code
def yX3_init : MethodName := ⟨RX3, "<init>", "()V"⟩
def dkwX3_init_0 : List UInt8 := [42, 183, 0, 3, 42, 16, 8, 188, 10, 181, 0, 9, 42, 16, 8, 188, 10, 181, 0, 15, 177]
abbrev dktX3_init_0 : List UInt8 := dkwX3_init_0 ++ []
theorem dksX3_init_0 : cX3_init.data.toList.drop 0 = dktX3_init_0 := by decide +kernel
theorem dX3_init_0 : decode cX3_init 0 = .ok (.aload_n 0, 1) := dk_42 (dk_at dksX3_init_0 0 rfl rfl)
theorem dX3_init_1 : decode cX3_init 1 = .ok (.invokespecial 3, 3) := dk_183 0 3 (dk_at dksX3_init_0 1 rfl rfl)
theorem dX3_init_4 : decode cX3_init 4 = .ok (.aload_n 0, 1) := dk_42 (dk_at dksX3_init_0 4 rfl rfl)
theorem dX3_init_5 : decode cX3_init 5 = .ok (.bipush 8, 2) := dk_16 8 (dk_at dksX3_init_0 5 rfl rfl)
theorem dX3_init_7 : decode cX3_init 7 = .ok (.newarray .int, 2) := dk_188_10 (dk_at dksX3_init_0 7 rfl rfl)
theorem dX3_init_9 : decode cX3_init 9 = .ok (.putfield 9, 3) := dk_181 0 9 (dk_at dksX3_init_0 9 rfl rfl)
theorem dX3_init_12 : decode cX3_init 12 = .ok (.aload_n 0, 1) := dk_42 (dk_at dksX3_init_0 12 rfl rfl)
theorem dX3_init_13 : decode cX3_init 13 = .ok (.bipush 8, 2) := dk_16 8 (dk_at dksX3_init_0 13 rfl rfl)
theorem dX3_init_15 : decode cX3_init 15 = .ok (.newarray .int, 2) := dk_188_10 (dk_at dksX3_init_0 15 rfl rfl)
theorem dX3_init_17 : decode cX3_init 17 = .ok (.putfield 15, 3) := dk_181 0 15 (dk_at dksX3_init_0 17 rfl rfl)
theorem dX3_init_20 : decode cX3_init 20 = .ok (.return_, 1) := dk_177 (dk_at dksX3_init_0 20 rfl rfl)
theorem q45 : (Jvm.Cond.initialized "BombFamilies$Table") ∈ lw_all := lw_g (lw_at lw_m1 4 rfl) rfl
theorem q177 : (Jvm.Cond.instanceMethod ({ cls := "BombFamilies$Table", name := "isGood", desc := "()Z" } : Jvm.MethodName)) ∈ lw_all := lw_g (lw_at lw_m1 136 rfl) rfl
theorem q178 : (Jvm.Cond.selects "BombFamilies$Table" ({ cls := "BombFamilies$Table", name := "isGood", desc := "()Z" } : Jvm.MethodName) ({ cls := "BombFamilies$Table", name := "isGood", desc := "()Z" } : Jvm.MethodName)) ∈ lw_all := lw_g (lw_at lw_m1 137 rfl) rfl
theorem q179 : (Jvm.Cond.code ({ cls := "BombFamilies$Table", name := "isGood", desc := "()Z" } : Jvm.MethodName) prog_6_method_2_code (4 : Nat) (Option.some Jvm.ClassFile.FieldType.boolean)) ∈ lw_all := lw_g (lw_at lw_m1 138 rfl) rfl
theorem q185 : (Jvm.Cond.instanceMethod ({ cls := "BombFamilies$Table", name := "find", desc := "(II)I" } : Jvm.MethodName)) ∈ lw_all := lw_g (lw_at lw_m1 144 rfl) rfl
theorem q186 : (Jvm.Cond.selects "BombFamilies$Table" ({ cls := "BombFamilies$Table", name := "find", desc := "(II)I" } : Jvm.MethodName) ({ cls := "BombFamilies$Table", name := "find", desc := "(II)I" } : Jvm.MethodName)) ∈ lw_all := lw_g (lw_at lw_m1 145 rfl) rfl
theorem q187 : (Jvm.Cond.code ({ cls := "BombFamilies$Table", name := "find", desc := "(II)I" } : Jvm.MethodName) prog_6_method_4_code (6 : Nat) (Option.some Jvm.ClassFile.FieldType.int)) ∈ lw_all := lw_g (lw_at lw_m1 146 rfl) rfl
theorem q189 : (Jvm.Cond.instanceMethod ({ cls := "BombFamilies$Table", name := "hasLonger", desc := "(I)Z" } : Jvm.MethodName)) ∈ lw_all := lw_g (lw_at lw_m1 148 rfl) rfl
theorem q190 : (Jvm.Cond.selects "BombFamilies$Table" ({ cls := "BombFamilies$Table", name := "hasLonger", desc := "(I)Z" } : Jvm.MethodName) ({ cls := "BombFamilies$Table", name := "hasLonger", desc := "(I)Z" } : Jvm.MethodName)) ∈ lw_all := lw_g (lw_at lw_m1 149 rfl) rfl
theorem q191 : (Jvm.Cond.code ({ cls := "BombFamilies$Table", name := "hasLonger", desc := "(I)Z" } : Jvm.MethodName) prog_6_method_3_code (4 : Nat) (Option.some Jvm.ClassFile.FieldType.boolean)) ∈ lw_all := lw_g (lw_at lw_m1 150 rfl) rfl
theorem q193 : (Jvm.Cond.instantiable "BombFamilies$Table" (3 : Nat)) ∈ lw_all := lw_g (lw_at lw_m1 152 rfl) rfl
theorem q195 : (Jvm.Cond.instanceMethod ({ cls := "BombFamilies$Table", name := "<init>", desc := "()V" } : Jvm.MethodName)) ∈ lw_all := lw_g (lw_at lw_m1 154 rfl) rfl
theorem q196 : (Jvm.Cond.code ({ cls := "BombFamilies$Table", name := "<init>", desc := "()V" } : Jvm.MethodName) prog_6_method_1_code (1 : Nat) (Option.none : Option Jvm.ClassFile.FieldType)) ∈ lw_all := lw_g (lw_at lw_m1 155 rfl) rfl
theorem q197 : (Jvm.Cond.methodLink "BombFamilies$Table" (3 : Nat) ({ cls := "java/lang/Object", name := "<init>", desc := "()V" } : Jvm.MethodName)) ∈ lw_all := lw_g (lw_at lw_m1 156 rfl) rfl
theorem q198 : (Jvm.Cond.fieldLink "BombFamilies$Table" (9 : Nat) "BombFamilies$Table" "symbols" "[I") ∈ lw_all := lw_g (lw_at lw_m1 157 rfl) rfl
theorem q200 : (Jvm.Cond.fieldLink "BombFamilies$Table" (15 : Nat) "BombFamilies$Table" "lengths" "[I") ∈ lw_all := lw_g (lw_at lw_m1 159 rfl) rfl
theorem q202 : (Jvm.Cond.fieldLink "BombFamilies$Table" (18 : Nat) "BombFamilies$Table" "many" "I") ∈ lw_all := lw_g (lw_at lw_m1 161 rfl) rfl
theorem q204 : (Jvm.Cond.laysFinal "BombFamilies$Table" "BombFamilies$Table" "symbols" "[I") ∈ lw_all := lw_g (lw_at lw_m1 163 rfl) rfl
theorem q205 : (Jvm.Cond.soleField "BombFamilies$Table" "symbols") ∈ lw_all := lw_g (lw_at lw_m1 164 rfl) rfl
theorem q206 : (Jvm.Cond.laysFinal "BombFamilies$Table" "BombFamilies$Table" "lengths" "[I") ∈ lw_all := lw_g (lw_at lw_m1 165 rfl) rfl
theorem q207 : (Jvm.Cond.soleField "BombFamilies$Table" "lengths") ∈ lw_all := lw_g (lw_at lw_m1 166 rfl) rfl
theorem q208 : (Jvm.Cond.lays "BombFamilies$Table" "BombFamilies$Table" "many" "I") ∈ lw_all := lw_g (lw_at lw_m1 167 rfl) rfl
theorem q209 : (Jvm.Cond.soleField "BombFamilies$Table" "many") ∈ lw_all := lw_g (lw_at lw_m1 168 rfl) rfl
theorem q210 : (Jvm.Cond.superclass "BombFamilies$Table" "java/lang/Object") ∈ lw_all := lw_g (lw_at lw_m1 169 rfl) rfl
theorem in_X3 : ∀ w ∈ wsX30, w ∈ lw_all := lw_in wsX30 [204, 206, 208] (by decide +kernel) (by decide +kernel)

/-! BombFamilies$Fault -/
set_option maxRecDepth 100000
def RX4 : String := "BombFamilies$Fault"
def TX4 : u_T := fun k => match k with
  | 0 => ("java/lang/Throwable", "cause", "Ljava/lang/Throwable;", false)
  | 1 => ("java/lang/Throwable", "stackTrace", "[Ljava/lang/StackTraceElement;", false)
  | 2 => ("java/lang/Throwable", "suppressedExceptions", "Ljava/util/List;", false)
  | 3 => ("java/lang/Throwable", "detailMessage", "Ljava/lang/String;", false)
  | 4 => ("java/lang/Throwable", "backtrace", "Ljava/lang/Object;", false)
  | 5 => ("java/lang/Throwable", "depth", "I", false)
  | 6 => ("BombFamilies$Fault", "kind", "I", false)
  | _ => ("BombFamilies$Fault", "place", "I", false)
def tyX4 : Nat → FieldType := fun k => match k with
  | 0 => .object "java/lang/Throwable"
  | 1 => .array (.object "java/lang/StackTraceElement")
  | 2 => .object "java/util/List"
  | 3 => .object "java/lang/String"
  | 4 => .object "java/lang/Object"
  | 5 => .int
  | 6 => .int
  | _ => .int
abbrev wsX40 : List Cond := u_ws RX4 TX4 8
theorem nmX4 : ∀ a, a < 8 → ∀ b, b < 8 → a ≠ b → (TX4 a).2.1 ≠ (TX4 b).2.1 := by decide +kernel
theorem tyX4_ok : ∀ k, k < 8 → parseFieldDescriptor (TX4 k).2.2.1 = some (tyX4 k) := by decide +kernel
abbrev cX4_init : ByteArray := prog_3_method_1_code
def yX4_init : MethodName := ⟨RX4, "<init>", "()V"⟩
def dkwX4_init_0 : List UInt8 := [42, 1, 1, 3, 3, 183, 0, 1, 177]
abbrev dktX4_init_0 : List UInt8 := dkwX4_init_0 ++ []
theorem dksX4_init_0 : cX4_init.data.toList.drop 0 = dktX4_init_0 := by decide +kernel
theorem dX4_init_0 : decode cX4_init 0 = .ok (.aload_n 0, 1) := dk_42 (dk_at dksX4_init_0 0 rfl rfl)
theorem dX4_init_1 : decode cX4_init 1 = .ok (.aconst_null, 1) := dk_1 (dk_at dksX4_init_0 1 rfl rfl)
theorem dX4_init_2 : decode cX4_init 2 = .ok (.aconst_null, 1) := dk_1 (dk_at dksX4_init_0 2 rfl rfl)
theorem dX4_init_3 : decode cX4_init 3 = .ok (.iconst 0, 1) := dk_3 (dk_at dksX4_init_0 3 rfl rfl)
theorem dX4_init_4 : decode cX4_init 4 = .ok (.iconst 0, 1) := dk_3 (dk_at dksX4_init_0 4 rfl rfl)
theorem dX4_init_5 : decode cX4_init 5 = .ok (.invokespecial 1, 3) := dk_183 0 1 (dk_at dksX4_init_0 5 rfl rfl)
theorem dX4_init_8 : decode cX4_init 8 = .ok (.return_, 1) := dk_177 (dk_at dksX4_init_0 8 rfl rfl)
theorem q49 : (Jvm.Cond.initialized "BombFamilies$Fault") ∈ lw_all := lw_g (lw_at lw_m1 8 rfl) rfl
theorem q213 : (Jvm.Cond.instantiable "BombFamilies$Fault" (8 : Nat)) ∈ lw_all := lw_g (lw_at lw_m1 172 rfl) rfl
theorem q214 : (Jvm.Cond.castable "BombFamilies$Fault" "BombFamilies$Fault") ∈ lw_tbl := lw_at lw_m1 173 rfl
theorem q221 : (Jvm.Cond.selects "BombFamilies$Fault" ({ cls := "java/lang/Throwable", name := "fillInStackTrace", desc := "(I)Ljava/lang/Throwable;" } : Jvm.MethodName) ({ cls := "java/lang/Throwable", name := "fillInStackTrace", desc := "(I)Ljava/lang/Throwable;" } : Jvm.MethodName)) ∈ lw_all := lw_g (lw_at lw_m1 180 rfl) rfl
theorem q222 : (Jvm.Cond.selects "BombFamilies$Fault" ({ cls := "java/lang/Throwable", name := "fillInStackTrace", desc := "()Ljava/lang/Throwable;" } : Jvm.MethodName) ({ cls := "java/lang/Throwable", name := "fillInStackTrace", desc := "()Ljava/lang/Throwable;" } : Jvm.MethodName)) ∈ lw_all := lw_g (lw_at lw_m1 181 rfl) rfl
theorem q223 : (Jvm.Cond.lays "BombFamilies$Fault" "java/lang/Throwable" "cause" "Ljava/lang/Throwable;") ∈ lw_all := lw_g (lw_at lw_m1 182 rfl) rfl
theorem q225 : (Jvm.Cond.lays "BombFamilies$Fault" "java/lang/Throwable" "stackTrace" "[Ljava/lang/StackTraceElement;") ∈ lw_all := lw_g (lw_at lw_m1 184 rfl) rfl
theorem q227 : (Jvm.Cond.lays "BombFamilies$Fault" "java/lang/Throwable" "suppressedExceptions" "Ljava/util/List;") ∈ lw_all := lw_g (lw_at lw_m1 186 rfl) rfl
theorem q229 : (Jvm.Cond.lays "BombFamilies$Fault" "java/lang/Throwable" "detailMessage" "Ljava/lang/String;") ∈ lw_all := lw_g (lw_at lw_m1 188 rfl) rfl
theorem q231 : (Jvm.Cond.lays "BombFamilies$Fault" "java/lang/Throwable" "backtrace" "Ljava/lang/Object;") ∈ lw_all := lw_g (lw_at lw_m1 190 rfl) rfl
theorem q252 : (Jvm.Cond.instanceMethod ({ cls := "BombFamilies$Fault", name := "<init>", desc := "()V" } : Jvm.MethodName)) ∈ lw_all := lw_g (lw_at lw_m1 211 rfl) rfl
theorem q253 : (Jvm.Cond.code ({ cls := "BombFamilies$Fault", name := "<init>", desc := "()V" } : Jvm.MethodName) prog_3_method_1_code (1 : Nat) (Option.none : Option Jvm.ClassFile.FieldType)) ∈ lw_all := lw_g (lw_at lw_m1 212 rfl) rfl
theorem q254 : (Jvm.Cond.methodLink "BombFamilies$Fault" (1 : Nat) ({ cls := "java/lang/RuntimeException", name := "<init>", desc := "(Ljava/lang/String;Ljava/lang/Throwable;ZZ)V" } : Jvm.MethodName)) ∈ lw_all := lw_g (lw_at lw_m1 213 rfl) rfl
theorem q270 : (Jvm.Cond.lays "BombFamilies$Fault" "BombFamilies$Fault" "kind" "I") ∈ lw_all := lw_g (lw_at lw_m1 229 rfl) rfl
theorem q271 : (Jvm.Cond.soleField "BombFamilies$Fault" "kind") ∈ lw_all := lw_g (lw_at lw_m1 230 rfl) rfl
theorem q272 : (Jvm.Cond.lays "BombFamilies$Fault" "BombFamilies$Fault" "place" "I") ∈ lw_all := lw_g (lw_at lw_m1 231 rfl) rfl
theorem q273 : (Jvm.Cond.soleField "BombFamilies$Fault" "place") ∈ lw_all := lw_g (lw_at lw_m1 232 rfl) rfl
theorem q278 : (Jvm.Cond.lays "BombFamilies$Fault" "java/lang/Throwable" "depth" "I") ∈ lw_all := lw_g (lw_at lw_m1 237 rfl) rfl
theorem q281 : (Jvm.Cond.superclass "BombFamilies$Fault" "java/lang/RuntimeException") ∈ lw_all := lw_g (lw_at lw_m2 0 rfl) rfl
theorem in_X4 : ∀ w ∈ wsX40, w ∈ lw_all := lw_in wsX40 [223, 225, 227, 229, 231, 278, 270, 272] (by decide +kernel) (by decide +kernel)

/-! BombFamilies$Scope -/
set_option maxRecDepth 100000
def RX5 : String := "BombFamilies$Scope"
def TX5 : u_T := fun k => match k with
  | 0 => ("BombFamilies$Scope", "depth", "I", true)
  | 1 => ("BombFamilies$Scope", "end", "I", false)
  | 2 => ("BombFamilies$Scope", "outBegin", "I", false)
  | 3 => ("BombFamilies$Scope", "endsBegin", "I", false)
  | 4 => ("BombFamilies$Scope", "at", "I", false)
  | 5 => ("BombFamilies$Scope", "first", "I", false)
  | _ => ("BombFamilies$Scope", "this$0", "LBombFamilies;", true)
def tyX5 : Nat → FieldType := fun k => match k with
  | 0 => .int
  | 1 => .int
  | 2 => .int
  | 3 => .int
  | 4 => .int
  | 5 => .int
  | _ => .object "BombFamilies"
abbrev wsX50 : List Cond := u_ws RX5 TX5 7
theorem nmX5 : ∀ a, a < 7 → ∀ b, b < 7 → a ≠ b → (TX5 a).2.1 ≠ (TX5 b).2.1 := by decide +kernel
theorem tyX5_ok : ∀ k, k < 7 → parseFieldDescriptor (TX5 k).2.2.1 = some (tyX5 k) := by decide +kernel
abbrev cX5_stored : ByteArray := prog_5_method_8_code
def yX5_stored : MethodName := ⟨RX5, "stored", "()V"⟩
def dkwX5_stored_1 : List UInt8 := [162, 0, 23, 42, 180, 0, 3, 180, 0, 44, 42, 182, 0, 75, 182, 0, 119, 132, 2, 1, 167, 255, 234, 177]
abbrev dktX5_stored_1 : List UInt8 := dkwX5_stored_1 ++ []
def dkwX5_stored_0 : List UInt8 := [42, 182, 0, 75, 60, 42, 27, 182, 0, 112, 42, 27, 5, 27, 96, 182, 0, 116, 3, 61, 28, 27]
abbrev dktX5_stored_0 : List UInt8 := dkwX5_stored_0 ++ dktX5_stored_1
theorem dksX5_stored_0 : cX5_stored.data.toList.drop 0 = dktX5_stored_0 := by decide +kernel
theorem dksX5_stored_1 : cX5_stored.data.toList.drop 22 = dktX5_stored_1 := dk_seg dksX5_stored_0 22 rfl rfl
theorem dX5_stored_0 : decode cX5_stored 0 = .ok (.aload_n 0, 1) := dk_42 (dk_at dksX5_stored_0 0 rfl rfl)
theorem dX5_stored_1 : decode cX5_stored 1 = .ok (.invokevirtual 75, 3) := dk_182 0 75 (dk_at dksX5_stored_0 1 rfl rfl)
theorem dX5_stored_4 : decode cX5_stored 4 = .ok (.istore_n 1, 1) := dk_60 (dk_at dksX5_stored_0 4 rfl rfl)
theorem dX5_stored_5 : decode cX5_stored 5 = .ok (.aload_n 0, 1) := dk_42 (dk_at dksX5_stored_0 5 rfl rfl)
theorem dX5_stored_6 : decode cX5_stored 6 = .ok (.iload_n 1, 1) := dk_27 (dk_at dksX5_stored_0 6 rfl rfl)
theorem dX5_stored_7 : decode cX5_stored 7 = .ok (.invokevirtual 112, 3) := dk_182 0 112 (dk_at dksX5_stored_0 7 rfl rfl)
theorem dX5_stored_10 : decode cX5_stored 10 = .ok (.aload_n 0, 1) := dk_42 (dk_at dksX5_stored_0 10 rfl rfl)
theorem dX5_stored_11 : decode cX5_stored 11 = .ok (.iload_n 1, 1) := dk_27 (dk_at dksX5_stored_0 11 rfl rfl)
theorem dX5_stored_12 : decode cX5_stored 12 = .ok (.iconst 2, 1) := dk_5 (dk_at dksX5_stored_0 12 rfl rfl)
theorem dX5_stored_13 : decode cX5_stored 13 = .ok (.iload_n 1, 1) := dk_27 (dk_at dksX5_stored_0 13 rfl rfl)
theorem dX5_stored_14 : decode cX5_stored 14 = .ok (.iadd, 1) := dk_96 (dk_at dksX5_stored_0 14 rfl rfl)
theorem dX5_stored_15 : decode cX5_stored 15 = .ok (.invokevirtual 116, 3) := dk_182 0 116 (dk_at dksX5_stored_0 15 rfl rfl)
theorem dX5_stored_18 : decode cX5_stored 18 = .ok (.iconst 0, 1) := dk_3 (dk_at dksX5_stored_0 18 rfl rfl)
theorem dX5_stored_19 : decode cX5_stored 19 = .ok (.istore_n 2, 1) := dk_61 (dk_at dksX5_stored_0 19 rfl rfl)
theorem dX5_stored_20 : decode cX5_stored 20 = .ok (.iload_n 2, 1) := dk_28 (dk_at dksX5_stored_0 20 rfl rfl)
theorem dX5_stored_21 : decode cX5_stored 21 = .ok (.iload_n 1, 1) := dk_27 (dk_at dksX5_stored_0 21 rfl rfl)
theorem dX5_stored_22 : decode cX5_stored 22 = .ok (.if_icmp .ge 23, 3) := dk_162 0 23 (dk_at dksX5_stored_1 0 rfl rfl)
theorem dX5_stored_25 : decode cX5_stored 25 = .ok (.aload_n 0, 1) := dk_42 (dk_at dksX5_stored_1 3 rfl rfl)
theorem dX5_stored_26 : decode cX5_stored 26 = .ok (.getfield 3, 3) := dk_180 0 3 (dk_at dksX5_stored_1 4 rfl rfl)
theorem dX5_stored_29 : decode cX5_stored 29 = .ok (.getfield 44, 3) := dk_180 0 44 (dk_at dksX5_stored_1 7 rfl rfl)
theorem dX5_stored_32 : decode cX5_stored 32 = .ok (.aload_n 0, 1) := dk_42 (dk_at dksX5_stored_1 10 rfl rfl)
theorem dX5_stored_33 : decode cX5_stored 33 = .ok (.invokevirtual 75, 3) := dk_182 0 75 (dk_at dksX5_stored_1 11 rfl rfl)
theorem dX5_stored_36 : decode cX5_stored 36 = .ok (.invokevirtual 119, 3) := dk_182 0 119 (dk_at dksX5_stored_1 14 rfl rfl)
theorem dX5_stored_39 : decode cX5_stored 39 = .ok (.iinc 2 1, 3) := dk_132 2 1 (dk_at dksX5_stored_1 17 rfl rfl)
theorem dX5_stored_42 : decode cX5_stored 42 = .ok (.goto (-22), 3) := dk_167 255 234 (dk_at dksX5_stored_1 20 rfl rfl)
theorem dX5_stored_45 : decode cX5_stored 45 = .ok (.return_, 1) := dk_177 (dk_at dksX5_stored_1 23 rfl rfl)
abbrev cX5_next : ByteArray := prog_5_method_2_code
def yX5_next : MethodName := ⟨RX5, "next", "()I"⟩
def dkwX5_next_2 : List UInt8 := [182, 0, 33, 172]
abbrev dktX5_next_2 : List UInt8 := dkwX5_next_2 ++ []
def dkwX5_next_1 : List UInt8 := [180, 0, 22, 182, 0, 25, 42, 180, 0, 3, 180, 0, 29, 42, 89, 180, 0, 19, 90, 4, 96, 181, 0, 19]
abbrev dktX5_next_1 : List UInt8 := dkwX5_next_1 ++ dktX5_next_2
def dkwX5_next_0 : List UInt8 := [42, 180, 0, 3, 42, 180, 0, 19, 42, 180, 0, 22, 162, 0, 7, 4, 167, 0, 4, 3, 6, 42]
abbrev dktX5_next_0 : List UInt8 := dkwX5_next_0 ++ dktX5_next_1
theorem dksX5_next_0 : cX5_next.data.toList.drop 0 = dktX5_next_0 := by decide +kernel
theorem dksX5_next_1 : cX5_next.data.toList.drop 22 = dktX5_next_1 := dk_seg dksX5_next_0 22 rfl rfl
theorem dksX5_next_2 : cX5_next.data.toList.drop 46 = dktX5_next_2 := dk_seg dksX5_next_1 24 rfl rfl
theorem dX5_next_0 : decode cX5_next 0 = .ok (.aload_n 0, 1) := dk_42 (dk_at dksX5_next_0 0 rfl rfl)
theorem dX5_next_1 : decode cX5_next 1 = .ok (.getfield 3, 3) := dk_180 0 3 (dk_at dksX5_next_0 1 rfl rfl)
theorem dX5_next_4 : decode cX5_next 4 = .ok (.aload_n 0, 1) := dk_42 (dk_at dksX5_next_0 4 rfl rfl)
theorem dX5_next_5 : decode cX5_next 5 = .ok (.getfield 19, 3) := dk_180 0 19 (dk_at dksX5_next_0 5 rfl rfl)
theorem dX5_next_8 : decode cX5_next 8 = .ok (.aload_n 0, 1) := dk_42 (dk_at dksX5_next_0 8 rfl rfl)
theorem dX5_next_9 : decode cX5_next 9 = .ok (.getfield 22, 3) := dk_180 0 22 (dk_at dksX5_next_0 9 rfl rfl)
theorem dX5_next_12 : decode cX5_next 12 = .ok (.if_icmp .ge 7, 3) := dk_162 0 7 (dk_at dksX5_next_0 12 rfl rfl)
theorem dX5_next_15 : decode cX5_next 15 = .ok (.iconst 1, 1) := dk_4 (dk_at dksX5_next_0 15 rfl rfl)
theorem dX5_next_16 : decode cX5_next 16 = .ok (.goto 4, 3) := dk_167 0 4 (dk_at dksX5_next_0 16 rfl rfl)
theorem dX5_next_19 : decode cX5_next 19 = .ok (.iconst 0, 1) := dk_3 (dk_at dksX5_next_0 19 rfl rfl)
theorem dX5_next_20 : decode cX5_next 20 = .ok (.iconst 3, 1) := dk_6 (dk_at dksX5_next_0 20 rfl rfl)
theorem dX5_next_21 : decode cX5_next 21 = .ok (.aload_n 0, 1) := dk_42 (dk_at dksX5_next_0 21 rfl rfl)
theorem dX5_next_22 : decode cX5_next 22 = .ok (.getfield 22, 3) := dk_180 0 22 (dk_at dksX5_next_1 0 rfl rfl)
theorem dX5_next_25 : decode cX5_next 25 = .ok (.invokevirtual 25, 3) := dk_182 0 25 (dk_at dksX5_next_1 3 rfl rfl)
theorem dX5_next_28 : decode cX5_next 28 = .ok (.aload_n 0, 1) := dk_42 (dk_at dksX5_next_1 6 rfl rfl)
theorem dX5_next_29 : decode cX5_next 29 = .ok (.getfield 3, 3) := dk_180 0 3 (dk_at dksX5_next_1 7 rfl rfl)
theorem dX5_next_32 : decode cX5_next 32 = .ok (.getfield 29, 3) := dk_180 0 29 (dk_at dksX5_next_1 10 rfl rfl)
theorem dX5_next_35 : decode cX5_next 35 = .ok (.aload_n 0, 1) := dk_42 (dk_at dksX5_next_1 13 rfl rfl)
theorem dX5_next_36 : decode cX5_next 36 = .ok (.dup, 1) := dk_89 (dk_at dksX5_next_1 14 rfl rfl)
theorem dX5_next_37 : decode cX5_next 37 = .ok (.getfield 19, 3) := dk_180 0 19 (dk_at dksX5_next_1 15 rfl rfl)
theorem dX5_next_40 : decode cX5_next 40 = .ok (.dup_x1, 1) := dk_90 (dk_at dksX5_next_1 18 rfl rfl)
theorem dX5_next_41 : decode cX5_next 41 = .ok (.iconst 1, 1) := dk_4 (dk_at dksX5_next_1 19 rfl rfl)
theorem dX5_next_42 : decode cX5_next 42 = .ok (.iadd, 1) := dk_96 (dk_at dksX5_next_1 20 rfl rfl)
theorem dX5_next_43 : decode cX5_next 43 = .ok (.putfield 19, 3) := dk_181 0 19 (dk_at dksX5_next_1 21 rfl rfl)
theorem dX5_next_46 : decode cX5_next 46 = .ok (.invokevirtual 33, 3) := dk_182 0 33 (dk_at dksX5_next_2 0 rfl rfl)
theorem dX5_next_49 : decode cX5_next 49 = .ok (.ireturn, 1) := dk_172 (dk_at dksX5_next_2 3 rfl rfl)
abbrev cX5_has : ByteArray := prog_5_method_3_code
def yX5_has : MethodName := ⟨RX5, "has", "(I)V"⟩
def dkwX5_has_1 : List UInt8 := [180, 0, 22, 182, 0, 25, 177]
abbrev dktX5_has_1 : List UInt8 := dkwX5_has_1 ++ []
def dkwX5_has_0 : List UInt8 := [42, 180, 0, 3, 27, 42, 180, 0, 22, 42, 180, 0, 19, 100, 163, 0, 7, 4, 167, 0, 4, 3, 6, 42]
abbrev dktX5_has_0 : List UInt8 := dkwX5_has_0 ++ dktX5_has_1
theorem dksX5_has_0 : cX5_has.data.toList.drop 0 = dktX5_has_0 := by decide +kernel
theorem dksX5_has_1 : cX5_has.data.toList.drop 24 = dktX5_has_1 := dk_seg dksX5_has_0 24 rfl rfl
theorem dX5_has_0 : decode cX5_has 0 = .ok (.aload_n 0, 1) := dk_42 (dk_at dksX5_has_0 0 rfl rfl)
theorem dX5_has_1 : decode cX5_has 1 = .ok (.getfield 3, 3) := dk_180 0 3 (dk_at dksX5_has_0 1 rfl rfl)
theorem dX5_has_4 : decode cX5_has 4 = .ok (.iload_n 1, 1) := dk_27 (dk_at dksX5_has_0 4 rfl rfl)
theorem dX5_has_5 : decode cX5_has 5 = .ok (.aload_n 0, 1) := dk_42 (dk_at dksX5_has_0 5 rfl rfl)
theorem dX5_has_6 : decode cX5_has 6 = .ok (.getfield 22, 3) := dk_180 0 22 (dk_at dksX5_has_0 6 rfl rfl)
theorem dX5_has_9 : decode cX5_has 9 = .ok (.aload_n 0, 1) := dk_42 (dk_at dksX5_has_0 9 rfl rfl)
theorem dX5_has_10 : decode cX5_has 10 = .ok (.getfield 19, 3) := dk_180 0 19 (dk_at dksX5_has_0 10 rfl rfl)
theorem dX5_has_13 : decode cX5_has 13 = .ok (.isub, 1) := dk_100 (dk_at dksX5_has_0 13 rfl rfl)
theorem dX5_has_14 : decode cX5_has 14 = .ok (.if_icmp .gt 7, 3) := dk_163 0 7 (dk_at dksX5_has_0 14 rfl rfl)
theorem dX5_has_17 : decode cX5_has 17 = .ok (.iconst 1, 1) := dk_4 (dk_at dksX5_has_0 17 rfl rfl)
theorem dX5_has_18 : decode cX5_has 18 = .ok (.goto 4, 3) := dk_167 0 4 (dk_at dksX5_has_0 18 rfl rfl)
theorem dX5_has_21 : decode cX5_has 21 = .ok (.iconst 0, 1) := dk_3 (dk_at dksX5_has_0 21 rfl rfl)
theorem dX5_has_22 : decode cX5_has 22 = .ok (.iconst 3, 1) := dk_6 (dk_at dksX5_has_0 22 rfl rfl)
theorem dX5_has_23 : decode cX5_has 23 = .ok (.aload_n 0, 1) := dk_42 (dk_at dksX5_has_0 23 rfl rfl)
theorem dX5_has_24 : decode cX5_has 24 = .ok (.getfield 22, 3) := dk_180 0 22 (dk_at dksX5_has_1 0 rfl rfl)
theorem dX5_has_27 : decode cX5_has 27 = .ok (.invokevirtual 25, 3) := dk_182 0 25 (dk_at dksX5_has_1 3 rfl rfl)
theorem dX5_has_30 : decode cX5_has 30 = .ok (.return_, 1) := dk_177 (dk_at dksX5_has_1 6 rfl rfl)
abbrev cX5_brings : ByteArray := prog_5_method_7_code
def yX5_brings : MethodName := ⟨RX5, "brings", "(II)V"⟩
def dkwX5_brings_2 : List UInt8 := [180, 0, 90, 182, 0, 59, 177]
abbrev dktX5_brings_2 : List UInt8 := dkwX5_brings_2 ++ []
def dkwX5_brings_1 : List UInt8 := [163, 0, 7, 4, 167, 0, 4, 3, 16, 11, 42, 180, 0, 90, 182, 0, 25, 42, 28, 27, 96, 42]
abbrev dktX5_brings_1 : List UInt8 := dkwX5_brings_1 ++ dktX5_brings_2
def dkwX5_brings_0 : List UInt8 := [42, 180, 0, 3, 42, 180, 0, 3, 180, 0, 44, 180, 0, 47, 27, 96, 42, 180, 0, 3, 180, 0, 109]
abbrev dktX5_brings_0 : List UInt8 := dkwX5_brings_0 ++ dktX5_brings_1
theorem dksX5_brings_0 : cX5_brings.data.toList.drop 0 = dktX5_brings_0 := by decide +kernel
theorem dksX5_brings_1 : cX5_brings.data.toList.drop 23 = dktX5_brings_1 := dk_seg dksX5_brings_0 23 rfl rfl
theorem dksX5_brings_2 : cX5_brings.data.toList.drop 45 = dktX5_brings_2 := dk_seg dksX5_brings_1 22 rfl rfl
theorem dX5_brings_0 : decode cX5_brings 0 = .ok (.aload_n 0, 1) := dk_42 (dk_at dksX5_brings_0 0 rfl rfl)
theorem dX5_brings_1 : decode cX5_brings 1 = .ok (.getfield 3, 3) := dk_180 0 3 (dk_at dksX5_brings_0 1 rfl rfl)
theorem dX5_brings_4 : decode cX5_brings 4 = .ok (.aload_n 0, 1) := dk_42 (dk_at dksX5_brings_0 4 rfl rfl)
theorem dX5_brings_5 : decode cX5_brings 5 = .ok (.getfield 3, 3) := dk_180 0 3 (dk_at dksX5_brings_0 5 rfl rfl)
theorem dX5_brings_8 : decode cX5_brings 8 = .ok (.getfield 44, 3) := dk_180 0 44 (dk_at dksX5_brings_0 8 rfl rfl)
theorem dX5_brings_11 : decode cX5_brings 11 = .ok (.getfield 47, 3) := dk_180 0 47 (dk_at dksX5_brings_0 11 rfl rfl)
theorem dX5_brings_14 : decode cX5_brings 14 = .ok (.iload_n 1, 1) := dk_27 (dk_at dksX5_brings_0 14 rfl rfl)
theorem dX5_brings_15 : decode cX5_brings 15 = .ok (.iadd, 1) := dk_96 (dk_at dksX5_brings_0 15 rfl rfl)
theorem dX5_brings_16 : decode cX5_brings 16 = .ok (.aload_n 0, 1) := dk_42 (dk_at dksX5_brings_0 16 rfl rfl)
theorem dX5_brings_17 : decode cX5_brings 17 = .ok (.getfield 3, 3) := dk_180 0 3 (dk_at dksX5_brings_0 17 rfl rfl)
theorem dX5_brings_20 : decode cX5_brings 20 = .ok (.getfield 109, 3) := dk_180 0 109 (dk_at dksX5_brings_0 20 rfl rfl)
theorem dX5_brings_23 : decode cX5_brings 23 = .ok (.if_icmp .gt 7, 3) := dk_163 0 7 (dk_at dksX5_brings_1 0 rfl rfl)
theorem dX5_brings_26 : decode cX5_brings 26 = .ok (.iconst 1, 1) := dk_4 (dk_at dksX5_brings_1 3 rfl rfl)
theorem dX5_brings_27 : decode cX5_brings 27 = .ok (.goto 4, 3) := dk_167 0 4 (dk_at dksX5_brings_1 4 rfl rfl)
theorem dX5_brings_30 : decode cX5_brings 30 = .ok (.iconst 0, 1) := dk_3 (dk_at dksX5_brings_1 7 rfl rfl)
theorem dX5_brings_31 : decode cX5_brings 31 = .ok (.bipush 11, 2) := dk_16 11 (dk_at dksX5_brings_1 8 rfl rfl)
theorem dX5_brings_33 : decode cX5_brings 33 = .ok (.aload_n 0, 1) := dk_42 (dk_at dksX5_brings_1 10 rfl rfl)
theorem dX5_brings_34 : decode cX5_brings 34 = .ok (.getfield 90, 3) := dk_180 0 90 (dk_at dksX5_brings_1 11 rfl rfl)
theorem dX5_brings_37 : decode cX5_brings 37 = .ok (.invokevirtual 25, 3) := dk_182 0 25 (dk_at dksX5_brings_1 14 rfl rfl)
theorem dX5_brings_40 : decode cX5_brings 40 = .ok (.aload_n 0, 1) := dk_42 (dk_at dksX5_brings_1 17 rfl rfl)
theorem dX5_brings_41 : decode cX5_brings 41 = .ok (.iload_n 2, 1) := dk_28 (dk_at dksX5_brings_1 18 rfl rfl)
theorem dX5_brings_42 : decode cX5_brings 42 = .ok (.iload_n 1, 1) := dk_27 (dk_at dksX5_brings_1 19 rfl rfl)
theorem dX5_brings_43 : decode cX5_brings 43 = .ok (.iadd, 1) := dk_96 (dk_at dksX5_brings_1 20 rfl rfl)
theorem dX5_brings_44 : decode cX5_brings 44 = .ok (.aload_n 0, 1) := dk_42 (dk_at dksX5_brings_1 21 rfl rfl)
theorem dX5_brings_45 : decode cX5_brings 45 = .ok (.getfield 90, 3) := dk_180 0 90 (dk_at dksX5_brings_2 0 rfl rfl)
theorem dX5_brings_48 : decode cX5_brings 48 = .ok (.invokevirtual 59, 3) := dk_182 0 59 (dk_at dksX5_brings_2 3 rfl rfl)
theorem dX5_brings_51 : decode cX5_brings 51 = .ok (.return_, 1) := dk_177 (dk_at dksX5_brings_2 6 rfl rfl)
abbrev cX5_cost : ByteArray := prog_5_method_4_code
def yX5_cost : MethodName := ⟨RX5, "cost", "(II)V"⟩
def dkwX5_cost_1 : List UInt8 := [167, 0, 4, 3, 16, 12, 28, 182, 0, 25, 42, 180, 0, 3, 89, 180, 0, 38, 27, 96, 181, 0, 38, 177]
abbrev dktX5_cost_1 : List UInt8 := dkwX5_cost_1 ++ []
def dkwX5_cost_0 : List UInt8 := [42, 180, 0, 3, 42, 180, 0, 3, 180, 0, 38, 27, 96, 42, 180, 0, 3, 180, 0, 41, 163, 0, 7, 4]
abbrev dktX5_cost_0 : List UInt8 := dkwX5_cost_0 ++ dktX5_cost_1
theorem dksX5_cost_0 : cX5_cost.data.toList.drop 0 = dktX5_cost_0 := by decide +kernel
theorem dksX5_cost_1 : cX5_cost.data.toList.drop 24 = dktX5_cost_1 := dk_seg dksX5_cost_0 24 rfl rfl
theorem dX5_cost_0 : decode cX5_cost 0 = .ok (.aload_n 0, 1) := dk_42 (dk_at dksX5_cost_0 0 rfl rfl)
theorem dX5_cost_1 : decode cX5_cost 1 = .ok (.getfield 3, 3) := dk_180 0 3 (dk_at dksX5_cost_0 1 rfl rfl)
theorem dX5_cost_4 : decode cX5_cost 4 = .ok (.aload_n 0, 1) := dk_42 (dk_at dksX5_cost_0 4 rfl rfl)
theorem dX5_cost_5 : decode cX5_cost 5 = .ok (.getfield 3, 3) := dk_180 0 3 (dk_at dksX5_cost_0 5 rfl rfl)
theorem dX5_cost_8 : decode cX5_cost 8 = .ok (.getfield 38, 3) := dk_180 0 38 (dk_at dksX5_cost_0 8 rfl rfl)
theorem dX5_cost_11 : decode cX5_cost 11 = .ok (.iload_n 1, 1) := dk_27 (dk_at dksX5_cost_0 11 rfl rfl)
theorem dX5_cost_12 : decode cX5_cost 12 = .ok (.iadd, 1) := dk_96 (dk_at dksX5_cost_0 12 rfl rfl)
theorem dX5_cost_13 : decode cX5_cost 13 = .ok (.aload_n 0, 1) := dk_42 (dk_at dksX5_cost_0 13 rfl rfl)
theorem dX5_cost_14 : decode cX5_cost 14 = .ok (.getfield 3, 3) := dk_180 0 3 (dk_at dksX5_cost_0 14 rfl rfl)
theorem dX5_cost_17 : decode cX5_cost 17 = .ok (.getfield 41, 3) := dk_180 0 41 (dk_at dksX5_cost_0 17 rfl rfl)
theorem dX5_cost_20 : decode cX5_cost 20 = .ok (.if_icmp .gt 7, 3) := dk_163 0 7 (dk_at dksX5_cost_0 20 rfl rfl)
theorem dX5_cost_23 : decode cX5_cost 23 = .ok (.iconst 1, 1) := dk_4 (dk_at dksX5_cost_0 23 rfl rfl)
theorem dX5_cost_24 : decode cX5_cost 24 = .ok (.goto 4, 3) := dk_167 0 4 (dk_at dksX5_cost_1 0 rfl rfl)
theorem dX5_cost_27 : decode cX5_cost 27 = .ok (.iconst 0, 1) := dk_3 (dk_at dksX5_cost_1 3 rfl rfl)
theorem dX5_cost_28 : decode cX5_cost 28 = .ok (.bipush 12, 2) := dk_16 12 (dk_at dksX5_cost_1 4 rfl rfl)
theorem dX5_cost_30 : decode cX5_cost 30 = .ok (.iload_n 2, 1) := dk_28 (dk_at dksX5_cost_1 6 rfl rfl)
theorem dX5_cost_31 : decode cX5_cost 31 = .ok (.invokevirtual 25, 3) := dk_182 0 25 (dk_at dksX5_cost_1 7 rfl rfl)
theorem dX5_cost_34 : decode cX5_cost 34 = .ok (.aload_n 0, 1) := dk_42 (dk_at dksX5_cost_1 10 rfl rfl)
theorem dX5_cost_35 : decode cX5_cost 35 = .ok (.getfield 3, 3) := dk_180 0 3 (dk_at dksX5_cost_1 11 rfl rfl)
theorem dX5_cost_38 : decode cX5_cost 38 = .ok (.dup, 1) := dk_89 (dk_at dksX5_cost_1 14 rfl rfl)
theorem dX5_cost_39 : decode cX5_cost 39 = .ok (.getfield 38, 3) := dk_180 0 38 (dk_at dksX5_cost_1 15 rfl rfl)
theorem dX5_cost_42 : decode cX5_cost 42 = .ok (.iload_n 1, 1) := dk_27 (dk_at dksX5_cost_1 18 rfl rfl)
theorem dX5_cost_43 : decode cX5_cost 43 = .ok (.iadd, 1) := dk_96 (dk_at dksX5_cost_1 19 rfl rfl)
theorem dX5_cost_44 : decode cX5_cost 44 = .ok (.putfield 38, 3) := dk_181 0 38 (dk_at dksX5_cost_1 20 rfl rfl)
theorem dX5_cost_47 : decode cX5_cost 47 = .ok (.return_, 1) := dk_177 (dk_at dksX5_cost_1 23 rfl rfl)
abbrev cX5_run : ByteArray := prog_5_method_9_code
def yX5_run : MethodName := ⟨RX5, "run", "()V"⟩
def dkwX5_run_1 : List UInt8 := [180, 0, 3, 180, 0, 44, 28, 182, 0, 119, 132, 3, 1, 167, 255, 237, 177]
abbrev dktX5_run_1 : List UInt8 := dkwX5_run_1 ++ []
def dkwX5_run_0 : List UInt8 := [42, 182, 0, 75, 60, 42, 182, 0, 75, 61, 42, 27, 6, 182, 0, 116, 3, 62, 29, 27, 162, 0, 20, 42]
abbrev dktX5_run_0 : List UInt8 := dkwX5_run_0 ++ dktX5_run_1
theorem dksX5_run_0 : cX5_run.data.toList.drop 0 = dktX5_run_0 := by decide +kernel
theorem dksX5_run_1 : cX5_run.data.toList.drop 24 = dktX5_run_1 := dk_seg dksX5_run_0 24 rfl rfl
theorem dX5_run_0 : decode cX5_run 0 = .ok (.aload_n 0, 1) := dk_42 (dk_at dksX5_run_0 0 rfl rfl)
theorem dX5_run_1 : decode cX5_run 1 = .ok (.invokevirtual 75, 3) := dk_182 0 75 (dk_at dksX5_run_0 1 rfl rfl)
theorem dX5_run_4 : decode cX5_run 4 = .ok (.istore_n 1, 1) := dk_60 (dk_at dksX5_run_0 4 rfl rfl)
theorem dX5_run_5 : decode cX5_run 5 = .ok (.aload_n 0, 1) := dk_42 (dk_at dksX5_run_0 5 rfl rfl)
theorem dX5_run_6 : decode cX5_run 6 = .ok (.invokevirtual 75, 3) := dk_182 0 75 (dk_at dksX5_run_0 6 rfl rfl)
theorem dX5_run_9 : decode cX5_run 9 = .ok (.istore_n 2, 1) := dk_61 (dk_at dksX5_run_0 9 rfl rfl)
theorem dX5_run_10 : decode cX5_run 10 = .ok (.aload_n 0, 1) := dk_42 (dk_at dksX5_run_0 10 rfl rfl)
theorem dX5_run_11 : decode cX5_run 11 = .ok (.iload_n 1, 1) := dk_27 (dk_at dksX5_run_0 11 rfl rfl)
theorem dX5_run_12 : decode cX5_run 12 = .ok (.iconst 3, 1) := dk_6 (dk_at dksX5_run_0 12 rfl rfl)
theorem dX5_run_13 : decode cX5_run 13 = .ok (.invokevirtual 116, 3) := dk_182 0 116 (dk_at dksX5_run_0 13 rfl rfl)
theorem dX5_run_16 : decode cX5_run 16 = .ok (.iconst 0, 1) := dk_3 (dk_at dksX5_run_0 16 rfl rfl)
theorem dX5_run_17 : decode cX5_run 17 = .ok (.istore_n 3, 1) := dk_62 (dk_at dksX5_run_0 17 rfl rfl)
theorem dX5_run_18 : decode cX5_run 18 = .ok (.iload_n 3, 1) := dk_29 (dk_at dksX5_run_0 18 rfl rfl)
theorem dX5_run_19 : decode cX5_run 19 = .ok (.iload_n 1, 1) := dk_27 (dk_at dksX5_run_0 19 rfl rfl)
theorem dX5_run_20 : decode cX5_run 20 = .ok (.if_icmp .ge 20, 3) := dk_162 0 20 (dk_at dksX5_run_0 20 rfl rfl)
theorem dX5_run_23 : decode cX5_run 23 = .ok (.aload_n 0, 1) := dk_42 (dk_at dksX5_run_0 23 rfl rfl)
theorem dX5_run_24 : decode cX5_run 24 = .ok (.getfield 3, 3) := dk_180 0 3 (dk_at dksX5_run_1 0 rfl rfl)
theorem dX5_run_27 : decode cX5_run 27 = .ok (.getfield 44, 3) := dk_180 0 44 (dk_at dksX5_run_1 3 rfl rfl)
theorem dX5_run_30 : decode cX5_run 30 = .ok (.iload_n 2, 1) := dk_28 (dk_at dksX5_run_1 6 rfl rfl)
theorem dX5_run_31 : decode cX5_run 31 = .ok (.invokevirtual 119, 3) := dk_182 0 119 (dk_at dksX5_run_1 7 rfl rfl)
theorem dX5_run_34 : decode cX5_run 34 = .ok (.iinc 3 1, 3) := dk_132 3 1 (dk_at dksX5_run_1 10 rfl rfl)
theorem dX5_run_37 : decode cX5_run 37 = .ok (.goto (-19), 3) := dk_167 255 237 (dk_at dksX5_run_1 13 rfl rfl)
theorem dX5_run_40 : decode cX5_run 40 = .ok (.return_, 1) := dk_177 (dk_at dksX5_run_1 16 rfl rfl)
abbrev cX5_copy : ByteArray := prog_5_method_10_code
def yX5_copy : MethodName := ⟨RX5, "copy", "()V"⟩
def dkwX5_copy_4 : List UInt8 := [167, 255, 216, 177]
abbrev dktX5_copy_4 : List UInt8 := dkwX5_copy_4 ++ []
def dkwX5_copy_3 : List UInt8 := [180, 0, 44, 42, 180, 0, 3, 180, 0, 44, 180, 0, 47, 27, 100, 182, 0, 33, 182, 0, 119, 132, 3, 1]
abbrev dktX5_copy_3 : List UInt8 := dkwX5_copy_3 ++ dktX5_copy_4
def dkwX5_copy_2 : List UInt8 := [6, 182, 0, 116, 3, 62, 29, 28, 162, 0, 41, 42, 180, 0, 3, 180, 0, 44, 42, 180, 0, 3]
abbrev dktX5_copy_2 : List UInt8 := dkwX5_copy_2 ++ dktX5_copy_3
def dkwX5_copy_1 : List UInt8 := [180, 0, 50, 100, 184, 0, 122, 7, 42, 180, 0, 19, 4, 100, 182, 0, 25, 42, 182, 0, 75, 61, 42, 28]
abbrev dktX5_copy_1 : List UInt8 := dkwX5_copy_1 ++ dktX5_copy_2
def dkwX5_copy_0 : List UInt8 := [42, 182, 0, 75, 60, 42, 180, 0, 3, 27, 4, 42, 180, 0, 3, 180, 0, 44, 180, 0, 47, 42]
abbrev dktX5_copy_0 : List UInt8 := dkwX5_copy_0 ++ dktX5_copy_1
theorem dksX5_copy_0 : cX5_copy.data.toList.drop 0 = dktX5_copy_0 := by decide +kernel
theorem dksX5_copy_1 : cX5_copy.data.toList.drop 22 = dktX5_copy_1 := dk_seg dksX5_copy_0 22 rfl rfl
theorem dksX5_copy_2 : cX5_copy.data.toList.drop 46 = dktX5_copy_2 := dk_seg dksX5_copy_1 24 rfl rfl
theorem dksX5_copy_3 : cX5_copy.data.toList.drop 68 = dktX5_copy_3 := dk_seg dksX5_copy_2 22 rfl rfl
theorem dksX5_copy_4 : cX5_copy.data.toList.drop 92 = dktX5_copy_4 := dk_seg dksX5_copy_3 24 rfl rfl
theorem dX5_copy_0 : decode cX5_copy 0 = .ok (.aload_n 0, 1) := dk_42 (dk_at dksX5_copy_0 0 rfl rfl)
theorem dX5_copy_1 : decode cX5_copy 1 = .ok (.invokevirtual 75, 3) := dk_182 0 75 (dk_at dksX5_copy_0 1 rfl rfl)
theorem dX5_copy_4 : decode cX5_copy 4 = .ok (.istore_n 1, 1) := dk_60 (dk_at dksX5_copy_0 4 rfl rfl)
theorem dX5_copy_5 : decode cX5_copy 5 = .ok (.aload_n 0, 1) := dk_42 (dk_at dksX5_copy_0 5 rfl rfl)
theorem dX5_copy_6 : decode cX5_copy 6 = .ok (.getfield 3, 3) := dk_180 0 3 (dk_at dksX5_copy_0 6 rfl rfl)
theorem dX5_copy_9 : decode cX5_copy 9 = .ok (.iload_n 1, 1) := dk_27 (dk_at dksX5_copy_0 9 rfl rfl)
theorem dX5_copy_10 : decode cX5_copy 10 = .ok (.iconst 1, 1) := dk_4 (dk_at dksX5_copy_0 10 rfl rfl)
theorem dX5_copy_11 : decode cX5_copy 11 = .ok (.aload_n 0, 1) := dk_42 (dk_at dksX5_copy_0 11 rfl rfl)
theorem dX5_copy_12 : decode cX5_copy 12 = .ok (.getfield 3, 3) := dk_180 0 3 (dk_at dksX5_copy_0 12 rfl rfl)
theorem dX5_copy_15 : decode cX5_copy 15 = .ok (.getfield 44, 3) := dk_180 0 44 (dk_at dksX5_copy_0 15 rfl rfl)
theorem dX5_copy_18 : decode cX5_copy 18 = .ok (.getfield 47, 3) := dk_180 0 47 (dk_at dksX5_copy_0 18 rfl rfl)
theorem dX5_copy_21 : decode cX5_copy 21 = .ok (.aload_n 0, 1) := dk_42 (dk_at dksX5_copy_0 21 rfl rfl)
theorem dX5_copy_22 : decode cX5_copy 22 = .ok (.getfield 50, 3) := dk_180 0 50 (dk_at dksX5_copy_1 0 rfl rfl)
theorem dX5_copy_25 : decode cX5_copy 25 = .ok (.isub, 1) := dk_100 (dk_at dksX5_copy_1 3 rfl rfl)
theorem dX5_copy_26 : decode cX5_copy 26 = .ok (.invokestatic 122, 3) := dk_184 0 122 (dk_at dksX5_copy_1 4 rfl rfl)
theorem dX5_copy_29 : decode cX5_copy 29 = .ok (.iconst 4, 1) := dk_7 (dk_at dksX5_copy_1 7 rfl rfl)
theorem dX5_copy_30 : decode cX5_copy 30 = .ok (.aload_n 0, 1) := dk_42 (dk_at dksX5_copy_1 8 rfl rfl)
theorem dX5_copy_31 : decode cX5_copy 31 = .ok (.getfield 19, 3) := dk_180 0 19 (dk_at dksX5_copy_1 9 rfl rfl)
theorem dX5_copy_34 : decode cX5_copy 34 = .ok (.iconst 1, 1) := dk_4 (dk_at dksX5_copy_1 12 rfl rfl)
theorem dX5_copy_35 : decode cX5_copy 35 = .ok (.isub, 1) := dk_100 (dk_at dksX5_copy_1 13 rfl rfl)
theorem dX5_copy_36 : decode cX5_copy 36 = .ok (.invokevirtual 25, 3) := dk_182 0 25 (dk_at dksX5_copy_1 14 rfl rfl)
theorem dX5_copy_39 : decode cX5_copy 39 = .ok (.aload_n 0, 1) := dk_42 (dk_at dksX5_copy_1 17 rfl rfl)
theorem dX5_copy_40 : decode cX5_copy 40 = .ok (.invokevirtual 75, 3) := dk_182 0 75 (dk_at dksX5_copy_1 18 rfl rfl)
theorem dX5_copy_43 : decode cX5_copy 43 = .ok (.istore_n 2, 1) := dk_61 (dk_at dksX5_copy_1 21 rfl rfl)
theorem dX5_copy_44 : decode cX5_copy 44 = .ok (.aload_n 0, 1) := dk_42 (dk_at dksX5_copy_1 22 rfl rfl)
theorem dX5_copy_45 : decode cX5_copy 45 = .ok (.iload_n 2, 1) := dk_28 (dk_at dksX5_copy_1 23 rfl rfl)
theorem dX5_copy_46 : decode cX5_copy 46 = .ok (.iconst 3, 1) := dk_6 (dk_at dksX5_copy_2 0 rfl rfl)
theorem dX5_copy_47 : decode cX5_copy 47 = .ok (.invokevirtual 116, 3) := dk_182 0 116 (dk_at dksX5_copy_2 1 rfl rfl)
theorem dX5_copy_50 : decode cX5_copy 50 = .ok (.iconst 0, 1) := dk_3 (dk_at dksX5_copy_2 4 rfl rfl)
theorem dX5_copy_51 : decode cX5_copy 51 = .ok (.istore_n 3, 1) := dk_62 (dk_at dksX5_copy_2 5 rfl rfl)
theorem dX5_copy_52 : decode cX5_copy 52 = .ok (.iload_n 3, 1) := dk_29 (dk_at dksX5_copy_2 6 rfl rfl)
theorem dX5_copy_53 : decode cX5_copy 53 = .ok (.iload_n 2, 1) := dk_28 (dk_at dksX5_copy_2 7 rfl rfl)
theorem dX5_copy_54 : decode cX5_copy 54 = .ok (.if_icmp .ge 41, 3) := dk_162 0 41 (dk_at dksX5_copy_2 8 rfl rfl)
theorem dX5_copy_57 : decode cX5_copy 57 = .ok (.aload_n 0, 1) := dk_42 (dk_at dksX5_copy_2 11 rfl rfl)
theorem dX5_copy_58 : decode cX5_copy 58 = .ok (.getfield 3, 3) := dk_180 0 3 (dk_at dksX5_copy_2 12 rfl rfl)
theorem dX5_copy_61 : decode cX5_copy 61 = .ok (.getfield 44, 3) := dk_180 0 44 (dk_at dksX5_copy_2 15 rfl rfl)
theorem dX5_copy_64 : decode cX5_copy 64 = .ok (.aload_n 0, 1) := dk_42 (dk_at dksX5_copy_2 18 rfl rfl)
theorem dX5_copy_65 : decode cX5_copy 65 = .ok (.getfield 3, 3) := dk_180 0 3 (dk_at dksX5_copy_2 19 rfl rfl)
theorem dX5_copy_68 : decode cX5_copy 68 = .ok (.getfield 44, 3) := dk_180 0 44 (dk_at dksX5_copy_3 0 rfl rfl)
theorem dX5_copy_71 : decode cX5_copy 71 = .ok (.aload_n 0, 1) := dk_42 (dk_at dksX5_copy_3 3 rfl rfl)
theorem dX5_copy_72 : decode cX5_copy 72 = .ok (.getfield 3, 3) := dk_180 0 3 (dk_at dksX5_copy_3 4 rfl rfl)
theorem dX5_copy_75 : decode cX5_copy 75 = .ok (.getfield 44, 3) := dk_180 0 44 (dk_at dksX5_copy_3 7 rfl rfl)
theorem dX5_copy_78 : decode cX5_copy 78 = .ok (.getfield 47, 3) := dk_180 0 47 (dk_at dksX5_copy_3 10 rfl rfl)
theorem dX5_copy_81 : decode cX5_copy 81 = .ok (.iload_n 1, 1) := dk_27 (dk_at dksX5_copy_3 13 rfl rfl)
theorem dX5_copy_82 : decode cX5_copy 82 = .ok (.isub, 1) := dk_100 (dk_at dksX5_copy_3 14 rfl rfl)
theorem dX5_copy_83 : decode cX5_copy 83 = .ok (.invokevirtual 33, 3) := dk_182 0 33 (dk_at dksX5_copy_3 15 rfl rfl)
theorem dX5_copy_86 : decode cX5_copy 86 = .ok (.invokevirtual 119, 3) := dk_182 0 119 (dk_at dksX5_copy_3 18 rfl rfl)
theorem dX5_copy_89 : decode cX5_copy 89 = .ok (.iinc 3 1, 3) := dk_132 3 1 (dk_at dksX5_copy_3 21 rfl rfl)
theorem dX5_copy_92 : decode cX5_copy 92 = .ok (.goto (-40), 3) := dk_167 255 216 (dk_at dksX5_copy_4 0 rfl rfl)
theorem dX5_copy_95 : decode cX5_copy 95 = .ok (.return_, 1) := dk_177 (dk_at dksX5_copy_4 3 rfl rfl)
abbrev cX5_nest : ByteArray := prog_5_method_11_code
def yX5_nest : MethodName := ⟨RX5, "nest", "()V"⟩
def dkwX5_nest_5 : List UInt8 := [180, 0, 19, 42, 180, 0, 19, 28, 96, 182, 0, 133, 42, 89, 180, 0, 19, 28, 96, 181, 0, 19, 177]
abbrev dktX5_nest_5 : List UInt8 := dkwX5_nest_5 ++ []
def dkwX5_nest_4 : List UInt8 := [6, 42, 180, 0, 90, 182, 0, 59, 42, 180, 0, 3, 180, 0, 129, 42, 180, 0, 15, 4, 96, 50, 42]
abbrev dktX5_nest_4 : List UInt8 := dkwX5_nest_4 ++ dktX5_nest_5
def dkwX5_nest_3 : List UInt8 := [180, 0, 3, 180, 0, 126, 162, 0, 7, 4, 167, 0, 4, 3, 16, 13, 42, 180, 0, 90, 182, 0, 25, 42]
abbrev dktX5_nest_3 : List UInt8 := dkwX5_nest_3 ++ dktX5_nest_4
def dkwX5_nest_2 : List UInt8 := [167, 0, 4, 3, 16, 12, 42, 180, 0, 90, 182, 0, 25, 42, 180, 0, 3, 42, 180, 0, 15, 42]
abbrev dktX5_nest_2 : List UInt8 := dkwX5_nest_2 ++ dktX5_nest_3
def dkwX5_nest_1 : List UInt8 := [180, 0, 3, 42, 180, 0, 3, 180, 0, 38, 6, 96, 42, 180, 0, 3, 180, 0, 41, 163, 0, 7, 4]
abbrev dktX5_nest_1 : List UInt8 := dkwX5_nest_1 ++ dktX5_nest_2
def dkwX5_nest_0 : List UInt8 := [42, 182, 0, 75, 60, 17, 1, 0, 27, 104, 42, 182, 0, 75, 96, 61, 42, 28, 182, 0, 112, 42]
abbrev dktX5_nest_0 : List UInt8 := dkwX5_nest_0 ++ dktX5_nest_1
theorem dksX5_nest_0 : cX5_nest.data.toList.drop 0 = dktX5_nest_0 := by decide +kernel
theorem dksX5_nest_1 : cX5_nest.data.toList.drop 22 = dktX5_nest_1 := dk_seg dksX5_nest_0 22 rfl rfl
theorem dksX5_nest_2 : cX5_nest.data.toList.drop 45 = dktX5_nest_2 := dk_seg dksX5_nest_1 23 rfl rfl
theorem dksX5_nest_3 : cX5_nest.data.toList.drop 67 = dktX5_nest_3 := dk_seg dksX5_nest_2 22 rfl rfl
theorem dksX5_nest_4 : cX5_nest.data.toList.drop 91 = dktX5_nest_4 := dk_seg dksX5_nest_3 24 rfl rfl
theorem dksX5_nest_5 : cX5_nest.data.toList.drop 114 = dktX5_nest_5 := dk_seg dksX5_nest_4 23 rfl rfl
theorem dX5_nest_0 : decode cX5_nest 0 = .ok (.aload_n 0, 1) := dk_42 (dk_at dksX5_nest_0 0 rfl rfl)
theorem dX5_nest_1 : decode cX5_nest 1 = .ok (.invokevirtual 75, 3) := dk_182 0 75 (dk_at dksX5_nest_0 1 rfl rfl)
theorem dX5_nest_4 : decode cX5_nest 4 = .ok (.istore_n 1, 1) := dk_60 (dk_at dksX5_nest_0 4 rfl rfl)
theorem dX5_nest_5 : decode cX5_nest 5 = .ok (.sipush 256, 3) := dk_17 1 0 (dk_at dksX5_nest_0 5 rfl rfl)
theorem dX5_nest_8 : decode cX5_nest 8 = .ok (.iload_n 1, 1) := dk_27 (dk_at dksX5_nest_0 8 rfl rfl)
theorem dX5_nest_9 : decode cX5_nest 9 = .ok (.imul, 1) := dk_104 (dk_at dksX5_nest_0 9 rfl rfl)
theorem dX5_nest_10 : decode cX5_nest 10 = .ok (.aload_n 0, 1) := dk_42 (dk_at dksX5_nest_0 10 rfl rfl)
theorem dX5_nest_11 : decode cX5_nest 11 = .ok (.invokevirtual 75, 3) := dk_182 0 75 (dk_at dksX5_nest_0 11 rfl rfl)
theorem dX5_nest_14 : decode cX5_nest 14 = .ok (.iadd, 1) := dk_96 (dk_at dksX5_nest_0 14 rfl rfl)
theorem dX5_nest_15 : decode cX5_nest 15 = .ok (.istore_n 2, 1) := dk_61 (dk_at dksX5_nest_0 15 rfl rfl)
theorem dX5_nest_16 : decode cX5_nest 16 = .ok (.aload_n 0, 1) := dk_42 (dk_at dksX5_nest_0 16 rfl rfl)
theorem dX5_nest_17 : decode cX5_nest 17 = .ok (.iload_n 2, 1) := dk_28 (dk_at dksX5_nest_0 17 rfl rfl)
theorem dX5_nest_18 : decode cX5_nest 18 = .ok (.invokevirtual 112, 3) := dk_182 0 112 (dk_at dksX5_nest_0 18 rfl rfl)
theorem dX5_nest_21 : decode cX5_nest 21 = .ok (.aload_n 0, 1) := dk_42 (dk_at dksX5_nest_0 21 rfl rfl)
theorem dX5_nest_22 : decode cX5_nest 22 = .ok (.getfield 3, 3) := dk_180 0 3 (dk_at dksX5_nest_1 0 rfl rfl)
theorem dX5_nest_25 : decode cX5_nest 25 = .ok (.aload_n 0, 1) := dk_42 (dk_at dksX5_nest_1 3 rfl rfl)
theorem dX5_nest_26 : decode cX5_nest 26 = .ok (.getfield 3, 3) := dk_180 0 3 (dk_at dksX5_nest_1 4 rfl rfl)
theorem dX5_nest_29 : decode cX5_nest 29 = .ok (.getfield 38, 3) := dk_180 0 38 (dk_at dksX5_nest_1 7 rfl rfl)
theorem dX5_nest_32 : decode cX5_nest 32 = .ok (.iconst 3, 1) := dk_6 (dk_at dksX5_nest_1 10 rfl rfl)
theorem dX5_nest_33 : decode cX5_nest 33 = .ok (.iadd, 1) := dk_96 (dk_at dksX5_nest_1 11 rfl rfl)
theorem dX5_nest_34 : decode cX5_nest 34 = .ok (.aload_n 0, 1) := dk_42 (dk_at dksX5_nest_1 12 rfl rfl)
theorem dX5_nest_35 : decode cX5_nest 35 = .ok (.getfield 3, 3) := dk_180 0 3 (dk_at dksX5_nest_1 13 rfl rfl)
theorem dX5_nest_38 : decode cX5_nest 38 = .ok (.getfield 41, 3) := dk_180 0 41 (dk_at dksX5_nest_1 16 rfl rfl)
theorem dX5_nest_41 : decode cX5_nest 41 = .ok (.if_icmp .gt 7, 3) := dk_163 0 7 (dk_at dksX5_nest_1 19 rfl rfl)
theorem dX5_nest_44 : decode cX5_nest 44 = .ok (.iconst 1, 1) := dk_4 (dk_at dksX5_nest_1 22 rfl rfl)
theorem dX5_nest_45 : decode cX5_nest 45 = .ok (.goto 4, 3) := dk_167 0 4 (dk_at dksX5_nest_2 0 rfl rfl)
theorem dX5_nest_48 : decode cX5_nest 48 = .ok (.iconst 0, 1) := dk_3 (dk_at dksX5_nest_2 3 rfl rfl)
theorem dX5_nest_49 : decode cX5_nest 49 = .ok (.bipush 12, 2) := dk_16 12 (dk_at dksX5_nest_2 4 rfl rfl)
theorem dX5_nest_51 : decode cX5_nest 51 = .ok (.aload_n 0, 1) := dk_42 (dk_at dksX5_nest_2 6 rfl rfl)
theorem dX5_nest_52 : decode cX5_nest 52 = .ok (.getfield 90, 3) := dk_180 0 90 (dk_at dksX5_nest_2 7 rfl rfl)
theorem dX5_nest_55 : decode cX5_nest 55 = .ok (.invokevirtual 25, 3) := dk_182 0 25 (dk_at dksX5_nest_2 10 rfl rfl)
theorem dX5_nest_58 : decode cX5_nest 58 = .ok (.aload_n 0, 1) := dk_42 (dk_at dksX5_nest_2 13 rfl rfl)
theorem dX5_nest_59 : decode cX5_nest 59 = .ok (.getfield 3, 3) := dk_180 0 3 (dk_at dksX5_nest_2 14 rfl rfl)
theorem dX5_nest_62 : decode cX5_nest 62 = .ok (.aload_n 0, 1) := dk_42 (dk_at dksX5_nest_2 17 rfl rfl)
theorem dX5_nest_63 : decode cX5_nest 63 = .ok (.getfield 15, 3) := dk_180 0 15 (dk_at dksX5_nest_2 18 rfl rfl)
theorem dX5_nest_66 : decode cX5_nest 66 = .ok (.aload_n 0, 1) := dk_42 (dk_at dksX5_nest_2 21 rfl rfl)
theorem dX5_nest_67 : decode cX5_nest 67 = .ok (.getfield 3, 3) := dk_180 0 3 (dk_at dksX5_nest_3 0 rfl rfl)
theorem dX5_nest_70 : decode cX5_nest 70 = .ok (.getfield 126, 3) := dk_180 0 126 (dk_at dksX5_nest_3 3 rfl rfl)
theorem dX5_nest_73 : decode cX5_nest 73 = .ok (.if_icmp .ge 7, 3) := dk_162 0 7 (dk_at dksX5_nest_3 6 rfl rfl)
theorem dX5_nest_76 : decode cX5_nest 76 = .ok (.iconst 1, 1) := dk_4 (dk_at dksX5_nest_3 9 rfl rfl)
theorem dX5_nest_77 : decode cX5_nest 77 = .ok (.goto 4, 3) := dk_167 0 4 (dk_at dksX5_nest_3 10 rfl rfl)
theorem dX5_nest_80 : decode cX5_nest 80 = .ok (.iconst 0, 1) := dk_3 (dk_at dksX5_nest_3 13 rfl rfl)
theorem dX5_nest_81 : decode cX5_nest 81 = .ok (.bipush 13, 2) := dk_16 13 (dk_at dksX5_nest_3 14 rfl rfl)
theorem dX5_nest_83 : decode cX5_nest 83 = .ok (.aload_n 0, 1) := dk_42 (dk_at dksX5_nest_3 16 rfl rfl)
theorem dX5_nest_84 : decode cX5_nest 84 = .ok (.getfield 90, 3) := dk_180 0 90 (dk_at dksX5_nest_3 17 rfl rfl)
theorem dX5_nest_87 : decode cX5_nest 87 = .ok (.invokevirtual 25, 3) := dk_182 0 25 (dk_at dksX5_nest_3 20 rfl rfl)
theorem dX5_nest_90 : decode cX5_nest 90 = .ok (.aload_n 0, 1) := dk_42 (dk_at dksX5_nest_3 23 rfl rfl)
theorem dX5_nest_91 : decode cX5_nest 91 = .ok (.iconst 3, 1) := dk_6 (dk_at dksX5_nest_4 0 rfl rfl)
theorem dX5_nest_92 : decode cX5_nest 92 = .ok (.aload_n 0, 1) := dk_42 (dk_at dksX5_nest_4 1 rfl rfl)
theorem dX5_nest_93 : decode cX5_nest 93 = .ok (.getfield 90, 3) := dk_180 0 90 (dk_at dksX5_nest_4 2 rfl rfl)
theorem dX5_nest_96 : decode cX5_nest 96 = .ok (.invokevirtual 59, 3) := dk_182 0 59 (dk_at dksX5_nest_4 5 rfl rfl)
theorem dX5_nest_99 : decode cX5_nest 99 = .ok (.aload_n 0, 1) := dk_42 (dk_at dksX5_nest_4 8 rfl rfl)
theorem dX5_nest_100 : decode cX5_nest 100 = .ok (.getfield 3, 3) := dk_180 0 3 (dk_at dksX5_nest_4 9 rfl rfl)
theorem dX5_nest_103 : decode cX5_nest 103 = .ok (.getfield 129, 3) := dk_180 0 129 (dk_at dksX5_nest_4 12 rfl rfl)
theorem dX5_nest_106 : decode cX5_nest 106 = .ok (.aload_n 0, 1) := dk_42 (dk_at dksX5_nest_4 15 rfl rfl)
theorem dX5_nest_107 : decode cX5_nest 107 = .ok (.getfield 15, 3) := dk_180 0 15 (dk_at dksX5_nest_4 16 rfl rfl)
theorem dX5_nest_110 : decode cX5_nest 110 = .ok (.iconst 1, 1) := dk_4 (dk_at dksX5_nest_4 19 rfl rfl)
theorem dX5_nest_111 : decode cX5_nest 111 = .ok (.iadd, 1) := dk_96 (dk_at dksX5_nest_4 20 rfl rfl)
theorem dX5_nest_112 : decode cX5_nest 112 = .ok (.aaload, 1) := dk_50 (dk_at dksX5_nest_4 21 rfl rfl)
theorem dX5_nest_113 : decode cX5_nest 113 = .ok (.aload_n 0, 1) := dk_42 (dk_at dksX5_nest_4 22 rfl rfl)
theorem dX5_nest_114 : decode cX5_nest 114 = .ok (.getfield 19, 3) := dk_180 0 19 (dk_at dksX5_nest_5 0 rfl rfl)
theorem dX5_nest_117 : decode cX5_nest 117 = .ok (.aload_n 0, 1) := dk_42 (dk_at dksX5_nest_5 3 rfl rfl)
theorem dX5_nest_118 : decode cX5_nest 118 = .ok (.getfield 19, 3) := dk_180 0 19 (dk_at dksX5_nest_5 4 rfl rfl)
theorem dX5_nest_121 : decode cX5_nest 121 = .ok (.iload_n 2, 1) := dk_28 (dk_at dksX5_nest_5 7 rfl rfl)
theorem dX5_nest_122 : decode cX5_nest 122 = .ok (.iadd, 1) := dk_96 (dk_at dksX5_nest_5 8 rfl rfl)
theorem dX5_nest_123 : decode cX5_nest 123 = .ok (.invokevirtual 133, 3) := dk_182 0 133 (dk_at dksX5_nest_5 9 rfl rfl)
theorem dX5_nest_126 : decode cX5_nest 126 = .ok (.aload_n 0, 1) := dk_42 (dk_at dksX5_nest_5 12 rfl rfl)
theorem dX5_nest_127 : decode cX5_nest 127 = .ok (.dup, 1) := dk_89 (dk_at dksX5_nest_5 13 rfl rfl)
theorem dX5_nest_128 : decode cX5_nest 128 = .ok (.getfield 19, 3) := dk_180 0 19 (dk_at dksX5_nest_5 14 rfl rfl)
theorem dX5_nest_131 : decode cX5_nest 131 = .ok (.iload_n 2, 1) := dk_28 (dk_at dksX5_nest_5 17 rfl rfl)
theorem dX5_nest_132 : decode cX5_nest 132 = .ok (.iadd, 1) := dk_96 (dk_at dksX5_nest_5 18 rfl rfl)
theorem dX5_nest_133 : decode cX5_nest 133 = .ok (.putfield 19, 3) := dk_181 0 19 (dk_at dksX5_nest_5 19 rfl rfl)
theorem dX5_nest_136 : decode cX5_nest 136 = .ok (.return_, 1) := dk_177 (dk_at dksX5_nest_5 22 rfl rfl)
abbrev cX5_read : ByteArray := prog_5_method_5_code
def yX5_read : MethodName := ⟨RX5, "read", "(II)V"⟩
def dkwX5_read_10 : List UInt8 := [182, 0, 25, 42, 180, 0, 3, 42, 180, 0, 56, 181, 0, 53, 177]
abbrev dktX5_read_10 : List UInt8 := dkwX5_read_10 ++ []
def dkwX5_read_9 : List UInt8 := [42, 180, 0, 19, 42, 180, 0, 22, 160, 0, 7, 4, 167, 0, 4, 3, 16, 10, 42, 180, 0, 19]
abbrev dktX5_read_9 : List UInt8 := dkwX5_read_9 ++ dktX5_read_10
def dkwX5_read_8 : List UInt8 := [29, 160, 0, 7, 4, 167, 0, 4, 3, 16, 9, 42, 180, 0, 19, 4, 100, 182, 0, 25, 42, 180, 0, 3]
abbrev dktX5_read_8 : List UInt8 := dkwX5_read_8 ++ dktX5_read_9
def dkwX5_read_7 : List UInt8 := [42, 180, 0, 3, 180, 0, 29, 27, 42, 180, 0, 19, 182, 0, 87, 62, 42, 180, 0, 3, 42, 182, 0, 75]
abbrev dktX5_read_7 : List UInt8 := dkwX5_read_7 ++ dktX5_read_8
def dkwX5_read_6 : List UInt8 := [89, 180, 0, 53, 90, 4, 96, 181, 0, 53, 42, 180, 0, 3, 180, 0, 44, 180, 0, 47, 79, 167, 255, 217]
abbrev dktX5_read_6 : List UInt8 := dkwX5_read_6 ++ dktX5_read_7
def dkwX5_read_5 : List UInt8 := [27, 4, 96, 182, 0, 25, 42, 182, 0, 79, 153, 0, 38, 42, 180, 0, 3, 180, 0, 83, 42, 180, 0, 3]
abbrev dktX5_read_5 : List UInt8 := dkwX5_read_5 ++ dktX5_read_6
def dkwX5_read_4 : List UInt8 := [4, 27, 182, 0, 25, 42, 180, 0, 3, 42, 182, 0, 75, 16, 75, 160, 0, 7, 4, 167, 0, 4, 3, 4]
abbrev dktX5_read_4 : List UInt8 := dkwX5_read_4 ++ dktX5_read_5
def dkwX5_read_3 : List UInt8 := [184, 0, 69, 181, 0, 66, 42, 180, 0, 3, 42, 182, 0, 75, 16, 80, 160, 0, 7, 4, 167, 0, 4, 3]
abbrev dktX5_read_3 : List UInt8 := dkwX5_read_3 ++ dktX5_read_4
def dkwX5_read_2 : List UInt8 := [180, 0, 63, 4, 96, 181, 0, 63, 42, 180, 0, 3, 42, 180, 0, 3, 180, 0, 66, 42, 180, 0, 15]
abbrev dktX5_read_2 : List UInt8 := dkwX5_read_2 ++ dktX5_read_3
def dkwX5_read_1 : List UInt8 := [42, 42, 180, 0, 3, 180, 0, 53, 181, 0, 56, 42, 7, 27, 182, 0, 59, 42, 180, 0, 3, 89]
abbrev dktX5_read_1 : List UInt8 := dkwX5_read_1 ++ dktX5_read_2
def dkwX5_read_0 : List UInt8 := [42, 27, 181, 0, 19, 42, 28, 181, 0, 22, 42, 42, 180, 0, 3, 180, 0, 44, 180, 0, 47, 181, 0, 50]
abbrev dktX5_read_0 : List UInt8 := dkwX5_read_0 ++ dktX5_read_1
theorem dksX5_read_0 : cX5_read.data.toList.drop 0 = dktX5_read_0 := by decide +kernel
theorem dksX5_read_1 : cX5_read.data.toList.drop 24 = dktX5_read_1 := dk_seg dksX5_read_0 24 rfl rfl
theorem dksX5_read_2 : cX5_read.data.toList.drop 46 = dktX5_read_2 := dk_seg dksX5_read_1 22 rfl rfl
theorem dksX5_read_3 : cX5_read.data.toList.drop 69 = dktX5_read_3 := dk_seg dksX5_read_2 23 rfl rfl
theorem dksX5_read_4 : cX5_read.data.toList.drop 93 = dktX5_read_4 := dk_seg dksX5_read_3 24 rfl rfl
theorem dksX5_read_5 : cX5_read.data.toList.drop 117 = dktX5_read_5 := dk_seg dksX5_read_4 24 rfl rfl
theorem dksX5_read_6 : cX5_read.data.toList.drop 141 = dktX5_read_6 := dk_seg dksX5_read_5 24 rfl rfl
theorem dksX5_read_7 : cX5_read.data.toList.drop 165 = dktX5_read_7 := dk_seg dksX5_read_6 24 rfl rfl
theorem dksX5_read_8 : cX5_read.data.toList.drop 189 = dktX5_read_8 := dk_seg dksX5_read_7 24 rfl rfl
theorem dksX5_read_9 : cX5_read.data.toList.drop 213 = dktX5_read_9 := dk_seg dksX5_read_8 24 rfl rfl
theorem dksX5_read_10 : cX5_read.data.toList.drop 235 = dktX5_read_10 := dk_seg dksX5_read_9 22 rfl rfl
theorem dX5_read_0 : decode cX5_read 0 = .ok (.aload_n 0, 1) := dk_42 (dk_at dksX5_read_0 0 rfl rfl)
theorem dX5_read_1 : decode cX5_read 1 = .ok (.iload_n 1, 1) := dk_27 (dk_at dksX5_read_0 1 rfl rfl)
theorem dX5_read_2 : decode cX5_read 2 = .ok (.putfield 19, 3) := dk_181 0 19 (dk_at dksX5_read_0 2 rfl rfl)
theorem dX5_read_5 : decode cX5_read 5 = .ok (.aload_n 0, 1) := dk_42 (dk_at dksX5_read_0 5 rfl rfl)
theorem dX5_read_6 : decode cX5_read 6 = .ok (.iload_n 2, 1) := dk_28 (dk_at dksX5_read_0 6 rfl rfl)
theorem dX5_read_7 : decode cX5_read 7 = .ok (.putfield 22, 3) := dk_181 0 22 (dk_at dksX5_read_0 7 rfl rfl)
theorem dX5_read_10 : decode cX5_read 10 = .ok (.aload_n 0, 1) := dk_42 (dk_at dksX5_read_0 10 rfl rfl)
theorem dX5_read_11 : decode cX5_read 11 = .ok (.aload_n 0, 1) := dk_42 (dk_at dksX5_read_0 11 rfl rfl)
theorem dX5_read_12 : decode cX5_read 12 = .ok (.getfield 3, 3) := dk_180 0 3 (dk_at dksX5_read_0 12 rfl rfl)
theorem dX5_read_15 : decode cX5_read 15 = .ok (.getfield 44, 3) := dk_180 0 44 (dk_at dksX5_read_0 15 rfl rfl)
theorem dX5_read_18 : decode cX5_read 18 = .ok (.getfield 47, 3) := dk_180 0 47 (dk_at dksX5_read_0 18 rfl rfl)
theorem dX5_read_21 : decode cX5_read 21 = .ok (.putfield 50, 3) := dk_181 0 50 (dk_at dksX5_read_0 21 rfl rfl)
theorem dX5_read_24 : decode cX5_read 24 = .ok (.aload_n 0, 1) := dk_42 (dk_at dksX5_read_1 0 rfl rfl)
theorem dX5_read_25 : decode cX5_read 25 = .ok (.aload_n 0, 1) := dk_42 (dk_at dksX5_read_1 1 rfl rfl)
theorem dX5_read_26 : decode cX5_read 26 = .ok (.getfield 3, 3) := dk_180 0 3 (dk_at dksX5_read_1 2 rfl rfl)
theorem dX5_read_29 : decode cX5_read 29 = .ok (.getfield 53, 3) := dk_180 0 53 (dk_at dksX5_read_1 5 rfl rfl)
theorem dX5_read_32 : decode cX5_read 32 = .ok (.putfield 56, 3) := dk_181 0 56 (dk_at dksX5_read_1 8 rfl rfl)
theorem dX5_read_35 : decode cX5_read 35 = .ok (.aload_n 0, 1) := dk_42 (dk_at dksX5_read_1 11 rfl rfl)
theorem dX5_read_36 : decode cX5_read 36 = .ok (.iconst 4, 1) := dk_7 (dk_at dksX5_read_1 12 rfl rfl)
theorem dX5_read_37 : decode cX5_read 37 = .ok (.iload_n 1, 1) := dk_27 (dk_at dksX5_read_1 13 rfl rfl)
theorem dX5_read_38 : decode cX5_read 38 = .ok (.invokevirtual 59, 3) := dk_182 0 59 (dk_at dksX5_read_1 14 rfl rfl)
theorem dX5_read_41 : decode cX5_read 41 = .ok (.aload_n 0, 1) := dk_42 (dk_at dksX5_read_1 17 rfl rfl)
theorem dX5_read_42 : decode cX5_read 42 = .ok (.getfield 3, 3) := dk_180 0 3 (dk_at dksX5_read_1 18 rfl rfl)
theorem dX5_read_45 : decode cX5_read 45 = .ok (.dup, 1) := dk_89 (dk_at dksX5_read_1 21 rfl rfl)
theorem dX5_read_46 : decode cX5_read 46 = .ok (.getfield 63, 3) := dk_180 0 63 (dk_at dksX5_read_2 0 rfl rfl)
theorem dX5_read_49 : decode cX5_read 49 = .ok (.iconst 1, 1) := dk_4 (dk_at dksX5_read_2 3 rfl rfl)
theorem dX5_read_50 : decode cX5_read 50 = .ok (.iadd, 1) := dk_96 (dk_at dksX5_read_2 4 rfl rfl)
theorem dX5_read_51 : decode cX5_read 51 = .ok (.putfield 63, 3) := dk_181 0 63 (dk_at dksX5_read_2 5 rfl rfl)
theorem dX5_read_54 : decode cX5_read 54 = .ok (.aload_n 0, 1) := dk_42 (dk_at dksX5_read_2 8 rfl rfl)
theorem dX5_read_55 : decode cX5_read 55 = .ok (.getfield 3, 3) := dk_180 0 3 (dk_at dksX5_read_2 9 rfl rfl)
theorem dX5_read_58 : decode cX5_read 58 = .ok (.aload_n 0, 1) := dk_42 (dk_at dksX5_read_2 12 rfl rfl)
theorem dX5_read_59 : decode cX5_read 59 = .ok (.getfield 3, 3) := dk_180 0 3 (dk_at dksX5_read_2 13 rfl rfl)
theorem dX5_read_62 : decode cX5_read 62 = .ok (.getfield 66, 3) := dk_180 0 66 (dk_at dksX5_read_2 16 rfl rfl)
theorem dX5_read_65 : decode cX5_read 65 = .ok (.aload_n 0, 1) := dk_42 (dk_at dksX5_read_2 19 rfl rfl)
theorem dX5_read_66 : decode cX5_read 66 = .ok (.getfield 15, 3) := dk_180 0 15 (dk_at dksX5_read_2 20 rfl rfl)
theorem dX5_read_69 : decode cX5_read 69 = .ok (.invokestatic 69, 3) := dk_184 0 69 (dk_at dksX5_read_3 0 rfl rfl)
theorem dX5_read_72 : decode cX5_read 72 = .ok (.putfield 66, 3) := dk_181 0 66 (dk_at dksX5_read_3 3 rfl rfl)
theorem dX5_read_75 : decode cX5_read 75 = .ok (.aload_n 0, 1) := dk_42 (dk_at dksX5_read_3 6 rfl rfl)
theorem dX5_read_76 : decode cX5_read 76 = .ok (.getfield 3, 3) := dk_180 0 3 (dk_at dksX5_read_3 7 rfl rfl)
theorem dX5_read_79 : decode cX5_read 79 = .ok (.aload_n 0, 1) := dk_42 (dk_at dksX5_read_3 10 rfl rfl)
theorem dX5_read_80 : decode cX5_read 80 = .ok (.invokevirtual 75, 3) := dk_182 0 75 (dk_at dksX5_read_3 11 rfl rfl)
theorem dX5_read_83 : decode cX5_read 83 = .ok (.bipush 80, 2) := dk_16 80 (dk_at dksX5_read_3 14 rfl rfl)
theorem dX5_read_85 : decode cX5_read 85 = .ok (.if_icmp .ne 7, 3) := dk_160 0 7 (dk_at dksX5_read_3 16 rfl rfl)
theorem dX5_read_88 : decode cX5_read 88 = .ok (.iconst 1, 1) := dk_4 (dk_at dksX5_read_3 19 rfl rfl)
theorem dX5_read_89 : decode cX5_read 89 = .ok (.goto 4, 3) := dk_167 0 4 (dk_at dksX5_read_3 20 rfl rfl)
theorem dX5_read_92 : decode cX5_read 92 = .ok (.iconst 0, 1) := dk_3 (dk_at dksX5_read_3 23 rfl rfl)
theorem dX5_read_93 : decode cX5_read 93 = .ok (.iconst 1, 1) := dk_4 (dk_at dksX5_read_4 0 rfl rfl)
theorem dX5_read_94 : decode cX5_read 94 = .ok (.iload_n 1, 1) := dk_27 (dk_at dksX5_read_4 1 rfl rfl)
theorem dX5_read_95 : decode cX5_read 95 = .ok (.invokevirtual 25, 3) := dk_182 0 25 (dk_at dksX5_read_4 2 rfl rfl)
theorem dX5_read_98 : decode cX5_read 98 = .ok (.aload_n 0, 1) := dk_42 (dk_at dksX5_read_4 5 rfl rfl)
theorem dX5_read_99 : decode cX5_read 99 = .ok (.getfield 3, 3) := dk_180 0 3 (dk_at dksX5_read_4 6 rfl rfl)
theorem dX5_read_102 : decode cX5_read 102 = .ok (.aload_n 0, 1) := dk_42 (dk_at dksX5_read_4 9 rfl rfl)
theorem dX5_read_103 : decode cX5_read 103 = .ok (.invokevirtual 75, 3) := dk_182 0 75 (dk_at dksX5_read_4 10 rfl rfl)
theorem dX5_read_106 : decode cX5_read 106 = .ok (.bipush 75, 2) := dk_16 75 (dk_at dksX5_read_4 13 rfl rfl)
theorem dX5_read_108 : decode cX5_read 108 = .ok (.if_icmp .ne 7, 3) := dk_160 0 7 (dk_at dksX5_read_4 15 rfl rfl)
theorem dX5_read_111 : decode cX5_read 111 = .ok (.iconst 1, 1) := dk_4 (dk_at dksX5_read_4 18 rfl rfl)
theorem dX5_read_112 : decode cX5_read 112 = .ok (.goto 4, 3) := dk_167 0 4 (dk_at dksX5_read_4 19 rfl rfl)
theorem dX5_read_115 : decode cX5_read 115 = .ok (.iconst 0, 1) := dk_3 (dk_at dksX5_read_4 22 rfl rfl)
theorem dX5_read_116 : decode cX5_read 116 = .ok (.iconst 1, 1) := dk_4 (dk_at dksX5_read_4 23 rfl rfl)
theorem dX5_read_117 : decode cX5_read 117 = .ok (.iload_n 1, 1) := dk_27 (dk_at dksX5_read_5 0 rfl rfl)
theorem dX5_read_118 : decode cX5_read 118 = .ok (.iconst 1, 1) := dk_4 (dk_at dksX5_read_5 1 rfl rfl)
theorem dX5_read_119 : decode cX5_read 119 = .ok (.iadd, 1) := dk_96 (dk_at dksX5_read_5 2 rfl rfl)
theorem dX5_read_120 : decode cX5_read 120 = .ok (.invokevirtual 25, 3) := dk_182 0 25 (dk_at dksX5_read_5 3 rfl rfl)
theorem dX5_read_123 : decode cX5_read 123 = .ok (.aload_n 0, 1) := dk_42 (dk_at dksX5_read_5 6 rfl rfl)
theorem dX5_read_124 : decode cX5_read 124 = .ok (.invokevirtual 79, 3) := dk_182 0 79 (dk_at dksX5_read_5 7 rfl rfl)
theorem dX5_read_127 : decode cX5_read 127 = .ok (.ifCond .eq 38, 3) := dk_153 0 38 (dk_at dksX5_read_5 10 rfl rfl)
theorem dX5_read_130 : decode cX5_read 130 = .ok (.aload_n 0, 1) := dk_42 (dk_at dksX5_read_5 13 rfl rfl)
theorem dX5_read_131 : decode cX5_read 131 = .ok (.getfield 3, 3) := dk_180 0 3 (dk_at dksX5_read_5 14 rfl rfl)
theorem dX5_read_134 : decode cX5_read 134 = .ok (.getfield 83, 3) := dk_180 0 83 (dk_at dksX5_read_5 17 rfl rfl)
theorem dX5_read_137 : decode cX5_read 137 = .ok (.aload_n 0, 1) := dk_42 (dk_at dksX5_read_5 20 rfl rfl)
theorem dX5_read_138 : decode cX5_read 138 = .ok (.getfield 3, 3) := dk_180 0 3 (dk_at dksX5_read_5 21 rfl rfl)
theorem dX5_read_141 : decode cX5_read 141 = .ok (.dup, 1) := dk_89 (dk_at dksX5_read_6 0 rfl rfl)
theorem dX5_read_142 : decode cX5_read 142 = .ok (.getfield 53, 3) := dk_180 0 53 (dk_at dksX5_read_6 1 rfl rfl)
theorem dX5_read_145 : decode cX5_read 145 = .ok (.dup_x1, 1) := dk_90 (dk_at dksX5_read_6 4 rfl rfl)
theorem dX5_read_146 : decode cX5_read 146 = .ok (.iconst 1, 1) := dk_4 (dk_at dksX5_read_6 5 rfl rfl)
theorem dX5_read_147 : decode cX5_read 147 = .ok (.iadd, 1) := dk_96 (dk_at dksX5_read_6 6 rfl rfl)
theorem dX5_read_148 : decode cX5_read 148 = .ok (.putfield 53, 3) := dk_181 0 53 (dk_at dksX5_read_6 7 rfl rfl)
theorem dX5_read_151 : decode cX5_read 151 = .ok (.aload_n 0, 1) := dk_42 (dk_at dksX5_read_6 10 rfl rfl)
theorem dX5_read_152 : decode cX5_read 152 = .ok (.getfield 3, 3) := dk_180 0 3 (dk_at dksX5_read_6 11 rfl rfl)
theorem dX5_read_155 : decode cX5_read 155 = .ok (.getfield 44, 3) := dk_180 0 44 (dk_at dksX5_read_6 14 rfl rfl)
theorem dX5_read_158 : decode cX5_read 158 = .ok (.getfield 47, 3) := dk_180 0 47 (dk_at dksX5_read_6 17 rfl rfl)
theorem dX5_read_161 : decode cX5_read 161 = .ok (.iastore, 1) := dk_79 (dk_at dksX5_read_6 20 rfl rfl)
theorem dX5_read_162 : decode cX5_read 162 = .ok (.goto (-39), 3) := dk_167 255 217 (dk_at dksX5_read_6 21 rfl rfl)
theorem dX5_read_165 : decode cX5_read 165 = .ok (.aload_n 0, 1) := dk_42 (dk_at dksX5_read_7 0 rfl rfl)
theorem dX5_read_166 : decode cX5_read 166 = .ok (.getfield 3, 3) := dk_180 0 3 (dk_at dksX5_read_7 1 rfl rfl)
theorem dX5_read_169 : decode cX5_read 169 = .ok (.getfield 29, 3) := dk_180 0 29 (dk_at dksX5_read_7 4 rfl rfl)
theorem dX5_read_172 : decode cX5_read 172 = .ok (.iload_n 1, 1) := dk_27 (dk_at dksX5_read_7 7 rfl rfl)
theorem dX5_read_173 : decode cX5_read 173 = .ok (.aload_n 0, 1) := dk_42 (dk_at dksX5_read_7 8 rfl rfl)
theorem dX5_read_174 : decode cX5_read 174 = .ok (.getfield 19, 3) := dk_180 0 19 (dk_at dksX5_read_7 9 rfl rfl)
theorem dX5_read_177 : decode cX5_read 177 = .ok (.invokevirtual 87, 3) := dk_182 0 87 (dk_at dksX5_read_7 12 rfl rfl)
theorem dX5_read_180 : decode cX5_read 180 = .ok (.istore_n 3, 1) := dk_62 (dk_at dksX5_read_7 15 rfl rfl)
theorem dX5_read_181 : decode cX5_read 181 = .ok (.aload_n 0, 1) := dk_42 (dk_at dksX5_read_7 16 rfl rfl)
theorem dX5_read_182 : decode cX5_read 182 = .ok (.getfield 3, 3) := dk_180 0 3 (dk_at dksX5_read_7 17 rfl rfl)
theorem dX5_read_185 : decode cX5_read 185 = .ok (.aload_n 0, 1) := dk_42 (dk_at dksX5_read_7 20 rfl rfl)
theorem dX5_read_186 : decode cX5_read 186 = .ok (.invokevirtual 75, 3) := dk_182 0 75 (dk_at dksX5_read_7 21 rfl rfl)
theorem dX5_read_189 : decode cX5_read 189 = .ok (.iload_n 3, 1) := dk_29 (dk_at dksX5_read_8 0 rfl rfl)
theorem dX5_read_190 : decode cX5_read 190 = .ok (.if_icmp .ne 7, 3) := dk_160 0 7 (dk_at dksX5_read_8 1 rfl rfl)
theorem dX5_read_193 : decode cX5_read 193 = .ok (.iconst 1, 1) := dk_4 (dk_at dksX5_read_8 4 rfl rfl)
theorem dX5_read_194 : decode cX5_read 194 = .ok (.goto 4, 3) := dk_167 0 4 (dk_at dksX5_read_8 5 rfl rfl)
theorem dX5_read_197 : decode cX5_read 197 = .ok (.iconst 0, 1) := dk_3 (dk_at dksX5_read_8 8 rfl rfl)
theorem dX5_read_198 : decode cX5_read 198 = .ok (.bipush 9, 2) := dk_16 9 (dk_at dksX5_read_8 9 rfl rfl)
theorem dX5_read_200 : decode cX5_read 200 = .ok (.aload_n 0, 1) := dk_42 (dk_at dksX5_read_8 11 rfl rfl)
theorem dX5_read_201 : decode cX5_read 201 = .ok (.getfield 19, 3) := dk_180 0 19 (dk_at dksX5_read_8 12 rfl rfl)
theorem dX5_read_204 : decode cX5_read 204 = .ok (.iconst 1, 1) := dk_4 (dk_at dksX5_read_8 15 rfl rfl)
theorem dX5_read_205 : decode cX5_read 205 = .ok (.isub, 1) := dk_100 (dk_at dksX5_read_8 16 rfl rfl)
theorem dX5_read_206 : decode cX5_read 206 = .ok (.invokevirtual 25, 3) := dk_182 0 25 (dk_at dksX5_read_8 17 rfl rfl)
theorem dX5_read_209 : decode cX5_read 209 = .ok (.aload_n 0, 1) := dk_42 (dk_at dksX5_read_8 20 rfl rfl)
theorem dX5_read_210 : decode cX5_read 210 = .ok (.getfield 3, 3) := dk_180 0 3 (dk_at dksX5_read_8 21 rfl rfl)
theorem dX5_read_213 : decode cX5_read 213 = .ok (.aload_n 0, 1) := dk_42 (dk_at dksX5_read_9 0 rfl rfl)
theorem dX5_read_214 : decode cX5_read 214 = .ok (.getfield 19, 3) := dk_180 0 19 (dk_at dksX5_read_9 1 rfl rfl)
theorem dX5_read_217 : decode cX5_read 217 = .ok (.aload_n 0, 1) := dk_42 (dk_at dksX5_read_9 4 rfl rfl)
theorem dX5_read_218 : decode cX5_read 218 = .ok (.getfield 22, 3) := dk_180 0 22 (dk_at dksX5_read_9 5 rfl rfl)
theorem dX5_read_221 : decode cX5_read 221 = .ok (.if_icmp .ne 7, 3) := dk_160 0 7 (dk_at dksX5_read_9 8 rfl rfl)
theorem dX5_read_224 : decode cX5_read 224 = .ok (.iconst 1, 1) := dk_4 (dk_at dksX5_read_9 11 rfl rfl)
theorem dX5_read_225 : decode cX5_read 225 = .ok (.goto 4, 3) := dk_167 0 4 (dk_at dksX5_read_9 12 rfl rfl)
theorem dX5_read_228 : decode cX5_read 228 = .ok (.iconst 0, 1) := dk_3 (dk_at dksX5_read_9 15 rfl rfl)
theorem dX5_read_229 : decode cX5_read 229 = .ok (.bipush 10, 2) := dk_16 10 (dk_at dksX5_read_9 16 rfl rfl)
theorem dX5_read_231 : decode cX5_read 231 = .ok (.aload_n 0, 1) := dk_42 (dk_at dksX5_read_9 18 rfl rfl)
theorem dX5_read_232 : decode cX5_read 232 = .ok (.getfield 19, 3) := dk_180 0 19 (dk_at dksX5_read_9 19 rfl rfl)
theorem dX5_read_235 : decode cX5_read 235 = .ok (.invokevirtual 25, 3) := dk_182 0 25 (dk_at dksX5_read_10 0 rfl rfl)
theorem dX5_read_238 : decode cX5_read 238 = .ok (.aload_n 0, 1) := dk_42 (dk_at dksX5_read_10 3 rfl rfl)
theorem dX5_read_239 : decode cX5_read 239 = .ok (.getfield 3, 3) := dk_180 0 3 (dk_at dksX5_read_10 4 rfl rfl)
theorem dX5_read_242 : decode cX5_read 242 = .ok (.aload_n 0, 1) := dk_42 (dk_at dksX5_read_10 7 rfl rfl)
theorem dX5_read_243 : decode cX5_read 243 = .ok (.getfield 56, 3) := dk_180 0 56 (dk_at dksX5_read_10 8 rfl rfl)
theorem dX5_read_246 : decode cX5_read 246 = .ok (.putfield 53, 3) := dk_181 0 53 (dk_at dksX5_read_10 11 rfl rfl)
theorem dX5_read_249 : decode cX5_read 249 = .ok (.return_, 1) := dk_177 (dk_at dksX5_read_10 14 rfl rfl)
abbrev cX5_item : ByteArray := prog_5_method_6_code
def yX5_item : MethodName := ⟨RX5, "item", "()Z"⟩
def dkwX5_item_8 : List UInt8 := [180, 0, 38, 28, 100, 79, 29, 158, 0, 7, 4, 167, 0, 4, 3, 172]
abbrev dktX5_item_8 : List UInt8 := dkwX5_item_8 ++ []
def dkwX5_item_7 : List UInt8 := [180, 0, 44, 180, 0, 47, 27, 100, 79, 42, 180, 0, 3, 180, 0, 106, 21, 4, 7, 96, 42, 180, 0, 3]
abbrev dktX5_item_7 : List UInt8 := dkwX5_item_7 ++ dktX5_item_8
def dkwX5_item_6 : List UInt8 := [5, 96, 42, 180, 0, 19, 79, 42, 180, 0, 3, 180, 0, 106, 21, 4, 6, 96, 42, 180, 0, 3]
abbrev dktX5_item_6 : List UInt8 := dkwX5_item_6 ++ dktX5_item_7
def dkwX5_item_5 : List UInt8 := [180, 0, 3, 180, 0, 106, 21, 4, 4, 96, 42, 180, 0, 90, 79, 42, 180, 0, 3, 180, 0, 106, 21, 4]
abbrev dktX5_item_5 : List UInt8 := dkwX5_item_5 ++ dktX5_item_6
def dkwX5_item_4 : List UInt8 := [180, 0, 103, 90, 4, 96, 181, 0, 103, 104, 54, 4, 42, 180, 0, 3, 180, 0, 106, 21, 4, 29, 79, 42]
abbrev dktX5_item_4 : List UInt8 := dkwX5_item_4 ++ dktX5_item_5
def dkwX5_item_3 : List UInt8 := [50, 42, 185, 0, 97, 2, 0, 29, 158, 0, 116, 42, 180, 0, 15, 154, 0, 109, 8, 42, 180, 0, 3, 89]
abbrev dktX5_item_3 : List UInt8 := dkwX5_item_3 ++ dktX5_item_4
def dkwX5_item_2 : List UInt8 := [162, 0, 7, 4, 167, 0, 4, 3, 5, 42, 180, 0, 90, 182, 0, 25, 42, 180, 0, 3, 180, 0, 93, 29]
abbrev dktX5_item_2 : List UInt8 := dkwX5_item_2 ++ dktX5_item_3
def dkwX5_item_1 : List UInt8 := [180, 0, 38, 61, 42, 182, 0, 75, 62, 42, 180, 0, 3, 29, 42, 180, 0, 3, 180, 0, 93, 190]
abbrev dktX5_item_1 : List UInt8 := dkwX5_item_1 ++ dktX5_item_2
def dkwX5_item_0 : List UInt8 := [42, 42, 180, 0, 19, 181, 0, 90, 42, 180, 0, 3, 180, 0, 44, 180, 0, 47, 60, 42, 180, 0, 3]
abbrev dktX5_item_0 : List UInt8 := dkwX5_item_0 ++ dktX5_item_1
theorem dksX5_item_0 : cX5_item.data.toList.drop 0 = dktX5_item_0 := by decide +kernel
theorem dksX5_item_1 : cX5_item.data.toList.drop 23 = dktX5_item_1 := dk_seg dksX5_item_0 23 rfl rfl
theorem dksX5_item_2 : cX5_item.data.toList.drop 45 = dktX5_item_2 := dk_seg dksX5_item_1 22 rfl rfl
theorem dksX5_item_3 : cX5_item.data.toList.drop 69 = dktX5_item_3 := dk_seg dksX5_item_2 24 rfl rfl
theorem dksX5_item_4 : cX5_item.data.toList.drop 93 = dktX5_item_4 := dk_seg dksX5_item_3 24 rfl rfl
theorem dksX5_item_5 : cX5_item.data.toList.drop 117 = dktX5_item_5 := dk_seg dksX5_item_4 24 rfl rfl
theorem dksX5_item_6 : cX5_item.data.toList.drop 141 = dktX5_item_6 := dk_seg dksX5_item_5 24 rfl rfl
theorem dksX5_item_7 : cX5_item.data.toList.drop 163 = dktX5_item_7 := dk_seg dksX5_item_6 22 rfl rfl
theorem dksX5_item_8 : cX5_item.data.toList.drop 187 = dktX5_item_8 := dk_seg dksX5_item_7 24 rfl rfl
theorem dX5_item_0 : decode cX5_item 0 = .ok (.aload_n 0, 1) := dk_42 (dk_at dksX5_item_0 0 rfl rfl)
theorem dX5_item_1 : decode cX5_item 1 = .ok (.aload_n 0, 1) := dk_42 (dk_at dksX5_item_0 1 rfl rfl)
theorem dX5_item_2 : decode cX5_item 2 = .ok (.getfield 19, 3) := dk_180 0 19 (dk_at dksX5_item_0 2 rfl rfl)
theorem dX5_item_5 : decode cX5_item 5 = .ok (.putfield 90, 3) := dk_181 0 90 (dk_at dksX5_item_0 5 rfl rfl)
theorem dX5_item_8 : decode cX5_item 8 = .ok (.aload_n 0, 1) := dk_42 (dk_at dksX5_item_0 8 rfl rfl)
theorem dX5_item_9 : decode cX5_item 9 = .ok (.getfield 3, 3) := dk_180 0 3 (dk_at dksX5_item_0 9 rfl rfl)
theorem dX5_item_12 : decode cX5_item 12 = .ok (.getfield 44, 3) := dk_180 0 44 (dk_at dksX5_item_0 12 rfl rfl)
theorem dX5_item_15 : decode cX5_item 15 = .ok (.getfield 47, 3) := dk_180 0 47 (dk_at dksX5_item_0 15 rfl rfl)
theorem dX5_item_18 : decode cX5_item 18 = .ok (.istore_n 1, 1) := dk_60 (dk_at dksX5_item_0 18 rfl rfl)
theorem dX5_item_19 : decode cX5_item 19 = .ok (.aload_n 0, 1) := dk_42 (dk_at dksX5_item_0 19 rfl rfl)
theorem dX5_item_20 : decode cX5_item 20 = .ok (.getfield 3, 3) := dk_180 0 3 (dk_at dksX5_item_0 20 rfl rfl)
theorem dX5_item_23 : decode cX5_item 23 = .ok (.getfield 38, 3) := dk_180 0 38 (dk_at dksX5_item_1 0 rfl rfl)
theorem dX5_item_26 : decode cX5_item 26 = .ok (.istore_n 2, 1) := dk_61 (dk_at dksX5_item_1 3 rfl rfl)
theorem dX5_item_27 : decode cX5_item 27 = .ok (.aload_n 0, 1) := dk_42 (dk_at dksX5_item_1 4 rfl rfl)
theorem dX5_item_28 : decode cX5_item 28 = .ok (.invokevirtual 75, 3) := dk_182 0 75 (dk_at dksX5_item_1 5 rfl rfl)
theorem dX5_item_31 : decode cX5_item 31 = .ok (.istore_n 3, 1) := dk_62 (dk_at dksX5_item_1 8 rfl rfl)
theorem dX5_item_32 : decode cX5_item 32 = .ok (.aload_n 0, 1) := dk_42 (dk_at dksX5_item_1 9 rfl rfl)
theorem dX5_item_33 : decode cX5_item 33 = .ok (.getfield 3, 3) := dk_180 0 3 (dk_at dksX5_item_1 10 rfl rfl)
theorem dX5_item_36 : decode cX5_item 36 = .ok (.iload_n 3, 1) := dk_29 (dk_at dksX5_item_1 13 rfl rfl)
theorem dX5_item_37 : decode cX5_item 37 = .ok (.aload_n 0, 1) := dk_42 (dk_at dksX5_item_1 14 rfl rfl)
theorem dX5_item_38 : decode cX5_item 38 = .ok (.getfield 3, 3) := dk_180 0 3 (dk_at dksX5_item_1 15 rfl rfl)
theorem dX5_item_41 : decode cX5_item 41 = .ok (.getfield 93, 3) := dk_180 0 93 (dk_at dksX5_item_1 18 rfl rfl)
theorem dX5_item_44 : decode cX5_item 44 = .ok (.arraylength, 1) := dk_190 (dk_at dksX5_item_1 21 rfl rfl)
theorem dX5_item_45 : decode cX5_item 45 = .ok (.if_icmp .ge 7, 3) := dk_162 0 7 (dk_at dksX5_item_2 0 rfl rfl)
theorem dX5_item_48 : decode cX5_item 48 = .ok (.iconst 1, 1) := dk_4 (dk_at dksX5_item_2 3 rfl rfl)
theorem dX5_item_49 : decode cX5_item 49 = .ok (.goto 4, 3) := dk_167 0 4 (dk_at dksX5_item_2 4 rfl rfl)
theorem dX5_item_52 : decode cX5_item 52 = .ok (.iconst 0, 1) := dk_3 (dk_at dksX5_item_2 7 rfl rfl)
theorem dX5_item_53 : decode cX5_item 53 = .ok (.iconst 2, 1) := dk_5 (dk_at dksX5_item_2 8 rfl rfl)
theorem dX5_item_54 : decode cX5_item 54 = .ok (.aload_n 0, 1) := dk_42 (dk_at dksX5_item_2 9 rfl rfl)
theorem dX5_item_55 : decode cX5_item 55 = .ok (.getfield 90, 3) := dk_180 0 90 (dk_at dksX5_item_2 10 rfl rfl)
theorem dX5_item_58 : decode cX5_item 58 = .ok (.invokevirtual 25, 3) := dk_182 0 25 (dk_at dksX5_item_2 13 rfl rfl)
theorem dX5_item_61 : decode cX5_item 61 = .ok (.aload_n 0, 1) := dk_42 (dk_at dksX5_item_2 16 rfl rfl)
theorem dX5_item_62 : decode cX5_item 62 = .ok (.getfield 3, 3) := dk_180 0 3 (dk_at dksX5_item_2 17 rfl rfl)
theorem dX5_item_65 : decode cX5_item 65 = .ok (.getfield 93, 3) := dk_180 0 93 (dk_at dksX5_item_2 20 rfl rfl)
theorem dX5_item_68 : decode cX5_item 68 = .ok (.iload_n 3, 1) := dk_29 (dk_at dksX5_item_2 23 rfl rfl)
theorem dX5_item_69 : decode cX5_item 69 = .ok (.aaload, 1) := dk_50 (dk_at dksX5_item_3 0 rfl rfl)
theorem dX5_item_70 : decode cX5_item 70 = .ok (.aload_n 0, 1) := dk_42 (dk_at dksX5_item_3 1 rfl rfl)
theorem dX5_item_71 : decode cX5_item 71 = .ok (.invokeinterface 97 2, 5) := by decide +kernel
theorem dX5_item_76 : decode cX5_item 76 = .ok (.iload_n 3, 1) := dk_29 (dk_at dksX5_item_3 7 rfl rfl)
theorem dX5_item_77 : decode cX5_item 77 = .ok (.ifCond .le 116, 3) := dk_158 0 116 (dk_at dksX5_item_3 8 rfl rfl)
theorem dX5_item_80 : decode cX5_item 80 = .ok (.aload_n 0, 1) := dk_42 (dk_at dksX5_item_3 11 rfl rfl)
theorem dX5_item_81 : decode cX5_item 81 = .ok (.getfield 15, 3) := dk_180 0 15 (dk_at dksX5_item_3 12 rfl rfl)
theorem dX5_item_84 : decode cX5_item 84 = .ok (.ifCond .ne 109, 3) := dk_154 0 109 (dk_at dksX5_item_3 15 rfl rfl)
theorem dX5_item_87 : decode cX5_item 87 = .ok (.iconst 5, 1) := dk_8 (dk_at dksX5_item_3 18 rfl rfl)
theorem dX5_item_88 : decode cX5_item 88 = .ok (.aload_n 0, 1) := dk_42 (dk_at dksX5_item_3 19 rfl rfl)
theorem dX5_item_89 : decode cX5_item 89 = .ok (.getfield 3, 3) := dk_180 0 3 (dk_at dksX5_item_3 20 rfl rfl)
theorem dX5_item_92 : decode cX5_item 92 = .ok (.dup, 1) := dk_89 (dk_at dksX5_item_3 23 rfl rfl)
theorem dX5_item_93 : decode cX5_item 93 = .ok (.getfield 103, 3) := dk_180 0 103 (dk_at dksX5_item_4 0 rfl rfl)
theorem dX5_item_96 : decode cX5_item 96 = .ok (.dup_x1, 1) := dk_90 (dk_at dksX5_item_4 3 rfl rfl)
theorem dX5_item_97 : decode cX5_item 97 = .ok (.iconst 1, 1) := dk_4 (dk_at dksX5_item_4 4 rfl rfl)
theorem dX5_item_98 : decode cX5_item 98 = .ok (.iadd, 1) := dk_96 (dk_at dksX5_item_4 5 rfl rfl)
theorem dX5_item_99 : decode cX5_item 99 = .ok (.putfield 103, 3) := dk_181 0 103 (dk_at dksX5_item_4 6 rfl rfl)
theorem dX5_item_102 : decode cX5_item 102 = .ok (.imul, 1) := dk_104 (dk_at dksX5_item_4 9 rfl rfl)
theorem dX5_item_103 : decode cX5_item 103 = .ok (.istore 4, 2) := dk_54 4 (dk_at dksX5_item_4 10 rfl rfl)
theorem dX5_item_105 : decode cX5_item 105 = .ok (.aload_n 0, 1) := dk_42 (dk_at dksX5_item_4 12 rfl rfl)
theorem dX5_item_106 : decode cX5_item 106 = .ok (.getfield 3, 3) := dk_180 0 3 (dk_at dksX5_item_4 13 rfl rfl)
theorem dX5_item_109 : decode cX5_item 109 = .ok (.getfield 106, 3) := dk_180 0 106 (dk_at dksX5_item_4 16 rfl rfl)
theorem dX5_item_112 : decode cX5_item 112 = .ok (.iload 4, 2) := dk_21 4 (dk_at dksX5_item_4 19 rfl rfl)
theorem dX5_item_114 : decode cX5_item 114 = .ok (.iload_n 3, 1) := dk_29 (dk_at dksX5_item_4 21 rfl rfl)
theorem dX5_item_115 : decode cX5_item 115 = .ok (.iastore, 1) := dk_79 (dk_at dksX5_item_4 22 rfl rfl)
theorem dX5_item_116 : decode cX5_item 116 = .ok (.aload_n 0, 1) := dk_42 (dk_at dksX5_item_4 23 rfl rfl)
theorem dX5_item_117 : decode cX5_item 117 = .ok (.getfield 3, 3) := dk_180 0 3 (dk_at dksX5_item_5 0 rfl rfl)
theorem dX5_item_120 : decode cX5_item 120 = .ok (.getfield 106, 3) := dk_180 0 106 (dk_at dksX5_item_5 3 rfl rfl)
theorem dX5_item_123 : decode cX5_item 123 = .ok (.iload 4, 2) := dk_21 4 (dk_at dksX5_item_5 6 rfl rfl)
theorem dX5_item_125 : decode cX5_item 125 = .ok (.iconst 1, 1) := dk_4 (dk_at dksX5_item_5 8 rfl rfl)
theorem dX5_item_126 : decode cX5_item 126 = .ok (.iadd, 1) := dk_96 (dk_at dksX5_item_5 9 rfl rfl)
theorem dX5_item_127 : decode cX5_item 127 = .ok (.aload_n 0, 1) := dk_42 (dk_at dksX5_item_5 10 rfl rfl)
theorem dX5_item_128 : decode cX5_item 128 = .ok (.getfield 90, 3) := dk_180 0 90 (dk_at dksX5_item_5 11 rfl rfl)
theorem dX5_item_131 : decode cX5_item 131 = .ok (.iastore, 1) := dk_79 (dk_at dksX5_item_5 14 rfl rfl)
theorem dX5_item_132 : decode cX5_item 132 = .ok (.aload_n 0, 1) := dk_42 (dk_at dksX5_item_5 15 rfl rfl)
theorem dX5_item_133 : decode cX5_item 133 = .ok (.getfield 3, 3) := dk_180 0 3 (dk_at dksX5_item_5 16 rfl rfl)
theorem dX5_item_136 : decode cX5_item 136 = .ok (.getfield 106, 3) := dk_180 0 106 (dk_at dksX5_item_5 19 rfl rfl)
theorem dX5_item_139 : decode cX5_item 139 = .ok (.iload 4, 2) := dk_21 4 (dk_at dksX5_item_5 22 rfl rfl)
theorem dX5_item_141 : decode cX5_item 141 = .ok (.iconst 2, 1) := dk_5 (dk_at dksX5_item_6 0 rfl rfl)
theorem dX5_item_142 : decode cX5_item 142 = .ok (.iadd, 1) := dk_96 (dk_at dksX5_item_6 1 rfl rfl)
theorem dX5_item_143 : decode cX5_item 143 = .ok (.aload_n 0, 1) := dk_42 (dk_at dksX5_item_6 2 rfl rfl)
theorem dX5_item_144 : decode cX5_item 144 = .ok (.getfield 19, 3) := dk_180 0 19 (dk_at dksX5_item_6 3 rfl rfl)
theorem dX5_item_147 : decode cX5_item 147 = .ok (.iastore, 1) := dk_79 (dk_at dksX5_item_6 6 rfl rfl)
theorem dX5_item_148 : decode cX5_item 148 = .ok (.aload_n 0, 1) := dk_42 (dk_at dksX5_item_6 7 rfl rfl)
theorem dX5_item_149 : decode cX5_item 149 = .ok (.getfield 3, 3) := dk_180 0 3 (dk_at dksX5_item_6 8 rfl rfl)
theorem dX5_item_152 : decode cX5_item 152 = .ok (.getfield 106, 3) := dk_180 0 106 (dk_at dksX5_item_6 11 rfl rfl)
theorem dX5_item_155 : decode cX5_item 155 = .ok (.iload 4, 2) := dk_21 4 (dk_at dksX5_item_6 14 rfl rfl)
theorem dX5_item_157 : decode cX5_item 157 = .ok (.iconst 3, 1) := dk_6 (dk_at dksX5_item_6 16 rfl rfl)
theorem dX5_item_158 : decode cX5_item 158 = .ok (.iadd, 1) := dk_96 (dk_at dksX5_item_6 17 rfl rfl)
theorem dX5_item_159 : decode cX5_item 159 = .ok (.aload_n 0, 1) := dk_42 (dk_at dksX5_item_6 18 rfl rfl)
theorem dX5_item_160 : decode cX5_item 160 = .ok (.getfield 3, 3) := dk_180 0 3 (dk_at dksX5_item_6 19 rfl rfl)
theorem dX5_item_163 : decode cX5_item 163 = .ok (.getfield 44, 3) := dk_180 0 44 (dk_at dksX5_item_7 0 rfl rfl)
theorem dX5_item_166 : decode cX5_item 166 = .ok (.getfield 47, 3) := dk_180 0 47 (dk_at dksX5_item_7 3 rfl rfl)
theorem dX5_item_169 : decode cX5_item 169 = .ok (.iload_n 1, 1) := dk_27 (dk_at dksX5_item_7 6 rfl rfl)
theorem dX5_item_170 : decode cX5_item 170 = .ok (.isub, 1) := dk_100 (dk_at dksX5_item_7 7 rfl rfl)
theorem dX5_item_171 : decode cX5_item 171 = .ok (.iastore, 1) := dk_79 (dk_at dksX5_item_7 8 rfl rfl)
theorem dX5_item_172 : decode cX5_item 172 = .ok (.aload_n 0, 1) := dk_42 (dk_at dksX5_item_7 9 rfl rfl)
theorem dX5_item_173 : decode cX5_item 173 = .ok (.getfield 3, 3) := dk_180 0 3 (dk_at dksX5_item_7 10 rfl rfl)
theorem dX5_item_176 : decode cX5_item 176 = .ok (.getfield 106, 3) := dk_180 0 106 (dk_at dksX5_item_7 13 rfl rfl)
theorem dX5_item_179 : decode cX5_item 179 = .ok (.iload 4, 2) := dk_21 4 (dk_at dksX5_item_7 16 rfl rfl)
theorem dX5_item_181 : decode cX5_item 181 = .ok (.iconst 4, 1) := dk_7 (dk_at dksX5_item_7 18 rfl rfl)
theorem dX5_item_182 : decode cX5_item 182 = .ok (.iadd, 1) := dk_96 (dk_at dksX5_item_7 19 rfl rfl)
theorem dX5_item_183 : decode cX5_item 183 = .ok (.aload_n 0, 1) := dk_42 (dk_at dksX5_item_7 20 rfl rfl)
theorem dX5_item_184 : decode cX5_item 184 = .ok (.getfield 3, 3) := dk_180 0 3 (dk_at dksX5_item_7 21 rfl rfl)
theorem dX5_item_187 : decode cX5_item 187 = .ok (.getfield 38, 3) := dk_180 0 38 (dk_at dksX5_item_8 0 rfl rfl)
theorem dX5_item_190 : decode cX5_item 190 = .ok (.iload_n 2, 1) := dk_28 (dk_at dksX5_item_8 3 rfl rfl)
theorem dX5_item_191 : decode cX5_item 191 = .ok (.isub, 1) := dk_100 (dk_at dksX5_item_8 4 rfl rfl)
theorem dX5_item_192 : decode cX5_item 192 = .ok (.iastore, 1) := dk_79 (dk_at dksX5_item_8 5 rfl rfl)
theorem dX5_item_193 : decode cX5_item 193 = .ok (.iload_n 3, 1) := dk_29 (dk_at dksX5_item_8 6 rfl rfl)
theorem dX5_item_194 : decode cX5_item 194 = .ok (.ifCond .le 7, 3) := dk_158 0 7 (dk_at dksX5_item_8 7 rfl rfl)
theorem dX5_item_197 : decode cX5_item 197 = .ok (.iconst 1, 1) := dk_4 (dk_at dksX5_item_8 10 rfl rfl)
theorem dX5_item_198 : decode cX5_item 198 = .ok (.goto 4, 3) := dk_167 0 4 (dk_at dksX5_item_8 11 rfl rfl)
theorem dX5_item_201 : decode cX5_item 201 = .ok (.iconst 0, 1) := dk_3 (dk_at dksX5_item_8 14 rfl rfl)
theorem dX5_item_202 : decode cX5_item 202 = .ok (.ireturn, 1) := dk_172 (dk_at dksX5_item_8 15 rfl rfl)
abbrev cX5_note : ByteArray := prog_5_method_12_code
def yX5_note : MethodName := ⟨RX5, "note", "()V"⟩
def dkwX5_note_1 : List UInt8 := [96, 181, 0, 19, 177]
abbrev dktX5_note_1 : List UInt8 := dkwX5_note_1 ++ []
def dkwX5_note_0 : List UInt8 := [42, 182, 0, 75, 60, 42, 27, 182, 0, 112, 42, 3, 5, 27, 96, 182, 0, 116, 42, 89, 180, 0, 19, 27]
abbrev dktX5_note_0 : List UInt8 := dkwX5_note_0 ++ dktX5_note_1
theorem dksX5_note_0 : cX5_note.data.toList.drop 0 = dktX5_note_0 := by decide +kernel
theorem dksX5_note_1 : cX5_note.data.toList.drop 24 = dktX5_note_1 := dk_seg dksX5_note_0 24 rfl rfl
theorem dX5_note_0 : decode cX5_note 0 = .ok (.aload_n 0, 1) := dk_42 (dk_at dksX5_note_0 0 rfl rfl)
theorem dX5_note_1 : decode cX5_note 1 = .ok (.invokevirtual 75, 3) := dk_182 0 75 (dk_at dksX5_note_0 1 rfl rfl)
theorem dX5_note_4 : decode cX5_note 4 = .ok (.istore_n 1, 1) := dk_60 (dk_at dksX5_note_0 4 rfl rfl)
theorem dX5_note_5 : decode cX5_note 5 = .ok (.aload_n 0, 1) := dk_42 (dk_at dksX5_note_0 5 rfl rfl)
theorem dX5_note_6 : decode cX5_note 6 = .ok (.iload_n 1, 1) := dk_27 (dk_at dksX5_note_0 6 rfl rfl)
theorem dX5_note_7 : decode cX5_note 7 = .ok (.invokevirtual 112, 3) := dk_182 0 112 (dk_at dksX5_note_0 7 rfl rfl)
theorem dX5_note_10 : decode cX5_note 10 = .ok (.aload_n 0, 1) := dk_42 (dk_at dksX5_note_0 10 rfl rfl)
theorem dX5_note_11 : decode cX5_note 11 = .ok (.iconst 0, 1) := dk_3 (dk_at dksX5_note_0 11 rfl rfl)
theorem dX5_note_12 : decode cX5_note 12 = .ok (.iconst 2, 1) := dk_5 (dk_at dksX5_note_0 12 rfl rfl)
theorem dX5_note_13 : decode cX5_note 13 = .ok (.iload_n 1, 1) := dk_27 (dk_at dksX5_note_0 13 rfl rfl)
theorem dX5_note_14 : decode cX5_note 14 = .ok (.iadd, 1) := dk_96 (dk_at dksX5_note_0 14 rfl rfl)
theorem dX5_note_15 : decode cX5_note 15 = .ok (.invokevirtual 116, 3) := dk_182 0 116 (dk_at dksX5_note_0 15 rfl rfl)
theorem dX5_note_18 : decode cX5_note 18 = .ok (.aload_n 0, 1) := dk_42 (dk_at dksX5_note_0 18 rfl rfl)
theorem dX5_note_19 : decode cX5_note 19 = .ok (.dup, 1) := dk_89 (dk_at dksX5_note_0 19 rfl rfl)
theorem dX5_note_20 : decode cX5_note 20 = .ok (.getfield 19, 3) := dk_180 0 19 (dk_at dksX5_note_0 20 rfl rfl)
theorem dX5_note_23 : decode cX5_note 23 = .ok (.iload_n 1, 1) := dk_27 (dk_at dksX5_note_0 23 rfl rfl)
theorem dX5_note_24 : decode cX5_note 24 = .ok (.iadd, 1) := dk_96 (dk_at dksX5_note_1 0 rfl rfl)
theorem dX5_note_25 : decode cX5_note 25 = .ok (.putfield 19, 3) := dk_181 0 19 (dk_at dksX5_note_1 1 rfl rfl)
theorem dX5_note_28 : decode cX5_note 28 = .ok (.return_, 1) := dk_177 (dk_at dksX5_note_1 4 rfl rfl)
abbrev cX5_again : ByteArray := prog_5_method_13_code
def yX5_again : MethodName := ⟨RX5, "again", "()V"⟩
def dkwX5_again_4 : List UInt8 := [96, 182, 0, 33, 182, 0, 119, 132, 3, 1, 167, 255, 222, 177]
abbrev dktX5_again_4 : List UInt8 := dkwX5_again_4 ++ []
def dkwX5_again_3 : List UInt8 := [29, 28, 162, 0, 35, 42, 180, 0, 3, 180, 0, 44, 42, 180, 0, 3, 180, 0, 44, 42, 180, 0, 50, 29]
abbrev dktX5_again_3 : List UInt8 := dkwX5_again_3 ++ dktX5_again_4
def dkwX5_again_2 : List UInt8 := [180, 0, 83, 42, 180, 0, 56, 27, 96, 46, 42, 180, 0, 50, 100, 61, 42, 28, 5, 182, 0, 116, 3, 62]
abbrev dktX5_again_2 : List UInt8 := dkwX5_again_2 ++ dktX5_again_3
def dkwX5_again_1 : List UInt8 := [162, 0, 7, 4, 167, 0, 4, 3, 8, 42, 180, 0, 19, 4, 100, 182, 0, 25, 42, 180, 0, 3]
abbrev dktX5_again_1 : List UInt8 := dkwX5_again_1 ++ dktX5_again_2
def dkwX5_again_0 : List UInt8 := [42, 182, 0, 75, 60, 42, 180, 0, 3, 27, 42, 180, 0, 3, 180, 0, 53, 42, 180, 0, 56, 100]
abbrev dktX5_again_0 : List UInt8 := dkwX5_again_0 ++ dktX5_again_1
theorem dksX5_again_0 : cX5_again.data.toList.drop 0 = dktX5_again_0 := by decide +kernel
theorem dksX5_again_1 : cX5_again.data.toList.drop 22 = dktX5_again_1 := dk_seg dksX5_again_0 22 rfl rfl
theorem dksX5_again_2 : cX5_again.data.toList.drop 44 = dktX5_again_2 := dk_seg dksX5_again_1 22 rfl rfl
theorem dksX5_again_3 : cX5_again.data.toList.drop 68 = dktX5_again_3 := dk_seg dksX5_again_2 24 rfl rfl
theorem dksX5_again_4 : cX5_again.data.toList.drop 92 = dktX5_again_4 := dk_seg dksX5_again_3 24 rfl rfl
theorem dX5_again_0 : decode cX5_again 0 = .ok (.aload_n 0, 1) := dk_42 (dk_at dksX5_again_0 0 rfl rfl)
theorem dX5_again_1 : decode cX5_again 1 = .ok (.invokevirtual 75, 3) := dk_182 0 75 (dk_at dksX5_again_0 1 rfl rfl)
theorem dX5_again_4 : decode cX5_again 4 = .ok (.istore_n 1, 1) := dk_60 (dk_at dksX5_again_0 4 rfl rfl)
theorem dX5_again_5 : decode cX5_again 5 = .ok (.aload_n 0, 1) := dk_42 (dk_at dksX5_again_0 5 rfl rfl)
theorem dX5_again_6 : decode cX5_again 6 = .ok (.getfield 3, 3) := dk_180 0 3 (dk_at dksX5_again_0 6 rfl rfl)
theorem dX5_again_9 : decode cX5_again 9 = .ok (.iload_n 1, 1) := dk_27 (dk_at dksX5_again_0 9 rfl rfl)
theorem dX5_again_10 : decode cX5_again 10 = .ok (.aload_n 0, 1) := dk_42 (dk_at dksX5_again_0 10 rfl rfl)
theorem dX5_again_11 : decode cX5_again 11 = .ok (.getfield 3, 3) := dk_180 0 3 (dk_at dksX5_again_0 11 rfl rfl)
theorem dX5_again_14 : decode cX5_again 14 = .ok (.getfield 53, 3) := dk_180 0 53 (dk_at dksX5_again_0 14 rfl rfl)
theorem dX5_again_17 : decode cX5_again 17 = .ok (.aload_n 0, 1) := dk_42 (dk_at dksX5_again_0 17 rfl rfl)
theorem dX5_again_18 : decode cX5_again 18 = .ok (.getfield 56, 3) := dk_180 0 56 (dk_at dksX5_again_0 18 rfl rfl)
theorem dX5_again_21 : decode cX5_again 21 = .ok (.isub, 1) := dk_100 (dk_at dksX5_again_0 21 rfl rfl)
theorem dX5_again_22 : decode cX5_again 22 = .ok (.if_icmp .ge 7, 3) := dk_162 0 7 (dk_at dksX5_again_1 0 rfl rfl)
theorem dX5_again_25 : decode cX5_again 25 = .ok (.iconst 1, 1) := dk_4 (dk_at dksX5_again_1 3 rfl rfl)
theorem dX5_again_26 : decode cX5_again 26 = .ok (.goto 4, 3) := dk_167 0 4 (dk_at dksX5_again_1 4 rfl rfl)
theorem dX5_again_29 : decode cX5_again 29 = .ok (.iconst 0, 1) := dk_3 (dk_at dksX5_again_1 7 rfl rfl)
theorem dX5_again_30 : decode cX5_again 30 = .ok (.iconst 5, 1) := dk_8 (dk_at dksX5_again_1 8 rfl rfl)
theorem dX5_again_31 : decode cX5_again 31 = .ok (.aload_n 0, 1) := dk_42 (dk_at dksX5_again_1 9 rfl rfl)
theorem dX5_again_32 : decode cX5_again 32 = .ok (.getfield 19, 3) := dk_180 0 19 (dk_at dksX5_again_1 10 rfl rfl)
theorem dX5_again_35 : decode cX5_again 35 = .ok (.iconst 1, 1) := dk_4 (dk_at dksX5_again_1 13 rfl rfl)
theorem dX5_again_36 : decode cX5_again 36 = .ok (.isub, 1) := dk_100 (dk_at dksX5_again_1 14 rfl rfl)
theorem dX5_again_37 : decode cX5_again 37 = .ok (.invokevirtual 25, 3) := dk_182 0 25 (dk_at dksX5_again_1 15 rfl rfl)
theorem dX5_again_40 : decode cX5_again 40 = .ok (.aload_n 0, 1) := dk_42 (dk_at dksX5_again_1 18 rfl rfl)
theorem dX5_again_41 : decode cX5_again 41 = .ok (.getfield 3, 3) := dk_180 0 3 (dk_at dksX5_again_1 19 rfl rfl)
theorem dX5_again_44 : decode cX5_again 44 = .ok (.getfield 83, 3) := dk_180 0 83 (dk_at dksX5_again_2 0 rfl rfl)
theorem dX5_again_47 : decode cX5_again 47 = .ok (.aload_n 0, 1) := dk_42 (dk_at dksX5_again_2 3 rfl rfl)
theorem dX5_again_48 : decode cX5_again 48 = .ok (.getfield 56, 3) := dk_180 0 56 (dk_at dksX5_again_2 4 rfl rfl)
theorem dX5_again_51 : decode cX5_again 51 = .ok (.iload_n 1, 1) := dk_27 (dk_at dksX5_again_2 7 rfl rfl)
theorem dX5_again_52 : decode cX5_again 52 = .ok (.iadd, 1) := dk_96 (dk_at dksX5_again_2 8 rfl rfl)
theorem dX5_again_53 : decode cX5_again 53 = .ok (.iaload, 1) := dk_46 (dk_at dksX5_again_2 9 rfl rfl)
theorem dX5_again_54 : decode cX5_again 54 = .ok (.aload_n 0, 1) := dk_42 (dk_at dksX5_again_2 10 rfl rfl)
theorem dX5_again_55 : decode cX5_again 55 = .ok (.getfield 50, 3) := dk_180 0 50 (dk_at dksX5_again_2 11 rfl rfl)
theorem dX5_again_58 : decode cX5_again 58 = .ok (.isub, 1) := dk_100 (dk_at dksX5_again_2 14 rfl rfl)
theorem dX5_again_59 : decode cX5_again 59 = .ok (.istore_n 2, 1) := dk_61 (dk_at dksX5_again_2 15 rfl rfl)
theorem dX5_again_60 : decode cX5_again 60 = .ok (.aload_n 0, 1) := dk_42 (dk_at dksX5_again_2 16 rfl rfl)
theorem dX5_again_61 : decode cX5_again 61 = .ok (.iload_n 2, 1) := dk_28 (dk_at dksX5_again_2 17 rfl rfl)
theorem dX5_again_62 : decode cX5_again 62 = .ok (.iconst 2, 1) := dk_5 (dk_at dksX5_again_2 18 rfl rfl)
theorem dX5_again_63 : decode cX5_again 63 = .ok (.invokevirtual 116, 3) := dk_182 0 116 (dk_at dksX5_again_2 19 rfl rfl)
theorem dX5_again_66 : decode cX5_again 66 = .ok (.iconst 0, 1) := dk_3 (dk_at dksX5_again_2 22 rfl rfl)
theorem dX5_again_67 : decode cX5_again 67 = .ok (.istore_n 3, 1) := dk_62 (dk_at dksX5_again_2 23 rfl rfl)
theorem dX5_again_68 : decode cX5_again 68 = .ok (.iload_n 3, 1) := dk_29 (dk_at dksX5_again_3 0 rfl rfl)
theorem dX5_again_69 : decode cX5_again 69 = .ok (.iload_n 2, 1) := dk_28 (dk_at dksX5_again_3 1 rfl rfl)
theorem dX5_again_70 : decode cX5_again 70 = .ok (.if_icmp .ge 35, 3) := dk_162 0 35 (dk_at dksX5_again_3 2 rfl rfl)
theorem dX5_again_73 : decode cX5_again 73 = .ok (.aload_n 0, 1) := dk_42 (dk_at dksX5_again_3 5 rfl rfl)
theorem dX5_again_74 : decode cX5_again 74 = .ok (.getfield 3, 3) := dk_180 0 3 (dk_at dksX5_again_3 6 rfl rfl)
theorem dX5_again_77 : decode cX5_again 77 = .ok (.getfield 44, 3) := dk_180 0 44 (dk_at dksX5_again_3 9 rfl rfl)
theorem dX5_again_80 : decode cX5_again 80 = .ok (.aload_n 0, 1) := dk_42 (dk_at dksX5_again_3 12 rfl rfl)
theorem dX5_again_81 : decode cX5_again 81 = .ok (.getfield 3, 3) := dk_180 0 3 (dk_at dksX5_again_3 13 rfl rfl)
theorem dX5_again_84 : decode cX5_again 84 = .ok (.getfield 44, 3) := dk_180 0 44 (dk_at dksX5_again_3 16 rfl rfl)
theorem dX5_again_87 : decode cX5_again 87 = .ok (.aload_n 0, 1) := dk_42 (dk_at dksX5_again_3 19 rfl rfl)
theorem dX5_again_88 : decode cX5_again 88 = .ok (.getfield 50, 3) := dk_180 0 50 (dk_at dksX5_again_3 20 rfl rfl)
theorem dX5_again_91 : decode cX5_again 91 = .ok (.iload_n 3, 1) := dk_29 (dk_at dksX5_again_3 23 rfl rfl)
theorem dX5_again_92 : decode cX5_again 92 = .ok (.iadd, 1) := dk_96 (dk_at dksX5_again_4 0 rfl rfl)
theorem dX5_again_93 : decode cX5_again 93 = .ok (.invokevirtual 33, 3) := dk_182 0 33 (dk_at dksX5_again_4 1 rfl rfl)
theorem dX5_again_96 : decode cX5_again 96 = .ok (.invokevirtual 119, 3) := dk_182 0 119 (dk_at dksX5_again_4 4 rfl rfl)
theorem dX5_again_99 : decode cX5_again 99 = .ok (.iinc 3 1, 3) := dk_132 3 1 (dk_at dksX5_again_4 7 rfl rfl)
theorem dX5_again_102 : decode cX5_again 102 = .ok (.goto (-34), 3) := dk_167 255 222 (dk_at dksX5_again_4 10 rfl rfl)
theorem dX5_again_105 : decode cX5_again 105 = .ok (.return_, 1) := dk_177 (dk_at dksX5_again_4 13 rfl rfl)
abbrev cX5_coded : ByteArray := prog_5_method_14_code
def yX5_coded : MethodName := ⟨RX5, "coded", "()V"⟩
def dkwX5_coded_10 : List UInt8 := [177]
abbrev dktX5_coded_10 : List UInt8 := dkwX5_coded_10 ++ []
def dkwX5_coded_9 : List UInt8 := [180, 0, 19, 42, 180, 0, 90, 100, 5, 29, 104, 96, 42, 180, 0, 90, 182, 0, 59, 42, 29, 182, 0, 151]
abbrev dktX5_coded_9 : List UInt8 := dkwX5_coded_9 ++ dktX5_coded_10
def dkwX5_coded_8 : List UInt8 := [180, 0, 109, 163, 0, 7, 4, 167, 0, 4, 3, 16, 11, 42, 180, 0, 90, 182, 0, 25, 42, 42]
abbrev dktX5_coded_8 : List UInt8 := dkwX5_coded_8 ++ dktX5_coded_9
def dkwX5_coded_7 : List UInt8 := [182, 0, 75, 62, 42, 180, 0, 3, 42, 180, 0, 3, 180, 0, 44, 180, 0, 47, 29, 96, 42, 180, 0, 3]
abbrev dktX5_coded_7 : List UInt8 := dkwX5_coded_7 ++ dktX5_coded_8
def dkwX5_coded_6 : List UInt8 := [167, 255, 195, 42, 180, 0, 3, 42, 180, 0, 3, 180, 0, 135, 182, 0, 148, 16, 6, 28, 182, 0, 25, 42]
abbrev dktX5_coded_6 : List UInt8 := dkwX5_coded_6 ++ dktX5_coded_7
def dkwX5_coded_5 : List UInt8 := [163, 0, 7, 4, 167, 0, 4, 3, 16, 6, 42, 180, 0, 19, 4, 100, 182, 0, 25, 132, 3, 1]
abbrev dktX5_coded_5 : List UInt8 := dkwX5_coded_5 ++ dktX5_coded_6
def dkwX5_coded_4 : List UInt8 := [182, 0, 75, 79, 42, 180, 0, 3, 42, 180, 0, 3, 180, 0, 135, 180, 0, 145, 29, 46, 16, 7]
abbrev dktX5_coded_4 : List UInt8 := dkwX5_coded_4 ++ dktX5_coded_5
def dkwX5_coded_3 : List UInt8 := [180, 0, 19, 61, 3, 62, 29, 27, 162, 0, 62, 42, 180, 0, 3, 180, 0, 135, 180, 0, 145, 29, 42]
abbrev dktX5_coded_3 : List UInt8 := dkwX5_coded_3 ++ dktX5_coded_4
def dkwX5_coded_2 : List UInt8 := [180, 0, 3, 180, 0, 135, 180, 0, 142, 28, 42, 182, 0, 75, 79, 132, 2, 1, 167, 255, 232, 42]
abbrev dktX5_coded_2 : List UInt8 := dkwX5_coded_2 ++ dktX5_coded_3
def dkwX5_coded_1 : List UInt8 := [182, 0, 25, 42, 180, 0, 3, 180, 0, 135, 27, 181, 0, 139, 3, 61, 28, 27, 162, 0, 25, 42]
abbrev dktX5_coded_1 : List UInt8 := dkwX5_coded_1 ++ dktX5_coded_2
def dkwX5_coded_0 : List UInt8 := [42, 182, 0, 75, 60, 42, 180, 0, 3, 27, 4, 16, 8, 184, 0, 122, 16, 6, 42, 180, 0, 19, 4, 100]
abbrev dktX5_coded_0 : List UInt8 := dkwX5_coded_0 ++ dktX5_coded_1
theorem dksX5_coded_0 : cX5_coded.data.toList.drop 0 = dktX5_coded_0 := by decide +kernel
theorem dksX5_coded_1 : cX5_coded.data.toList.drop 24 = dktX5_coded_1 := dk_seg dksX5_coded_0 24 rfl rfl
theorem dksX5_coded_2 : cX5_coded.data.toList.drop 46 = dktX5_coded_2 := dk_seg dksX5_coded_1 22 rfl rfl
theorem dksX5_coded_3 : cX5_coded.data.toList.drop 68 = dktX5_coded_3 := dk_seg dksX5_coded_2 22 rfl rfl
theorem dksX5_coded_4 : cX5_coded.data.toList.drop 91 = dktX5_coded_4 := dk_seg dksX5_coded_3 23 rfl rfl
theorem dksX5_coded_5 : cX5_coded.data.toList.drop 113 = dktX5_coded_5 := dk_seg dksX5_coded_4 22 rfl rfl
theorem dksX5_coded_6 : cX5_coded.data.toList.drop 135 = dktX5_coded_6 := dk_seg dksX5_coded_5 22 rfl rfl
theorem dksX5_coded_7 : cX5_coded.data.toList.drop 159 = dktX5_coded_7 := dk_seg dksX5_coded_6 24 rfl rfl
theorem dksX5_coded_8 : cX5_coded.data.toList.drop 183 = dktX5_coded_8 := dk_seg dksX5_coded_7 24 rfl rfl
theorem dksX5_coded_9 : cX5_coded.data.toList.drop 205 = dktX5_coded_9 := dk_seg dksX5_coded_8 22 rfl rfl
theorem dksX5_coded_10 : cX5_coded.data.toList.drop 229 = dktX5_coded_10 := dk_seg dksX5_coded_9 24 rfl rfl
theorem dX5_coded_0 : decode cX5_coded 0 = .ok (.aload_n 0, 1) := dk_42 (dk_at dksX5_coded_0 0 rfl rfl)
theorem dX5_coded_1 : decode cX5_coded 1 = .ok (.invokevirtual 75, 3) := dk_182 0 75 (dk_at dksX5_coded_0 1 rfl rfl)
theorem dX5_coded_4 : decode cX5_coded 4 = .ok (.istore_n 1, 1) := dk_60 (dk_at dksX5_coded_0 4 rfl rfl)
theorem dX5_coded_5 : decode cX5_coded 5 = .ok (.aload_n 0, 1) := dk_42 (dk_at dksX5_coded_0 5 rfl rfl)
theorem dX5_coded_6 : decode cX5_coded 6 = .ok (.getfield 3, 3) := dk_180 0 3 (dk_at dksX5_coded_0 6 rfl rfl)
theorem dX5_coded_9 : decode cX5_coded 9 = .ok (.iload_n 1, 1) := dk_27 (dk_at dksX5_coded_0 9 rfl rfl)
theorem dX5_coded_10 : decode cX5_coded 10 = .ok (.iconst 1, 1) := dk_4 (dk_at dksX5_coded_0 10 rfl rfl)
theorem dX5_coded_11 : decode cX5_coded 11 = .ok (.bipush 8, 2) := dk_16 8 (dk_at dksX5_coded_0 11 rfl rfl)
theorem dX5_coded_13 : decode cX5_coded 13 = .ok (.invokestatic 122, 3) := dk_184 0 122 (dk_at dksX5_coded_0 13 rfl rfl)
theorem dX5_coded_16 : decode cX5_coded 16 = .ok (.bipush 6, 2) := dk_16 6 (dk_at dksX5_coded_0 16 rfl rfl)
theorem dX5_coded_18 : decode cX5_coded 18 = .ok (.aload_n 0, 1) := dk_42 (dk_at dksX5_coded_0 18 rfl rfl)
theorem dX5_coded_19 : decode cX5_coded 19 = .ok (.getfield 19, 3) := dk_180 0 19 (dk_at dksX5_coded_0 19 rfl rfl)
theorem dX5_coded_22 : decode cX5_coded 22 = .ok (.iconst 1, 1) := dk_4 (dk_at dksX5_coded_0 22 rfl rfl)
theorem dX5_coded_23 : decode cX5_coded 23 = .ok (.isub, 1) := dk_100 (dk_at dksX5_coded_0 23 rfl rfl)
theorem dX5_coded_24 : decode cX5_coded 24 = .ok (.invokevirtual 25, 3) := dk_182 0 25 (dk_at dksX5_coded_1 0 rfl rfl)
theorem dX5_coded_27 : decode cX5_coded 27 = .ok (.aload_n 0, 1) := dk_42 (dk_at dksX5_coded_1 3 rfl rfl)
theorem dX5_coded_28 : decode cX5_coded 28 = .ok (.getfield 3, 3) := dk_180 0 3 (dk_at dksX5_coded_1 4 rfl rfl)
theorem dX5_coded_31 : decode cX5_coded 31 = .ok (.getfield 135, 3) := dk_180 0 135 (dk_at dksX5_coded_1 7 rfl rfl)
theorem dX5_coded_34 : decode cX5_coded 34 = .ok (.iload_n 1, 1) := dk_27 (dk_at dksX5_coded_1 10 rfl rfl)
theorem dX5_coded_35 : decode cX5_coded 35 = .ok (.putfield 139, 3) := dk_181 0 139 (dk_at dksX5_coded_1 11 rfl rfl)
theorem dX5_coded_38 : decode cX5_coded 38 = .ok (.iconst 0, 1) := dk_3 (dk_at dksX5_coded_1 14 rfl rfl)
theorem dX5_coded_39 : decode cX5_coded 39 = .ok (.istore_n 2, 1) := dk_61 (dk_at dksX5_coded_1 15 rfl rfl)
theorem dX5_coded_40 : decode cX5_coded 40 = .ok (.iload_n 2, 1) := dk_28 (dk_at dksX5_coded_1 16 rfl rfl)
theorem dX5_coded_41 : decode cX5_coded 41 = .ok (.iload_n 1, 1) := dk_27 (dk_at dksX5_coded_1 17 rfl rfl)
theorem dX5_coded_42 : decode cX5_coded 42 = .ok (.if_icmp .ge 25, 3) := dk_162 0 25 (dk_at dksX5_coded_1 18 rfl rfl)
theorem dX5_coded_45 : decode cX5_coded 45 = .ok (.aload_n 0, 1) := dk_42 (dk_at dksX5_coded_1 21 rfl rfl)
theorem dX5_coded_46 : decode cX5_coded 46 = .ok (.getfield 3, 3) := dk_180 0 3 (dk_at dksX5_coded_2 0 rfl rfl)
theorem dX5_coded_49 : decode cX5_coded 49 = .ok (.getfield 135, 3) := dk_180 0 135 (dk_at dksX5_coded_2 3 rfl rfl)
theorem dX5_coded_52 : decode cX5_coded 52 = .ok (.getfield 142, 3) := dk_180 0 142 (dk_at dksX5_coded_2 6 rfl rfl)
theorem dX5_coded_55 : decode cX5_coded 55 = .ok (.iload_n 2, 1) := dk_28 (dk_at dksX5_coded_2 9 rfl rfl)
theorem dX5_coded_56 : decode cX5_coded 56 = .ok (.aload_n 0, 1) := dk_42 (dk_at dksX5_coded_2 10 rfl rfl)
theorem dX5_coded_57 : decode cX5_coded 57 = .ok (.invokevirtual 75, 3) := dk_182 0 75 (dk_at dksX5_coded_2 11 rfl rfl)
theorem dX5_coded_60 : decode cX5_coded 60 = .ok (.iastore, 1) := dk_79 (dk_at dksX5_coded_2 14 rfl rfl)
theorem dX5_coded_61 : decode cX5_coded 61 = .ok (.iinc 2 1, 3) := dk_132 2 1 (dk_at dksX5_coded_2 15 rfl rfl)
theorem dX5_coded_64 : decode cX5_coded 64 = .ok (.goto (-24), 3) := dk_167 255 232 (dk_at dksX5_coded_2 18 rfl rfl)
theorem dX5_coded_67 : decode cX5_coded 67 = .ok (.aload_n 0, 1) := dk_42 (dk_at dksX5_coded_2 21 rfl rfl)
theorem dX5_coded_68 : decode cX5_coded 68 = .ok (.getfield 19, 3) := dk_180 0 19 (dk_at dksX5_coded_3 0 rfl rfl)
theorem dX5_coded_71 : decode cX5_coded 71 = .ok (.istore_n 2, 1) := dk_61 (dk_at dksX5_coded_3 3 rfl rfl)
theorem dX5_coded_72 : decode cX5_coded 72 = .ok (.iconst 0, 1) := dk_3 (dk_at dksX5_coded_3 4 rfl rfl)
theorem dX5_coded_73 : decode cX5_coded 73 = .ok (.istore_n 3, 1) := dk_62 (dk_at dksX5_coded_3 5 rfl rfl)
theorem dX5_coded_74 : decode cX5_coded 74 = .ok (.iload_n 3, 1) := dk_29 (dk_at dksX5_coded_3 6 rfl rfl)
theorem dX5_coded_75 : decode cX5_coded 75 = .ok (.iload_n 1, 1) := dk_27 (dk_at dksX5_coded_3 7 rfl rfl)
theorem dX5_coded_76 : decode cX5_coded 76 = .ok (.if_icmp .ge 62, 3) := dk_162 0 62 (dk_at dksX5_coded_3 8 rfl rfl)
theorem dX5_coded_79 : decode cX5_coded 79 = .ok (.aload_n 0, 1) := dk_42 (dk_at dksX5_coded_3 11 rfl rfl)
theorem dX5_coded_80 : decode cX5_coded 80 = .ok (.getfield 3, 3) := dk_180 0 3 (dk_at dksX5_coded_3 12 rfl rfl)
theorem dX5_coded_83 : decode cX5_coded 83 = .ok (.getfield 135, 3) := dk_180 0 135 (dk_at dksX5_coded_3 15 rfl rfl)
theorem dX5_coded_86 : decode cX5_coded 86 = .ok (.getfield 145, 3) := dk_180 0 145 (dk_at dksX5_coded_3 18 rfl rfl)
theorem dX5_coded_89 : decode cX5_coded 89 = .ok (.iload_n 3, 1) := dk_29 (dk_at dksX5_coded_3 21 rfl rfl)
theorem dX5_coded_90 : decode cX5_coded 90 = .ok (.aload_n 0, 1) := dk_42 (dk_at dksX5_coded_3 22 rfl rfl)
theorem dX5_coded_91 : decode cX5_coded 91 = .ok (.invokevirtual 75, 3) := dk_182 0 75 (dk_at dksX5_coded_4 0 rfl rfl)
theorem dX5_coded_94 : decode cX5_coded 94 = .ok (.iastore, 1) := dk_79 (dk_at dksX5_coded_4 3 rfl rfl)
theorem dX5_coded_95 : decode cX5_coded 95 = .ok (.aload_n 0, 1) := dk_42 (dk_at dksX5_coded_4 4 rfl rfl)
theorem dX5_coded_96 : decode cX5_coded 96 = .ok (.getfield 3, 3) := dk_180 0 3 (dk_at dksX5_coded_4 5 rfl rfl)
theorem dX5_coded_99 : decode cX5_coded 99 = .ok (.aload_n 0, 1) := dk_42 (dk_at dksX5_coded_4 8 rfl rfl)
theorem dX5_coded_100 : decode cX5_coded 100 = .ok (.getfield 3, 3) := dk_180 0 3 (dk_at dksX5_coded_4 9 rfl rfl)
theorem dX5_coded_103 : decode cX5_coded 103 = .ok (.getfield 135, 3) := dk_180 0 135 (dk_at dksX5_coded_4 12 rfl rfl)
theorem dX5_coded_106 : decode cX5_coded 106 = .ok (.getfield 145, 3) := dk_180 0 145 (dk_at dksX5_coded_4 15 rfl rfl)
theorem dX5_coded_109 : decode cX5_coded 109 = .ok (.iload_n 3, 1) := dk_29 (dk_at dksX5_coded_4 18 rfl rfl)
theorem dX5_coded_110 : decode cX5_coded 110 = .ok (.iaload, 1) := dk_46 (dk_at dksX5_coded_4 19 rfl rfl)
theorem dX5_coded_111 : decode cX5_coded 111 = .ok (.bipush 7, 2) := dk_16 7 (dk_at dksX5_coded_4 20 rfl rfl)
theorem dX5_coded_113 : decode cX5_coded 113 = .ok (.if_icmp .gt 7, 3) := dk_163 0 7 (dk_at dksX5_coded_5 0 rfl rfl)
theorem dX5_coded_116 : decode cX5_coded 116 = .ok (.iconst 1, 1) := dk_4 (dk_at dksX5_coded_5 3 rfl rfl)
theorem dX5_coded_117 : decode cX5_coded 117 = .ok (.goto 4, 3) := dk_167 0 4 (dk_at dksX5_coded_5 4 rfl rfl)
theorem dX5_coded_120 : decode cX5_coded 120 = .ok (.iconst 0, 1) := dk_3 (dk_at dksX5_coded_5 7 rfl rfl)
theorem dX5_coded_121 : decode cX5_coded 121 = .ok (.bipush 6, 2) := dk_16 6 (dk_at dksX5_coded_5 8 rfl rfl)
theorem dX5_coded_123 : decode cX5_coded 123 = .ok (.aload_n 0, 1) := dk_42 (dk_at dksX5_coded_5 10 rfl rfl)
theorem dX5_coded_124 : decode cX5_coded 124 = .ok (.getfield 19, 3) := dk_180 0 19 (dk_at dksX5_coded_5 11 rfl rfl)
theorem dX5_coded_127 : decode cX5_coded 127 = .ok (.iconst 1, 1) := dk_4 (dk_at dksX5_coded_5 14 rfl rfl)
theorem dX5_coded_128 : decode cX5_coded 128 = .ok (.isub, 1) := dk_100 (dk_at dksX5_coded_5 15 rfl rfl)
theorem dX5_coded_129 : decode cX5_coded 129 = .ok (.invokevirtual 25, 3) := dk_182 0 25 (dk_at dksX5_coded_5 16 rfl rfl)
theorem dX5_coded_132 : decode cX5_coded 132 = .ok (.iinc 3 1, 3) := dk_132 3 1 (dk_at dksX5_coded_5 19 rfl rfl)
theorem dX5_coded_135 : decode cX5_coded 135 = .ok (.goto (-61), 3) := dk_167 255 195 (dk_at dksX5_coded_6 0 rfl rfl)
theorem dX5_coded_138 : decode cX5_coded 138 = .ok (.aload_n 0, 1) := dk_42 (dk_at dksX5_coded_6 3 rfl rfl)
theorem dX5_coded_139 : decode cX5_coded 139 = .ok (.getfield 3, 3) := dk_180 0 3 (dk_at dksX5_coded_6 4 rfl rfl)
theorem dX5_coded_142 : decode cX5_coded 142 = .ok (.aload_n 0, 1) := dk_42 (dk_at dksX5_coded_6 7 rfl rfl)
theorem dX5_coded_143 : decode cX5_coded 143 = .ok (.getfield 3, 3) := dk_180 0 3 (dk_at dksX5_coded_6 8 rfl rfl)
theorem dX5_coded_146 : decode cX5_coded 146 = .ok (.getfield 135, 3) := dk_180 0 135 (dk_at dksX5_coded_6 11 rfl rfl)
theorem dX5_coded_149 : decode cX5_coded 149 = .ok (.invokevirtual 148, 3) := dk_182 0 148 (dk_at dksX5_coded_6 14 rfl rfl)
theorem dX5_coded_152 : decode cX5_coded 152 = .ok (.bipush 6, 2) := dk_16 6 (dk_at dksX5_coded_6 17 rfl rfl)
theorem dX5_coded_154 : decode cX5_coded 154 = .ok (.iload_n 2, 1) := dk_28 (dk_at dksX5_coded_6 19 rfl rfl)
theorem dX5_coded_155 : decode cX5_coded 155 = .ok (.invokevirtual 25, 3) := dk_182 0 25 (dk_at dksX5_coded_6 20 rfl rfl)
theorem dX5_coded_158 : decode cX5_coded 158 = .ok (.aload_n 0, 1) := dk_42 (dk_at dksX5_coded_6 23 rfl rfl)
theorem dX5_coded_159 : decode cX5_coded 159 = .ok (.invokevirtual 75, 3) := dk_182 0 75 (dk_at dksX5_coded_7 0 rfl rfl)
theorem dX5_coded_162 : decode cX5_coded 162 = .ok (.istore_n 3, 1) := dk_62 (dk_at dksX5_coded_7 3 rfl rfl)
theorem dX5_coded_163 : decode cX5_coded 163 = .ok (.aload_n 0, 1) := dk_42 (dk_at dksX5_coded_7 4 rfl rfl)
theorem dX5_coded_164 : decode cX5_coded 164 = .ok (.getfield 3, 3) := dk_180 0 3 (dk_at dksX5_coded_7 5 rfl rfl)
theorem dX5_coded_167 : decode cX5_coded 167 = .ok (.aload_n 0, 1) := dk_42 (dk_at dksX5_coded_7 8 rfl rfl)
theorem dX5_coded_168 : decode cX5_coded 168 = .ok (.getfield 3, 3) := dk_180 0 3 (dk_at dksX5_coded_7 9 rfl rfl)
theorem dX5_coded_171 : decode cX5_coded 171 = .ok (.getfield 44, 3) := dk_180 0 44 (dk_at dksX5_coded_7 12 rfl rfl)
theorem dX5_coded_174 : decode cX5_coded 174 = .ok (.getfield 47, 3) := dk_180 0 47 (dk_at dksX5_coded_7 15 rfl rfl)
theorem dX5_coded_177 : decode cX5_coded 177 = .ok (.iload_n 3, 1) := dk_29 (dk_at dksX5_coded_7 18 rfl rfl)
theorem dX5_coded_178 : decode cX5_coded 178 = .ok (.iadd, 1) := dk_96 (dk_at dksX5_coded_7 19 rfl rfl)
theorem dX5_coded_179 : decode cX5_coded 179 = .ok (.aload_n 0, 1) := dk_42 (dk_at dksX5_coded_7 20 rfl rfl)
theorem dX5_coded_180 : decode cX5_coded 180 = .ok (.getfield 3, 3) := dk_180 0 3 (dk_at dksX5_coded_7 21 rfl rfl)
theorem dX5_coded_183 : decode cX5_coded 183 = .ok (.getfield 109, 3) := dk_180 0 109 (dk_at dksX5_coded_8 0 rfl rfl)
theorem dX5_coded_186 : decode cX5_coded 186 = .ok (.if_icmp .gt 7, 3) := dk_163 0 7 (dk_at dksX5_coded_8 3 rfl rfl)
theorem dX5_coded_189 : decode cX5_coded 189 = .ok (.iconst 1, 1) := dk_4 (dk_at dksX5_coded_8 6 rfl rfl)
theorem dX5_coded_190 : decode cX5_coded 190 = .ok (.goto 4, 3) := dk_167 0 4 (dk_at dksX5_coded_8 7 rfl rfl)
theorem dX5_coded_193 : decode cX5_coded 193 = .ok (.iconst 0, 1) := dk_3 (dk_at dksX5_coded_8 10 rfl rfl)
theorem dX5_coded_194 : decode cX5_coded 194 = .ok (.bipush 11, 2) := dk_16 11 (dk_at dksX5_coded_8 11 rfl rfl)
theorem dX5_coded_196 : decode cX5_coded 196 = .ok (.aload_n 0, 1) := dk_42 (dk_at dksX5_coded_8 13 rfl rfl)
theorem dX5_coded_197 : decode cX5_coded 197 = .ok (.getfield 90, 3) := dk_180 0 90 (dk_at dksX5_coded_8 14 rfl rfl)
theorem dX5_coded_200 : decode cX5_coded 200 = .ok (.invokevirtual 25, 3) := dk_182 0 25 (dk_at dksX5_coded_8 17 rfl rfl)
theorem dX5_coded_203 : decode cX5_coded 203 = .ok (.aload_n 0, 1) := dk_42 (dk_at dksX5_coded_8 20 rfl rfl)
theorem dX5_coded_204 : decode cX5_coded 204 = .ok (.aload_n 0, 1) := dk_42 (dk_at dksX5_coded_8 21 rfl rfl)
theorem dX5_coded_205 : decode cX5_coded 205 = .ok (.getfield 19, 3) := dk_180 0 19 (dk_at dksX5_coded_9 0 rfl rfl)
theorem dX5_coded_208 : decode cX5_coded 208 = .ok (.aload_n 0, 1) := dk_42 (dk_at dksX5_coded_9 3 rfl rfl)
theorem dX5_coded_209 : decode cX5_coded 209 = .ok (.getfield 90, 3) := dk_180 0 90 (dk_at dksX5_coded_9 4 rfl rfl)
theorem dX5_coded_212 : decode cX5_coded 212 = .ok (.isub, 1) := dk_100 (dk_at dksX5_coded_9 7 rfl rfl)
theorem dX5_coded_213 : decode cX5_coded 213 = .ok (.iconst 2, 1) := dk_5 (dk_at dksX5_coded_9 8 rfl rfl)
theorem dX5_coded_214 : decode cX5_coded 214 = .ok (.iload_n 3, 1) := dk_29 (dk_at dksX5_coded_9 9 rfl rfl)
theorem dX5_coded_215 : decode cX5_coded 215 = .ok (.imul, 1) := dk_104 (dk_at dksX5_coded_9 10 rfl rfl)
theorem dX5_coded_216 : decode cX5_coded 216 = .ok (.iadd, 1) := dk_96 (dk_at dksX5_coded_9 11 rfl rfl)
theorem dX5_coded_217 : decode cX5_coded 217 = .ok (.aload_n 0, 1) := dk_42 (dk_at dksX5_coded_9 12 rfl rfl)
theorem dX5_coded_218 : decode cX5_coded 218 = .ok (.getfield 90, 3) := dk_180 0 90 (dk_at dksX5_coded_9 13 rfl rfl)
theorem dX5_coded_221 : decode cX5_coded 221 = .ok (.invokevirtual 59, 3) := dk_182 0 59 (dk_at dksX5_coded_9 16 rfl rfl)
theorem dX5_coded_224 : decode cX5_coded 224 = .ok (.aload_n 0, 1) := dk_42 (dk_at dksX5_coded_9 19 rfl rfl)
theorem dX5_coded_225 : decode cX5_coded 225 = .ok (.iload_n 3, 1) := dk_29 (dk_at dksX5_coded_9 20 rfl rfl)
theorem dX5_coded_226 : decode cX5_coded 226 = .ok (.invokevirtual 151, 3) := dk_182 0 151 (dk_at dksX5_coded_9 21 rfl rfl)
theorem dX5_coded_229 : decode cX5_coded 229 = .ok (.return_, 1) := dk_177 (dk_at dksX5_coded_10 0 rfl rfl)
abbrev cX5_bits : ByteArray := prog_5_method_15_code
def yX5_bits : MethodName := ⟨RX5, "bits", "(I)V"⟩
def dkwX5_bits_7 : List UInt8 := [167, 0, 4, 3, 16, 8, 42, 180, 0, 19, 4, 100, 182, 0, 25, 177]
abbrev dktX5_bits_7 : List UInt8 := dkwX5_bits_7 ++ []
def dkwX5_bits_6 : List UInt8 := [182, 0, 119, 132, 4, 1, 167, 255, 115, 42, 180, 0, 3, 29, 4, 28, 120, 4, 100, 126, 154, 0, 7, 4]
abbrev dktX5_bits_6 : List UInt8 := dkwX5_bits_6 ++ dktX5_bits_7
def dkwX5_bits_5 : List UInt8 := [4, 167, 0, 4, 3, 16, 7, 21, 8, 182, 0, 25, 167, 255, 167, 42, 180, 0, 3, 180, 0, 44, 21, 7]
abbrev dktX5_bits_5 : List UInt8 := dkwX5_bits_5 ++ dktX5_bits_6
def dkwX5_bits_4 : List UInt8 := [180, 0, 3, 21, 7, 2, 160, 0, 18, 42, 180, 0, 3, 180, 0, 135, 21, 6, 182, 0, 157, 153, 0, 7]
abbrev dktX5_bits_4 : List UInt8 := dkwX5_bits_4 ++ dktX5_bits_5
def dkwX5_bits_3 : List UInt8 := [96, 54, 5, 132, 6, 1, 42, 180, 0, 3, 180, 0, 135, 21, 5, 21, 6, 182, 0, 154, 54, 7, 42]
abbrev dktX5_bits_3 : List UInt8 := dkwX5_bits_3 ++ dktX5_bits_4
def dkwX5_bits_2 : List UInt8 := [28, 154, 0, 11, 42, 182, 0, 75, 62, 16, 8, 61, 132, 2, 255, 5, 21, 5, 104, 29, 28, 122, 4, 126]
abbrev dktX5_bits_2 : List UInt8 := dkwX5_bits_2 ++ dktX5_bits_3
def dkwX5_bits_1 : List UInt8 := [154, 0, 10, 42, 180, 0, 19, 167, 0, 9, 42, 180, 0, 19, 4, 100, 54, 8, 21, 7, 2, 160, 0, 89]
abbrev dktX5_bits_1 : List UInt8 := dkwX5_bits_1 ++ dktX5_bits_2
def dkwX5_bits_0 : List UInt8 := [3, 61, 3, 62, 3, 54, 4, 21, 4, 27, 162, 0, 141, 3, 54, 5, 3, 54, 6, 2, 54, 7, 28]
abbrev dktX5_bits_0 : List UInt8 := dkwX5_bits_0 ++ dktX5_bits_1
theorem dksX5_bits_0 : cX5_bits.data.toList.drop 0 = dktX5_bits_0 := by decide +kernel
theorem dksX5_bits_1 : cX5_bits.data.toList.drop 23 = dktX5_bits_1 := dk_seg dksX5_bits_0 23 rfl rfl
theorem dksX5_bits_2 : cX5_bits.data.toList.drop 47 = dktX5_bits_2 := dk_seg dksX5_bits_1 24 rfl rfl
theorem dksX5_bits_3 : cX5_bits.data.toList.drop 71 = dktX5_bits_3 := dk_seg dksX5_bits_2 24 rfl rfl
theorem dksX5_bits_4 : cX5_bits.data.toList.drop 94 = dktX5_bits_4 := dk_seg dksX5_bits_3 23 rfl rfl
theorem dksX5_bits_5 : cX5_bits.data.toList.drop 118 = dktX5_bits_5 := dk_seg dksX5_bits_4 24 rfl rfl
theorem dksX5_bits_6 : cX5_bits.data.toList.drop 142 = dktX5_bits_6 := dk_seg dksX5_bits_5 24 rfl rfl
theorem dksX5_bits_7 : cX5_bits.data.toList.drop 166 = dktX5_bits_7 := dk_seg dksX5_bits_6 24 rfl rfl
theorem dX5_bits_0 : decode cX5_bits 0 = .ok (.iconst 0, 1) := dk_3 (dk_at dksX5_bits_0 0 rfl rfl)
theorem dX5_bits_1 : decode cX5_bits 1 = .ok (.istore_n 2, 1) := dk_61 (dk_at dksX5_bits_0 1 rfl rfl)
theorem dX5_bits_2 : decode cX5_bits 2 = .ok (.iconst 0, 1) := dk_3 (dk_at dksX5_bits_0 2 rfl rfl)
theorem dX5_bits_3 : decode cX5_bits 3 = .ok (.istore_n 3, 1) := dk_62 (dk_at dksX5_bits_0 3 rfl rfl)
theorem dX5_bits_4 : decode cX5_bits 4 = .ok (.iconst 0, 1) := dk_3 (dk_at dksX5_bits_0 4 rfl rfl)
theorem dX5_bits_5 : decode cX5_bits 5 = .ok (.istore 4, 2) := dk_54 4 (dk_at dksX5_bits_0 5 rfl rfl)
theorem dX5_bits_7 : decode cX5_bits 7 = .ok (.iload 4, 2) := dk_21 4 (dk_at dksX5_bits_0 7 rfl rfl)
theorem dX5_bits_9 : decode cX5_bits 9 = .ok (.iload_n 1, 1) := dk_27 (dk_at dksX5_bits_0 9 rfl rfl)
theorem dX5_bits_10 : decode cX5_bits 10 = .ok (.if_icmp .ge 141, 3) := dk_162 0 141 (dk_at dksX5_bits_0 10 rfl rfl)
theorem dX5_bits_13 : decode cX5_bits 13 = .ok (.iconst 0, 1) := dk_3 (dk_at dksX5_bits_0 13 rfl rfl)
theorem dX5_bits_14 : decode cX5_bits 14 = .ok (.istore 5, 2) := dk_54 5 (dk_at dksX5_bits_0 14 rfl rfl)
theorem dX5_bits_16 : decode cX5_bits 16 = .ok (.iconst 0, 1) := dk_3 (dk_at dksX5_bits_0 16 rfl rfl)
theorem dX5_bits_17 : decode cX5_bits 17 = .ok (.istore 6, 2) := dk_54 6 (dk_at dksX5_bits_0 17 rfl rfl)
theorem dX5_bits_19 : decode cX5_bits 19 = .ok (.iconst (-1), 1) := dk_2 (dk_at dksX5_bits_0 19 rfl rfl)
theorem dX5_bits_20 : decode cX5_bits 20 = .ok (.istore 7, 2) := dk_54 7 (dk_at dksX5_bits_0 20 rfl rfl)
theorem dX5_bits_22 : decode cX5_bits 22 = .ok (.iload_n 2, 1) := dk_28 (dk_at dksX5_bits_0 22 rfl rfl)
theorem dX5_bits_23 : decode cX5_bits 23 = .ok (.ifCond .ne 10, 3) := dk_154 0 10 (dk_at dksX5_bits_1 0 rfl rfl)
theorem dX5_bits_26 : decode cX5_bits 26 = .ok (.aload_n 0, 1) := dk_42 (dk_at dksX5_bits_1 3 rfl rfl)
theorem dX5_bits_27 : decode cX5_bits 27 = .ok (.getfield 19, 3) := dk_180 0 19 (dk_at dksX5_bits_1 4 rfl rfl)
theorem dX5_bits_30 : decode cX5_bits 30 = .ok (.goto 9, 3) := dk_167 0 9 (dk_at dksX5_bits_1 7 rfl rfl)
theorem dX5_bits_33 : decode cX5_bits 33 = .ok (.aload_n 0, 1) := dk_42 (dk_at dksX5_bits_1 10 rfl rfl)
theorem dX5_bits_34 : decode cX5_bits 34 = .ok (.getfield 19, 3) := dk_180 0 19 (dk_at dksX5_bits_1 11 rfl rfl)
theorem dX5_bits_37 : decode cX5_bits 37 = .ok (.iconst 1, 1) := dk_4 (dk_at dksX5_bits_1 14 rfl rfl)
theorem dX5_bits_38 : decode cX5_bits 38 = .ok (.isub, 1) := dk_100 (dk_at dksX5_bits_1 15 rfl rfl)
theorem dX5_bits_39 : decode cX5_bits 39 = .ok (.istore 8, 2) := dk_54 8 (dk_at dksX5_bits_1 16 rfl rfl)
theorem dX5_bits_41 : decode cX5_bits 41 = .ok (.iload 7, 2) := dk_21 7 (dk_at dksX5_bits_1 18 rfl rfl)
theorem dX5_bits_43 : decode cX5_bits 43 = .ok (.iconst (-1), 1) := dk_2 (dk_at dksX5_bits_1 20 rfl rfl)
theorem dX5_bits_44 : decode cX5_bits 44 = .ok (.if_icmp .ne 89, 3) := dk_160 0 89 (dk_at dksX5_bits_1 21 rfl rfl)
theorem dX5_bits_47 : decode cX5_bits 47 = .ok (.iload_n 2, 1) := dk_28 (dk_at dksX5_bits_2 0 rfl rfl)
theorem dX5_bits_48 : decode cX5_bits 48 = .ok (.ifCond .ne 11, 3) := dk_154 0 11 (dk_at dksX5_bits_2 1 rfl rfl)
theorem dX5_bits_51 : decode cX5_bits 51 = .ok (.aload_n 0, 1) := dk_42 (dk_at dksX5_bits_2 4 rfl rfl)
theorem dX5_bits_52 : decode cX5_bits 52 = .ok (.invokevirtual 75, 3) := dk_182 0 75 (dk_at dksX5_bits_2 5 rfl rfl)
theorem dX5_bits_55 : decode cX5_bits 55 = .ok (.istore_n 3, 1) := dk_62 (dk_at dksX5_bits_2 8 rfl rfl)
theorem dX5_bits_56 : decode cX5_bits 56 = .ok (.bipush 8, 2) := dk_16 8 (dk_at dksX5_bits_2 9 rfl rfl)
theorem dX5_bits_58 : decode cX5_bits 58 = .ok (.istore_n 2, 1) := dk_61 (dk_at dksX5_bits_2 11 rfl rfl)
theorem dX5_bits_59 : decode cX5_bits 59 = .ok (.iinc 2 (-1), 3) := dk_132 2 255 (dk_at dksX5_bits_2 12 rfl rfl)
theorem dX5_bits_62 : decode cX5_bits 62 = .ok (.iconst 2, 1) := dk_5 (dk_at dksX5_bits_2 15 rfl rfl)
theorem dX5_bits_63 : decode cX5_bits 63 = .ok (.iload 5, 2) := dk_21 5 (dk_at dksX5_bits_2 16 rfl rfl)
theorem dX5_bits_65 : decode cX5_bits 65 = .ok (.imul, 1) := dk_104 (dk_at dksX5_bits_2 18 rfl rfl)
theorem dX5_bits_66 : decode cX5_bits 66 = .ok (.iload_n 3, 1) := dk_29 (dk_at dksX5_bits_2 19 rfl rfl)
theorem dX5_bits_67 : decode cX5_bits 67 = .ok (.iload_n 2, 1) := dk_28 (dk_at dksX5_bits_2 20 rfl rfl)
theorem dX5_bits_68 : decode cX5_bits 68 = .ok (.ishr, 1) := dk_122 (dk_at dksX5_bits_2 21 rfl rfl)
theorem dX5_bits_69 : decode cX5_bits 69 = .ok (.iconst 1, 1) := dk_4 (dk_at dksX5_bits_2 22 rfl rfl)
theorem dX5_bits_70 : decode cX5_bits 70 = .ok (.iand, 1) := dk_126 (dk_at dksX5_bits_2 23 rfl rfl)
theorem dX5_bits_71 : decode cX5_bits 71 = .ok (.iadd, 1) := dk_96 (dk_at dksX5_bits_3 0 rfl rfl)
theorem dX5_bits_72 : decode cX5_bits 72 = .ok (.istore 5, 2) := dk_54 5 (dk_at dksX5_bits_3 1 rfl rfl)
theorem dX5_bits_74 : decode cX5_bits 74 = .ok (.iinc 6 1, 3) := dk_132 6 1 (dk_at dksX5_bits_3 3 rfl rfl)
theorem dX5_bits_77 : decode cX5_bits 77 = .ok (.aload_n 0, 1) := dk_42 (dk_at dksX5_bits_3 6 rfl rfl)
theorem dX5_bits_78 : decode cX5_bits 78 = .ok (.getfield 3, 3) := dk_180 0 3 (dk_at dksX5_bits_3 7 rfl rfl)
theorem dX5_bits_81 : decode cX5_bits 81 = .ok (.getfield 135, 3) := dk_180 0 135 (dk_at dksX5_bits_3 10 rfl rfl)
theorem dX5_bits_84 : decode cX5_bits 84 = .ok (.iload 5, 2) := dk_21 5 (dk_at dksX5_bits_3 13 rfl rfl)
theorem dX5_bits_86 : decode cX5_bits 86 = .ok (.iload 6, 2) := dk_21 6 (dk_at dksX5_bits_3 15 rfl rfl)
theorem dX5_bits_88 : decode cX5_bits 88 = .ok (.invokevirtual 154, 3) := dk_182 0 154 (dk_at dksX5_bits_3 17 rfl rfl)
theorem dX5_bits_91 : decode cX5_bits 91 = .ok (.istore 7, 2) := dk_54 7 (dk_at dksX5_bits_3 20 rfl rfl)
theorem dX5_bits_93 : decode cX5_bits 93 = .ok (.aload_n 0, 1) := dk_42 (dk_at dksX5_bits_3 22 rfl rfl)
theorem dX5_bits_94 : decode cX5_bits 94 = .ok (.getfield 3, 3) := dk_180 0 3 (dk_at dksX5_bits_4 0 rfl rfl)
theorem dX5_bits_97 : decode cX5_bits 97 = .ok (.iload 7, 2) := dk_21 7 (dk_at dksX5_bits_4 3 rfl rfl)
theorem dX5_bits_99 : decode cX5_bits 99 = .ok (.iconst (-1), 1) := dk_2 (dk_at dksX5_bits_4 5 rfl rfl)
theorem dX5_bits_100 : decode cX5_bits 100 = .ok (.if_icmp .ne 18, 3) := dk_160 0 18 (dk_at dksX5_bits_4 6 rfl rfl)
theorem dX5_bits_103 : decode cX5_bits 103 = .ok (.aload_n 0, 1) := dk_42 (dk_at dksX5_bits_4 9 rfl rfl)
theorem dX5_bits_104 : decode cX5_bits 104 = .ok (.getfield 3, 3) := dk_180 0 3 (dk_at dksX5_bits_4 10 rfl rfl)
theorem dX5_bits_107 : decode cX5_bits 107 = .ok (.getfield 135, 3) := dk_180 0 135 (dk_at dksX5_bits_4 13 rfl rfl)
theorem dX5_bits_110 : decode cX5_bits 110 = .ok (.iload 6, 2) := dk_21 6 (dk_at dksX5_bits_4 16 rfl rfl)
theorem dX5_bits_112 : decode cX5_bits 112 = .ok (.invokevirtual 157, 3) := dk_182 0 157 (dk_at dksX5_bits_4 18 rfl rfl)
theorem dX5_bits_115 : decode cX5_bits 115 = .ok (.ifCond .eq 7, 3) := dk_153 0 7 (dk_at dksX5_bits_4 21 rfl rfl)
theorem dX5_bits_118 : decode cX5_bits 118 = .ok (.iconst 1, 1) := dk_4 (dk_at dksX5_bits_5 0 rfl rfl)
theorem dX5_bits_119 : decode cX5_bits 119 = .ok (.goto 4, 3) := dk_167 0 4 (dk_at dksX5_bits_5 1 rfl rfl)
theorem dX5_bits_122 : decode cX5_bits 122 = .ok (.iconst 0, 1) := dk_3 (dk_at dksX5_bits_5 4 rfl rfl)
theorem dX5_bits_123 : decode cX5_bits 123 = .ok (.bipush 7, 2) := dk_16 7 (dk_at dksX5_bits_5 5 rfl rfl)
theorem dX5_bits_125 : decode cX5_bits 125 = .ok (.iload 8, 2) := dk_21 8 (dk_at dksX5_bits_5 7 rfl rfl)
theorem dX5_bits_127 : decode cX5_bits 127 = .ok (.invokevirtual 25, 3) := dk_182 0 25 (dk_at dksX5_bits_5 9 rfl rfl)
theorem dX5_bits_130 : decode cX5_bits 130 = .ok (.goto (-89), 3) := dk_167 255 167 (dk_at dksX5_bits_5 12 rfl rfl)
theorem dX5_bits_133 : decode cX5_bits 133 = .ok (.aload_n 0, 1) := dk_42 (dk_at dksX5_bits_5 15 rfl rfl)
theorem dX5_bits_134 : decode cX5_bits 134 = .ok (.getfield 3, 3) := dk_180 0 3 (dk_at dksX5_bits_5 16 rfl rfl)
theorem dX5_bits_137 : decode cX5_bits 137 = .ok (.getfield 44, 3) := dk_180 0 44 (dk_at dksX5_bits_5 19 rfl rfl)
theorem dX5_bits_140 : decode cX5_bits 140 = .ok (.iload 7, 2) := dk_21 7 (dk_at dksX5_bits_5 22 rfl rfl)
theorem dX5_bits_142 : decode cX5_bits 142 = .ok (.invokevirtual 119, 3) := dk_182 0 119 (dk_at dksX5_bits_6 0 rfl rfl)
theorem dX5_bits_145 : decode cX5_bits 145 = .ok (.iinc 4 1, 3) := dk_132 4 1 (dk_at dksX5_bits_6 3 rfl rfl)
theorem dX5_bits_148 : decode cX5_bits 148 = .ok (.goto (-141), 3) := dk_167 255 115 (dk_at dksX5_bits_6 6 rfl rfl)
theorem dX5_bits_151 : decode cX5_bits 151 = .ok (.aload_n 0, 1) := dk_42 (dk_at dksX5_bits_6 9 rfl rfl)
theorem dX5_bits_152 : decode cX5_bits 152 = .ok (.getfield 3, 3) := dk_180 0 3 (dk_at dksX5_bits_6 10 rfl rfl)
theorem dX5_bits_155 : decode cX5_bits 155 = .ok (.iload_n 3, 1) := dk_29 (dk_at dksX5_bits_6 13 rfl rfl)
theorem dX5_bits_156 : decode cX5_bits 156 = .ok (.iconst 1, 1) := dk_4 (dk_at dksX5_bits_6 14 rfl rfl)
theorem dX5_bits_157 : decode cX5_bits 157 = .ok (.iload_n 2, 1) := dk_28 (dk_at dksX5_bits_6 15 rfl rfl)
theorem dX5_bits_158 : decode cX5_bits 158 = .ok (.ishl, 1) := dk_120 (dk_at dksX5_bits_6 16 rfl rfl)
theorem dX5_bits_159 : decode cX5_bits 159 = .ok (.iconst 1, 1) := dk_4 (dk_at dksX5_bits_6 17 rfl rfl)
theorem dX5_bits_160 : decode cX5_bits 160 = .ok (.isub, 1) := dk_100 (dk_at dksX5_bits_6 18 rfl rfl)
theorem dX5_bits_161 : decode cX5_bits 161 = .ok (.iand, 1) := dk_126 (dk_at dksX5_bits_6 19 rfl rfl)
theorem dX5_bits_162 : decode cX5_bits 162 = .ok (.ifCond .ne 7, 3) := dk_154 0 7 (dk_at dksX5_bits_6 20 rfl rfl)
theorem dX5_bits_165 : decode cX5_bits 165 = .ok (.iconst 1, 1) := dk_4 (dk_at dksX5_bits_6 23 rfl rfl)
theorem dX5_bits_166 : decode cX5_bits 166 = .ok (.goto 4, 3) := dk_167 0 4 (dk_at dksX5_bits_7 0 rfl rfl)
theorem dX5_bits_169 : decode cX5_bits 169 = .ok (.iconst 0, 1) := dk_3 (dk_at dksX5_bits_7 3 rfl rfl)
theorem dX5_bits_170 : decode cX5_bits 170 = .ok (.bipush 8, 2) := dk_16 8 (dk_at dksX5_bits_7 4 rfl rfl)
theorem dX5_bits_172 : decode cX5_bits 172 = .ok (.aload_n 0, 1) := dk_42 (dk_at dksX5_bits_7 6 rfl rfl)
theorem dX5_bits_173 : decode cX5_bits 173 = .ok (.getfield 19, 3) := dk_180 0 19 (dk_at dksX5_bits_7 7 rfl rfl)
theorem dX5_bits_176 : decode cX5_bits 176 = .ok (.iconst 1, 1) := dk_4 (dk_at dksX5_bits_7 10 rfl rfl)
theorem dX5_bits_177 : decode cX5_bits 177 = .ok (.isub, 1) := dk_100 (dk_at dksX5_bits_7 11 rfl rfl)
theorem dX5_bits_178 : decode cX5_bits 178 = .ok (.invokevirtual 25, 3) := dk_182 0 25 (dk_at dksX5_bits_7 12 rfl rfl)
theorem dX5_bits_181 : decode cX5_bits 181 = .ok (.return_, 1) := dk_177 (dk_at dksX5_bits_7 15 rfl rfl)
abbrev cX5_init : ByteArray := prog_5_method_1_code
def yX5_init : MethodName := ⟨RX5, "<init>", "(LBombFamilies;I)V"⟩
def dkwX5_init_0 : List UInt8 := [42, 43, 181, 0, 3, 42, 183, 0, 9, 42, 28, 181, 0, 15, 177]
abbrev dktX5_init_0 : List UInt8 := dkwX5_init_0 ++ []
theorem dksX5_init_0 : cX5_init.data.toList.drop 0 = dktX5_init_0 := by decide +kernel
theorem dX5_init_0 : decode cX5_init 0 = .ok (.aload_n 0, 1) := dk_42 (dk_at dksX5_init_0 0 rfl rfl)
theorem dX5_init_1 : decode cX5_init 1 = .ok (.aload_n 1, 1) := dk_43 (dk_at dksX5_init_0 1 rfl rfl)
theorem dX5_init_2 : decode cX5_init 2 = .ok (.putfield 3, 3) := dk_181 0 3 (dk_at dksX5_init_0 2 rfl rfl)
theorem dX5_init_5 : decode cX5_init 5 = .ok (.aload_n 0, 1) := dk_42 (dk_at dksX5_init_0 5 rfl rfl)
theorem dX5_init_6 : decode cX5_init 6 = .ok (.invokespecial 9, 3) := dk_183 0 9 (dk_at dksX5_init_0 6 rfl rfl)
theorem dX5_init_9 : decode cX5_init 9 = .ok (.aload_n 0, 1) := dk_42 (dk_at dksX5_init_0 9 rfl rfl)
theorem dX5_init_10 : decode cX5_init 10 = .ok (.iload_n 2, 1) := dk_28 (dk_at dksX5_init_0 10 rfl rfl)
theorem dX5_init_11 : decode cX5_init 11 = .ok (.putfield 15, 3) := dk_181 0 15 (dk_at dksX5_init_0 11 rfl rfl)
theorem dX5_init_14 : decode cX5_init 14 = .ok (.return_, 1) := dk_177 (dk_at dksX5_init_0 14 rfl rfl)
theorem q50 : (Jvm.Cond.initialized "BombFamilies$Scope") ∈ lw_all := lw_g (lw_at lw_m1 9 rfl) rfl
theorem q71 : (Jvm.Cond.fieldLinkNest "BombFamilies$Scope" (47 : Nat) "BombFamilies$Bytes" "many" "I" "BombFamilies") ∈ lw_tbl := lw_at lw_m1 30 rfl
theorem q85 : (Jvm.Cond.instanceMethod ({ cls := "BombFamilies$Scope", name := "stored", desc := "()V" } : Jvm.MethodName)) ∈ lw_all := lw_g (lw_at lw_m1 44 rfl) rfl
theorem q86 : (Jvm.Cond.selects "BombFamilies$Scope" ({ cls := "BombFamilies$Scope", name := "stored", desc := "()V" } : Jvm.MethodName) ({ cls := "BombFamilies$Scope", name := "stored", desc := "()V" } : Jvm.MethodName)) ∈ lw_all := lw_g (lw_at lw_m1 45 rfl) rfl
theorem q87 : (Jvm.Cond.code ({ cls := "BombFamilies$Scope", name := "stored", desc := "()V" } : Jvm.MethodName) prog_5_method_8_code (3 : Nat) (Option.none : Option Jvm.ClassFile.FieldType)) ∈ lw_all := lw_g (lw_at lw_m1 46 rfl) rfl
theorem q88 : (Jvm.Cond.methodLink "BombFamilies$Scope" (75 : Nat) ({ cls := "BombFamilies$Scope", name := "next", desc := "()I" } : Jvm.MethodName)) ∈ lw_all := lw_g (lw_at lw_m1 47 rfl) rfl
theorem q89 : (Jvm.Cond.privateMethod ({ cls := "BombFamilies$Scope", name := "next", desc := "()I" } : Jvm.MethodName)) ∈ lw_tbl := lw_at lw_m1 48 rfl
theorem q90 : (Jvm.Cond.instanceMethod ({ cls := "BombFamilies$Scope", name := "next", desc := "()I" } : Jvm.MethodName)) ∈ lw_all := lw_g (lw_at lw_m1 49 rfl) rfl
theorem q91 : (Jvm.Cond.instantiable "BombFamilies$Scope" (7 : Nat)) ∈ lw_all := lw_g (lw_at lw_m1 50 rfl) rfl
theorem q92 : (Jvm.Cond.code ({ cls := "BombFamilies$Scope", name := "next", desc := "()I" } : Jvm.MethodName) prog_5_method_2_code (1 : Nat) (Option.some Jvm.ClassFile.FieldType.int)) ∈ lw_all := lw_g (lw_at lw_m1 51 rfl) rfl
theorem q93 : (Jvm.Cond.methodLinkNest "BombFamilies$Scope" (25 : Nat) ({ cls := "BombFamilies", name := "need", desc := "(ZII)V" } : Jvm.MethodName) "BombFamilies") ∈ lw_tbl := lw_at lw_m1 52 rfl
theorem q97 : (Jvm.Cond.methodLink "BombFamilies$Scope" (33 : Nat) ({ cls := "BombFamilies$Bytes", name := "at", desc := "(I)I" } : Jvm.MethodName)) ∈ lw_all := lw_g (lw_at lw_m1 56 rfl) rfl
theorem q101 : (Jvm.Cond.methodLink "BombFamilies$Scope" (112 : Nat) ({ cls := "BombFamilies$Scope", name := "has", desc := "(I)V" } : Jvm.MethodName)) ∈ lw_all := lw_g (lw_at lw_m1 60 rfl) rfl
theorem q102 : (Jvm.Cond.privateMethod ({ cls := "BombFamilies$Scope", name := "has", desc := "(I)V" } : Jvm.MethodName)) ∈ lw_tbl := lw_at lw_m1 61 rfl
theorem q103 : (Jvm.Cond.instanceMethod ({ cls := "BombFamilies$Scope", name := "has", desc := "(I)V" } : Jvm.MethodName)) ∈ lw_all := lw_g (lw_at lw_m1 62 rfl) rfl
theorem q104 : (Jvm.Cond.code ({ cls := "BombFamilies$Scope", name := "has", desc := "(I)V" } : Jvm.MethodName) prog_5_method_3_code (2 : Nat) (Option.none : Option Jvm.ClassFile.FieldType)) ∈ lw_all := lw_g (lw_at lw_m1 63 rfl) rfl
theorem q105 : (Jvm.Cond.methodLink "BombFamilies$Scope" (116 : Nat) ({ cls := "BombFamilies$Scope", name := "brings", desc := "(II)V" } : Jvm.MethodName)) ∈ lw_all := lw_g (lw_at lw_m1 64 rfl) rfl
theorem q106 : (Jvm.Cond.privateMethod ({ cls := "BombFamilies$Scope", name := "brings", desc := "(II)V" } : Jvm.MethodName)) ∈ lw_tbl := lw_at lw_m1 65 rfl
theorem q107 : (Jvm.Cond.instanceMethod ({ cls := "BombFamilies$Scope", name := "brings", desc := "(II)V" } : Jvm.MethodName)) ∈ lw_all := lw_g (lw_at lw_m1 66 rfl) rfl
theorem q108 : (Jvm.Cond.code ({ cls := "BombFamilies$Scope", name := "brings", desc := "(II)V" } : Jvm.MethodName) prog_5_method_7_code (3 : Nat) (Option.none : Option Jvm.ClassFile.FieldType)) ∈ lw_all := lw_g (lw_at lw_m1 67 rfl) rfl
theorem q109 : (Jvm.Cond.methodLink "BombFamilies$Scope" (59 : Nat) ({ cls := "BombFamilies$Scope", name := "cost", desc := "(II)V" } : Jvm.MethodName)) ∈ lw_all := lw_g (lw_at lw_m1 68 rfl) rfl
theorem q110 : (Jvm.Cond.privateMethod ({ cls := "BombFamilies$Scope", name := "cost", desc := "(II)V" } : Jvm.MethodName)) ∈ lw_tbl := lw_at lw_m1 69 rfl
theorem q111 : (Jvm.Cond.instanceMethod ({ cls := "BombFamilies$Scope", name := "cost", desc := "(II)V" } : Jvm.MethodName)) ∈ lw_all := lw_g (lw_at lw_m1 70 rfl) rfl
theorem q112 : (Jvm.Cond.code ({ cls := "BombFamilies$Scope", name := "cost", desc := "(II)V" } : Jvm.MethodName) prog_5_method_4_code (3 : Nat) (Option.none : Option Jvm.ClassFile.FieldType)) ∈ lw_all := lw_g (lw_at lw_m1 71 rfl) rfl
theorem q113 : (Jvm.Cond.methodLink "BombFamilies$Scope" (119 : Nat) ({ cls := "BombFamilies$Bytes", name := "add", desc := "(I)V" } : Jvm.MethodName)) ∈ lw_all := lw_g (lw_at lw_m1 72 rfl) rfl
theorem q120 : (Jvm.Cond.instanceMethod ({ cls := "BombFamilies$Scope", name := "run", desc := "()V" } : Jvm.MethodName)) ∈ lw_all := lw_g (lw_at lw_m1 79 rfl) rfl
theorem q121 : (Jvm.Cond.selects "BombFamilies$Scope" ({ cls := "BombFamilies$Scope", name := "run", desc := "()V" } : Jvm.MethodName) ({ cls := "BombFamilies$Scope", name := "run", desc := "()V" } : Jvm.MethodName)) ∈ lw_all := lw_g (lw_at lw_m1 80 rfl) rfl
theorem q122 : (Jvm.Cond.code ({ cls := "BombFamilies$Scope", name := "run", desc := "()V" } : Jvm.MethodName) prog_5_method_9_code (4 : Nat) (Option.none : Option Jvm.ClassFile.FieldType)) ∈ lw_all := lw_g (lw_at lw_m1 81 rfl) rfl
theorem q126 : (Jvm.Cond.instanceMethod ({ cls := "BombFamilies$Scope", name := "copy", desc := "()V" } : Jvm.MethodName)) ∈ lw_all := lw_g (lw_at lw_m1 85 rfl) rfl
theorem q127 : (Jvm.Cond.selects "BombFamilies$Scope" ({ cls := "BombFamilies$Scope", name := "copy", desc := "()V" } : Jvm.MethodName) ({ cls := "BombFamilies$Scope", name := "copy", desc := "()V" } : Jvm.MethodName)) ∈ lw_all := lw_g (lw_at lw_m1 86 rfl) rfl
theorem q128 : (Jvm.Cond.code ({ cls := "BombFamilies$Scope", name := "copy", desc := "()V" } : Jvm.MethodName) prog_5_method_10_code (4 : Nat) (Option.none : Option Jvm.ClassFile.FieldType)) ∈ lw_all := lw_g (lw_at lw_m1 87 rfl) rfl
theorem q129 : (Jvm.Cond.methodLinkNest "BombFamilies$Scope" (122 : Nat) ({ cls := "BombFamilies", name := "in", desc := "(III)Z" } : Jvm.MethodName) "BombFamilies") ∈ lw_tbl := lw_at lw_m1 88 rfl
theorem q135 : (Jvm.Cond.instanceMethod ({ cls := "BombFamilies$Scope", name := "nest", desc := "()V" } : Jvm.MethodName)) ∈ lw_all := lw_g (lw_at lw_m1 94 rfl) rfl
theorem q136 : (Jvm.Cond.selects "BombFamilies$Scope" ({ cls := "BombFamilies$Scope", name := "nest", desc := "()V" } : Jvm.MethodName) ({ cls := "BombFamilies$Scope", name := "nest", desc := "()V" } : Jvm.MethodName)) ∈ lw_all := lw_g (lw_at lw_m1 95 rfl) rfl
theorem q137 : (Jvm.Cond.code ({ cls := "BombFamilies$Scope", name := "nest", desc := "()V" } : Jvm.MethodName) prog_5_method_11_code (3 : Nat) (Option.none : Option Jvm.ClassFile.FieldType)) ∈ lw_all := lw_g (lw_at lw_m1 96 rfl) rfl
theorem q138 : (Jvm.Cond.methodLink "BombFamilies$Scope" (133 : Nat) ({ cls := "BombFamilies$Scope", name := "read", desc := "(II)V" } : Jvm.MethodName)) ∈ lw_all := lw_g (lw_at lw_m1 97 rfl) rfl
theorem q139 : (Jvm.Cond.instanceMethod ({ cls := "BombFamilies$Scope", name := "read", desc := "(II)V" } : Jvm.MethodName)) ∈ lw_all := lw_g (lw_at lw_m1 98 rfl) rfl
theorem q140 : (Jvm.Cond.selects "BombFamilies$Scope" ({ cls := "BombFamilies$Scope", name := "read", desc := "(II)V" } : Jvm.MethodName) ({ cls := "BombFamilies$Scope", name := "read", desc := "(II)V" } : Jvm.MethodName)) ∈ lw_all := lw_g (lw_at lw_m1 99 rfl) rfl
theorem q141 : (Jvm.Cond.code ({ cls := "BombFamilies$Scope", name := "read", desc := "(II)V" } : Jvm.MethodName) prog_5_method_5_code (4 : Nat) (Option.none : Option Jvm.ClassFile.FieldType)) ∈ lw_all := lw_g (lw_at lw_m1 100 rfl) rfl
theorem q142 : (Jvm.Cond.methodLink "BombFamilies$Scope" (69 : Nat) ({ cls := "java/lang/Math", name := "max", desc := "(II)I" } : Jvm.MethodName)) ∈ lw_all := lw_g (lw_at lw_m1 101 rfl) rfl
theorem q145 : (Jvm.Cond.methodLink "BombFamilies$Scope" (79 : Nat) ({ cls := "BombFamilies$Scope", name := "item", desc := "()Z" } : Jvm.MethodName)) ∈ lw_all := lw_g (lw_at lw_m1 104 rfl) rfl
theorem q146 : (Jvm.Cond.privateMethod ({ cls := "BombFamilies$Scope", name := "item", desc := "()Z" } : Jvm.MethodName)) ∈ lw_tbl := lw_at lw_m1 105 rfl
theorem q147 : (Jvm.Cond.instanceMethod ({ cls := "BombFamilies$Scope", name := "item", desc := "()Z" } : Jvm.MethodName)) ∈ lw_all := lw_g (lw_at lw_m1 106 rfl) rfl
theorem q148 : (Jvm.Cond.code ({ cls := "BombFamilies$Scope", name := "item", desc := "()Z" } : Jvm.MethodName) prog_5_method_6_code (5 : Nat) (Option.some Jvm.ClassFile.FieldType.boolean)) ∈ lw_all := lw_g (lw_at lw_m1 107 rfl) rfl
theorem q149 : (Jvm.Cond.interfaceEntry "BombFamilies$Scope" (97 : Nat)) ∈ lw_tbl := lw_at lw_m1 108 rfl
theorem q150 : (Jvm.Cond.methodLink "BombFamilies$Scope" (97 : Nat) ({ cls := "BombFamilies$Kind", name := "read", desc := "(LBombFamilies$Scope;)V" } : Jvm.MethodName)) ∈ lw_all := lw_g (lw_at lw_m1 109 rfl) rfl
theorem q153 : (Jvm.Cond.methodLink "BombFamilies$Scope" (87 : Nat) ({ cls := "BombFamilies$Bytes", name := "check", desc := "(II)I" } : Jvm.MethodName)) ∈ lw_all := lw_g (lw_at lw_m1 112 rfl) rfl
theorem q161 : (Jvm.Cond.instanceMethod ({ cls := "BombFamilies$Scope", name := "note", desc := "()V" } : Jvm.MethodName)) ∈ lw_all := lw_g (lw_at lw_m1 120 rfl) rfl
theorem q162 : (Jvm.Cond.selects "BombFamilies$Scope" ({ cls := "BombFamilies$Scope", name := "note", desc := "()V" } : Jvm.MethodName) ({ cls := "BombFamilies$Scope", name := "note", desc := "()V" } : Jvm.MethodName)) ∈ lw_all := lw_g (lw_at lw_m1 121 rfl) rfl
theorem q163 : (Jvm.Cond.code ({ cls := "BombFamilies$Scope", name := "note", desc := "()V" } : Jvm.MethodName) prog_5_method_12_code (2 : Nat) (Option.none : Option Jvm.ClassFile.FieldType)) ∈ lw_all := lw_g (lw_at lw_m1 122 rfl) rfl
theorem q167 : (Jvm.Cond.instanceMethod ({ cls := "BombFamilies$Scope", name := "again", desc := "()V" } : Jvm.MethodName)) ∈ lw_all := lw_g (lw_at lw_m1 126 rfl) rfl
theorem q168 : (Jvm.Cond.selects "BombFamilies$Scope" ({ cls := "BombFamilies$Scope", name := "again", desc := "()V" } : Jvm.MethodName) ({ cls := "BombFamilies$Scope", name := "again", desc := "()V" } : Jvm.MethodName)) ∈ lw_all := lw_g (lw_at lw_m1 127 rfl) rfl
theorem q169 : (Jvm.Cond.code ({ cls := "BombFamilies$Scope", name := "again", desc := "()V" } : Jvm.MethodName) prog_5_method_13_code (4 : Nat) (Option.none : Option Jvm.ClassFile.FieldType)) ∈ lw_all := lw_g (lw_at lw_m1 128 rfl) rfl
theorem q173 : (Jvm.Cond.instanceMethod ({ cls := "BombFamilies$Scope", name := "coded", desc := "()V" } : Jvm.MethodName)) ∈ lw_all := lw_g (lw_at lw_m1 132 rfl) rfl
theorem q174 : (Jvm.Cond.selects "BombFamilies$Scope" ({ cls := "BombFamilies$Scope", name := "coded", desc := "()V" } : Jvm.MethodName) ({ cls := "BombFamilies$Scope", name := "coded", desc := "()V" } : Jvm.MethodName)) ∈ lw_all := lw_g (lw_at lw_m1 133 rfl) rfl
theorem q175 : (Jvm.Cond.code ({ cls := "BombFamilies$Scope", name := "coded", desc := "()V" } : Jvm.MethodName) prog_5_method_14_code (4 : Nat) (Option.none : Option Jvm.ClassFile.FieldType)) ∈ lw_all := lw_g (lw_at lw_m1 134 rfl) rfl
theorem q176 : (Jvm.Cond.methodLink "BombFamilies$Scope" (148 : Nat) ({ cls := "BombFamilies$Table", name := "isGood", desc := "()Z" } : Jvm.MethodName)) ∈ lw_all := lw_g (lw_at lw_m1 135 rfl) rfl
theorem q180 : (Jvm.Cond.methodLink "BombFamilies$Scope" (151 : Nat) ({ cls := "BombFamilies$Scope", name := "bits", desc := "(I)V" } : Jvm.MethodName)) ∈ lw_all := lw_g (lw_at lw_m1 139 rfl) rfl
theorem q181 : (Jvm.Cond.privateMethod ({ cls := "BombFamilies$Scope", name := "bits", desc := "(I)V" } : Jvm.MethodName)) ∈ lw_tbl := lw_at lw_m1 140 rfl
theorem q182 : (Jvm.Cond.instanceMethod ({ cls := "BombFamilies$Scope", name := "bits", desc := "(I)V" } : Jvm.MethodName)) ∈ lw_all := lw_g (lw_at lw_m1 141 rfl) rfl
theorem q183 : (Jvm.Cond.code ({ cls := "BombFamilies$Scope", name := "bits", desc := "(I)V" } : Jvm.MethodName) prog_5_method_15_code (9 : Nat) (Option.none : Option Jvm.ClassFile.FieldType)) ∈ lw_all := lw_g (lw_at lw_m1 142 rfl) rfl
theorem q184 : (Jvm.Cond.methodLink "BombFamilies$Scope" (154 : Nat) ({ cls := "BombFamilies$Table", name := "find", desc := "(II)I" } : Jvm.MethodName)) ∈ lw_all := lw_g (lw_at lw_m1 143 rfl) rfl
theorem q188 : (Jvm.Cond.methodLink "BombFamilies$Scope" (157 : Nat) ({ cls := "BombFamilies$Table", name := "hasLonger", desc := "(I)Z" } : Jvm.MethodName)) ∈ lw_all := lw_g (lw_at lw_m1 147 rfl) rfl
theorem q199 : (Jvm.Cond.fieldLinkNest "BombFamilies$Scope" (142 : Nat) "BombFamilies$Table" "symbols" "[I" "BombFamilies") ∈ lw_tbl := lw_at lw_m1 158 rfl
theorem q201 : (Jvm.Cond.fieldLinkNest "BombFamilies$Scope" (145 : Nat) "BombFamilies$Table" "lengths" "[I" "BombFamilies") ∈ lw_tbl := lw_at lw_m1 160 rfl
theorem q203 : (Jvm.Cond.fieldLinkNest "BombFamilies$Scope" (139 : Nat) "BombFamilies$Table" "many" "I" "BombFamilies") ∈ lw_tbl := lw_at lw_m1 162 rfl
theorem q285 : (Jvm.Cond.instanceMethod ({ cls := "BombFamilies$Scope", name := "<init>", desc := "(LBombFamilies;I)V" } : Jvm.MethodName)) ∈ lw_all := lw_g (lw_at lw_m2 4 rfl) rfl
theorem q286 : (Jvm.Cond.code ({ cls := "BombFamilies$Scope", name := "<init>", desc := "(LBombFamilies;I)V" } : Jvm.MethodName) prog_5_method_1_code (3 : Nat) (Option.none : Option Jvm.ClassFile.FieldType)) ∈ lw_all := lw_g (lw_at lw_m2 5 rfl) rfl
theorem q287 : (Jvm.Cond.methodLink "BombFamilies$Scope" (9 : Nat) ({ cls := "java/lang/Object", name := "<init>", desc := "()V" } : Jvm.MethodName)) ∈ lw_all := lw_g (lw_at lw_m2 6 rfl) rfl
theorem q288 : (Jvm.Cond.fieldLink "BombFamilies$Scope" (15 : Nat) "BombFamilies$Scope" "depth" "I") ∈ lw_all := lw_g (lw_at lw_m2 7 rfl) rfl
theorem q289 : (Jvm.Cond.fieldLink "BombFamilies$Scope" (22 : Nat) "BombFamilies$Scope" "end" "I") ∈ lw_all := lw_g (lw_at lw_m2 8 rfl) rfl
theorem q290 : (Jvm.Cond.fieldLink "BombFamilies$Scope" (50 : Nat) "BombFamilies$Scope" "outBegin" "I") ∈ lw_all := lw_g (lw_at lw_m2 9 rfl) rfl
theorem q291 : (Jvm.Cond.fieldLink "BombFamilies$Scope" (56 : Nat) "BombFamilies$Scope" "endsBegin" "I") ∈ lw_all := lw_g (lw_at lw_m2 10 rfl) rfl
theorem q292 : (Jvm.Cond.fieldLink "BombFamilies$Scope" (19 : Nat) "BombFamilies$Scope" "at" "I") ∈ lw_all := lw_g (lw_at lw_m2 11 rfl) rfl
theorem q293 : (Jvm.Cond.fieldLink "BombFamilies$Scope" (90 : Nat) "BombFamilies$Scope" "first" "I") ∈ lw_all := lw_g (lw_at lw_m2 12 rfl) rfl
theorem q294 : (Jvm.Cond.fieldLink "BombFamilies$Scope" (3 : Nat) "BombFamilies$Scope" "this$0" "LBombFamilies;") ∈ lw_all := lw_g (lw_at lw_m2 13 rfl) rfl
theorem q295 : (Jvm.Cond.laysFinal "BombFamilies$Scope" "BombFamilies$Scope" "depth" "I") ∈ lw_all := lw_g (lw_at lw_m2 14 rfl) rfl
theorem q296 : (Jvm.Cond.soleField "BombFamilies$Scope" "depth") ∈ lw_all := lw_g (lw_at lw_m2 15 rfl) rfl
theorem q297 : (Jvm.Cond.lays "BombFamilies$Scope" "BombFamilies$Scope" "end" "I") ∈ lw_all := lw_g (lw_at lw_m2 16 rfl) rfl
theorem q298 : (Jvm.Cond.soleField "BombFamilies$Scope" "end") ∈ lw_all := lw_g (lw_at lw_m2 17 rfl) rfl
theorem q299 : (Jvm.Cond.lays "BombFamilies$Scope" "BombFamilies$Scope" "outBegin" "I") ∈ lw_all := lw_g (lw_at lw_m2 18 rfl) rfl
theorem q300 : (Jvm.Cond.soleField "BombFamilies$Scope" "outBegin") ∈ lw_all := lw_g (lw_at lw_m2 19 rfl) rfl
theorem q301 : (Jvm.Cond.lays "BombFamilies$Scope" "BombFamilies$Scope" "endsBegin" "I") ∈ lw_all := lw_g (lw_at lw_m2 20 rfl) rfl
theorem q302 : (Jvm.Cond.soleField "BombFamilies$Scope" "endsBegin") ∈ lw_all := lw_g (lw_at lw_m2 21 rfl) rfl
theorem q303 : (Jvm.Cond.lays "BombFamilies$Scope" "BombFamilies$Scope" "at" "I") ∈ lw_all := lw_g (lw_at lw_m2 22 rfl) rfl
theorem q304 : (Jvm.Cond.soleField "BombFamilies$Scope" "at") ∈ lw_all := lw_g (lw_at lw_m2 23 rfl) rfl
theorem q305 : (Jvm.Cond.lays "BombFamilies$Scope" "BombFamilies$Scope" "first" "I") ∈ lw_all := lw_g (lw_at lw_m2 24 rfl) rfl
theorem q306 : (Jvm.Cond.soleField "BombFamilies$Scope" "first") ∈ lw_all := lw_g (lw_at lw_m2 25 rfl) rfl
theorem q307 : (Jvm.Cond.laysFinal "BombFamilies$Scope" "BombFamilies$Scope" "this$0" "LBombFamilies;") ∈ lw_all := lw_g (lw_at lw_m2 26 rfl) rfl
theorem q308 : (Jvm.Cond.soleField "BombFamilies$Scope" "this$0") ∈ lw_all := lw_g (lw_at lw_m2 27 rfl) rfl
theorem q309 : (Jvm.Cond.superclass "BombFamilies$Scope" "java/lang/Object") ∈ lw_all := lw_g (lw_at lw_m2 28 rfl) rfl
theorem q310 : (Jvm.Cond.fieldLinkNest "BombFamilies$Scope" (29 : Nat) "BombFamilies" "tape" "LBombFamilies$Bytes;" "BombFamilies") ∈ lw_tbl := lw_at lw_m2 29 rfl
theorem q315 : (Jvm.Cond.fieldLinkNest "BombFamilies$Scope" (93 : Nat) "BombFamilies" "kinds" "[LBombFamilies$Kind;" "BombFamilies") ∈ lw_tbl := lw_at lw_m2 34 rfl
theorem q317 : (Jvm.Cond.fieldLinkNest "BombFamilies$Scope" (135 : Nat) "BombFamilies" "table" "LBombFamilies$Table;" "BombFamilies") ∈ lw_tbl := lw_at lw_m2 36 rfl
theorem q320 : (Jvm.Cond.fieldLinkNest "BombFamilies$Scope" (129 : Nat) "BombFamilies" "scopes" "[LBombFamilies$Scope;" "BombFamilies") ∈ lw_tbl := lw_at lw_m2 39 rfl
theorem q322 : (Jvm.Cond.fieldLinkNest "BombFamilies$Scope" (83 : Nat) "BombFamilies" "ends" "[I" "BombFamilies") ∈ lw_tbl := lw_at lw_m2 41 rfl
theorem q324 : (Jvm.Cond.fieldLinkNest "BombFamilies$Scope" (53 : Nat) "BombFamilies" "ended" "I" "BombFamilies") ∈ lw_tbl := lw_at lw_m2 43 rfl
theorem q326 : (Jvm.Cond.fieldLinkNest "BombFamilies$Scope" (106 : Nat) "BombFamilies" "items" "[I" "BombFamilies") ∈ lw_tbl := lw_at lw_m2 45 rfl
theorem q328 : (Jvm.Cond.fieldLinkNest "BombFamilies$Scope" (103 : Nat) "BombFamilies" "itemMany" "I" "BombFamilies") ∈ lw_tbl := lw_at lw_m2 47 rfl
theorem q330 : (Jvm.Cond.fieldLinkNest "BombFamilies$Scope" (44 : Nat) "BombFamilies" "out" "LBombFamilies$Bytes;" "BombFamilies") ∈ lw_tbl := lw_at lw_m2 49 rfl
theorem q332 : (Jvm.Cond.fieldLinkNest "BombFamilies$Scope" (109 : Nat) "BombFamilies" "most" "I" "BombFamilies") ∈ lw_tbl := lw_at lw_m2 51 rfl
theorem q334 : (Jvm.Cond.fieldLinkNest "BombFamilies$Scope" (41 : Nat) "BombFamilies" "limit" "I" "BombFamilies") ∈ lw_tbl := lw_at lw_m2 53 rfl
theorem q336 : (Jvm.Cond.fieldLinkNest "BombFamilies$Scope" (126 : Nat) "BombFamilies" "deepest" "I" "BombFamilies") ∈ lw_tbl := lw_at lw_m2 55 rfl
theorem q338 : (Jvm.Cond.fieldLinkNest "BombFamilies$Scope" (38 : Nat) "BombFamilies" "steps" "I" "BombFamilies") ∈ lw_tbl := lw_at lw_m2 57 rfl
theorem q340 : (Jvm.Cond.fieldLinkNest "BombFamilies$Scope" (66 : Nat) "BombFamilies" "deep" "I" "BombFamilies") ∈ lw_tbl := lw_at lw_m2 59 rfl
theorem q342 : (Jvm.Cond.fieldLinkNest "BombFamilies$Scope" (63 : Nat) "BombFamilies" "packs" "I" "BombFamilies") ∈ lw_tbl := lw_at lw_m2 61 rfl
theorem in_X5 : ∀ w ∈ wsX50, w ∈ lw_all := lw_in wsX50 [295, 297, 299, 301, 303, 305, 307] (by decide +kernel) (by decide +kernel)

/-! java/lang/Math -/
set_option maxRecDepth 100000
def RJ0 : String := "java/lang/Math"
abbrev cJ0_max : ByteArray := prog_10_method_65_code
def yJ0_max : MethodName := ⟨RJ0, "max", "(II)I"⟩
def dkwJ0_max_0 : List UInt8 := [26, 27, 161, 0, 7, 26, 167, 0, 4, 27, 172]
abbrev dktJ0_max_0 : List UInt8 := dkwJ0_max_0 ++ []
theorem dksJ0_max_0 : cJ0_max.data.toList.drop 0 = dktJ0_max_0 := by decide +kernel
theorem dJ0_max_0 : decode cJ0_max 0 = .ok (.iload_n 0, 1) := dk_26 (dk_at dksJ0_max_0 0 rfl rfl)
theorem dJ0_max_1 : decode cJ0_max 1 = .ok (.iload_n 1, 1) := dk_27 (dk_at dksJ0_max_0 1 rfl rfl)
theorem dJ0_max_2 : decode cJ0_max 2 = .ok (.if_icmp .lt 7, 3) := dk_161 0 7 (dk_at dksJ0_max_0 2 rfl rfl)
theorem dJ0_max_5 : decode cJ0_max 5 = .ok (.iload_n 0, 1) := dk_26 (dk_at dksJ0_max_0 5 rfl rfl)
theorem dJ0_max_6 : decode cJ0_max 6 = .ok (.goto 4, 3) := dk_167 0 4 (dk_at dksJ0_max_0 6 rfl rfl)
theorem dJ0_max_9 : decode cJ0_max 9 = .ok (.iload_n 1, 1) := dk_27 (dk_at dksJ0_max_0 9 rfl rfl)
theorem dJ0_max_10 : decode cJ0_max 10 = .ok (.ireturn, 1) := dk_172 (dk_at dksJ0_max_0 10 rfl rfl)
theorem q44 : (Jvm.Cond.initialized "java/lang/Math") ∈ lw_all := lw_g (lw_at lw_m1 3 rfl) rfl
theorem q143 : (Jvm.Cond.static ({ cls := "java/lang/Math", name := "max", desc := "(II)I" } : Jvm.MethodName)) ∈ lw_all := lw_g (lw_at lw_m1 102 rfl) rfl
theorem q144 : (Jvm.Cond.code ({ cls := "java/lang/Math", name := "max", desc := "(II)I" } : Jvm.MethodName) prog_10_method_65_code (2 : Nat) (Option.some Jvm.ClassFile.FieldType.int)) ∈ lw_all := lw_g (lw_at lw_m1 103 rfl) rfl

/-! java/lang/Throwable -/
set_option maxRecDepth 100000
def RJ1 : String := "java/lang/Throwable"
def TJ1 : u_T := fun k => match k with
  | 0 => ("java/lang/Throwable", "cause", "Ljava/lang/Throwable;", false)
  | 1 => ("java/lang/Throwable", "stackTrace", "[Ljava/lang/StackTraceElement;", false)
  | 2 => ("java/lang/Throwable", "suppressedExceptions", "Ljava/util/List;", false)
  | 3 => ("java/lang/Throwable", "detailMessage", "Ljava/lang/String;", false)
  | _ => ("java/lang/Throwable", "backtrace", "Ljava/lang/Object;", false)
def tyJ1 : Nat → FieldType := fun k => match k with
  | 0 => .object "java/lang/Throwable"
  | 1 => .array (.object "java/lang/StackTraceElement")
  | 2 => .object "java/util/List"
  | 3 => .object "java/lang/String"
  | _ => .object "java/lang/Object"
abbrev wsJ10 : List Cond := u_ws RJ1 TJ1 5
theorem nmJ1 : ∀ a, a < 5 → ∀ b, b < 5 → a ≠ b → (TJ1 a).2.1 ≠ (TJ1 b).2.1 := by decide +kernel
theorem tyJ1_ok : ∀ k, k < 5 → parseFieldDescriptor (TJ1 k).2.2.1 = some (tyJ1 k) := by decide +kernel
abbrev cJ1_init : ByteArray := prog_13_method_1_code
def yJ1_init : MethodName := ⟨RJ1, "<init>", "()V"⟩
def dkwJ1_init_1 : List UInt8 := [182, 0, 27, 87, 177]
abbrev dktJ1_init_1 : List UInt8 := dkwJ1_init_1 ++ []
def dkwJ1_init_0 : List UInt8 := [42, 183, 0, 1, 42, 42, 181, 0, 7, 42, 178, 0, 13, 181, 0, 17, 42, 178, 0, 20, 181, 0, 24, 42]
abbrev dktJ1_init_0 : List UInt8 := dkwJ1_init_0 ++ dktJ1_init_1
theorem dksJ1_init_0 : cJ1_init.data.toList.drop 0 = dktJ1_init_0 := by decide +kernel
theorem dksJ1_init_1 : cJ1_init.data.toList.drop 24 = dktJ1_init_1 := dk_seg dksJ1_init_0 24 rfl rfl
theorem dJ1_init_0 : decode cJ1_init 0 = .ok (.aload_n 0, 1) := dk_42 (dk_at dksJ1_init_0 0 rfl rfl)
theorem dJ1_init_1 : decode cJ1_init 1 = .ok (.invokespecial 1, 3) := dk_183 0 1 (dk_at dksJ1_init_0 1 rfl rfl)
theorem dJ1_init_4 : decode cJ1_init 4 = .ok (.aload_n 0, 1) := dk_42 (dk_at dksJ1_init_0 4 rfl rfl)
theorem dJ1_init_5 : decode cJ1_init 5 = .ok (.aload_n 0, 1) := dk_42 (dk_at dksJ1_init_0 5 rfl rfl)
theorem dJ1_init_6 : decode cJ1_init 6 = .ok (.putfield 7, 3) := dk_181 0 7 (dk_at dksJ1_init_0 6 rfl rfl)
theorem dJ1_init_9 : decode cJ1_init 9 = .ok (.aload_n 0, 1) := dk_42 (dk_at dksJ1_init_0 9 rfl rfl)
theorem dJ1_init_10 : decode cJ1_init 10 = .ok (.getstatic 13, 3) := dk_178 0 13 (dk_at dksJ1_init_0 10 rfl rfl)
theorem dJ1_init_13 : decode cJ1_init 13 = .ok (.putfield 17, 3) := dk_181 0 17 (dk_at dksJ1_init_0 13 rfl rfl)
theorem dJ1_init_16 : decode cJ1_init 16 = .ok (.aload_n 0, 1) := dk_42 (dk_at dksJ1_init_0 16 rfl rfl)
theorem dJ1_init_17 : decode cJ1_init 17 = .ok (.getstatic 20, 3) := dk_178 0 20 (dk_at dksJ1_init_0 17 rfl rfl)
theorem dJ1_init_20 : decode cJ1_init 20 = .ok (.putfield 24, 3) := dk_181 0 24 (dk_at dksJ1_init_0 20 rfl rfl)
theorem dJ1_init_23 : decode cJ1_init 23 = .ok (.aload_n 0, 1) := dk_42 (dk_at dksJ1_init_0 23 rfl rfl)
theorem dJ1_init_24 : decode cJ1_init 24 = .ok (.invokevirtual 27, 3) := dk_182 0 27 (dk_at dksJ1_init_1 0 rfl rfl)
theorem dJ1_init_27 : decode cJ1_init 27 = .ok (.pop, 1) := dk_87 (dk_at dksJ1_init_1 3 rfl rfl)
theorem dJ1_init_28 : decode cJ1_init 28 = .ok (.return_, 1) := dk_177 (dk_at dksJ1_init_1 4 rfl rfl)
abbrev cJ1_init_2 : ByteArray := prog_13_method_5_code
def yJ1_init_2 : MethodName := ⟨RJ1, "<init>", "(Ljava/lang/String;Ljava/lang/Throwable;ZZ)V"⟩
def dkwJ1_init_2_2 : List UInt8 := [44, 181, 0, 7, 29, 154, 0, 8, 42, 1, 181, 0, 24, 177]
abbrev dktJ1_init_2_2 : List UInt8 := dkwJ1_init_2_2 ++ []
def dkwJ1_init_2_1 : List UInt8 := [21, 4, 153, 0, 11, 42, 182, 0, 27, 87, 167, 0, 8, 42, 1, 181, 0, 17, 42, 43, 181, 0, 31, 42]
abbrev dktJ1_init_2_1 : List UInt8 := dkwJ1_init_2_1 ++ dktJ1_init_2_2
def dkwJ1_init_2_0 : List UInt8 := [42, 183, 0, 1, 42, 42, 181, 0, 7, 42, 178, 0, 13, 181, 0, 17, 42, 178, 0, 20, 181, 0, 24]
abbrev dktJ1_init_2_0 : List UInt8 := dkwJ1_init_2_0 ++ dktJ1_init_2_1
theorem dksJ1_init_2_0 : cJ1_init_2.data.toList.drop 0 = dktJ1_init_2_0 := by decide +kernel
theorem dksJ1_init_2_1 : cJ1_init_2.data.toList.drop 23 = dktJ1_init_2_1 := dk_seg dksJ1_init_2_0 23 rfl rfl
theorem dksJ1_init_2_2 : cJ1_init_2.data.toList.drop 47 = dktJ1_init_2_2 := dk_seg dksJ1_init_2_1 24 rfl rfl
theorem dJ1_init_2_0 : decode cJ1_init_2 0 = .ok (.aload_n 0, 1) := dk_42 (dk_at dksJ1_init_2_0 0 rfl rfl)
theorem dJ1_init_2_1 : decode cJ1_init_2 1 = .ok (.invokespecial 1, 3) := dk_183 0 1 (dk_at dksJ1_init_2_0 1 rfl rfl)
theorem dJ1_init_2_4 : decode cJ1_init_2 4 = .ok (.aload_n 0, 1) := dk_42 (dk_at dksJ1_init_2_0 4 rfl rfl)
theorem dJ1_init_2_5 : decode cJ1_init_2 5 = .ok (.aload_n 0, 1) := dk_42 (dk_at dksJ1_init_2_0 5 rfl rfl)
theorem dJ1_init_2_6 : decode cJ1_init_2 6 = .ok (.putfield 7, 3) := dk_181 0 7 (dk_at dksJ1_init_2_0 6 rfl rfl)
theorem dJ1_init_2_9 : decode cJ1_init_2 9 = .ok (.aload_n 0, 1) := dk_42 (dk_at dksJ1_init_2_0 9 rfl rfl)
theorem dJ1_init_2_10 : decode cJ1_init_2 10 = .ok (.getstatic 13, 3) := dk_178 0 13 (dk_at dksJ1_init_2_0 10 rfl rfl)
theorem dJ1_init_2_13 : decode cJ1_init_2 13 = .ok (.putfield 17, 3) := dk_181 0 17 (dk_at dksJ1_init_2_0 13 rfl rfl)
theorem dJ1_init_2_16 : decode cJ1_init_2 16 = .ok (.aload_n 0, 1) := dk_42 (dk_at dksJ1_init_2_0 16 rfl rfl)
theorem dJ1_init_2_17 : decode cJ1_init_2 17 = .ok (.getstatic 20, 3) := dk_178 0 20 (dk_at dksJ1_init_2_0 17 rfl rfl)
theorem dJ1_init_2_20 : decode cJ1_init_2 20 = .ok (.putfield 24, 3) := dk_181 0 24 (dk_at dksJ1_init_2_0 20 rfl rfl)
theorem dJ1_init_2_23 : decode cJ1_init_2 23 = .ok (.iload 4, 2) := dk_21 4 (dk_at dksJ1_init_2_1 0 rfl rfl)
theorem dJ1_init_2_25 : decode cJ1_init_2 25 = .ok (.ifCond .eq 11, 3) := dk_153 0 11 (dk_at dksJ1_init_2_1 2 rfl rfl)
theorem dJ1_init_2_28 : decode cJ1_init_2 28 = .ok (.aload_n 0, 1) := dk_42 (dk_at dksJ1_init_2_1 5 rfl rfl)
theorem dJ1_init_2_29 : decode cJ1_init_2 29 = .ok (.invokevirtual 27, 3) := dk_182 0 27 (dk_at dksJ1_init_2_1 6 rfl rfl)
theorem dJ1_init_2_32 : decode cJ1_init_2 32 = .ok (.pop, 1) := dk_87 (dk_at dksJ1_init_2_1 9 rfl rfl)
theorem dJ1_init_2_33 : decode cJ1_init_2 33 = .ok (.goto 8, 3) := dk_167 0 8 (dk_at dksJ1_init_2_1 10 rfl rfl)
theorem dJ1_init_2_36 : decode cJ1_init_2 36 = .ok (.aload_n 0, 1) := dk_42 (dk_at dksJ1_init_2_1 13 rfl rfl)
theorem dJ1_init_2_37 : decode cJ1_init_2 37 = .ok (.aconst_null, 1) := dk_1 (dk_at dksJ1_init_2_1 14 rfl rfl)
theorem dJ1_init_2_38 : decode cJ1_init_2 38 = .ok (.putfield 17, 3) := dk_181 0 17 (dk_at dksJ1_init_2_1 15 rfl rfl)
theorem dJ1_init_2_41 : decode cJ1_init_2 41 = .ok (.aload_n 0, 1) := dk_42 (dk_at dksJ1_init_2_1 18 rfl rfl)
theorem dJ1_init_2_42 : decode cJ1_init_2 42 = .ok (.aload_n 1, 1) := dk_43 (dk_at dksJ1_init_2_1 19 rfl rfl)
theorem dJ1_init_2_43 : decode cJ1_init_2 43 = .ok (.putfield 31, 3) := dk_181 0 31 (dk_at dksJ1_init_2_1 20 rfl rfl)
theorem dJ1_init_2_46 : decode cJ1_init_2 46 = .ok (.aload_n 0, 1) := dk_42 (dk_at dksJ1_init_2_1 23 rfl rfl)
theorem dJ1_init_2_47 : decode cJ1_init_2 47 = .ok (.aload_n 2, 1) := dk_44 (dk_at dksJ1_init_2_2 0 rfl rfl)
theorem dJ1_init_2_48 : decode cJ1_init_2 48 = .ok (.putfield 7, 3) := dk_181 0 7 (dk_at dksJ1_init_2_2 1 rfl rfl)
theorem dJ1_init_2_51 : decode cJ1_init_2 51 = .ok (.iload_n 3, 1) := dk_29 (dk_at dksJ1_init_2_2 4 rfl rfl)
theorem dJ1_init_2_52 : decode cJ1_init_2 52 = .ok (.ifCond .ne 8, 3) := dk_154 0 8 (dk_at dksJ1_init_2_2 5 rfl rfl)
theorem dJ1_init_2_55 : decode cJ1_init_2 55 = .ok (.aload_n 0, 1) := dk_42 (dk_at dksJ1_init_2_2 8 rfl rfl)
theorem dJ1_init_2_56 : decode cJ1_init_2 56 = .ok (.aconst_null, 1) := dk_1 (dk_at dksJ1_init_2_2 9 rfl rfl)
theorem dJ1_init_2_57 : decode cJ1_init_2 57 = .ok (.putfield 24, 3) := dk_181 0 24 (dk_at dksJ1_init_2_2 10 rfl rfl)
theorem dJ1_init_2_60 : decode cJ1_init_2 60 = .ok (.return_, 1) := dk_177 (dk_at dksJ1_init_2_2 13 rfl rfl)
theorem q46 : (Jvm.Cond.initialized "java/lang/Throwable") ∈ lw_all := lw_g (lw_at lw_m1 5 rfl) rfl
theorem q219 : (Jvm.Cond.declares ({ cls := "java/lang/Throwable", name := "<init>", desc := "()V" } : Jvm.MethodName)) ∈ lw_tbl := lw_at lw_m1 178 rfl
theorem q220 : (Jvm.Cond.declares ({ cls := "java/lang/Throwable", name := "<init>", desc := "(Ljava/lang/String;)V" } : Jvm.MethodName)) ∈ lw_tbl := lw_at lw_m1 179 rfl
theorem q224 : (Jvm.Cond.lays "java/lang/Throwable" "java/lang/Throwable" "cause" "Ljava/lang/Throwable;") ∈ lw_all := lw_g (lw_at lw_m1 183 rfl) rfl
theorem q226 : (Jvm.Cond.lays "java/lang/Throwable" "java/lang/Throwable" "stackTrace" "[Ljava/lang/StackTraceElement;") ∈ lw_all := lw_g (lw_at lw_m1 185 rfl) rfl
theorem q228 : (Jvm.Cond.lays "java/lang/Throwable" "java/lang/Throwable" "suppressedExceptions" "Ljava/util/List;") ∈ lw_all := lw_g (lw_at lw_m1 187 rfl) rfl
theorem q230 : (Jvm.Cond.lays "java/lang/Throwable" "java/lang/Throwable" "detailMessage" "Ljava/lang/String;") ∈ lw_all := lw_g (lw_at lw_m1 189 rfl) rfl
theorem q232 : (Jvm.Cond.lays "java/lang/Throwable" "java/lang/Throwable" "backtrace" "Ljava/lang/Object;") ∈ lw_all := lw_g (lw_at lw_m1 191 rfl) rfl
theorem q233 : (Jvm.Cond.fieldLink "java/lang/Throwable" (198 : Nat) "java/lang/Throwable" "backtrace" "Ljava/lang/Object;") ∈ lw_all := lw_g (lw_at lw_m1 192 rfl) rfl
theorem q234 : (Jvm.Cond.superclass "java/lang/Throwable" "java/lang/Object") ∈ lw_all := lw_g (lw_at lw_m1 193 rfl) rfl
theorem q235 : (Jvm.Cond.instanceMethod ({ cls := "java/lang/Throwable", name := "<init>", desc := "()V" } : Jvm.MethodName)) ∈ lw_all := lw_g (lw_at lw_m1 194 rfl) rfl
theorem q236 : (Jvm.Cond.code ({ cls := "java/lang/Throwable", name := "<init>", desc := "()V" } : Jvm.MethodName) prog_13_method_1_code (1 : Nat) (Option.none : Option Jvm.ClassFile.FieldType)) ∈ lw_all := lw_g (lw_at lw_m1 195 rfl) rfl
theorem q237 : (Jvm.Cond.methodLink "java/lang/Throwable" (1 : Nat) ({ cls := "java/lang/Object", name := "<init>", desc := "()V" } : Jvm.MethodName)) ∈ lw_all := lw_g (lw_at lw_m1 196 rfl) rfl
theorem q238 : (Jvm.Cond.fieldLink "java/lang/Throwable" (13 : Nat) "java/lang/Throwable" "UNASSIGNED_STACK" "[Ljava/lang/StackTraceElement;") ∈ lw_all := lw_g (lw_at lw_m1 197 rfl) rfl
theorem q239 : (Jvm.Cond.laysStatic "java/lang/Throwable" "UNASSIGNED_STACK" "[Ljava/lang/StackTraceElement;") ∈ lw_tbl := lw_at lw_m1 198 rfl
theorem q240 : (Jvm.Cond.fieldLink "java/lang/Throwable" (20 : Nat) "java/lang/Throwable" "SUPPRESSED_SENTINEL" "Ljava/util/List;") ∈ lw_all := lw_g (lw_at lw_m1 199 rfl) rfl
theorem q241 : (Jvm.Cond.laysStatic "java/lang/Throwable" "SUPPRESSED_SENTINEL" "Ljava/util/List;") ∈ lw_tbl := lw_at lw_m1 200 rfl
theorem q242 : (Jvm.Cond.methodLink "java/lang/Throwable" (27 : Nat) ({ cls := "java/lang/Throwable", name := "fillInStackTrace", desc := "()Ljava/lang/Throwable;" } : Jvm.MethodName)) ∈ lw_all := lw_g (lw_at lw_m1 201 rfl) rfl
theorem q243 : (Jvm.Cond.instanceMethod ({ cls := "java/lang/Throwable", name := "fillInStackTrace", desc := "()Ljava/lang/Throwable;" } : Jvm.MethodName)) ∈ lw_all := lw_g (lw_at lw_m1 202 rfl) rfl
theorem q244 : (Jvm.Cond.sameMethod "java/lang/Throwable" "java/lang/Throwable" "fillInStackTrace" "()Ljava/lang/Throwable;") ∈ lw_all := lw_g (lw_at lw_m1 203 rfl) rfl
theorem q245 : (Jvm.Cond.codeSync ({ cls := "java/lang/Throwable", name := "fillInStackTrace", desc := "()Ljava/lang/Throwable;" } : Jvm.MethodName) prog_13_method_18_code (1 : Nat) (Option.some (Jvm.ClassFile.FieldType.object "java/lang/Throwable"))) ∈ lw_all := lw_g (lw_at lw_m1 204 rfl) rfl
theorem q246 : (Jvm.Cond.methodLink "java/lang/Throwable" (202 : Nat) ({ cls := "java/lang/Throwable", name := "fillInStackTrace", desc := "(I)Ljava/lang/Throwable;" } : Jvm.MethodName)) ∈ lw_all := lw_g (lw_at lw_m1 205 rfl) rfl
theorem q247 : (Jvm.Cond.privateMethod ({ cls := "java/lang/Throwable", name := "fillInStackTrace", desc := "(I)Ljava/lang/Throwable;" } : Jvm.MethodName)) ∈ lw_tbl := lw_at lw_m1 206 rfl
theorem q248 : (Jvm.Cond.instanceMethod ({ cls := "java/lang/Throwable", name := "fillInStackTrace", desc := "(I)Ljava/lang/Throwable;" } : Jvm.MethodName)) ∈ lw_all := lw_g (lw_at lw_m1 207 rfl) rfl
theorem q249 : (Jvm.Cond.instantiable "java/lang/Throwable" (6 : Nat)) ∈ lw_all := lw_g (lw_at lw_m1 208 rfl) rfl
theorem q250 : (Jvm.Cond.native ({ cls := "java/lang/Throwable", name := "fillInStackTrace", desc := "(I)Ljava/lang/Throwable;" } : Jvm.MethodName)) ∈ lw_all := lw_g (lw_at lw_m1 209 rfl) rfl
theorem q261 : (Jvm.Cond.instanceMethod ({ cls := "java/lang/Throwable", name := "<init>", desc := "(Ljava/lang/String;Ljava/lang/Throwable;ZZ)V" } : Jvm.MethodName)) ∈ lw_all := lw_g (lw_at lw_m1 220 rfl) rfl
theorem q262 : (Jvm.Cond.code ({ cls := "java/lang/Throwable", name := "<init>", desc := "(Ljava/lang/String;Ljava/lang/Throwable;ZZ)V" } : Jvm.MethodName) prog_13_method_5_code (5 : Nat) (Option.none : Option Jvm.ClassFile.FieldType)) ∈ lw_all := lw_g (lw_at lw_m1 221 rfl) rfl
theorem q265 : (Jvm.Cond.fieldLink "java/lang/Throwable" (198 : Nat) "java/lang/Throwable" "backtrace" "Ljava/lang/Object;") ∈ lw_all := lw_g (lw_at lw_m1 224 rfl) rfl
theorem q266 : (Jvm.Cond.fieldLink "java/lang/Throwable" (31 : Nat) "java/lang/Throwable" "detailMessage" "Ljava/lang/String;") ∈ lw_all := lw_g (lw_at lw_m1 225 rfl) rfl
theorem q267 : (Jvm.Cond.fieldLink "java/lang/Throwable" (7 : Nat) "java/lang/Throwable" "cause" "Ljava/lang/Throwable;") ∈ lw_all := lw_g (lw_at lw_m1 226 rfl) rfl
theorem q268 : (Jvm.Cond.fieldLink "java/lang/Throwable" (17 : Nat) "java/lang/Throwable" "stackTrace" "[Ljava/lang/StackTraceElement;") ∈ lw_all := lw_g (lw_at lw_m1 227 rfl) rfl
theorem q269 : (Jvm.Cond.fieldLink "java/lang/Throwable" (24 : Nat) "java/lang/Throwable" "suppressedExceptions" "Ljava/util/List;") ∈ lw_all := lw_g (lw_at lw_m1 228 rfl) rfl
theorem q274 : (Jvm.Cond.soleField "java/lang/Throwable" "backtrace") ∈ lw_all := lw_g (lw_at lw_m1 233 rfl) rfl
theorem q275 : (Jvm.Cond.soleField "java/lang/Throwable" "detailMessage") ∈ lw_all := lw_g (lw_at lw_m1 234 rfl) rfl
theorem q276 : (Jvm.Cond.soleField "java/lang/Throwable" "cause") ∈ lw_all := lw_g (lw_at lw_m1 235 rfl) rfl
theorem q277 : (Jvm.Cond.soleField "java/lang/Throwable" "stackTrace") ∈ lw_all := lw_g (lw_at lw_m1 236 rfl) rfl
theorem q279 : (Jvm.Cond.soleField "java/lang/Throwable" "depth") ∈ lw_all := lw_g (lw_at lw_m1 238 rfl) rfl
theorem q280 : (Jvm.Cond.soleField "java/lang/Throwable" "suppressedExceptions") ∈ lw_all := lw_g (lw_at lw_m1 239 rfl) rfl
theorem q752 : (Jvm.Cond.sameMethod "java/lang/Throwable" "java/lang/Throwable" "fillInStackTrace" "(I)Ljava/lang/Throwable;") ∈ lw_all := lw_g (lw_at lw_m3 231 rfl) rfl
theorem in_J1 : ∀ w ∈ wsJ10, w ∈ lw_all := lw_in wsJ10 [224, 226, 228, 230, 232] (by decide +kernel) (by decide +kernel)

/-! java/lang/Exception -/
set_option maxRecDepth 100000
def RJ2 : String := "java/lang/Exception"
abbrev cJ2_init : ByteArray := prog_9_method_5_code
def yJ2_init : MethodName := ⟨RJ2, "<init>", "(Ljava/lang/String;Ljava/lang/Throwable;ZZ)V"⟩
def dkwJ2_init_0 : List UInt8 := [42, 43, 44, 29, 21, 4, 183, 0, 16, 177]
abbrev dktJ2_init_0 : List UInt8 := dkwJ2_init_0 ++ []
theorem dksJ2_init_0 : cJ2_init.data.toList.drop 0 = dktJ2_init_0 := by decide +kernel
theorem dJ2_init_0 : decode cJ2_init 0 = .ok (.aload_n 0, 1) := dk_42 (dk_at dksJ2_init_0 0 rfl rfl)
theorem dJ2_init_1 : decode cJ2_init 1 = .ok (.aload_n 1, 1) := dk_43 (dk_at dksJ2_init_0 1 rfl rfl)
theorem dJ2_init_2 : decode cJ2_init 2 = .ok (.aload_n 2, 1) := dk_44 (dk_at dksJ2_init_0 2 rfl rfl)
theorem dJ2_init_3 : decode cJ2_init 3 = .ok (.iload_n 3, 1) := dk_29 (dk_at dksJ2_init_0 3 rfl rfl)
theorem dJ2_init_4 : decode cJ2_init 4 = .ok (.iload 4, 2) := dk_21 4 (dk_at dksJ2_init_0 4 rfl rfl)
theorem dJ2_init_6 : decode cJ2_init 6 = .ok (.invokespecial 16, 3) := dk_183 0 16 (dk_at dksJ2_init_0 6 rfl rfl)
theorem dJ2_init_9 : decode cJ2_init 9 = .ok (.return_, 1) := dk_177 (dk_at dksJ2_init_0 9 rfl rfl)
theorem q47 : (Jvm.Cond.initialized "java/lang/Exception") ∈ lw_all := lw_g (lw_at lw_m1 6 rfl) rfl
theorem q217 : (Jvm.Cond.declares ({ cls := "java/lang/Exception", name := "<init>", desc := "()V" } : Jvm.MethodName)) ∈ lw_tbl := lw_at lw_m1 176 rfl
theorem q218 : (Jvm.Cond.declares ({ cls := "java/lang/Exception", name := "<init>", desc := "(Ljava/lang/String;)V" } : Jvm.MethodName)) ∈ lw_tbl := lw_at lw_m1 177 rfl
theorem q258 : (Jvm.Cond.instanceMethod ({ cls := "java/lang/Exception", name := "<init>", desc := "(Ljava/lang/String;Ljava/lang/Throwable;ZZ)V" } : Jvm.MethodName)) ∈ lw_all := lw_g (lw_at lw_m1 217 rfl) rfl
theorem q259 : (Jvm.Cond.code ({ cls := "java/lang/Exception", name := "<init>", desc := "(Ljava/lang/String;Ljava/lang/Throwable;ZZ)V" } : Jvm.MethodName) prog_9_method_5_code (5 : Nat) (Option.none : Option Jvm.ClassFile.FieldType)) ∈ lw_all := lw_g (lw_at lw_m1 218 rfl) rfl
theorem q260 : (Jvm.Cond.methodLink "java/lang/Exception" (16 : Nat) ({ cls := "java/lang/Throwable", name := "<init>", desc := "(Ljava/lang/String;Ljava/lang/Throwable;ZZ)V" } : Jvm.MethodName)) ∈ lw_all := lw_g (lw_at lw_m1 219 rfl) rfl

/-! java/lang/RuntimeException -/
set_option maxRecDepth 100000
def RJ3 : String := "java/lang/RuntimeException"
abbrev cJ3_init : ByteArray := prog_11_method_5_code
def yJ3_init : MethodName := ⟨RJ3, "<init>", "(Ljava/lang/String;Ljava/lang/Throwable;ZZ)V"⟩
def dkwJ3_init_0 : List UInt8 := [42, 43, 44, 29, 21, 4, 183, 0, 16, 177]
abbrev dktJ3_init_0 : List UInt8 := dkwJ3_init_0 ++ []
theorem dksJ3_init_0 : cJ3_init.data.toList.drop 0 = dktJ3_init_0 := by decide +kernel
theorem dJ3_init_0 : decode cJ3_init 0 = .ok (.aload_n 0, 1) := dk_42 (dk_at dksJ3_init_0 0 rfl rfl)
theorem dJ3_init_1 : decode cJ3_init 1 = .ok (.aload_n 1, 1) := dk_43 (dk_at dksJ3_init_0 1 rfl rfl)
theorem dJ3_init_2 : decode cJ3_init 2 = .ok (.aload_n 2, 1) := dk_44 (dk_at dksJ3_init_0 2 rfl rfl)
theorem dJ3_init_3 : decode cJ3_init 3 = .ok (.iload_n 3, 1) := dk_29 (dk_at dksJ3_init_0 3 rfl rfl)
theorem dJ3_init_4 : decode cJ3_init 4 = .ok (.iload 4, 2) := dk_21 4 (dk_at dksJ3_init_0 4 rfl rfl)
theorem dJ3_init_6 : decode cJ3_init 6 = .ok (.invokespecial 16, 3) := dk_183 0 16 (dk_at dksJ3_init_0 6 rfl rfl)
theorem dJ3_init_9 : decode cJ3_init 9 = .ok (.return_, 1) := dk_177 (dk_at dksJ3_init_0 9 rfl rfl)
theorem q48 : (Jvm.Cond.initialized "java/lang/RuntimeException") ∈ lw_all := lw_g (lw_at lw_m1 7 rfl) rfl
theorem q215 : (Jvm.Cond.declares ({ cls := "java/lang/RuntimeException", name := "<init>", desc := "()V" } : Jvm.MethodName)) ∈ lw_tbl := lw_at lw_m1 174 rfl
theorem q216 : (Jvm.Cond.declares ({ cls := "java/lang/RuntimeException", name := "<init>", desc := "(Ljava/lang/String;)V" } : Jvm.MethodName)) ∈ lw_tbl := lw_at lw_m1 175 rfl
theorem q255 : (Jvm.Cond.instanceMethod ({ cls := "java/lang/RuntimeException", name := "<init>", desc := "(Ljava/lang/String;Ljava/lang/Throwable;ZZ)V" } : Jvm.MethodName)) ∈ lw_all := lw_g (lw_at lw_m1 214 rfl) rfl
theorem q256 : (Jvm.Cond.code ({ cls := "java/lang/RuntimeException", name := "<init>", desc := "(Ljava/lang/String;Ljava/lang/Throwable;ZZ)V" } : Jvm.MethodName) prog_11_method_5_code (5 : Nat) (Option.none : Option Jvm.ClassFile.FieldType)) ∈ lw_all := lw_g (lw_at lw_m1 215 rfl) rfl
theorem q257 : (Jvm.Cond.methodLink "java/lang/RuntimeException" (16 : Nat) ({ cls := "java/lang/Exception", name := "<init>", desc := "(Ljava/lang/String;Ljava/lang/Throwable;ZZ)V" } : Jvm.MethodName)) ∈ lw_all := lw_g (lw_at lw_m1 216 rfl) rfl

/-! java/lang/Object -/
set_option maxRecDepth 100000
def RJ4 : String := "java/lang/Object"
abbrev cJ4_init : ByteArray := object_method_1_code
def yJ4_init : MethodName := ⟨RJ4, "<init>", "()V"⟩
theorem dJ4_init_0 : decode cJ4_init 0 = .ok (.return_, 1) := by decide +kernel
theorem q59 : (Jvm.Cond.instanceMethod ({ cls := "java/lang/Object", name := "<init>", desc := "()V" } : Jvm.MethodName)) ∈ lw_all := lw_g (lw_at lw_m1 18 rfl) rfl
theorem q60 : (Jvm.Cond.code ({ cls := "java/lang/Object", name := "<init>", desc := "()V" } : Jvm.MethodName) object_method_1_code (1 : Nat) (Option.none : Option Jvm.ClassFile.FieldType)) ∈ lw_all := lw_g (lw_at lw_m1 19 rfl) rfl

theorem q151 : (Jvm.Cond.interfaceMethod "BombFamilies$Kind" "BombFamilies$Kind" "read" "(LBombFamilies$Scope;)V") ∈ lw_tbl := lw_at lw_m1 110 rfl
set_option maxRecDepth 100000
theorem q152 : (Jvm.Cond.declares ({ cls := "BombFamilies$Kind", name := "read", desc := "(LBombFamilies$Scope;)V" } : Jvm.MethodName)) ∈ lw_tbl := lw_at lw_m1 111 rfl

theorem q52 : (Jvm.Cond.initialized "java/lang/System") ∈ lw_all := lw_g (lw_at lw_m1 11 rfl) rfl
set_option maxRecDepth 100000
theorem q484 : (Jvm.Cond.static ({ cls := "java/lang/System", name := "arraycopy", desc := "(Ljava/lang/Object;ILjava/lang/Object;II)V" } : Jvm.MethodName)) ∈ lw_all := lw_g (lw_at lw_m2 203 rfl) rfl
theorem q485 : (Jvm.Cond.native ({ cls := "java/lang/System", name := "arraycopy", desc := "(Ljava/lang/Object;ILjava/lang/Object;II)V" } : Jvm.MethodName)) ∈ lw_all := lw_g (lw_at lw_m2 204 rfl) rfl

theorem q77 : (Jvm.Cond.arrayClass Jvm.ClassFile.FieldType.byte) ∈ lw_all := lw_g (lw_at lw_m1 36 rfl) rfl
set_option maxRecDepth 100000
theorem q79 : (Jvm.Cond.arrayOver (Jvm.ClassFile.FieldType.object "BombFamilies$Kind")) ∈ lw_tbl := lw_at lw_m1 38 rfl
theorem q211 : (Jvm.Cond.arrayClass Jvm.ClassFile.FieldType.int) ∈ lw_all := lw_g (lw_at lw_m1 170 rfl) rfl
theorem q283 : (Jvm.Cond.arrayOver (Jvm.ClassFile.FieldType.object "BombFamilies$Scope")) ∈ lw_tbl := lw_at lw_m2 2 rfl
