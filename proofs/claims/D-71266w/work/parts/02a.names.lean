/-! DECODE ROWS BY BYTES: one lemma an opcode; a method's code is cut into short pieces once, and a row reads its own piece alone. -/
set_option maxRecDepth 100000
/-- the code has just these bytes from pc on -/
def DkAt (code : ByteArray) (pc : Nat) (bs : List UInt8) : Prop := ∀ (j : Nat) (b : UInt8), bs[j]? = some b → code.data.toList[pc + j]? = some b
/-- the piece W has the bytes bs from its place j on -/
def dkIn (W : List UInt8) (j : Nat) (bs : List UInt8) : Bool := decide ((W.drop j).take bs.length = bs)
theorem dk_seg {l W T : List UInt8} {o o2 : Nat} (h : l.drop o = W ++ T) (n : Nat) (hn : W.length = n) (ho : o + n = o2) : l.drop o2 = T := by
  subst ho
  rw [← List.drop_drop, h, List.drop_left' hn]
theorem dk_at {code : ByteArray} {W T bs : List UInt8} {o pc : Nat} (h : code.data.toList.drop o = W ++ T) (j : Nat) (hp : o + j = pc) (hw : dkIn W j bs = true) : DkAt code pc bs := by
  subst hp
  intro i b e
  have h1 := of_decide_eq_true hw
  have h2 : i < bs.length := (List.getElem?_eq_some_iff.mp e).1
  have h3 : W[j + i]? = some b := by
    rw [← h1, List.getElem?_take, if_pos h2, List.getElem?_drop] at e
    exact e
  have h4 : j + i < W.length := (List.getElem?_eq_some_iff.mp h3).1
  have h5 : (code.data.toList.drop o)[j + i]? = some b := by
    rw [h, List.getElem?_append_left h4]
    exact h3
  rw [List.getElem?_drop, ← Nat.add_assoc] at h5
  exact h5
theorem dk_u1 {A : ByteArray} {p : Nat} {b : UInt8} (h : A.data.toList[p]? = some b) : (Reader.u1 : Reader DecodeError Nat) A p = .ok (b.toNat, p + 1) := by
  obtain ⟨h1, h2⟩ := List.getElem?_eq_some_iff.mp h
  have h3 : p < A.size := by simpa using h1
  have h4 : A[p]'h3 = b := h2
  have e : (Reader.u1 : Reader DecodeError Nat) A p = (if h : p < A.size then .ok (A[p].toNat, p + 1) else .error (HasTruncated.truncated p)) := by
    show (do if h : p < A.size then do set (p + 1); Pure.pure A[p].toNat else MonadExcept.throw (HasTruncated.truncated p) : Reader DecodeError Nat) A p = _
    by_cases hi : p < A.size
    · rw [dif_pos hi, dif_pos hi]; rfl
    · rw [dif_neg hi, dif_neg hi]; rfl
  rw [e, dif_pos h3, h4]
theorem dk_bind {α β : Type} {r : Reader DecodeError α} {f : α → Reader DecodeError β} {A : ByteArray} {p s : Nat} {a : α} (h : r A p = .ok (a, s)) : (r >>= f) A p = f a A s := by
  show (do let (a, s) ← r A p; f a A s : Except DecodeError (β × Nat)) = _
  rw [h]
  rfl
theorem dk_map {α β : Type} {r : Reader DecodeError α} {g : α → β} {A : ByteArray} {p s : Nat} {a : α} (h : r A p = .ok (a, s)) : (g <$> r) A p = .ok (g a, s) := by
  show (do let (a, s) ← r A p; .ok (g a, s) : Except DecodeError (β × Nat)) = _
  rw [h]
  rfl
theorem dk_u2 {A : ByteArray} {p : Nat} {a b : UInt8} (h : A.data.toList[p]? = some a) (h2 : A.data.toList[p + 1]? = some b) : (Reader.u2 : Reader DecodeError Nat) A p = .ok (a.toNat * 256 + b.toNat, p + 2) := by
  show (Reader.u1 >>= fun hi => Reader.u1 >>= fun lo => Pure.pure (hi * 256 + lo) : Reader DecodeError Nat) A p = _
  rw [dk_bind (dk_u1 h), dk_bind (dk_u1 h2)]
  rfl
theorem dk_of {code : ByteArray} {pc n : Nat} {i : Instr} (h : Decoder.instr pc code pc = .ok (i, pc + n)) : decode code pc = .ok (i, n) := by
  have e : decode code pc = (match Decoder.instr pc code pc with | .error x => .error x | .ok (j, s) => .ok (j, s - pc)) := by
    show (do let (j, s) ← Decoder.instr pc code pc; Pure.pure (j, s - pc) : Except DecodeError (Instr × Nat)) = _
    cases Decoder.instr pc code pc <;> rfl
  rw [e, h]
  show Except.ok (i, pc + n - pc) = _
  rw [Nat.add_sub_cancel_left]
theorem dk_1 {code : ByteArray} {pc : Nat} (h : DkAt code pc [1]) : decode code pc = .ok (.aconst_null, 1) := dk_of ((dk_bind (dk_u1 (h 0 _ rfl))).trans rfl)
theorem dk_2 {code : ByteArray} {pc : Nat} (h : DkAt code pc [2]) : decode code pc = .ok (.iconst (-1), 1) := dk_of ((dk_bind (dk_u1 (h 0 _ rfl))).trans rfl)
theorem dk_3 {code : ByteArray} {pc : Nat} (h : DkAt code pc [3]) : decode code pc = .ok (.iconst 0, 1) := dk_of ((dk_bind (dk_u1 (h 0 _ rfl))).trans rfl)
theorem dk_4 {code : ByteArray} {pc : Nat} (h : DkAt code pc [4]) : decode code pc = .ok (.iconst 1, 1) := dk_of ((dk_bind (dk_u1 (h 0 _ rfl))).trans rfl)
theorem dk_5 {code : ByteArray} {pc : Nat} (h : DkAt code pc [5]) : decode code pc = .ok (.iconst 2, 1) := dk_of ((dk_bind (dk_u1 (h 0 _ rfl))).trans rfl)
theorem dk_6 {code : ByteArray} {pc : Nat} (h : DkAt code pc [6]) : decode code pc = .ok (.iconst 3, 1) := dk_of ((dk_bind (dk_u1 (h 0 _ rfl))).trans rfl)
theorem dk_7 {code : ByteArray} {pc : Nat} (h : DkAt code pc [7]) : decode code pc = .ok (.iconst 4, 1) := dk_of ((dk_bind (dk_u1 (h 0 _ rfl))).trans rfl)
theorem dk_8 {code : ByteArray} {pc : Nat} (h : DkAt code pc [8]) : decode code pc = .ok (.iconst 5, 1) := dk_of ((dk_bind (dk_u1 (h 0 _ rfl))).trans rfl)
theorem dk_16 {code : ByteArray} {pc : Nat} (a : UInt8) (h : DkAt code pc [16, a]) : decode code pc = .ok (.bipush (Reader.signed 8 a.toNat), 2) := dk_of ((dk_bind (dk_u1 (h 0 _ rfl))).trans ((dk_bind (dk_map (dk_u1 (h 1 _ rfl)))).trans rfl))
theorem dk_17 {code : ByteArray} {pc : Nat} (a b : UInt8) (h : DkAt code pc [17, a, b]) : decode code pc = .ok (.sipush (Reader.signed 16 (a.toNat * 256 + b.toNat)), 3) := dk_of ((dk_bind (dk_u1 (h 0 _ rfl))).trans ((dk_bind (dk_map (dk_u2 (h 1 _ rfl) (h 2 _ rfl)))).trans rfl))
theorem dk_18 {code : ByteArray} {pc : Nat} (a : UInt8) (h : DkAt code pc [18, a]) : decode code pc = .ok (.ldc a.toNat, 2) := dk_of ((dk_bind (dk_u1 (h 0 _ rfl))).trans ((dk_bind (dk_u1 (h 1 _ rfl))).trans rfl))
theorem dk_19 {code : ByteArray} {pc : Nat} (a b : UInt8) (h : DkAt code pc [19, a, b]) : decode code pc = .ok (.ldc_w (a.toNat * 256 + b.toNat), 3) := dk_of ((dk_bind (dk_u1 (h 0 _ rfl))).trans ((dk_bind (dk_u2 (h 1 _ rfl) (h 2 _ rfl))).trans rfl))
theorem dk_20 {code : ByteArray} {pc : Nat} (a b : UInt8) (h : DkAt code pc [20, a, b]) : decode code pc = .ok (.ldc2_w (a.toNat * 256 + b.toNat), 3) := dk_of ((dk_bind (dk_u1 (h 0 _ rfl))).trans ((dk_bind (dk_u2 (h 1 _ rfl) (h 2 _ rfl))).trans rfl))
theorem dk_21 {code : ByteArray} {pc : Nat} (a : UInt8) (h : DkAt code pc [21, a]) : decode code pc = .ok (.iload a.toNat, 2) := dk_of ((dk_bind (dk_u1 (h 0 _ rfl))).trans ((dk_bind (dk_u1 (h 1 _ rfl))).trans rfl))
theorem dk_26 {code : ByteArray} {pc : Nat} (h : DkAt code pc [26]) : decode code pc = .ok (.iload_n 0, 1) := dk_of ((dk_bind (dk_u1 (h 0 _ rfl))).trans rfl)
theorem dk_27 {code : ByteArray} {pc : Nat} (h : DkAt code pc [27]) : decode code pc = .ok (.iload_n 1, 1) := dk_of ((dk_bind (dk_u1 (h 0 _ rfl))).trans rfl)
theorem dk_28 {code : ByteArray} {pc : Nat} (h : DkAt code pc [28]) : decode code pc = .ok (.iload_n 2, 1) := dk_of ((dk_bind (dk_u1 (h 0 _ rfl))).trans rfl)
theorem dk_29 {code : ByteArray} {pc : Nat} (h : DkAt code pc [29]) : decode code pc = .ok (.iload_n 3, 1) := dk_of ((dk_bind (dk_u1 (h 0 _ rfl))).trans rfl)
theorem dk_32 {code : ByteArray} {pc : Nat} (h : DkAt code pc [32]) : decode code pc = .ok (.lload_n 2, 1) := dk_of ((dk_bind (dk_u1 (h 0 _ rfl))).trans rfl)
theorem dk_33 {code : ByteArray} {pc : Nat} (h : DkAt code pc [33]) : decode code pc = .ok (.lload_n 3, 1) := dk_of ((dk_bind (dk_u1 (h 0 _ rfl))).trans rfl)
theorem dk_42 {code : ByteArray} {pc : Nat} (h : DkAt code pc [42]) : decode code pc = .ok (.aload_n 0, 1) := dk_of ((dk_bind (dk_u1 (h 0 _ rfl))).trans rfl)
theorem dk_43 {code : ByteArray} {pc : Nat} (h : DkAt code pc [43]) : decode code pc = .ok (.aload_n 1, 1) := dk_of ((dk_bind (dk_u1 (h 0 _ rfl))).trans rfl)
theorem dk_44 {code : ByteArray} {pc : Nat} (h : DkAt code pc [44]) : decode code pc = .ok (.aload_n 2, 1) := dk_of ((dk_bind (dk_u1 (h 0 _ rfl))).trans rfl)
theorem dk_45 {code : ByteArray} {pc : Nat} (h : DkAt code pc [45]) : decode code pc = .ok (.aload_n 3, 1) := dk_of ((dk_bind (dk_u1 (h 0 _ rfl))).trans rfl)
theorem dk_46 {code : ByteArray} {pc : Nat} (h : DkAt code pc [46]) : decode code pc = .ok (.iaload, 1) := dk_of ((dk_bind (dk_u1 (h 0 _ rfl))).trans rfl)
theorem dk_50 {code : ByteArray} {pc : Nat} (h : DkAt code pc [50]) : decode code pc = .ok (.aaload, 1) := dk_of ((dk_bind (dk_u1 (h 0 _ rfl))).trans rfl)
theorem dk_51 {code : ByteArray} {pc : Nat} (h : DkAt code pc [51]) : decode code pc = .ok (.baload, 1) := dk_of ((dk_bind (dk_u1 (h 0 _ rfl))).trans rfl)
theorem dk_54 {code : ByteArray} {pc : Nat} (a : UInt8) (h : DkAt code pc [54, a]) : decode code pc = .ok (.istore a.toNat, 2) := dk_of ((dk_bind (dk_u1 (h 0 _ rfl))).trans ((dk_bind (dk_u1 (h 1 _ rfl))).trans rfl))
theorem dk_59 {code : ByteArray} {pc : Nat} (h : DkAt code pc [59]) : decode code pc = .ok (.istore_n 0, 1) := dk_of ((dk_bind (dk_u1 (h 0 _ rfl))).trans rfl)
theorem dk_60 {code : ByteArray} {pc : Nat} (h : DkAt code pc [60]) : decode code pc = .ok (.istore_n 1, 1) := dk_of ((dk_bind (dk_u1 (h 0 _ rfl))).trans rfl)
theorem dk_61 {code : ByteArray} {pc : Nat} (h : DkAt code pc [61]) : decode code pc = .ok (.istore_n 2, 1) := dk_of ((dk_bind (dk_u1 (h 0 _ rfl))).trans rfl)
theorem dk_62 {code : ByteArray} {pc : Nat} (h : DkAt code pc [62]) : decode code pc = .ok (.istore_n 3, 1) := dk_of ((dk_bind (dk_u1 (h 0 _ rfl))).trans rfl)
theorem dk_65 {code : ByteArray} {pc : Nat} (h : DkAt code pc [65]) : decode code pc = .ok (.lstore_n 2, 1) := dk_of ((dk_bind (dk_u1 (h 0 _ rfl))).trans rfl)
theorem dk_66 {code : ByteArray} {pc : Nat} (h : DkAt code pc [66]) : decode code pc = .ok (.lstore_n 3, 1) := dk_of ((dk_bind (dk_u1 (h 0 _ rfl))).trans rfl)
theorem dk_76 {code : ByteArray} {pc : Nat} (h : DkAt code pc [76]) : decode code pc = .ok (.astore_n 1, 1) := dk_of ((dk_bind (dk_u1 (h 0 _ rfl))).trans rfl)
theorem dk_77 {code : ByteArray} {pc : Nat} (h : DkAt code pc [77]) : decode code pc = .ok (.astore_n 2, 1) := dk_of ((dk_bind (dk_u1 (h 0 _ rfl))).trans rfl)
theorem dk_78 {code : ByteArray} {pc : Nat} (h : DkAt code pc [78]) : decode code pc = .ok (.astore_n 3, 1) := dk_of ((dk_bind (dk_u1 (h 0 _ rfl))).trans rfl)
theorem dk_79 {code : ByteArray} {pc : Nat} (h : DkAt code pc [79]) : decode code pc = .ok (.iastore, 1) := dk_of ((dk_bind (dk_u1 (h 0 _ rfl))).trans rfl)
theorem dk_83 {code : ByteArray} {pc : Nat} (h : DkAt code pc [83]) : decode code pc = .ok (.aastore, 1) := dk_of ((dk_bind (dk_u1 (h 0 _ rfl))).trans rfl)
theorem dk_84 {code : ByteArray} {pc : Nat} (h : DkAt code pc [84]) : decode code pc = .ok (.bastore, 1) := dk_of ((dk_bind (dk_u1 (h 0 _ rfl))).trans rfl)
theorem dk_87 {code : ByteArray} {pc : Nat} (h : DkAt code pc [87]) : decode code pc = .ok (.pop, 1) := dk_of ((dk_bind (dk_u1 (h 0 _ rfl))).trans rfl)
theorem dk_89 {code : ByteArray} {pc : Nat} (h : DkAt code pc [89]) : decode code pc = .ok (.dup, 1) := dk_of ((dk_bind (dk_u1 (h 0 _ rfl))).trans rfl)
theorem dk_92 {code : ByteArray} {pc : Nat} (h : DkAt code pc [92]) : decode code pc = .ok (.dup2, 1) := dk_of ((dk_bind (dk_u1 (h 0 _ rfl))).trans rfl)
theorem dk_96 {code : ByteArray} {pc : Nat} (h : DkAt code pc [96]) : decode code pc = .ok (.iadd, 1) := dk_of ((dk_bind (dk_u1 (h 0 _ rfl))).trans rfl)
theorem dk_97 {code : ByteArray} {pc : Nat} (h : DkAt code pc [97]) : decode code pc = .ok (.ladd, 1) := dk_of ((dk_bind (dk_u1 (h 0 _ rfl))).trans rfl)
theorem dk_100 {code : ByteArray} {pc : Nat} (h : DkAt code pc [100]) : decode code pc = .ok (.isub, 1) := dk_of ((dk_bind (dk_u1 (h 0 _ rfl))).trans rfl)
theorem dk_104 {code : ByteArray} {pc : Nat} (h : DkAt code pc [104]) : decode code pc = .ok (.imul, 1) := dk_of ((dk_bind (dk_u1 (h 0 _ rfl))).trans rfl)
theorem dk_105 {code : ByteArray} {pc : Nat} (h : DkAt code pc [105]) : decode code pc = .ok (.lmul, 1) := dk_of ((dk_bind (dk_u1 (h 0 _ rfl))).trans rfl)
theorem dk_108 {code : ByteArray} {pc : Nat} (h : DkAt code pc [108]) : decode code pc = .ok (.idiv, 1) := dk_of ((dk_bind (dk_u1 (h 0 _ rfl))).trans rfl)
theorem dk_109 {code : ByteArray} {pc : Nat} (h : DkAt code pc [109]) : decode code pc = .ok (.ldiv, 1) := dk_of ((dk_bind (dk_u1 (h 0 _ rfl))).trans rfl)
theorem dk_112 {code : ByteArray} {pc : Nat} (h : DkAt code pc [112]) : decode code pc = .ok (.irem, 1) := dk_of ((dk_bind (dk_u1 (h 0 _ rfl))).trans rfl)
theorem dk_113 {code : ByteArray} {pc : Nat} (h : DkAt code pc [113]) : decode code pc = .ok (.lrem, 1) := dk_of ((dk_bind (dk_u1 (h 0 _ rfl))).trans rfl)
theorem dk_116 {code : ByteArray} {pc : Nat} (h : DkAt code pc [116]) : decode code pc = .ok (.ineg, 1) := dk_of ((dk_bind (dk_u1 (h 0 _ rfl))).trans rfl)
theorem dk_120 {code : ByteArray} {pc : Nat} (h : DkAt code pc [120]) : decode code pc = .ok (.ishl, 1) := dk_of ((dk_bind (dk_u1 (h 0 _ rfl))).trans rfl)
theorem dk_122 {code : ByteArray} {pc : Nat} (h : DkAt code pc [122]) : decode code pc = .ok (.ishr, 1) := dk_of ((dk_bind (dk_u1 (h 0 _ rfl))).trans rfl)
theorem dk_124 {code : ByteArray} {pc : Nat} (h : DkAt code pc [124]) : decode code pc = .ok (.iushr, 1) := dk_of ((dk_bind (dk_u1 (h 0 _ rfl))).trans rfl)
theorem dk_126 {code : ByteArray} {pc : Nat} (h : DkAt code pc [126]) : decode code pc = .ok (.iand, 1) := dk_of ((dk_bind (dk_u1 (h 0 _ rfl))).trans rfl)
theorem dk_128 {code : ByteArray} {pc : Nat} (h : DkAt code pc [128]) : decode code pc = .ok (.ior, 1) := dk_of ((dk_bind (dk_u1 (h 0 _ rfl))).trans rfl)
theorem dk_130 {code : ByteArray} {pc : Nat} (h : DkAt code pc [130]) : decode code pc = .ok (.ixor, 1) := dk_of ((dk_bind (dk_u1 (h 0 _ rfl))).trans rfl)
theorem dk_132 {code : ByteArray} {pc : Nat} (a b : UInt8) (h : DkAt code pc [132, a, b]) : decode code pc = .ok (.iinc a.toNat (Reader.signed 8 b.toNat), 3) := dk_of ((dk_bind (dk_u1 (h 0 _ rfl))).trans ((dk_bind (dk_u1 (h 1 _ rfl))).trans ((dk_bind (dk_map (dk_u1 (h 2 _ rfl)))).trans rfl)))
theorem dk_133 {code : ByteArray} {pc : Nat} (h : DkAt code pc [133]) : decode code pc = .ok (.i2l, 1) := dk_of ((dk_bind (dk_u1 (h 0 _ rfl))).trans rfl)
theorem dk_136 {code : ByteArray} {pc : Nat} (h : DkAt code pc [136]) : decode code pc = .ok (.l2i, 1) := dk_of ((dk_bind (dk_u1 (h 0 _ rfl))).trans rfl)
theorem dk_145 {code : ByteArray} {pc : Nat} (h : DkAt code pc [145]) : decode code pc = .ok (.i2b, 1) := dk_of ((dk_bind (dk_u1 (h 0 _ rfl))).trans rfl)
theorem dk_153 {code : ByteArray} {pc : Nat} (a b : UInt8) (h : DkAt code pc [153, a, b]) : decode code pc = .ok (.ifCond .eq (Reader.signed 16 (a.toNat * 256 + b.toNat)), 3) := dk_of ((dk_bind (dk_u1 (h 0 _ rfl))).trans ((dk_bind (dk_map (dk_u2 (h 1 _ rfl) (h 2 _ rfl)))).trans rfl))
theorem dk_154 {code : ByteArray} {pc : Nat} (a b : UInt8) (h : DkAt code pc [154, a, b]) : decode code pc = .ok (.ifCond .ne (Reader.signed 16 (a.toNat * 256 + b.toNat)), 3) := dk_of ((dk_bind (dk_u1 (h 0 _ rfl))).trans ((dk_bind (dk_map (dk_u2 (h 1 _ rfl) (h 2 _ rfl)))).trans rfl))
theorem dk_155 {code : ByteArray} {pc : Nat} (a b : UInt8) (h : DkAt code pc [155, a, b]) : decode code pc = .ok (.ifCond .lt (Reader.signed 16 (a.toNat * 256 + b.toNat)), 3) := dk_of ((dk_bind (dk_u1 (h 0 _ rfl))).trans ((dk_bind (dk_map (dk_u2 (h 1 _ rfl) (h 2 _ rfl)))).trans rfl))
theorem dk_156 {code : ByteArray} {pc : Nat} (a b : UInt8) (h : DkAt code pc [156, a, b]) : decode code pc = .ok (.ifCond .ge (Reader.signed 16 (a.toNat * 256 + b.toNat)), 3) := dk_of ((dk_bind (dk_u1 (h 0 _ rfl))).trans ((dk_bind (dk_map (dk_u2 (h 1 _ rfl) (h 2 _ rfl)))).trans rfl))
theorem dk_157 {code : ByteArray} {pc : Nat} (a b : UInt8) (h : DkAt code pc [157, a, b]) : decode code pc = .ok (.ifCond .gt (Reader.signed 16 (a.toNat * 256 + b.toNat)), 3) := dk_of ((dk_bind (dk_u1 (h 0 _ rfl))).trans ((dk_bind (dk_map (dk_u2 (h 1 _ rfl) (h 2 _ rfl)))).trans rfl))
theorem dk_158 {code : ByteArray} {pc : Nat} (a b : UInt8) (h : DkAt code pc [158, a, b]) : decode code pc = .ok (.ifCond .le (Reader.signed 16 (a.toNat * 256 + b.toNat)), 3) := dk_of ((dk_bind (dk_u1 (h 0 _ rfl))).trans ((dk_bind (dk_map (dk_u2 (h 1 _ rfl) (h 2 _ rfl)))).trans rfl))
theorem dk_159 {code : ByteArray} {pc : Nat} (a b : UInt8) (h : DkAt code pc [159, a, b]) : decode code pc = .ok (.if_icmp .eq (Reader.signed 16 (a.toNat * 256 + b.toNat)), 3) := dk_of ((dk_bind (dk_u1 (h 0 _ rfl))).trans ((dk_bind (dk_map (dk_u2 (h 1 _ rfl) (h 2 _ rfl)))).trans rfl))
theorem dk_160 {code : ByteArray} {pc : Nat} (a b : UInt8) (h : DkAt code pc [160, a, b]) : decode code pc = .ok (.if_icmp .ne (Reader.signed 16 (a.toNat * 256 + b.toNat)), 3) := dk_of ((dk_bind (dk_u1 (h 0 _ rfl))).trans ((dk_bind (dk_map (dk_u2 (h 1 _ rfl) (h 2 _ rfl)))).trans rfl))
theorem dk_161 {code : ByteArray} {pc : Nat} (a b : UInt8) (h : DkAt code pc [161, a, b]) : decode code pc = .ok (.if_icmp .lt (Reader.signed 16 (a.toNat * 256 + b.toNat)), 3) := dk_of ((dk_bind (dk_u1 (h 0 _ rfl))).trans ((dk_bind (dk_map (dk_u2 (h 1 _ rfl) (h 2 _ rfl)))).trans rfl))
theorem dk_162 {code : ByteArray} {pc : Nat} (a b : UInt8) (h : DkAt code pc [162, a, b]) : decode code pc = .ok (.if_icmp .ge (Reader.signed 16 (a.toNat * 256 + b.toNat)), 3) := dk_of ((dk_bind (dk_u1 (h 0 _ rfl))).trans ((dk_bind (dk_map (dk_u2 (h 1 _ rfl) (h 2 _ rfl)))).trans rfl))
theorem dk_163 {code : ByteArray} {pc : Nat} (a b : UInt8) (h : DkAt code pc [163, a, b]) : decode code pc = .ok (.if_icmp .gt (Reader.signed 16 (a.toNat * 256 + b.toNat)), 3) := dk_of ((dk_bind (dk_u1 (h 0 _ rfl))).trans ((dk_bind (dk_map (dk_u2 (h 1 _ rfl) (h 2 _ rfl)))).trans rfl))
theorem dk_164 {code : ByteArray} {pc : Nat} (a b : UInt8) (h : DkAt code pc [164, a, b]) : decode code pc = .ok (.if_icmp .le (Reader.signed 16 (a.toNat * 256 + b.toNat)), 3) := dk_of ((dk_bind (dk_u1 (h 0 _ rfl))).trans ((dk_bind (dk_map (dk_u2 (h 1 _ rfl) (h 2 _ rfl)))).trans rfl))
theorem dk_167 {code : ByteArray} {pc : Nat} (a b : UInt8) (h : DkAt code pc [167, a, b]) : decode code pc = .ok (.goto (Reader.signed 16 (a.toNat * 256 + b.toNat)), 3) := dk_of ((dk_bind (dk_u1 (h 0 _ rfl))).trans ((dk_bind (dk_map (dk_u2 (h 1 _ rfl) (h 2 _ rfl)))).trans rfl))
theorem dk_172 {code : ByteArray} {pc : Nat} (h : DkAt code pc [172]) : decode code pc = .ok (.ireturn, 1) := dk_of ((dk_bind (dk_u1 (h 0 _ rfl))).trans rfl)
theorem dk_176 {code : ByteArray} {pc : Nat} (h : DkAt code pc [176]) : decode code pc = .ok (.areturn, 1) := dk_of ((dk_bind (dk_u1 (h 0 _ rfl))).trans rfl)
theorem dk_177 {code : ByteArray} {pc : Nat} (h : DkAt code pc [177]) : decode code pc = .ok (.return_, 1) := dk_of ((dk_bind (dk_u1 (h 0 _ rfl))).trans rfl)
theorem dk_178 {code : ByteArray} {pc : Nat} (a b : UInt8) (h : DkAt code pc [178, a, b]) : decode code pc = .ok (.getstatic (a.toNat * 256 + b.toNat), 3) := dk_of ((dk_bind (dk_u1 (h 0 _ rfl))).trans ((dk_bind (dk_u2 (h 1 _ rfl) (h 2 _ rfl))).trans rfl))
theorem dk_180 {code : ByteArray} {pc : Nat} (a b : UInt8) (h : DkAt code pc [180, a, b]) : decode code pc = .ok (.getfield (a.toNat * 256 + b.toNat), 3) := dk_of ((dk_bind (dk_u1 (h 0 _ rfl))).trans ((dk_bind (dk_u2 (h 1 _ rfl) (h 2 _ rfl))).trans rfl))
theorem dk_181 {code : ByteArray} {pc : Nat} (a b : UInt8) (h : DkAt code pc [181, a, b]) : decode code pc = .ok (.putfield (a.toNat * 256 + b.toNat), 3) := dk_of ((dk_bind (dk_u1 (h 0 _ rfl))).trans ((dk_bind (dk_u2 (h 1 _ rfl) (h 2 _ rfl))).trans rfl))
theorem dk_182 {code : ByteArray} {pc : Nat} (a b : UInt8) (h : DkAt code pc [182, a, b]) : decode code pc = .ok (.invokevirtual (a.toNat * 256 + b.toNat), 3) := dk_of ((dk_bind (dk_u1 (h 0 _ rfl))).trans ((dk_bind (dk_u2 (h 1 _ rfl) (h 2 _ rfl))).trans rfl))
theorem dk_183 {code : ByteArray} {pc : Nat} (a b : UInt8) (h : DkAt code pc [183, a, b]) : decode code pc = .ok (.invokespecial (a.toNat * 256 + b.toNat), 3) := dk_of ((dk_bind (dk_u1 (h 0 _ rfl))).trans ((dk_bind (dk_u2 (h 1 _ rfl) (h 2 _ rfl))).trans rfl))
theorem dk_184 {code : ByteArray} {pc : Nat} (a b : UInt8) (h : DkAt code pc [184, a, b]) : decode code pc = .ok (.invokestatic (a.toNat * 256 + b.toNat), 3) := dk_of ((dk_bind (dk_u1 (h 0 _ rfl))).trans ((dk_bind (dk_u2 (h 1 _ rfl) (h 2 _ rfl))).trans rfl))
theorem dk_187 {code : ByteArray} {pc : Nat} (a b : UInt8) (h : DkAt code pc [187, a, b]) : decode code pc = .ok (.new (a.toNat * 256 + b.toNat), 3) := dk_of ((dk_bind (dk_u1 (h 0 _ rfl))).trans ((dk_bind (dk_u2 (h 1 _ rfl) (h 2 _ rfl))).trans rfl))
theorem dk_188_4 {code : ByteArray} {pc : Nat} (h : DkAt code pc [188, 4]) : decode code pc = .ok (.newarray .boolean, 2) := dk_of ((dk_bind (dk_u1 (h 0 _ rfl))).trans ((dk_bind (dk_u1 (h 1 _ rfl))).trans rfl))
theorem dk_188_8 {code : ByteArray} {pc : Nat} (h : DkAt code pc [188, 8]) : decode code pc = .ok (.newarray .byte, 2) := dk_of ((dk_bind (dk_u1 (h 0 _ rfl))).trans ((dk_bind (dk_u1 (h 1 _ rfl))).trans rfl))
theorem dk_188_10 {code : ByteArray} {pc : Nat} (h : DkAt code pc [188, 10]) : decode code pc = .ok (.newarray .int, 2) := dk_of ((dk_bind (dk_u1 (h 0 _ rfl))).trans ((dk_bind (dk_u1 (h 1 _ rfl))).trans rfl))
theorem dk_189 {code : ByteArray} {pc : Nat} (a b : UInt8) (h : DkAt code pc [189, a, b]) : decode code pc = .ok (.anewarray (a.toNat * 256 + b.toNat), 3) := dk_of ((dk_bind (dk_u1 (h 0 _ rfl))).trans ((dk_bind (dk_u2 (h 1 _ rfl) (h 2 _ rfl))).trans rfl))
theorem dk_190 {code : ByteArray} {pc : Nat} (h : DkAt code pc [190]) : decode code pc = .ok (.arraylength, 1) := dk_of ((dk_bind (dk_u1 (h 0 _ rfl))).trans rfl)
theorem dk_191 {code : ByteArray} {pc : Nat} (h : DkAt code pc [191]) : decode code pc = .ok (.athrow, 1) := dk_of ((dk_bind (dk_u1 (h 0 _ rfl))).trans rfl)

/-! java/lang/Object -/
set_option maxRecDepth 100000
def RJ5 : String := "java/lang/Object"
abbrev cJ5_init : ByteArray := object_method_1_code
def yJ5_init : MethodName := ⟨RJ5, "<init>", "()V"⟩
theorem dJ5_init_0 : decode cJ5_init 0 = .ok (.return_, 1) := by decide +kernel
theorem q78 : (Jvm.Cond.instanceMethod ({ cls := "java/lang/Object", name := "<init>", desc := "()V" } : Jvm.MethodName)) ∈ lw_all := lw_g (lw_at lw_m1 23 rfl) rfl
theorem q79 : (Jvm.Cond.code ({ cls := "java/lang/Object", name := "<init>", desc := "()V" } : Jvm.MethodName) object_method_1_code (1 : Nat) (Option.none : Option Jvm.ClassFile.FieldType)) ∈ lw_all := lw_g (lw_at lw_m1 24 rfl) rfl

/-! java/util/Arrays -/
set_option maxRecDepth 100000
def RJ0 : String := "java/util/Arrays"
abbrev cJ0_fill : ByteArray := prog_18_method_103_code
def yJ0_fill : MethodName := ⟨RJ0, "fill", "([II)V"⟩
def dkwJ0_fill_0 : List UInt8 := [3, 61, 42, 190, 62, 28, 29, 162, 0, 13, 42, 28, 27, 79, 132, 2, 1, 167, 255, 244, 177]
abbrev dktJ0_fill_0 : List UInt8 := dkwJ0_fill_0 ++ []
theorem dksJ0_fill_0 : cJ0_fill.data.toList.drop 0 = dktJ0_fill_0 := by decide +kernel
theorem dJ0_fill_0 : decode cJ0_fill 0 = .ok (.iconst 0, 1) := dk_3 (dk_at dksJ0_fill_0 0 rfl rfl)
theorem dJ0_fill_1 : decode cJ0_fill 1 = .ok (.istore_n 2, 1) := dk_61 (dk_at dksJ0_fill_0 1 rfl rfl)
theorem dJ0_fill_2 : decode cJ0_fill 2 = .ok (.aload_n 0, 1) := dk_42 (dk_at dksJ0_fill_0 2 rfl rfl)
theorem dJ0_fill_3 : decode cJ0_fill 3 = .ok (.arraylength, 1) := dk_190 (dk_at dksJ0_fill_0 3 rfl rfl)
theorem dJ0_fill_4 : decode cJ0_fill 4 = .ok (.istore_n 3, 1) := dk_62 (dk_at dksJ0_fill_0 4 rfl rfl)
theorem dJ0_fill_5 : decode cJ0_fill 5 = .ok (.iload_n 2, 1) := dk_28 (dk_at dksJ0_fill_0 5 rfl rfl)
theorem dJ0_fill_6 : decode cJ0_fill 6 = .ok (.iload_n 3, 1) := dk_29 (dk_at dksJ0_fill_0 6 rfl rfl)
theorem dJ0_fill_7 : decode cJ0_fill 7 = .ok (.if_icmp .ge 13, 3) := dk_162 0 13 (dk_at dksJ0_fill_0 7 rfl rfl)
theorem dJ0_fill_10 : decode cJ0_fill 10 = .ok (.aload_n 0, 1) := dk_42 (dk_at dksJ0_fill_0 10 rfl rfl)
theorem dJ0_fill_11 : decode cJ0_fill 11 = .ok (.iload_n 2, 1) := dk_28 (dk_at dksJ0_fill_0 11 rfl rfl)
theorem dJ0_fill_12 : decode cJ0_fill 12 = .ok (.iload_n 1, 1) := dk_27 (dk_at dksJ0_fill_0 12 rfl rfl)
theorem dJ0_fill_13 : decode cJ0_fill 13 = .ok (.iastore, 1) := dk_79 (dk_at dksJ0_fill_0 13 rfl rfl)
theorem dJ0_fill_14 : decode cJ0_fill 14 = .ok (.iinc 2 1, 3) := dk_132 2 1 (dk_at dksJ0_fill_0 14 rfl rfl)
theorem dJ0_fill_17 : decode cJ0_fill 17 = .ok (.goto (-12), 3) := dk_167 255 244 (dk_at dksJ0_fill_0 17 rfl rfl)
theorem dJ0_fill_20 : decode cJ0_fill 20 = .ok (.return_, 1) := dk_177 (dk_at dksJ0_fill_0 20 rfl rfl)
theorem q64 : (Jvm.Cond.initialized "java/util/Arrays") ∈ lw_all := lw_g (lw_at lw_m1 9 rfl) rfl
theorem q212 : (Jvm.Cond.static ({ cls := "java/util/Arrays", name := "fill", desc := "([II)V" } : Jvm.MethodName)) ∈ lw_all := lw_g (lw_at lw_m1 157 rfl) rfl
theorem q213 : (Jvm.Cond.code ({ cls := "java/util/Arrays", name := "fill", desc := "([II)V" } : Jvm.MethodName) prog_18_method_103_code (4 : Nat) (Option.none : Option Jvm.ClassFile.FieldType)) ∈ lw_all := lw_g (lw_at lw_m1 158 rfl) rfl

/-! java/lang/Throwable -/
set_option maxRecDepth 100000
def RJ1 : String := "java/lang/Throwable"
def TJ1 : u_T := fun k => match k with
  | 0 => ("java/lang/Throwable", "cause", "Ljava/lang/Throwable;", false)
  | 1 => ("java/lang/Throwable", "stackTrace", "[Ljava/lang/StackTraceElement;", false)
  | 2 => ("java/lang/Throwable", "suppressedExceptions", "Ljava/util/List;", false)
  | 3 => ("java/lang/Throwable", "detailMessage", "Ljava/lang/String;", false)
  | _ => ("java/lang/Throwable", "backtrace", "Ljava/lang/Object;", false)
def tyJ1 : Nat → FieldType := fun k => match k with
  | 0 => .object "java/lang/Throwable"
  | 1 => .array (.object "java/lang/StackTraceElement")
  | 2 => .object "java/util/List"
  | 3 => .object "java/lang/String"
  | _ => .object "java/lang/Object"
abbrev wsJ10 : List Cond := u_ws RJ1 TJ1 5
theorem nmJ1 : ∀ a, a < 5 → ∀ b, b < 5 → a ≠ b → (TJ1 a).2.1 ≠ (TJ1 b).2.1 := by decide +kernel
theorem tyJ1_ok : ∀ k, k < 5 → parseFieldDescriptor (TJ1 k).2.2.1 = some (tyJ1 k) := by decide +kernel
abbrev cJ1_init : ByteArray := prog_17_method_1_code
def yJ1_init : MethodName := ⟨RJ1, "<init>", "()V"⟩
def dkwJ1_init_1 : List UInt8 := [182, 0, 27, 87, 177]
abbrev dktJ1_init_1 : List UInt8 := dkwJ1_init_1 ++ []
def dkwJ1_init_0 : List UInt8 := [42, 183, 0, 1, 42, 42, 181, 0, 7, 42, 178, 0, 13, 181, 0, 17, 42, 178, 0, 20, 181, 0, 24, 42]
abbrev dktJ1_init_0 : List UInt8 := dkwJ1_init_0 ++ dktJ1_init_1
theorem dksJ1_init_0 : cJ1_init.data.toList.drop 0 = dktJ1_init_0 := by decide +kernel
theorem dksJ1_init_1 : cJ1_init.data.toList.drop 24 = dktJ1_init_1 := dk_seg dksJ1_init_0 24 rfl rfl
theorem dJ1_init_0 : decode cJ1_init 0 = .ok (.aload_n 0, 1) := dk_42 (dk_at dksJ1_init_0 0 rfl rfl)
theorem dJ1_init_1 : decode cJ1_init 1 = .ok (.invokespecial 1, 3) := dk_183 0 1 (dk_at dksJ1_init_0 1 rfl rfl)
theorem dJ1_init_4 : decode cJ1_init 4 = .ok (.aload_n 0, 1) := dk_42 (dk_at dksJ1_init_0 4 rfl rfl)
theorem dJ1_init_5 : decode cJ1_init 5 = .ok (.aload_n 0, 1) := dk_42 (dk_at dksJ1_init_0 5 rfl rfl)
theorem dJ1_init_6 : decode cJ1_init 6 = .ok (.putfield 7, 3) := dk_181 0 7 (dk_at dksJ1_init_0 6 rfl rfl)
theorem dJ1_init_9 : decode cJ1_init 9 = .ok (.aload_n 0, 1) := dk_42 (dk_at dksJ1_init_0 9 rfl rfl)
theorem dJ1_init_10 : decode cJ1_init 10 = .ok (.getstatic 13, 3) := dk_178 0 13 (dk_at dksJ1_init_0 10 rfl rfl)
theorem dJ1_init_13 : decode cJ1_init 13 = .ok (.putfield 17, 3) := dk_181 0 17 (dk_at dksJ1_init_0 13 rfl rfl)
theorem dJ1_init_16 : decode cJ1_init 16 = .ok (.aload_n 0, 1) := dk_42 (dk_at dksJ1_init_0 16 rfl rfl)
theorem dJ1_init_17 : decode cJ1_init 17 = .ok (.getstatic 20, 3) := dk_178 0 20 (dk_at dksJ1_init_0 17 rfl rfl)
theorem dJ1_init_20 : decode cJ1_init 20 = .ok (.putfield 24, 3) := dk_181 0 24 (dk_at dksJ1_init_0 20 rfl rfl)
theorem dJ1_init_23 : decode cJ1_init 23 = .ok (.aload_n 0, 1) := dk_42 (dk_at dksJ1_init_0 23 rfl rfl)
theorem dJ1_init_24 : decode cJ1_init 24 = .ok (.invokevirtual 27, 3) := dk_182 0 27 (dk_at dksJ1_init_1 0 rfl rfl)
theorem dJ1_init_27 : decode cJ1_init 27 = .ok (.pop, 1) := dk_87 (dk_at dksJ1_init_1 3 rfl rfl)
theorem dJ1_init_28 : decode cJ1_init 28 = .ok (.return_, 1) := dk_177 (dk_at dksJ1_init_1 4 rfl rfl)
abbrev cJ1_init_2 : ByteArray := prog_17_method_5_code
def yJ1_init_2 : MethodName := ⟨RJ1, "<init>", "(Ljava/lang/String;Ljava/lang/Throwable;ZZ)V"⟩
def dkwJ1_init_2_2 : List UInt8 := [44, 181, 0, 7, 29, 154, 0, 8, 42, 1, 181, 0, 24, 177]
abbrev dktJ1_init_2_2 : List UInt8 := dkwJ1_init_2_2 ++ []
def dkwJ1_init_2_1 : List UInt8 := [21, 4, 153, 0, 11, 42, 182, 0, 27, 87, 167, 0, 8, 42, 1, 181, 0, 17, 42, 43, 181, 0, 31, 42]
abbrev dktJ1_init_2_1 : List UInt8 := dkwJ1_init_2_1 ++ dktJ1_init_2_2
def dkwJ1_init_2_0 : List UInt8 := [42, 183, 0, 1, 42, 42, 181, 0, 7, 42, 178, 0, 13, 181, 0, 17, 42, 178, 0, 20, 181, 0, 24]
abbrev dktJ1_init_2_0 : List UInt8 := dkwJ1_init_2_0 ++ dktJ1_init_2_1
theorem dksJ1_init_2_0 : cJ1_init_2.data.toList.drop 0 = dktJ1_init_2_0 := by decide +kernel
theorem dksJ1_init_2_1 : cJ1_init_2.data.toList.drop 23 = dktJ1_init_2_1 := dk_seg dksJ1_init_2_0 23 rfl rfl
theorem dksJ1_init_2_2 : cJ1_init_2.data.toList.drop 47 = dktJ1_init_2_2 := dk_seg dksJ1_init_2_1 24 rfl rfl
theorem dJ1_init_2_0 : decode cJ1_init_2 0 = .ok (.aload_n 0, 1) := dk_42 (dk_at dksJ1_init_2_0 0 rfl rfl)
theorem dJ1_init_2_1 : decode cJ1_init_2 1 = .ok (.invokespecial 1, 3) := dk_183 0 1 (dk_at dksJ1_init_2_0 1 rfl rfl)
theorem dJ1_init_2_4 : decode cJ1_init_2 4 = .ok (.aload_n 0, 1) := dk_42 (dk_at dksJ1_init_2_0 4 rfl rfl)
theorem dJ1_init_2_5 : decode cJ1_init_2 5 = .ok (.aload_n 0, 1) := dk_42 (dk_at dksJ1_init_2_0 5 rfl rfl)
theorem dJ1_init_2_6 : decode cJ1_init_2 6 = .ok (.putfield 7, 3) := dk_181 0 7 (dk_at dksJ1_init_2_0 6 rfl rfl)
theorem dJ1_init_2_9 : decode cJ1_init_2 9 = .ok (.aload_n 0, 1) := dk_42 (dk_at dksJ1_init_2_0 9 rfl rfl)
theorem dJ1_init_2_10 : decode cJ1_init_2 10 = .ok (.getstatic 13, 3) := dk_178 0 13 (dk_at dksJ1_init_2_0 10 rfl rfl)
theorem dJ1_init_2_13 : decode cJ1_init_2 13 = .ok (.putfield 17, 3) := dk_181 0 17 (dk_at dksJ1_init_2_0 13 rfl rfl)
theorem dJ1_init_2_16 : decode cJ1_init_2 16 = .ok (.aload_n 0, 1) := dk_42 (dk_at dksJ1_init_2_0 16 rfl rfl)
theorem dJ1_init_2_17 : decode cJ1_init_2 17 = .ok (.getstatic 20, 3) := dk_178 0 20 (dk_at dksJ1_init_2_0 17 rfl rfl)
theorem dJ1_init_2_20 : decode cJ1_init_2 20 = .ok (.putfield 24, 3) := dk_181 0 24 (dk_at dksJ1_init_2_0 20 rfl rfl)
theorem dJ1_init_2_23 : decode cJ1_init_2 23 = .ok (.iload 4, 2) := dk_21 4 (dk_at dksJ1_init_2_1 0 rfl rfl)
theorem dJ1_init_2_25 : decode cJ1_init_2 25 = .ok (.ifCond .eq 11, 3) := dk_153 0 11 (dk_at dksJ1_init_2_1 2 rfl rfl)
theorem dJ1_init_2_28 : decode cJ1_init_2 28 = .ok (.aload_n 0, 1) := dk_42 (dk_at dksJ1_init_2_1 5 rfl rfl)
theorem dJ1_init_2_29 : decode cJ1_init_2 29 = .ok (.invokevirtual 27, 3) := dk_182 0 27 (dk_at dksJ1_init_2_1 6 rfl rfl)
theorem dJ1_init_2_32 : decode cJ1_init_2 32 = .ok (.pop, 1) := dk_87 (dk_at dksJ1_init_2_1 9 rfl rfl)
theorem dJ1_init_2_33 : decode cJ1_init_2 33 = .ok (.goto 8, 3) := dk_167 0 8 (dk_at dksJ1_init_2_1 10 rfl rfl)
theorem dJ1_init_2_36 : decode cJ1_init_2 36 = .ok (.aload_n 0, 1) := dk_42 (dk_at dksJ1_init_2_1 13 rfl rfl)
theorem dJ1_init_2_37 : decode cJ1_init_2 37 = .ok (.aconst_null, 1) := dk_1 (dk_at dksJ1_init_2_1 14 rfl rfl)
theorem dJ1_init_2_38 : decode cJ1_init_2 38 = .ok (.putfield 17, 3) := dk_181 0 17 (dk_at dksJ1_init_2_1 15 rfl rfl)
theorem dJ1_init_2_41 : decode cJ1_init_2 41 = .ok (.aload_n 0, 1) := dk_42 (dk_at dksJ1_init_2_1 18 rfl rfl)
theorem dJ1_init_2_42 : decode cJ1_init_2 42 = .ok (.aload_n 1, 1) := dk_43 (dk_at dksJ1_init_2_1 19 rfl rfl)
theorem dJ1_init_2_43 : decode cJ1_init_2 43 = .ok (.putfield 31, 3) := dk_181 0 31 (dk_at dksJ1_init_2_1 20 rfl rfl)
theorem dJ1_init_2_46 : decode cJ1_init_2 46 = .ok (.aload_n 0, 1) := dk_42 (dk_at dksJ1_init_2_1 23 rfl rfl)
theorem dJ1_init_2_47 : decode cJ1_init_2 47 = .ok (.aload_n 2, 1) := dk_44 (dk_at dksJ1_init_2_2 0 rfl rfl)
theorem dJ1_init_2_48 : decode cJ1_init_2 48 = .ok (.putfield 7, 3) := dk_181 0 7 (dk_at dksJ1_init_2_2 1 rfl rfl)
theorem dJ1_init_2_51 : decode cJ1_init_2 51 = .ok (.iload_n 3, 1) := dk_29 (dk_at dksJ1_init_2_2 4 rfl rfl)
theorem dJ1_init_2_52 : decode cJ1_init_2 52 = .ok (.ifCond .ne 8, 3) := dk_154 0 8 (dk_at dksJ1_init_2_2 5 rfl rfl)
theorem dJ1_init_2_55 : decode cJ1_init_2 55 = .ok (.aload_n 0, 1) := dk_42 (dk_at dksJ1_init_2_2 8 rfl rfl)
theorem dJ1_init_2_56 : decode cJ1_init_2 56 = .ok (.aconst_null, 1) := dk_1 (dk_at dksJ1_init_2_2 9 rfl rfl)
theorem dJ1_init_2_57 : decode cJ1_init_2 57 = .ok (.putfield 24, 3) := dk_181 0 24 (dk_at dksJ1_init_2_2 10 rfl rfl)
theorem dJ1_init_2_60 : decode cJ1_init_2 60 = .ok (.return_, 1) := dk_177 (dk_at dksJ1_init_2_2 13 rfl rfl)
theorem q67 : (Jvm.Cond.initialized "java/lang/Throwable") ∈ lw_all := lw_g (lw_at lw_m1 12 rfl) rfl
theorem q317 : (Jvm.Cond.declares ({ cls := "java/lang/Throwable", name := "<init>", desc := "()V" } : Jvm.MethodName)) ∈ lw_tbl := lw_at lw_m2 22 rfl
theorem q318 : (Jvm.Cond.declares ({ cls := "java/lang/Throwable", name := "<init>", desc := "(Ljava/lang/String;)V" } : Jvm.MethodName)) ∈ lw_tbl := lw_at lw_m2 23 rfl
theorem q322 : (Jvm.Cond.lays "java/lang/Throwable" "java/lang/Throwable" "cause" "Ljava/lang/Throwable;") ∈ lw_all := lw_g (lw_at lw_m2 27 rfl) rfl
theorem q324 : (Jvm.Cond.lays "java/lang/Throwable" "java/lang/Throwable" "stackTrace" "[Ljava/lang/StackTraceElement;") ∈ lw_all := lw_g (lw_at lw_m2 29 rfl) rfl
theorem q326 : (Jvm.Cond.lays "java/lang/Throwable" "java/lang/Throwable" "suppressedExceptions" "Ljava/util/List;") ∈ lw_all := lw_g (lw_at lw_m2 31 rfl) rfl
theorem q328 : (Jvm.Cond.lays "java/lang/Throwable" "java/lang/Throwable" "detailMessage" "Ljava/lang/String;") ∈ lw_all := lw_g (lw_at lw_m2 33 rfl) rfl
theorem q330 : (Jvm.Cond.lays "java/lang/Throwable" "java/lang/Throwable" "backtrace" "Ljava/lang/Object;") ∈ lw_all := lw_g (lw_at lw_m2 35 rfl) rfl
theorem q331 : (Jvm.Cond.fieldLink "java/lang/Throwable" (198 : Nat) "java/lang/Throwable" "backtrace" "Ljava/lang/Object;") ∈ lw_all := lw_g (lw_at lw_m2 36 rfl) rfl
theorem q332 : (Jvm.Cond.superclass "java/lang/Throwable" "java/lang/Object") ∈ lw_all := lw_g (lw_at lw_m2 37 rfl) rfl
theorem q333 : (Jvm.Cond.instanceMethod ({ cls := "java/lang/Throwable", name := "<init>", desc := "()V" } : Jvm.MethodName)) ∈ lw_all := lw_g (lw_at lw_m2 38 rfl) rfl
theorem q334 : (Jvm.Cond.code ({ cls := "java/lang/Throwable", name := "<init>", desc := "()V" } : Jvm.MethodName) prog_17_method_1_code (1 : Nat) (Option.none : Option Jvm.ClassFile.FieldType)) ∈ lw_all := lw_g (lw_at lw_m2 39 rfl) rfl
theorem q335 : (Jvm.Cond.methodLink "java/lang/Throwable" (1 : Nat) ({ cls := "java/lang/Object", name := "<init>", desc := "()V" } : Jvm.MethodName)) ∈ lw_all := lw_g (lw_at lw_m2 40 rfl) rfl
theorem q336 : (Jvm.Cond.fieldLink "java/lang/Throwable" (13 : Nat) "java/lang/Throwable" "UNASSIGNED_STACK" "[Ljava/lang/StackTraceElement;") ∈ lw_all := lw_g (lw_at lw_m2 41 rfl) rfl
theorem q337 : (Jvm.Cond.laysStatic "java/lang/Throwable" "UNASSIGNED_STACK" "[Ljava/lang/StackTraceElement;") ∈ lw_tbl := lw_at lw_m2 42 rfl
theorem q338 : (Jvm.Cond.fieldLink "java/lang/Throwable" (20 : Nat) "java/lang/Throwable" "SUPPRESSED_SENTINEL" "Ljava/util/List;") ∈ lw_all := lw_g (lw_at lw_m2 43 rfl) rfl
theorem q339 : (Jvm.Cond.laysStatic "java/lang/Throwable" "SUPPRESSED_SENTINEL" "Ljava/util/List;") ∈ lw_tbl := lw_at lw_m2 44 rfl
theorem q340 : (Jvm.Cond.methodLink "java/lang/Throwable" (27 : Nat) ({ cls := "java/lang/Throwable", name := "fillInStackTrace", desc := "()Ljava/lang/Throwable;" } : Jvm.MethodName)) ∈ lw_all := lw_g (lw_at lw_m2 45 rfl) rfl
theorem q341 : (Jvm.Cond.instanceMethod ({ cls := "java/lang/Throwable", name := "fillInStackTrace", desc := "()Ljava/lang/Throwable;" } : Jvm.MethodName)) ∈ lw_all := lw_g (lw_at lw_m2 46 rfl) rfl
theorem q342 : (Jvm.Cond.sameMethod "java/lang/Throwable" "java/lang/Throwable" "fillInStackTrace" "()Ljava/lang/Throwable;") ∈ lw_all := lw_g (lw_at lw_m2 47 rfl) rfl
theorem q343 : (Jvm.Cond.codeSync ({ cls := "java/lang/Throwable", name := "fillInStackTrace", desc := "()Ljava/lang/Throwable;" } : Jvm.MethodName) prog_17_method_18_code (1 : Nat) (Option.some (Jvm.ClassFile.FieldType.object "java/lang/Throwable"))) ∈ lw_all := lw_g (lw_at lw_m2 48 rfl) rfl
theorem q344 : (Jvm.Cond.methodLink "java/lang/Throwable" (202 : Nat) ({ cls := "java/lang/Throwable", name := "fillInStackTrace", desc := "(I)Ljava/lang/Throwable;" } : Jvm.MethodName)) ∈ lw_all := lw_g (lw_at lw_m2 49 rfl) rfl
theorem q345 : (Jvm.Cond.privateMethod ({ cls := "java/lang/Throwable", name := "fillInStackTrace", desc := "(I)Ljava/lang/Throwable;" } : Jvm.MethodName)) ∈ lw_tbl := lw_at lw_m2 50 rfl
theorem q346 : (Jvm.Cond.instanceMethod ({ cls := "java/lang/Throwable", name := "fillInStackTrace", desc := "(I)Ljava/lang/Throwable;" } : Jvm.MethodName)) ∈ lw_all := lw_g (lw_at lw_m2 51 rfl) rfl
theorem q347 : (Jvm.Cond.instantiable "java/lang/Throwable" (6 : Nat)) ∈ lw_all := lw_g (lw_at lw_m2 52 rfl) rfl
theorem q348 : (Jvm.Cond.native ({ cls := "java/lang/Throwable", name := "fillInStackTrace", desc := "(I)Ljava/lang/Throwable;" } : Jvm.MethodName)) ∈ lw_all := lw_g (lw_at lw_m2 53 rfl) rfl
theorem q356 : (Jvm.Cond.instanceMethod ({ cls := "java/lang/Throwable", name := "<init>", desc := "(Ljava/lang/String;Ljava/lang/Throwable;ZZ)V" } : Jvm.MethodName)) ∈ lw_all := lw_g (lw_at lw_m2 61 rfl) rfl
theorem q357 : (Jvm.Cond.code ({ cls := "java/lang/Throwable", name := "<init>", desc := "(Ljava/lang/String;Ljava/lang/Throwable;ZZ)V" } : Jvm.MethodName) prog_17_method_5_code (5 : Nat) (Option.none : Option Jvm.ClassFile.FieldType)) ∈ lw_all := lw_g (lw_at lw_m2 62 rfl) rfl
theorem q362 : (Jvm.Cond.fieldLink "java/lang/Throwable" (198 : Nat) "java/lang/Throwable" "backtrace" "Ljava/lang/Object;") ∈ lw_all := lw_g (lw_at lw_m2 67 rfl) rfl
theorem q363 : (Jvm.Cond.fieldLink "java/lang/Throwable" (31 : Nat) "java/lang/Throwable" "detailMessage" "Ljava/lang/String;") ∈ lw_all := lw_g (lw_at lw_m2 68 rfl) rfl
theorem q364 : (Jvm.Cond.fieldLink "java/lang/Throwable" (7 : Nat) "java/lang/Throwable" "cause" "Ljava/lang/Throwable;") ∈ lw_all := lw_g (lw_at lw_m2 69 rfl) rfl
theorem q365 : (Jvm.Cond.fieldLink "java/lang/Throwable" (17 : Nat) "java/lang/Throwable" "stackTrace" "[Ljava/lang/StackTraceElement;") ∈ lw_all := lw_g (lw_at lw_m2 70 rfl) rfl
theorem q366 : (Jvm.Cond.fieldLink "java/lang/Throwable" (24 : Nat) "java/lang/Throwable" "suppressedExceptions" "Ljava/util/List;") ∈ lw_all := lw_g (lw_at lw_m2 71 rfl) rfl
theorem q371 : (Jvm.Cond.soleField "java/lang/Throwable" "backtrace") ∈ lw_all := lw_g (lw_at lw_m2 76 rfl) rfl
theorem q372 : (Jvm.Cond.soleField "java/lang/Throwable" "detailMessage") ∈ lw_all := lw_g (lw_at lw_m2 77 rfl) rfl
theorem q373 : (Jvm.Cond.soleField "java/lang/Throwable" "cause") ∈ lw_all := lw_g (lw_at lw_m2 78 rfl) rfl
theorem q374 : (Jvm.Cond.soleField "java/lang/Throwable" "stackTrace") ∈ lw_all := lw_g (lw_at lw_m2 79 rfl) rfl
theorem q376 : (Jvm.Cond.soleField "java/lang/Throwable" "depth") ∈ lw_all := lw_g (lw_at lw_m2 81 rfl) rfl
theorem q377 : (Jvm.Cond.soleField "java/lang/Throwable" "suppressedExceptions") ∈ lw_all := lw_g (lw_at lw_m2 82 rfl) rfl
theorem q1063 : (Jvm.Cond.sameMethod "java/lang/Throwable" "java/lang/Throwable" "fillInStackTrace" "(I)Ljava/lang/Throwable;") ∈ lw_all := lw_g (lw_at lw_m5 48 rfl) rfl
theorem in_J1 : ∀ w ∈ wsJ10, w ∈ lw_all := lw_in wsJ10 [322, 324, 326, 328, 330] (by decide +kernel) (by decide +kernel)

/-! java/lang/Exception -/
set_option maxRecDepth 100000
def RJ2 : String := "java/lang/Exception"
abbrev cJ2_init : ByteArray := prog_13_method_5_code
def yJ2_init : MethodName := ⟨RJ2, "<init>", "(Ljava/lang/String;Ljava/lang/Throwable;ZZ)V"⟩
def dkwJ2_init_0 : List UInt8 := [42, 43, 44, 29, 21, 4, 183, 0, 16, 177]
abbrev dktJ2_init_0 : List UInt8 := dkwJ2_init_0 ++ []
theorem dksJ2_init_0 : cJ2_init.data.toList.drop 0 = dktJ2_init_0 := by decide +kernel
theorem dJ2_init_0 : decode cJ2_init 0 = .ok (.aload_n 0, 1) := dk_42 (dk_at dksJ2_init_0 0 rfl rfl)
theorem dJ2_init_1 : decode cJ2_init 1 = .ok (.aload_n 1, 1) := dk_43 (dk_at dksJ2_init_0 1 rfl rfl)
theorem dJ2_init_2 : decode cJ2_init 2 = .ok (.aload_n 2, 1) := dk_44 (dk_at dksJ2_init_0 2 rfl rfl)
theorem dJ2_init_3 : decode cJ2_init 3 = .ok (.iload_n 3, 1) := dk_29 (dk_at dksJ2_init_0 3 rfl rfl)
theorem dJ2_init_4 : decode cJ2_init 4 = .ok (.iload 4, 2) := dk_21 4 (dk_at dksJ2_init_0 4 rfl rfl)
theorem dJ2_init_6 : decode cJ2_init 6 = .ok (.invokespecial 16, 3) := dk_183 0 16 (dk_at dksJ2_init_0 6 rfl rfl)
theorem dJ2_init_9 : decode cJ2_init 9 = .ok (.return_, 1) := dk_177 (dk_at dksJ2_init_0 9 rfl rfl)
theorem q68 : (Jvm.Cond.initialized "java/lang/Exception") ∈ lw_all := lw_g (lw_at lw_m1 13 rfl) rfl
theorem q315 : (Jvm.Cond.declares ({ cls := "java/lang/Exception", name := "<init>", desc := "()V" } : Jvm.MethodName)) ∈ lw_tbl := lw_at lw_m2 20 rfl
theorem q316 : (Jvm.Cond.declares ({ cls := "java/lang/Exception", name := "<init>", desc := "(Ljava/lang/String;)V" } : Jvm.MethodName)) ∈ lw_tbl := lw_at lw_m2 21 rfl
theorem q353 : (Jvm.Cond.instanceMethod ({ cls := "java/lang/Exception", name := "<init>", desc := "(Ljava/lang/String;Ljava/lang/Throwable;ZZ)V" } : Jvm.MethodName)) ∈ lw_all := lw_g (lw_at lw_m2 58 rfl) rfl
theorem q354 : (Jvm.Cond.code ({ cls := "java/lang/Exception", name := "<init>", desc := "(Ljava/lang/String;Ljava/lang/Throwable;ZZ)V" } : Jvm.MethodName) prog_13_method_5_code (5 : Nat) (Option.none : Option Jvm.ClassFile.FieldType)) ∈ lw_all := lw_g (lw_at lw_m2 59 rfl) rfl
theorem q355 : (Jvm.Cond.methodLink "java/lang/Exception" (16 : Nat) ({ cls := "java/lang/Throwable", name := "<init>", desc := "(Ljava/lang/String;Ljava/lang/Throwable;ZZ)V" } : Jvm.MethodName)) ∈ lw_all := lw_g (lw_at lw_m2 60 rfl) rfl

/-! java/lang/Math -/
set_option maxRecDepth 100000
def RJ3 : String := "java/lang/Math"
abbrev cJ3_min : ByteArray := prog_15_method_69_code
def yJ3_min : MethodName := ⟨RJ3, "min", "(II)I"⟩
def dkwJ3_min_0 : List UInt8 := [26, 27, 163, 0, 7, 26, 167, 0, 4, 27, 172]
abbrev dktJ3_min_0 : List UInt8 := dkwJ3_min_0 ++ []
theorem dksJ3_min_0 : cJ3_min.data.toList.drop 0 = dktJ3_min_0 := by decide +kernel
theorem dJ3_min_0 : decode cJ3_min 0 = .ok (.iload_n 0, 1) := dk_26 (dk_at dksJ3_min_0 0 rfl rfl)
theorem dJ3_min_1 : decode cJ3_min 1 = .ok (.iload_n 1, 1) := dk_27 (dk_at dksJ3_min_0 1 rfl rfl)
theorem dJ3_min_2 : decode cJ3_min 2 = .ok (.if_icmp .gt 7, 3) := dk_163 0 7 (dk_at dksJ3_min_0 2 rfl rfl)
theorem dJ3_min_5 : decode cJ3_min 5 = .ok (.iload_n 0, 1) := dk_26 (dk_at dksJ3_min_0 5 rfl rfl)
theorem dJ3_min_6 : decode cJ3_min 6 = .ok (.goto 4, 3) := dk_167 0 4 (dk_at dksJ3_min_0 6 rfl rfl)
theorem dJ3_min_9 : decode cJ3_min 9 = .ok (.iload_n 1, 1) := dk_27 (dk_at dksJ3_min_0 9 rfl rfl)
theorem dJ3_min_10 : decode cJ3_min 10 = .ok (.ireturn, 1) := dk_172 (dk_at dksJ3_min_0 10 rfl rfl)
abbrev cJ3_max : ByteArray := prog_15_method_65_code
def yJ3_max : MethodName := ⟨RJ3, "max", "(II)I"⟩
def dkwJ3_max_0 : List UInt8 := [26, 27, 161, 0, 7, 26, 167, 0, 4, 27, 172]
abbrev dktJ3_max_0 : List UInt8 := dkwJ3_max_0 ++ []
theorem dksJ3_max_0 : cJ3_max.data.toList.drop 0 = dktJ3_max_0 := by decide +kernel
theorem dJ3_max_0 : decode cJ3_max 0 = .ok (.iload_n 0, 1) := dk_26 (dk_at dksJ3_max_0 0 rfl rfl)
theorem dJ3_max_1 : decode cJ3_max 1 = .ok (.iload_n 1, 1) := dk_27 (dk_at dksJ3_max_0 1 rfl rfl)
theorem dJ3_max_2 : decode cJ3_max 2 = .ok (.if_icmp .lt 7, 3) := dk_161 0 7 (dk_at dksJ3_max_0 2 rfl rfl)
theorem dJ3_max_5 : decode cJ3_max 5 = .ok (.iload_n 0, 1) := dk_26 (dk_at dksJ3_max_0 5 rfl rfl)
theorem dJ3_max_6 : decode cJ3_max 6 = .ok (.goto 4, 3) := dk_167 0 4 (dk_at dksJ3_max_0 6 rfl rfl)
theorem dJ3_max_9 : decode cJ3_max 9 = .ok (.iload_n 1, 1) := dk_27 (dk_at dksJ3_max_0 9 rfl rfl)
theorem dJ3_max_10 : decode cJ3_max 10 = .ok (.ireturn, 1) := dk_172 (dk_at dksJ3_max_0 10 rfl rfl)
abbrev cJ3_abs : ByteArray := prog_15_method_59_code
def yJ3_abs : MethodName := ⟨RJ3, "abs", "(I)I"⟩
def dkwJ3_abs_0 : List UInt8 := [26, 156, 0, 8, 26, 116, 167, 0, 4, 26, 172]
abbrev dktJ3_abs_0 : List UInt8 := dkwJ3_abs_0 ++ []
theorem dksJ3_abs_0 : cJ3_abs.data.toList.drop 0 = dktJ3_abs_0 := by decide +kernel
theorem dJ3_abs_0 : decode cJ3_abs 0 = .ok (.iload_n 0, 1) := dk_26 (dk_at dksJ3_abs_0 0 rfl rfl)
theorem dJ3_abs_1 : decode cJ3_abs 1 = .ok (.ifCond .ge 8, 3) := dk_156 0 8 (dk_at dksJ3_abs_0 1 rfl rfl)
theorem dJ3_abs_4 : decode cJ3_abs 4 = .ok (.iload_n 0, 1) := dk_26 (dk_at dksJ3_abs_0 4 rfl rfl)
theorem dJ3_abs_5 : decode cJ3_abs 5 = .ok (.ineg, 1) := dk_116 (dk_at dksJ3_abs_0 5 rfl rfl)
theorem dJ3_abs_6 : decode cJ3_abs 6 = .ok (.goto 4, 3) := dk_167 0 4 (dk_at dksJ3_abs_0 6 rfl rfl)
theorem dJ3_abs_9 : decode cJ3_abs 9 = .ok (.iload_n 0, 1) := dk_26 (dk_at dksJ3_abs_0 9 rfl rfl)
theorem dJ3_abs_10 : decode cJ3_abs 10 = .ok (.ireturn, 1) := dk_172 (dk_at dksJ3_abs_0 10 rfl rfl)
theorem q70 : (Jvm.Cond.initialized "java/lang/Math") ∈ lw_all := lw_g (lw_at lw_m1 15 rfl) rfl
theorem q389 : (Jvm.Cond.static ({ cls := "java/lang/Math", name := "min", desc := "(II)I" } : Jvm.MethodName)) ∈ lw_all := lw_g (lw_at lw_m2 94 rfl) rfl
theorem q390 : (Jvm.Cond.code ({ cls := "java/lang/Math", name := "min", desc := "(II)I" } : Jvm.MethodName) prog_15_method_69_code (2 : Nat) (Option.some Jvm.ClassFile.FieldType.int)) ∈ lw_all := lw_g (lw_at lw_m2 95 rfl) rfl
theorem q485 : (Jvm.Cond.static ({ cls := "java/lang/Math", name := "max", desc := "(II)I" } : Jvm.MethodName)) ∈ lw_all := lw_g (lw_at lw_m2 190 rfl) rfl
theorem q486 : (Jvm.Cond.code ({ cls := "java/lang/Math", name := "max", desc := "(II)I" } : Jvm.MethodName) prog_15_method_65_code (2 : Nat) (Option.some Jvm.ClassFile.FieldType.int)) ∈ lw_all := lw_g (lw_at lw_m2 191 rfl) rfl
theorem q515 : (Jvm.Cond.static ({ cls := "java/lang/Math", name := "abs", desc := "(I)I" } : Jvm.MethodName)) ∈ lw_all := lw_g (lw_at lw_m2 220 rfl) rfl
theorem q516 : (Jvm.Cond.code ({ cls := "java/lang/Math", name := "abs", desc := "(I)I" } : Jvm.MethodName) prog_15_method_59_code (1 : Nat) (Option.some Jvm.ClassFile.FieldType.int)) ∈ lw_all := lw_g (lw_at lw_m2 221 rfl) rfl

/-! java/lang/Integer -/
set_option maxRecDepth 100000
def RJ4 : String := "java/lang/Integer"
abbrev cJ4_bitCount : ByteArray := prog_14_method_49_code
def yJ4_bitCount : MethodName := ⟨RJ4, "bitCount", "(I)I"⟩
def dkwJ4_bitCount_2 : List UInt8 := [26, 16, 63, 126, 172]
abbrev dktJ4_bitCount_2 : List UInt8 := dkwJ4_bitCount_2 ++ []
def dkwJ4_bitCount_1 : List UInt8 := [26, 26, 7, 124, 96, 19, 1, 11, 126, 59, 26, 26, 16, 8, 124, 96, 59, 26, 26, 16, 16, 124, 96, 59]
abbrev dktJ4_bitCount_1 : List UInt8 := dkwJ4_bitCount_1 ++ dktJ4_bitCount_2
def dkwJ4_bitCount_0 : List UInt8 := [26, 26, 4, 124, 19, 1, 9, 126, 100, 59, 26, 19, 1, 10, 126, 26, 5, 124, 19, 1, 10, 126, 96, 59]
abbrev dktJ4_bitCount_0 : List UInt8 := dkwJ4_bitCount_0 ++ dktJ4_bitCount_1
theorem dksJ4_bitCount_0 : cJ4_bitCount.data.toList.drop 0 = dktJ4_bitCount_0 := by decide +kernel
theorem dksJ4_bitCount_1 : cJ4_bitCount.data.toList.drop 24 = dktJ4_bitCount_1 := dk_seg dksJ4_bitCount_0 24 rfl rfl
theorem dksJ4_bitCount_2 : cJ4_bitCount.data.toList.drop 48 = dktJ4_bitCount_2 := dk_seg dksJ4_bitCount_1 24 rfl rfl
theorem dJ4_bitCount_0 : decode cJ4_bitCount 0 = .ok (.iload_n 0, 1) := dk_26 (dk_at dksJ4_bitCount_0 0 rfl rfl)
theorem dJ4_bitCount_1 : decode cJ4_bitCount 1 = .ok (.iload_n 0, 1) := dk_26 (dk_at dksJ4_bitCount_0 1 rfl rfl)
theorem dJ4_bitCount_2 : decode cJ4_bitCount 2 = .ok (.iconst 1, 1) := dk_4 (dk_at dksJ4_bitCount_0 2 rfl rfl)
theorem dJ4_bitCount_3 : decode cJ4_bitCount 3 = .ok (.iushr, 1) := dk_124 (dk_at dksJ4_bitCount_0 3 rfl rfl)
theorem dJ4_bitCount_4 : decode cJ4_bitCount 4 = .ok (.ldc_w 265, 3) := dk_19 1 9 (dk_at dksJ4_bitCount_0 4 rfl rfl)
theorem dJ4_bitCount_7 : decode cJ4_bitCount 7 = .ok (.iand, 1) := dk_126 (dk_at dksJ4_bitCount_0 7 rfl rfl)
theorem dJ4_bitCount_8 : decode cJ4_bitCount 8 = .ok (.isub, 1) := dk_100 (dk_at dksJ4_bitCount_0 8 rfl rfl)
theorem dJ4_bitCount_9 : decode cJ4_bitCount 9 = .ok (.istore_n 0, 1) := dk_59 (dk_at dksJ4_bitCount_0 9 rfl rfl)
theorem dJ4_bitCount_10 : decode cJ4_bitCount 10 = .ok (.iload_n 0, 1) := dk_26 (dk_at dksJ4_bitCount_0 10 rfl rfl)
theorem dJ4_bitCount_11 : decode cJ4_bitCount 11 = .ok (.ldc_w 266, 3) := dk_19 1 10 (dk_at dksJ4_bitCount_0 11 rfl rfl)
theorem dJ4_bitCount_14 : decode cJ4_bitCount 14 = .ok (.iand, 1) := dk_126 (dk_at dksJ4_bitCount_0 14 rfl rfl)
theorem dJ4_bitCount_15 : decode cJ4_bitCount 15 = .ok (.iload_n 0, 1) := dk_26 (dk_at dksJ4_bitCount_0 15 rfl rfl)
theorem dJ4_bitCount_16 : decode cJ4_bitCount 16 = .ok (.iconst 2, 1) := dk_5 (dk_at dksJ4_bitCount_0 16 rfl rfl)
theorem dJ4_bitCount_17 : decode cJ4_bitCount 17 = .ok (.iushr, 1) := dk_124 (dk_at dksJ4_bitCount_0 17 rfl rfl)
theorem dJ4_bitCount_18 : decode cJ4_bitCount 18 = .ok (.ldc_w 266, 3) := dk_19 1 10 (dk_at dksJ4_bitCount_0 18 rfl rfl)
theorem dJ4_bitCount_21 : decode cJ4_bitCount 21 = .ok (.iand, 1) := dk_126 (dk_at dksJ4_bitCount_0 21 rfl rfl)
theorem dJ4_bitCount_22 : decode cJ4_bitCount 22 = .ok (.iadd, 1) := dk_96 (dk_at dksJ4_bitCount_0 22 rfl rfl)
theorem dJ4_bitCount_23 : decode cJ4_bitCount 23 = .ok (.istore_n 0, 1) := dk_59 (dk_at dksJ4_bitCount_0 23 rfl rfl)
theorem dJ4_bitCount_24 : decode cJ4_bitCount 24 = .ok (.iload_n 0, 1) := dk_26 (dk_at dksJ4_bitCount_1 0 rfl rfl)
theorem dJ4_bitCount_25 : decode cJ4_bitCount 25 = .ok (.iload_n 0, 1) := dk_26 (dk_at dksJ4_bitCount_1 1 rfl rfl)
theorem dJ4_bitCount_26 : decode cJ4_bitCount 26 = .ok (.iconst 4, 1) := dk_7 (dk_at dksJ4_bitCount_1 2 rfl rfl)
theorem dJ4_bitCount_27 : decode cJ4_bitCount 27 = .ok (.iushr, 1) := dk_124 (dk_at dksJ4_bitCount_1 3 rfl rfl)
theorem dJ4_bitCount_28 : decode cJ4_bitCount 28 = .ok (.iadd, 1) := dk_96 (dk_at dksJ4_bitCount_1 4 rfl rfl)
theorem dJ4_bitCount_29 : decode cJ4_bitCount 29 = .ok (.ldc_w 267, 3) := dk_19 1 11 (dk_at dksJ4_bitCount_1 5 rfl rfl)
theorem dJ4_bitCount_32 : decode cJ4_bitCount 32 = .ok (.iand, 1) := dk_126 (dk_at dksJ4_bitCount_1 8 rfl rfl)
theorem dJ4_bitCount_33 : decode cJ4_bitCount 33 = .ok (.istore_n 0, 1) := dk_59 (dk_at dksJ4_bitCount_1 9 rfl rfl)
theorem dJ4_bitCount_34 : decode cJ4_bitCount 34 = .ok (.iload_n 0, 1) := dk_26 (dk_at dksJ4_bitCount_1 10 rfl rfl)
theorem dJ4_bitCount_35 : decode cJ4_bitCount 35 = .ok (.iload_n 0, 1) := dk_26 (dk_at dksJ4_bitCount_1 11 rfl rfl)
theorem dJ4_bitCount_36 : decode cJ4_bitCount 36 = .ok (.bipush 8, 2) := dk_16 8 (dk_at dksJ4_bitCount_1 12 rfl rfl)
theorem dJ4_bitCount_38 : decode cJ4_bitCount 38 = .ok (.iushr, 1) := dk_124 (dk_at dksJ4_bitCount_1 14 rfl rfl)
theorem dJ4_bitCount_39 : decode cJ4_bitCount 39 = .ok (.iadd, 1) := dk_96 (dk_at dksJ4_bitCount_1 15 rfl rfl)
theorem dJ4_bitCount_40 : decode cJ4_bitCount 40 = .ok (.istore_n 0, 1) := dk_59 (dk_at dksJ4_bitCount_1 16 rfl rfl)
theorem dJ4_bitCount_41 : decode cJ4_bitCount 41 = .ok (.iload_n 0, 1) := dk_26 (dk_at dksJ4_bitCount_1 17 rfl rfl)
theorem dJ4_bitCount_42 : decode cJ4_bitCount 42 = .ok (.iload_n 0, 1) := dk_26 (dk_at dksJ4_bitCount_1 18 rfl rfl)
theorem dJ4_bitCount_43 : decode cJ4_bitCount 43 = .ok (.bipush 16, 2) := dk_16 16 (dk_at dksJ4_bitCount_1 19 rfl rfl)
theorem dJ4_bitCount_45 : decode cJ4_bitCount 45 = .ok (.iushr, 1) := dk_124 (dk_at dksJ4_bitCount_1 21 rfl rfl)
theorem dJ4_bitCount_46 : decode cJ4_bitCount 46 = .ok (.iadd, 1) := dk_96 (dk_at dksJ4_bitCount_1 22 rfl rfl)
theorem dJ4_bitCount_47 : decode cJ4_bitCount 47 = .ok (.istore_n 0, 1) := dk_59 (dk_at dksJ4_bitCount_1 23 rfl rfl)
theorem dJ4_bitCount_48 : decode cJ4_bitCount 48 = .ok (.iload_n 0, 1) := dk_26 (dk_at dksJ4_bitCount_2 0 rfl rfl)
theorem dJ4_bitCount_49 : decode cJ4_bitCount 49 = .ok (.bipush 63, 2) := dk_16 63 (dk_at dksJ4_bitCount_2 1 rfl rfl)
theorem dJ4_bitCount_51 : decode cJ4_bitCount 51 = .ok (.iand, 1) := dk_126 (dk_at dksJ4_bitCount_2 3 rfl rfl)
theorem dJ4_bitCount_52 : decode cJ4_bitCount 52 = .ok (.ireturn, 1) := dk_172 (dk_at dksJ4_bitCount_2 4 rfl rfl)
theorem q71 : (Jvm.Cond.initialized "java/lang/Integer") ∈ lw_all := lw_g (lw_at lw_m1 16 rfl) rfl
theorem q494 : (Jvm.Cond.static ({ cls := "java/lang/Integer", name := "bitCount", desc := "(I)I" } : Jvm.MethodName)) ∈ lw_all := lw_g (lw_at lw_m2 199 rfl) rfl
theorem q495 : (Jvm.Cond.code ({ cls := "java/lang/Integer", name := "bitCount", desc := "(I)I" } : Jvm.MethodName) prog_14_method_49_code (1 : Nat) (Option.some Jvm.ClassFile.FieldType.int)) ∈ lw_all := lw_g (lw_at lw_m2 200 rfl) rfl
theorem q496 : (Jvm.Cond.constant "java/lang/Integer" (265 : Nat) (1431655765 : Int32)) ∈ lw_all := lw_g (lw_at lw_m2 201 rfl) rfl
theorem q497 : (Jvm.Cond.constant "java/lang/Integer" (266 : Nat) (858993459 : Int32)) ∈ lw_all := lw_g (lw_at lw_m2 202 rfl) rfl
theorem q498 : (Jvm.Cond.constant "java/lang/Integer" (267 : Nat) (252645135 : Int32)) ∈ lw_all := lw_g (lw_at lw_m2 203 rfl) rfl

theorem q81 : (Jvm.Cond.arrayOver (Jvm.ClassFile.FieldType.object "SkittleGentry$Gentry")) ∈ lw_tbl := lw_at lw_m1 26 rfl
set_option maxRecDepth 100000
theorem q116 : (Jvm.Cond.arrayClass Jvm.ClassFile.FieldType.int) ∈ lw_all := lw_g (lw_at lw_m1 61 rfl) rfl
theorem q174 : (Jvm.Cond.arrayOver (Jvm.ClassFile.FieldType.object "SkittleGentry$State")) ∈ lw_tbl := lw_at lw_m1 119 rfl
theorem q181 : (Jvm.Cond.arrayClass Jvm.ClassFile.FieldType.boolean) ∈ lw_all := lw_g (lw_at lw_m1 126 rfl) rfl
theorem q182 : (Jvm.Cond.arrayClass Jvm.ClassFile.FieldType.byte) ∈ lw_all := lw_g (lw_at lw_m1 127 rfl) rfl

theorem q63 : (Jvm.Cond.initialized "java/lang/System") ∈ lw_all := lw_g (lw_at lw_m1 8 rfl) rfl
set_option maxRecDepth 100000
theorem q209 : (Jvm.Cond.static ({ cls := "java/lang/System", name := "arraycopy", desc := "(Ljava/lang/Object;ILjava/lang/Object;II)V" } : Jvm.MethodName)) ∈ lw_all := lw_g (lw_at lw_m1 154 rfl) rfl
theorem q210 : (Jvm.Cond.native ({ cls := "java/lang/System", name := "arraycopy", desc := "(Ljava/lang/Object;ILjava/lang/Object;II)V" } : Jvm.MethodName)) ∈ lw_all := lw_g (lw_at lw_m1 155 rfl) rfl

theorem q55 : (Jvm.Cond.initialized "SkittleGentryLaw") ∈ lw_all := lw_g (lw_at lw_m1 0 rfl) rfl
set_option maxRecDepth 100000
theorem q72 : (Jvm.Cond.classLink "SkittleGentryLaw" (7 : Nat) "SkittleGentry") ∈ lw_all := lw_g (lw_at lw_m1 17 rfl) rfl
theorem q74 : (Jvm.Cond.methodLink "SkittleGentryLaw" (9 : Nat) ({ cls := "SkittleGentry", name := "<init>", desc := "()V" } : Jvm.MethodName)) ∈ lw_all := lw_g (lw_at lw_m1 19 rfl) rfl
theorem q262 : (Jvm.Cond.methodLink "SkittleGentryLaw" (13 : Nat) ({ cls := "SkittleGentry", name := "feed", desc := "(I)I" } : Jvm.MethodName)) ∈ lw_all := lw_g (lw_at lw_m1 207 rfl) rfl
theorem q271 : (Jvm.Cond.methodLink "SkittleGentryLaw" (18 : Nat) ({ cls := "SkittleGentry", name := "county", desc := "()I" } : Jvm.MethodName)) ∈ lw_all := lw_g (lw_at lw_m1 216 rfl) rfl
theorem q395 : (Jvm.Cond.methodLink "SkittleGentryLaw" (23 : Nat) ({ cls := "SkittleGentry", name := "fault", desc := "()I" } : Jvm.MethodName)) ∈ lw_all := lw_g (lw_at lw_m2 100 rfl) rfl
theorem q399 : (Jvm.Cond.methodLink "SkittleGentryLaw" (27 : Nat) ({ cls := "SkittleGentry", name := "told", desc := "(I)I" } : Jvm.MethodName)) ∈ lw_all := lw_g (lw_at lw_m2 104 rfl) rfl
theorem q517 : (Jvm.Cond.methodLink "SkittleGentryLaw" (31 : Nat) ({ cls := "SkittleGentry", name := "skittle", desc := "(II)I" } : Jvm.MethodName)) ∈ lw_all := lw_g (lw_at lw_m2 222 rfl) rfl
theorem q531 : (Jvm.Cond.methodLink "SkittleGentryLaw" (36 : Nat) ({ cls := "SkittleGentry", name := "plate", desc := "(I)I" } : Jvm.MethodName)) ∈ lw_all := lw_g (lw_at lw_m2 236 rfl) rfl
theorem q539 : (Jvm.Cond.methodLink "SkittleGentryLaw" (40 : Nat) ({ cls := "SkittleGentry", name := "ball", desc := "(III)I" } : Jvm.MethodName)) ∈ lw_all := lw_g (lw_at lw_m3 4 rfl) rfl
theorem q556 : (Jvm.Cond.methodLink "SkittleGentryLaw" (45 : Nat) ({ cls := "SkittleGentry", name := "setUp", desc := "()I" } : Jvm.MethodName)) ∈ lw_all := lw_g (lw_at lw_m3 21 rfl) rfl
theorem q565 : (Jvm.Cond.methodLink "SkittleGentryLaw" (49 : Nat) ({ cls := "SkittleGentry", name := "lift", desc := "(I)I" } : Jvm.MethodName)) ∈ lw_all := lw_g (lw_at lw_m3 30 rfl) rfl
theorem q569 : (Jvm.Cond.methodLink "SkittleGentryLaw" (53 : Nat) ({ cls := "SkittleGentry", name := "change", desc := "(II)I" } : Jvm.MethodName)) ∈ lw_all := lw_g (lw_at lw_m3 34 rfl) rfl
theorem q577 : (Jvm.Cond.methodLink "SkittleGentryLaw" (57 : Nat) ({ cls := "SkittleGentry", name := "chip", desc := "(II)I" } : Jvm.MethodName)) ∈ lw_all := lw_g (lw_at lw_m3 42 rfl) rfl
theorem q581 : (Jvm.Cond.methodLink "SkittleGentryLaw" (61 : Nat) ({ cls := "SkittleGentry", name := "replace", desc := "(I)I" } : Jvm.MethodName)) ∈ lw_all := lw_g (lw_at lw_m3 46 rfl) rfl
theorem q585 : (Jvm.Cond.methodLink "SkittleGentryLaw" (65 : Nat) ({ cls := "SkittleGentry", name := "drift", desc := "(I)I" } : Jvm.MethodName)) ∈ lw_all := lw_g (lw_at lw_m3 50 rfl) rfl
theorem q604 : (Jvm.Cond.methodLink "SkittleGentryLaw" (69 : Nat) ({ cls := "SkittleGentry", name := "undo", desc := "()I" } : Jvm.MethodName)) ∈ lw_all := lw_g (lw_at lw_m3 69 rfl) rfl
theorem q608 : (Jvm.Cond.methodLink "SkittleGentryLaw" (73 : Nat) ({ cls := "SkittleGentry", name := "wouldFall", desc := "(IIII)I" } : Jvm.MethodName)) ∈ lw_all := lw_g (lw_at lw_m3 73 rfl) rfl
theorem q613 : (Jvm.Cond.methodLink "SkittleGentryLaw" (78 : Nat) ({ cls := "SkittleGentry", name := "balls", desc := "(II)I" } : Jvm.MethodName)) ∈ lw_all := lw_g (lw_at lw_m3 78 rfl) rfl
theorem q621 : (Jvm.Cond.methodLink "SkittleGentryLaw" (82 : Nat) ({ cls := "SkittleGentry", name := "spare", desc := "(II)I" } : Jvm.MethodName)) ∈ lw_all := lw_g (lw_at lw_m3 86 rfl) rfl
theorem q625 : (Jvm.Cond.methodLink "SkittleGentryLaw" (86 : Nat) ({ cls := "SkittleGentry", name := "allDown", desc := "(I)I" } : Jvm.MethodName)) ∈ lw_all := lw_g (lw_at lw_m3 90 rfl) rfl
theorem q638 : (Jvm.Cond.methodLink "SkittleGentryLaw" (90 : Nat) ({ cls := "SkittleGentry", name := "mend", desc := "(IIII)I" } : Jvm.MethodName)) ∈ lw_all := lw_g (lw_at lw_m3 103 rfl) rfl
theorem q642 : (Jvm.Cond.methodLink "SkittleGentryLaw" (94 : Nat) ({ cls := "SkittleGentry", name := "hand", desc := "(I)I" } : Jvm.MethodName)) ∈ lw_all := lw_g (lw_at lw_m3 107 rfl) rfl
theorem q646 : (Jvm.Cond.methodLink "SkittleGentryLaw" (98 : Nat) ({ cls := "SkittleGentry", name := "ask", desc := "(I)I" } : Jvm.MethodName)) ∈ lw_all := lw_g (lw_at lw_m3 111 rfl) rfl
theorem q651 : (Jvm.Cond.methodLink "SkittleGentryLaw" (102 : Nat) ({ cls := "SkittleGentry", name := "calm", desc := "(II)I" } : Jvm.MethodName)) ∈ lw_all := lw_g (lw_at lw_m3 116 rfl) rfl
theorem q657 : (Jvm.Cond.methodLink "SkittleGentryLaw" (106 : Nat) ({ cls := "SkittleGentry", name := "write", desc := "(IZ)I" } : Jvm.MethodName)) ∈ lw_all := lw_g (lw_at lw_m3 122 rfl) rfl
theorem q661 : (Jvm.Cond.methodLink "SkittleGentryLaw" (111 : Nat) ({ cls := "SkittleGentry", name := "tear", desc := "()I" } : Jvm.MethodName)) ∈ lw_all := lw_g (lw_at lw_m3 126 rfl) rfl
theorem q665 : (Jvm.Cond.methodLink "SkittleGentryLaw" (115 : Nat) ({ cls := "SkittleGentry", name := "judge", desc := "()I" } : Jvm.MethodName)) ∈ lw_all := lw_g (lw_at lw_m3 130 rfl) rfl
theorem q669 : (Jvm.Cond.methodLink "SkittleGentryLaw" (119 : Nat) ({ cls := "SkittleGentry", name := "seed", desc := "(I)I" } : Jvm.MethodName)) ∈ lw_all := lw_g (lw_at lw_m3 134 rfl) rfl
theorem q673 : (Jvm.Cond.methodLink "SkittleGentryLaw" (123 : Nat) ({ cls := "SkittleGentry", name := "keep", desc := "(I)I" } : Jvm.MethodName)) ∈ lw_all := lw_g (lw_at lw_m3 138 rfl) rfl
theorem q677 : (Jvm.Cond.methodLink "SkittleGentryLaw" (127 : Nat) ({ cls := "SkittleGentry", name := "goBack", desc := "(I)I" } : Jvm.MethodName)) ∈ lw_all := lw_g (lw_at lw_m3 142 rfl) rfl
theorem q681 : (Jvm.Cond.classLink "SkittleGentryLaw" (10 : Nat) "SkittleGentryModel") ∈ lw_all := lw_g (lw_at lw_m3 146 rfl) rfl
theorem q683 : (Jvm.Cond.methodLink "SkittleGentryLaw" (12 : Nat) ({ cls := "SkittleGentryModel", name := "<init>", desc := "()V" } : Jvm.MethodName)) ∈ lw_all := lw_g (lw_at lw_m3 148 rfl) rfl
theorem q793 : (Jvm.Cond.methodLink "SkittleGentryLaw" (17 : Nat) ({ cls := "SkittleGentryModel", name := "feed", desc := "(I)I" } : Jvm.MethodName)) ∈ lw_all := lw_g (lw_at lw_m4 18 rfl) rfl
theorem q802 : (Jvm.Cond.methodLink "SkittleGentryLaw" (22 : Nat) ({ cls := "SkittleGentryModel", name := "county", desc := "()I" } : Jvm.MethodName)) ∈ lw_all := lw_g (lw_at lw_m4 27 rfl) rfl
theorem q842 : (Jvm.Cond.methodLink "SkittleGentryLaw" (26 : Nat) ({ cls := "SkittleGentryModel", name := "fault", desc := "()I" } : Jvm.MethodName)) ∈ lw_all := lw_g (lw_at lw_m4 67 rfl) rfl
theorem q846 : (Jvm.Cond.methodLink "SkittleGentryLaw" (30 : Nat) ({ cls := "SkittleGentryModel", name := "told", desc := "(I)I" } : Jvm.MethodName)) ∈ lw_all := lw_g (lw_at lw_m4 71 rfl) rfl
theorem q920 : (Jvm.Cond.methodLink "SkittleGentryLaw" (35 : Nat) ({ cls := "SkittleGentryModel", name := "skittle", desc := "(II)I" } : Jvm.MethodName)) ∈ lw_all := lw_g (lw_at lw_m4 145 rfl) rfl
theorem q933 : (Jvm.Cond.methodLink "SkittleGentryLaw" (39 : Nat) ({ cls := "SkittleGentryModel", name := "plate", desc := "(I)I" } : Jvm.MethodName)) ∈ lw_all := lw_g (lw_at lw_m4 158 rfl) rfl
theorem q944 : (Jvm.Cond.methodLink "SkittleGentryLaw" (44 : Nat) ({ cls := "SkittleGentryModel", name := "ball", desc := "(III)I" } : Jvm.MethodName)) ∈ lw_all := lw_g (lw_at lw_m4 169 rfl) rfl
theorem q961 : (Jvm.Cond.methodLink "SkittleGentryLaw" (48 : Nat) ({ cls := "SkittleGentryModel", name := "setUp", desc := "()I" } : Jvm.MethodName)) ∈ lw_all := lw_g (lw_at lw_m4 186 rfl) rfl
theorem q965 : (Jvm.Cond.methodLink "SkittleGentryLaw" (52 : Nat) ({ cls := "SkittleGentryModel", name := "lift", desc := "(I)I" } : Jvm.MethodName)) ∈ lw_all := lw_g (lw_at lw_m4 190 rfl) rfl
theorem q969 : (Jvm.Cond.methodLink "SkittleGentryLaw" (56 : Nat) ({ cls := "SkittleGentryModel", name := "change", desc := "(II)I" } : Jvm.MethodName)) ∈ lw_all := lw_g (lw_at lw_m4 194 rfl) rfl
theorem q977 : (Jvm.Cond.methodLink "SkittleGentryLaw" (60 : Nat) ({ cls := "SkittleGentryModel", name := "chip", desc := "(II)I" } : Jvm.MethodName)) ∈ lw_all := lw_g (lw_at lw_m4 202 rfl) rfl
theorem q981 : (Jvm.Cond.methodLink "SkittleGentryLaw" (64 : Nat) ({ cls := "SkittleGentryModel", name := "replace", desc := "(I)I" } : Jvm.MethodName)) ∈ lw_all := lw_g (lw_at lw_m4 206 rfl) rfl
theorem q985 : (Jvm.Cond.methodLink "SkittleGentryLaw" (68 : Nat) ({ cls := "SkittleGentryModel", name := "drift", desc := "(I)I" } : Jvm.MethodName)) ∈ lw_all := lw_g (lw_at lw_m4 210 rfl) rfl
theorem q997 : (Jvm.Cond.methodLink "SkittleGentryLaw" (72 : Nat) ({ cls := "SkittleGentryModel", name := "undo", desc := "()I" } : Jvm.MethodName)) ∈ lw_all := lw_g (lw_at lw_m4 222 rfl) rfl
theorem q1001 : (Jvm.Cond.methodLink "SkittleGentryLaw" (77 : Nat) ({ cls := "SkittleGentryModel", name := "wouldFall", desc := "(IIII)I" } : Jvm.MethodName)) ∈ lw_all := lw_g (lw_at lw_m4 226 rfl) rfl
theorem q1005 : (Jvm.Cond.methodLink "SkittleGentryLaw" (81 : Nat) ({ cls := "SkittleGentryModel", name := "balls", desc := "(II)I" } : Jvm.MethodName)) ∈ lw_all := lw_g (lw_at lw_m4 230 rfl) rfl
theorem q1013 : (Jvm.Cond.methodLink "SkittleGentryLaw" (85 : Nat) ({ cls := "SkittleGentryModel", name := "spare", desc := "(II)I" } : Jvm.MethodName)) ∈ lw_all := lw_g (lw_at lw_m4 238 rfl) rfl
theorem q1017 : (Jvm.Cond.methodLink "SkittleGentryLaw" (89 : Nat) ({ cls := "SkittleGentryModel", name := "allDown", desc := "(I)I" } : Jvm.MethodName)) ∈ lw_all := lw_g (lw_at lw_m5 2 rfl) rfl
theorem q1021 : (Jvm.Cond.methodLink "SkittleGentryLaw" (93 : Nat) ({ cls := "SkittleGentryModel", name := "mend", desc := "(IIII)I" } : Jvm.MethodName)) ∈ lw_all := lw_g (lw_at lw_m5 6 rfl) rfl
theorem q1025 : (Jvm.Cond.methodLink "SkittleGentryLaw" (97 : Nat) ({ cls := "SkittleGentryModel", name := "hand", desc := "(I)I" } : Jvm.MethodName)) ∈ lw_all := lw_g (lw_at lw_m5 10 rfl) rfl
theorem q1029 : (Jvm.Cond.methodLink "SkittleGentryLaw" (101 : Nat) ({ cls := "SkittleGentryModel", name := "ask", desc := "(I)I" } : Jvm.MethodName)) ∈ lw_all := lw_g (lw_at lw_m5 14 rfl) rfl
theorem q1033 : (Jvm.Cond.methodLink "SkittleGentryLaw" (105 : Nat) ({ cls := "SkittleGentryModel", name := "calm", desc := "(II)I" } : Jvm.MethodName)) ∈ lw_all := lw_g (lw_at lw_m5 18 rfl) rfl
theorem q1039 : (Jvm.Cond.methodLink "SkittleGentryLaw" (110 : Nat) ({ cls := "SkittleGentryModel", name := "write", desc := "(IZ)I" } : Jvm.MethodName)) ∈ lw_all := lw_g (lw_at lw_m5 24 rfl) rfl
theorem q1043 : (Jvm.Cond.methodLink "SkittleGentryLaw" (114 : Nat) ({ cls := "SkittleGentryModel", name := "tear", desc := "()I" } : Jvm.MethodName)) ∈ lw_all := lw_g (lw_at lw_m5 28 rfl) rfl
theorem q1047 : (Jvm.Cond.methodLink "SkittleGentryLaw" (118 : Nat) ({ cls := "SkittleGentryModel", name := "judge", desc := "()I" } : Jvm.MethodName)) ∈ lw_all := lw_g (lw_at lw_m5 32 rfl) rfl
theorem q1051 : (Jvm.Cond.methodLink "SkittleGentryLaw" (122 : Nat) ({ cls := "SkittleGentryModel", name := "seed", desc := "(I)I" } : Jvm.MethodName)) ∈ lw_all := lw_g (lw_at lw_m5 36 rfl) rfl
theorem q1055 : (Jvm.Cond.methodLink "SkittleGentryLaw" (126 : Nat) ({ cls := "SkittleGentryModel", name := "keep", desc := "(I)I" } : Jvm.MethodName)) ∈ lw_all := lw_g (lw_at lw_m5 40 rfl) rfl
theorem q1059 : (Jvm.Cond.methodLink "SkittleGentryLaw" (130 : Nat) ({ cls := "SkittleGentryModel", name := "goBack", desc := "(I)I" } : Jvm.MethodName)) ∈ lw_all := lw_g (lw_at lw_m5 44 rfl) rfl

/-! SkittleGentry$County -/
set_option maxRecDepth 100000
def RX1 : String := "SkittleGentry$County"
def TX1 : u_T := fun k => match k with
  | 0 => ("SkittleGentry$County", "floor", "I", false)
  | 1 => ("SkittleGentry$County", "kind", "[I", true)
  | 2 => ("SkittleGentry$County", "weight", "[I", true)
  | 3 => ("SkittleGentry$County", "chip", "[I", true)
  | _ => ("SkittleGentry$County", "many", "I", false)
def tyX1 : Nat → FieldType := fun k => match k with
  | 0 => .int
  | 1 => .array .int
  | 2 => .array .int
  | 3 => .array .int
  | _ => .int
abbrev wsX10 : List Cond := u_ws RX1 TX1 5
theorem nmX1 : ∀ a, a < 5 → ∀ b, b < 5 → a ≠ b → (TX1 a).2.1 ≠ (TX1 b).2.1 := by decide +kernel
theorem tyX1_ok : ∀ k, k < 5 → parseFieldDescriptor (TX1 k).2.2.1 = some (tyX1 k) := by decide +kernel
abbrev cX1_init : ByteArray := prog_3_method_1_code
def yX1_init : MethodName := ⟨RX1, "<init>", "()V"⟩
def dkwX1_init_1 : List UInt8 := [181, 0, 19, 42, 16, 9, 188, 10, 181, 0, 22, 177]
abbrev dktX1_init_1 : List UInt8 := dkwX1_init_1 ++ []
def dkwX1_init_0 : List UInt8 := [42, 183, 0, 3, 42, 2, 181, 0, 9, 42, 16, 9, 188, 10, 181, 0, 15, 42, 16, 9, 188, 10]
abbrev dktX1_init_0 : List UInt8 := dkwX1_init_0 ++ dktX1_init_1
theorem dksX1_init_0 : cX1_init.data.toList.drop 0 = dktX1_init_0 := by decide +kernel
theorem dksX1_init_1 : cX1_init.data.toList.drop 22 = dktX1_init_1 := dk_seg dksX1_init_0 22 rfl rfl
theorem dX1_init_0 : decode cX1_init 0 = .ok (.aload_n 0, 1) := dk_42 (dk_at dksX1_init_0 0 rfl rfl)
theorem dX1_init_1 : decode cX1_init 1 = .ok (.invokespecial 3, 3) := dk_183 0 3 (dk_at dksX1_init_0 1 rfl rfl)
theorem dX1_init_4 : decode cX1_init 4 = .ok (.aload_n 0, 1) := dk_42 (dk_at dksX1_init_0 4 rfl rfl)
theorem dX1_init_5 : decode cX1_init 5 = .ok (.iconst (-1), 1) := dk_2 (dk_at dksX1_init_0 5 rfl rfl)
theorem dX1_init_6 : decode cX1_init 6 = .ok (.putfield 9, 3) := dk_181 0 9 (dk_at dksX1_init_0 6 rfl rfl)
theorem dX1_init_9 : decode cX1_init 9 = .ok (.aload_n 0, 1) := dk_42 (dk_at dksX1_init_0 9 rfl rfl)
theorem dX1_init_10 : decode cX1_init 10 = .ok (.bipush 9, 2) := dk_16 9 (dk_at dksX1_init_0 10 rfl rfl)
theorem dX1_init_12 : decode cX1_init 12 = .ok (.newarray .int, 2) := dk_188_10 (dk_at dksX1_init_0 12 rfl rfl)
theorem dX1_init_14 : decode cX1_init 14 = .ok (.putfield 15, 3) := dk_181 0 15 (dk_at dksX1_init_0 14 rfl rfl)
theorem dX1_init_17 : decode cX1_init 17 = .ok (.aload_n 0, 1) := dk_42 (dk_at dksX1_init_0 17 rfl rfl)
theorem dX1_init_18 : decode cX1_init 18 = .ok (.bipush 9, 2) := dk_16 9 (dk_at dksX1_init_0 18 rfl rfl)
theorem dX1_init_20 : decode cX1_init 20 = .ok (.newarray .int, 2) := dk_188_10 (dk_at dksX1_init_0 20 rfl rfl)
theorem dX1_init_22 : decode cX1_init 22 = .ok (.putfield 19, 3) := dk_181 0 19 (dk_at dksX1_init_1 0 rfl rfl)
theorem dX1_init_25 : decode cX1_init 25 = .ok (.aload_n 0, 1) := dk_42 (dk_at dksX1_init_1 3 rfl rfl)
theorem dX1_init_26 : decode cX1_init 26 = .ok (.bipush 9, 2) := dk_16 9 (dk_at dksX1_init_1 4 rfl rfl)
theorem dX1_init_28 : decode cX1_init 28 = .ok (.newarray .int, 2) := dk_188_10 (dk_at dksX1_init_1 6 rfl rfl)
theorem dX1_init_30 : decode cX1_init 30 = .ok (.putfield 22, 3) := dk_181 0 22 (dk_at dksX1_init_1 8 rfl rfl)
theorem dX1_init_33 : decode cX1_init 33 = .ok (.return_, 1) := dk_177 (dk_at dksX1_init_1 11 rfl rfl)
theorem q57 : (Jvm.Cond.initialized "SkittleGentry$County") ∈ lw_all := lw_g (lw_at lw_m1 2 rfl) rfl
theorem q83 : (Jvm.Cond.instantiable "SkittleGentry$County" (5 : Nat)) ∈ lw_all := lw_g (lw_at lw_m1 28 rfl) rfl
theorem q85 : (Jvm.Cond.instanceMethod ({ cls := "SkittleGentry$County", name := "<init>", desc := "()V" } : Jvm.MethodName)) ∈ lw_all := lw_g (lw_at lw_m1 30 rfl) rfl
theorem q86 : (Jvm.Cond.code ({ cls := "SkittleGentry$County", name := "<init>", desc := "()V" } : Jvm.MethodName) prog_3_method_1_code (1 : Nat) (Option.none : Option Jvm.ClassFile.FieldType)) ∈ lw_all := lw_g (lw_at lw_m1 31 rfl) rfl
theorem q87 : (Jvm.Cond.methodLink "SkittleGentry$County" (3 : Nat) ({ cls := "java/lang/Object", name := "<init>", desc := "()V" } : Jvm.MethodName)) ∈ lw_all := lw_g (lw_at lw_m1 32 rfl) rfl
theorem q88 : (Jvm.Cond.fieldLink "SkittleGentry$County" (9 : Nat) "SkittleGentry$County" "floor" "I") ∈ lw_all := lw_g (lw_at lw_m1 33 rfl) rfl
theorem q92 : (Jvm.Cond.fieldLink "SkittleGentry$County" (15 : Nat) "SkittleGentry$County" "kind" "[I") ∈ lw_all := lw_g (lw_at lw_m1 37 rfl) rfl
theorem q95 : (Jvm.Cond.fieldLink "SkittleGentry$County" (19 : Nat) "SkittleGentry$County" "weight" "[I") ∈ lw_all := lw_g (lw_at lw_m1 40 rfl) rfl
theorem q99 : (Jvm.Cond.fieldLink "SkittleGentry$County" (22 : Nat) "SkittleGentry$County" "chip" "[I") ∈ lw_all := lw_g (lw_at lw_m1 44 rfl) rfl
theorem q105 : (Jvm.Cond.lays "SkittleGentry$County" "SkittleGentry$County" "floor" "I") ∈ lw_all := lw_g (lw_at lw_m1 50 rfl) rfl
theorem q106 : (Jvm.Cond.soleField "SkittleGentry$County" "floor") ∈ lw_all := lw_g (lw_at lw_m1 51 rfl) rfl
theorem q107 : (Jvm.Cond.laysFinal "SkittleGentry$County" "SkittleGentry$County" "kind" "[I") ∈ lw_all := lw_g (lw_at lw_m1 52 rfl) rfl
theorem q108 : (Jvm.Cond.soleField "SkittleGentry$County" "kind") ∈ lw_all := lw_g (lw_at lw_m1 53 rfl) rfl
theorem q109 : (Jvm.Cond.laysFinal "SkittleGentry$County" "SkittleGentry$County" "weight" "[I") ∈ lw_all := lw_g (lw_at lw_m1 54 rfl) rfl
theorem q110 : (Jvm.Cond.soleField "SkittleGentry$County" "weight") ∈ lw_all := lw_g (lw_at lw_m1 55 rfl) rfl
theorem q111 : (Jvm.Cond.laysFinal "SkittleGentry$County" "SkittleGentry$County" "chip" "[I") ∈ lw_all := lw_g (lw_at lw_m1 56 rfl) rfl
theorem q112 : (Jvm.Cond.soleField "SkittleGentry$County" "chip") ∈ lw_all := lw_g (lw_at lw_m1 57 rfl) rfl
theorem q113 : (Jvm.Cond.lays "SkittleGentry$County" "SkittleGentry$County" "many" "I") ∈ lw_all := lw_g (lw_at lw_m1 58 rfl) rfl
theorem q114 : (Jvm.Cond.soleField "SkittleGentry$County" "many") ∈ lw_all := lw_g (lw_at lw_m1 59 rfl) rfl
theorem q115 : (Jvm.Cond.superclass "SkittleGentry$County" "java/lang/Object") ∈ lw_all := lw_g (lw_at lw_m1 60 rfl) rfl
theorem in_X1 : ∀ w ∈ wsX10, w ∈ lw_all := lw_in wsX10 [105, 107, 109, 111, 113] (by decide +kernel) (by decide +kernel)

/-! SkittleGentry$Gentry -/
set_option maxRecDepth 100000
def RX3 : String := "SkittleGentry$Gentry"
abbrev cX3_init : ByteArray := prog_6_method_1_code
def yX3_init : MethodName := ⟨RX3, "<init>", "()V"⟩
theorem dX3_init_0 : decode cX3_init 0 = .ok (.aload_n 0, 1) := by decide +kernel
theorem dX3_init_1 : decode cX3_init 1 = .ok (.invokespecial 1, 3) := by decide +kernel
theorem dX3_init_4 : decode cX3_init 4 = .ok (.return_, 1) := by decide +kernel
abbrev cX3_bears : ByteArray := prog_6_method_2_code
def yX3_bears : MethodName := ⟨RX3, "bears", "(III)I"⟩
def dkwX3_bears_0 : List UInt8 := [27, 28, 100, 172]
abbrev dktX3_bears_0 : List UInt8 := dkwX3_bears_0 ++ []
theorem dksX3_bears_0 : cX3_bears.data.toList.drop 0 = dktX3_bears_0 := by decide +kernel
theorem dX3_bears_0 : decode cX3_bears 0 = .ok (.iload_n 1, 1) := dk_27 (dk_at dksX3_bears_0 0 rfl rfl)
theorem dX3_bears_1 : decode cX3_bears 1 = .ok (.iload_n 2, 1) := dk_28 (dk_at dksX3_bears_0 1 rfl rfl)
theorem dX3_bears_2 : decode cX3_bears 2 = .ok (.isub, 1) := dk_100 (dk_at dksX3_bears_0 2 rfl rfl)
theorem dX3_bears_3 : decode cX3_bears 3 = .ok (.ireturn, 1) := dk_172 (dk_at dksX3_bears_0 3 rfl rfl)
theorem q59 : (Jvm.Cond.initialized "SkittleGentry$Gentry") ∈ lw_all := lw_g (lw_at lw_m1 4 rfl) rfl
theorem q175 : (Jvm.Cond.instantiable "SkittleGentry$Gentry" (0 : Nat)) ∈ lw_all := lw_g (lw_at lw_m1 120 rfl) rfl
theorem q177 : (Jvm.Cond.instanceMethod ({ cls := "SkittleGentry$Gentry", name := "<init>", desc := "()V" } : Jvm.MethodName)) ∈ lw_all := lw_g (lw_at lw_m1 122 rfl) rfl
theorem q178 : (Jvm.Cond.code ({ cls := "SkittleGentry$Gentry", name := "<init>", desc := "()V" } : Jvm.MethodName) prog_6_method_1_code (1 : Nat) (Option.none : Option Jvm.ClassFile.FieldType)) ∈ lw_all := lw_g (lw_at lw_m1 123 rfl) rfl
theorem q179 : (Jvm.Cond.methodLink "SkittleGentry$Gentry" (1 : Nat) ({ cls := "java/lang/Object", name := "<init>", desc := "()V" } : Jvm.MethodName)) ∈ lw_all := lw_g (lw_at lw_m1 124 rfl) rfl
theorem q180 : (Jvm.Cond.superclass "SkittleGentry$Gentry" "java/lang/Object") ∈ lw_all := lw_g (lw_at lw_m1 125 rfl) rfl
theorem q468 : (Jvm.Cond.instanceMethod ({ cls := "SkittleGentry$Gentry", name := "bears", desc := "(III)I" } : Jvm.MethodName)) ∈ lw_all := lw_g (lw_at lw_m2 173 rfl) rfl
theorem q469 : (Jvm.Cond.selects "SkittleGentry$Gentry" ({ cls := "SkittleGentry$Gentry", name := "bears", desc := "(III)I" } : Jvm.MethodName) ({ cls := "SkittleGentry$Gentry", name := "bears", desc := "(III)I" } : Jvm.MethodName)) ∈ lw_all := lw_g (lw_at lw_m2 174 rfl) rfl
theorem q470 : (Jvm.Cond.sameMethod "SkittleGentry$Gentry" "SkittleGentry$Gentry" "bears" "(III)I") ∈ lw_all := lw_g (lw_at lw_m2 175 rfl) rfl
theorem q475 : (Jvm.Cond.code ({ cls := "SkittleGentry$Gentry", name := "bears", desc := "(III)I" } : Jvm.MethodName) prog_6_method_2_code (4 : Nat) (Option.some Jvm.ClassFile.FieldType.int)) ∈ lw_all := lw_g (lw_at lw_m2 180 rfl) rfl

/-! SkittleGentry$Family -/
set_option maxRecDepth 100000
def RX4 : String := "SkittleGentry$Family"
abbrev cX4_init : ByteArray := prog_4_method_1_code
def yX4_init : MethodName := ⟨RX4, "<init>", "()V"⟩
theorem dX4_init_0 : decode cX4_init 0 = .ok (.aload_n 0, 1) := by decide +kernel
theorem dX4_init_1 : decode cX4_init 1 = .ok (.invokespecial 1, 3) := by decide +kernel
theorem dX4_init_4 : decode cX4_init 4 = .ok (.return_, 1) := by decide +kernel
abbrev cX4_bears : ByteArray := prog_4_method_2_code
def yX4_bears : MethodName := ⟨RX4, "bears", "(III)I"⟩
def dkwX4_bears_0 : List UInt8 := [42, 27, 28, 5, 108, 29, 183, 0, 7, 172]
abbrev dktX4_bears_0 : List UInt8 := dkwX4_bears_0 ++ []
theorem dksX4_bears_0 : cX4_bears.data.toList.drop 0 = dktX4_bears_0 := by decide +kernel
theorem dX4_bears_0 : decode cX4_bears 0 = .ok (.aload_n 0, 1) := dk_42 (dk_at dksX4_bears_0 0 rfl rfl)
theorem dX4_bears_1 : decode cX4_bears 1 = .ok (.iload_n 1, 1) := dk_27 (dk_at dksX4_bears_0 1 rfl rfl)
theorem dX4_bears_2 : decode cX4_bears 2 = .ok (.iload_n 2, 1) := dk_28 (dk_at dksX4_bears_0 2 rfl rfl)
theorem dX4_bears_3 : decode cX4_bears 3 = .ok (.iconst 2, 1) := dk_5 (dk_at dksX4_bears_0 3 rfl rfl)
theorem dX4_bears_4 : decode cX4_bears 4 = .ok (.idiv, 1) := dk_108 (dk_at dksX4_bears_0 4 rfl rfl)
theorem dX4_bears_5 : decode cX4_bears 5 = .ok (.iload_n 3, 1) := dk_29 (dk_at dksX4_bears_0 5 rfl rfl)
theorem dX4_bears_6 : decode cX4_bears 6 = .ok (.invokespecial 7, 3) := dk_183 0 7 (dk_at dksX4_bears_0 6 rfl rfl)
theorem dX4_bears_9 : decode cX4_bears 9 = .ok (.ireturn, 1) := dk_172 (dk_at dksX4_bears_0 9 rfl rfl)
theorem q60 : (Jvm.Cond.initialized "SkittleGentry$Family") ∈ lw_all := lw_g (lw_at lw_m1 5 rfl) rfl
theorem q184 : (Jvm.Cond.instantiable "SkittleGentry$Family" (0 : Nat)) ∈ lw_all := lw_g (lw_at lw_m1 129 rfl) rfl
theorem q186 : (Jvm.Cond.instanceMethod ({ cls := "SkittleGentry$Family", name := "<init>", desc := "()V" } : Jvm.MethodName)) ∈ lw_all := lw_g (lw_at lw_m1 131 rfl) rfl
theorem q187 : (Jvm.Cond.code ({ cls := "SkittleGentry$Family", name := "<init>", desc := "()V" } : Jvm.MethodName) prog_4_method_1_code (1 : Nat) (Option.none : Option Jvm.ClassFile.FieldType)) ∈ lw_all := lw_g (lw_at lw_m1 132 rfl) rfl
theorem q188 : (Jvm.Cond.methodLinkNest "SkittleGentry$Family" (1 : Nat) ({ cls := "SkittleGentry$Gentry", name := "<init>", desc := "()V" } : Jvm.MethodName) "SkittleGentry") ∈ lw_tbl := lw_at lw_m1 133 rfl
theorem q189 : (Jvm.Cond.superclass "SkittleGentry$Family" "SkittleGentry$Gentry") ∈ lw_all := lw_g (lw_at lw_m1 134 rfl) rfl
theorem q471 : (Jvm.Cond.selects "SkittleGentry$Family" ({ cls := "SkittleGentry$Gentry", name := "bears", desc := "(III)I" } : Jvm.MethodName) ({ cls := "SkittleGentry$Family", name := "bears", desc := "(III)I" } : Jvm.MethodName)) ∈ lw_all := lw_g (lw_at lw_m2 176 rfl) rfl
theorem q472 : (Jvm.Cond.instanceMethod ({ cls := "SkittleGentry$Family", name := "bears", desc := "(III)I" } : Jvm.MethodName)) ∈ lw_all := lw_g (lw_at lw_m2 177 rfl) rfl
theorem q473 : (Jvm.Cond.code ({ cls := "SkittleGentry$Family", name := "bears", desc := "(III)I" } : Jvm.MethodName) prog_4_method_2_code (4 : Nat) (Option.some Jvm.ClassFile.FieldType.int)) ∈ lw_all := lw_g (lw_at lw_m2 178 rfl) rfl
theorem q474 : (Jvm.Cond.methodLink "SkittleGentry$Family" (7 : Nat) ({ cls := "SkittleGentry$Gentry", name := "bears", desc := "(III)I" } : Jvm.MethodName)) ∈ lw_all := lw_g (lw_at lw_m2 179 rfl) rfl
theorem q1064 : (Jvm.Cond.castable "SkittleGentry$Family" "SkittleGentry$Gentry") ∈ lw_tbl := lw_at lw_m5 49 rfl

/-! SkittleGentry$Saint -/
set_option maxRecDepth 100000
def RX5 : String := "SkittleGentry$Saint"
abbrev cX5_init : ByteArray := prog_9_method_1_code
def yX5_init : MethodName := ⟨RX5, "<init>", "()V"⟩
theorem dX5_init_0 : decode cX5_init 0 = .ok (.aload_n 0, 1) := by decide +kernel
theorem dX5_init_1 : decode cX5_init 1 = .ok (.invokespecial 1, 3) := by decide +kernel
theorem dX5_init_4 : decode cX5_init 4 = .ok (.return_, 1) := by decide +kernel
abbrev cX5_bears : ByteArray := prog_9_method_2_code
def yX5_bears : MethodName := ⟨RX5, "bears", "(III)I"⟩
def dkwX5_bears_0 : List UInt8 := [42, 27, 28, 29, 183, 0, 7, 29, 154, 0, 7, 5, 167, 0, 4, 3, 96, 172]
abbrev dktX5_bears_0 : List UInt8 := dkwX5_bears_0 ++ []
theorem dksX5_bears_0 : cX5_bears.data.toList.drop 0 = dktX5_bears_0 := by decide +kernel
theorem dX5_bears_0 : decode cX5_bears 0 = .ok (.aload_n 0, 1) := dk_42 (dk_at dksX5_bears_0 0 rfl rfl)
theorem dX5_bears_1 : decode cX5_bears 1 = .ok (.iload_n 1, 1) := dk_27 (dk_at dksX5_bears_0 1 rfl rfl)
theorem dX5_bears_2 : decode cX5_bears 2 = .ok (.iload_n 2, 1) := dk_28 (dk_at dksX5_bears_0 2 rfl rfl)
theorem dX5_bears_3 : decode cX5_bears 3 = .ok (.iload_n 3, 1) := dk_29 (dk_at dksX5_bears_0 3 rfl rfl)
theorem dX5_bears_4 : decode cX5_bears 4 = .ok (.invokespecial 7, 3) := dk_183 0 7 (dk_at dksX5_bears_0 4 rfl rfl)
theorem dX5_bears_7 : decode cX5_bears 7 = .ok (.iload_n 3, 1) := dk_29 (dk_at dksX5_bears_0 7 rfl rfl)
theorem dX5_bears_8 : decode cX5_bears 8 = .ok (.ifCond .ne 7, 3) := dk_154 0 7 (dk_at dksX5_bears_0 8 rfl rfl)
theorem dX5_bears_11 : decode cX5_bears 11 = .ok (.iconst 2, 1) := dk_5 (dk_at dksX5_bears_0 11 rfl rfl)
theorem dX5_bears_12 : decode cX5_bears 12 = .ok (.goto 4, 3) := dk_167 0 4 (dk_at dksX5_bears_0 12 rfl rfl)
theorem dX5_bears_15 : decode cX5_bears 15 = .ok (.iconst 0, 1) := dk_3 (dk_at dksX5_bears_0 15 rfl rfl)
theorem dX5_bears_16 : decode cX5_bears 16 = .ok (.iadd, 1) := dk_96 (dk_at dksX5_bears_0 16 rfl rfl)
theorem dX5_bears_17 : decode cX5_bears 17 = .ok (.ireturn, 1) := dk_172 (dk_at dksX5_bears_0 17 rfl rfl)
theorem q61 : (Jvm.Cond.initialized "SkittleGentry$Saint") ∈ lw_all := lw_g (lw_at lw_m1 6 rfl) rfl
theorem q191 : (Jvm.Cond.instantiable "SkittleGentry$Saint" (0 : Nat)) ∈ lw_all := lw_g (lw_at lw_m1 136 rfl) rfl
theorem q193 : (Jvm.Cond.instanceMethod ({ cls := "SkittleGentry$Saint", name := "<init>", desc := "()V" } : Jvm.MethodName)) ∈ lw_all := lw_g (lw_at lw_m1 138 rfl) rfl
theorem q194 : (Jvm.Cond.code ({ cls := "SkittleGentry$Saint", name := "<init>", desc := "()V" } : Jvm.MethodName) prog_9_method_1_code (1 : Nat) (Option.none : Option Jvm.ClassFile.FieldType)) ∈ lw_all := lw_g (lw_at lw_m1 139 rfl) rfl
theorem q195 : (Jvm.Cond.methodLinkNest "SkittleGentry$Saint" (1 : Nat) ({ cls := "SkittleGentry$Gentry", name := "<init>", desc := "()V" } : Jvm.MethodName) "SkittleGentry") ∈ lw_tbl := lw_at lw_m1 140 rfl
theorem q196 : (Jvm.Cond.superclass "SkittleGentry$Saint" "SkittleGentry$Gentry") ∈ lw_all := lw_g (lw_at lw_m1 141 rfl) rfl
theorem q480 : (Jvm.Cond.selects "SkittleGentry$Saint" ({ cls := "SkittleGentry$Gentry", name := "bears", desc := "(III)I" } : Jvm.MethodName) ({ cls := "SkittleGentry$Saint", name := "bears", desc := "(III)I" } : Jvm.MethodName)) ∈ lw_all := lw_g (lw_at lw_m2 185 rfl) rfl
theorem q481 : (Jvm.Cond.instanceMethod ({ cls := "SkittleGentry$Saint", name := "bears", desc := "(III)I" } : Jvm.MethodName)) ∈ lw_all := lw_g (lw_at lw_m2 186 rfl) rfl
theorem q482 : (Jvm.Cond.code ({ cls := "SkittleGentry$Saint", name := "bears", desc := "(III)I" } : Jvm.MethodName) prog_9_method_2_code (4 : Nat) (Option.some Jvm.ClassFile.FieldType.int)) ∈ lw_all := lw_g (lw_at lw_m2 187 rfl) rfl
theorem q483 : (Jvm.Cond.methodLink "SkittleGentry$Saint" (7 : Nat) ({ cls := "SkittleGentry$Gentry", name := "bears", desc := "(III)I" } : Jvm.MethodName)) ∈ lw_all := lw_g (lw_at lw_m2 188 rfl) rfl
theorem q1065 : (Jvm.Cond.castable "SkittleGentry$Saint" "SkittleGentry$Gentry") ∈ lw_tbl := lw_at lw_m5 50 rfl

/-! SkittleGentry$Poor -/
set_option maxRecDepth 100000
def RX6 : String := "SkittleGentry$Poor"
abbrev cX6_init : ByteArray := prog_7_method_1_code
def yX6_init : MethodName := ⟨RX6, "<init>", "()V"⟩
theorem dX6_init_0 : decode cX6_init 0 = .ok (.aload_n 0, 1) := by decide +kernel
theorem dX6_init_1 : decode cX6_init 1 = .ok (.invokespecial 1, 3) := by decide +kernel
theorem dX6_init_4 : decode cX6_init 4 = .ok (.return_, 1) := by decide +kernel
abbrev cX6_bears : ByteArray := prog_7_method_2_code
def yX6_bears : MethodName := ⟨RX6, "bears", "(III)I"⟩
def dkwX6_bears_0 : List UInt8 := [42, 27, 3, 29, 183, 0, 7, 5, 108, 172]
abbrev dktX6_bears_0 : List UInt8 := dkwX6_bears_0 ++ []
theorem dksX6_bears_0 : cX6_bears.data.toList.drop 0 = dktX6_bears_0 := by decide +kernel
theorem dX6_bears_0 : decode cX6_bears 0 = .ok (.aload_n 0, 1) := dk_42 (dk_at dksX6_bears_0 0 rfl rfl)
theorem dX6_bears_1 : decode cX6_bears 1 = .ok (.iload_n 1, 1) := dk_27 (dk_at dksX6_bears_0 1 rfl rfl)
theorem dX6_bears_2 : decode cX6_bears 2 = .ok (.iconst 0, 1) := dk_3 (dk_at dksX6_bears_0 2 rfl rfl)
theorem dX6_bears_3 : decode cX6_bears 3 = .ok (.iload_n 3, 1) := dk_29 (dk_at dksX6_bears_0 3 rfl rfl)
theorem dX6_bears_4 : decode cX6_bears 4 = .ok (.invokespecial 7, 3) := dk_183 0 7 (dk_at dksX6_bears_0 4 rfl rfl)
theorem dX6_bears_7 : decode cX6_bears 7 = .ok (.iconst 2, 1) := dk_5 (dk_at dksX6_bears_0 7 rfl rfl)
theorem dX6_bears_8 : decode cX6_bears 8 = .ok (.idiv, 1) := dk_108 (dk_at dksX6_bears_0 8 rfl rfl)
theorem dX6_bears_9 : decode cX6_bears 9 = .ok (.ireturn, 1) := dk_172 (dk_at dksX6_bears_0 9 rfl rfl)
theorem q62 : (Jvm.Cond.initialized "SkittleGentry$Poor") ∈ lw_all := lw_g (lw_at lw_m1 7 rfl) rfl
theorem q198 : (Jvm.Cond.instantiable "SkittleGentry$Poor" (0 : Nat)) ∈ lw_all := lw_g (lw_at lw_m1 143 rfl) rfl
theorem q200 : (Jvm.Cond.instanceMethod ({ cls := "SkittleGentry$Poor", name := "<init>", desc := "()V" } : Jvm.MethodName)) ∈ lw_all := lw_g (lw_at lw_m1 145 rfl) rfl
theorem q201 : (Jvm.Cond.code ({ cls := "SkittleGentry$Poor", name := "<init>", desc := "()V" } : Jvm.MethodName) prog_7_method_1_code (1 : Nat) (Option.none : Option Jvm.ClassFile.FieldType)) ∈ lw_all := lw_g (lw_at lw_m1 146 rfl) rfl
theorem q202 : (Jvm.Cond.methodLinkNest "SkittleGentry$Poor" (1 : Nat) ({ cls := "SkittleGentry$Gentry", name := "<init>", desc := "()V" } : Jvm.MethodName) "SkittleGentry") ∈ lw_tbl := lw_at lw_m1 147 rfl
theorem q203 : (Jvm.Cond.superclass "SkittleGentry$Poor" "SkittleGentry$Gentry") ∈ lw_all := lw_g (lw_at lw_m1 148 rfl) rfl
theorem q476 : (Jvm.Cond.selects "SkittleGentry$Poor" ({ cls := "SkittleGentry$Gentry", name := "bears", desc := "(III)I" } : Jvm.MethodName) ({ cls := "SkittleGentry$Poor", name := "bears", desc := "(III)I" } : Jvm.MethodName)) ∈ lw_all := lw_g (lw_at lw_m2 181 rfl) rfl
theorem q477 : (Jvm.Cond.instanceMethod ({ cls := "SkittleGentry$Poor", name := "bears", desc := "(III)I" } : Jvm.MethodName)) ∈ lw_all := lw_g (lw_at lw_m2 182 rfl) rfl
theorem q478 : (Jvm.Cond.code ({ cls := "SkittleGentry$Poor", name := "bears", desc := "(III)I" } : Jvm.MethodName) prog_7_method_2_code (4 : Nat) (Option.some Jvm.ClassFile.FieldType.int)) ∈ lw_all := lw_g (lw_at lw_m2 183 rfl) rfl
theorem q479 : (Jvm.Cond.methodLink "SkittleGentry$Poor" (7 : Nat) ({ cls := "SkittleGentry$Gentry", name := "bears", desc := "(III)I" } : Jvm.MethodName)) ∈ lw_all := lw_g (lw_at lw_m2 184 rfl) rfl
theorem q1066 : (Jvm.Cond.castable "SkittleGentry$Poor" "SkittleGentry$Gentry") ∈ lw_tbl := lw_at lw_m5 51 rfl

/-! SkittleGentry$Reader -/
set_option maxRecDepth 100000
def RX8 : String := "SkittleGentry$Reader"
def TX8 : u_T := fun k => match k with
  | 0 => ("SkittleGentry$Reader", "text", "[B", true)
  | 1 => ("SkittleGentry$Reader", "size", "I", true)
  | 2 => ("SkittleGentry$Reader", "county", "LSkittleGentry$County;", true)
  | _ => ("SkittleGentry$Reader", "at", "I", false)
def tyX8 : Nat → FieldType := fun k => match k with
  | 0 => .array .byte
  | 1 => .int
  | 2 => .object "SkittleGentry$County"
  | _ => .int
abbrev wsX80 : List Cond := u_ws RX8 TX8 4
theorem nmX8 : ∀ a, a < 4 → ∀ b, b < 4 → a ≠ b → (TX8 a).2.1 ≠ (TX8 b).2.1 := by decide +kernel
theorem tyX8_ok : ∀ k, k < 4 → parseFieldDescriptor (TX8 k).2.2.1 = some (tyX8 k) := by decide +kernel
abbrev cX8_init : ByteArray := prog_8_method_1_code
def yX8_init : MethodName := ⟨RX8, "<init>", "([BI)V"⟩
def dkwX8_init_1 : List UInt8 := [181, 0, 22, 177]
abbrev dktX8_init_1 : List UInt8 := dkwX8_init_1 ++ []
def dkwX8_init_0 : List UInt8 := [42, 183, 0, 3, 42, 187, 0, 9, 89, 183, 0, 11, 181, 0, 12, 42, 43, 181, 0, 18, 42, 28]
abbrev dktX8_init_0 : List UInt8 := dkwX8_init_0 ++ dktX8_init_1
theorem dksX8_init_0 : cX8_init.data.toList.drop 0 = dktX8_init_0 := by decide +kernel
theorem dksX8_init_1 : cX8_init.data.toList.drop 22 = dktX8_init_1 := dk_seg dksX8_init_0 22 rfl rfl
theorem dX8_init_0 : decode cX8_init 0 = .ok (.aload_n 0, 1) := dk_42 (dk_at dksX8_init_0 0 rfl rfl)
theorem dX8_init_1 : decode cX8_init 1 = .ok (.invokespecial 3, 3) := dk_183 0 3 (dk_at dksX8_init_0 1 rfl rfl)
theorem dX8_init_4 : decode cX8_init 4 = .ok (.aload_n 0, 1) := dk_42 (dk_at dksX8_init_0 4 rfl rfl)
theorem dX8_init_5 : decode cX8_init 5 = .ok (.new 9, 3) := dk_187 0 9 (dk_at dksX8_init_0 5 rfl rfl)
theorem dX8_init_8 : decode cX8_init 8 = .ok (.dup, 1) := dk_89 (dk_at dksX8_init_0 8 rfl rfl)
theorem dX8_init_9 : decode cX8_init 9 = .ok (.invokespecial 11, 3) := dk_183 0 11 (dk_at dksX8_init_0 9 rfl rfl)
theorem dX8_init_12 : decode cX8_init 12 = .ok (.putfield 12, 3) := dk_181 0 12 (dk_at dksX8_init_0 12 rfl rfl)
theorem dX8_init_15 : decode cX8_init 15 = .ok (.aload_n 0, 1) := dk_42 (dk_at dksX8_init_0 15 rfl rfl)
theorem dX8_init_16 : decode cX8_init 16 = .ok (.aload_n 1, 1) := dk_43 (dk_at dksX8_init_0 16 rfl rfl)
theorem dX8_init_17 : decode cX8_init 17 = .ok (.putfield 18, 3) := dk_181 0 18 (dk_at dksX8_init_0 17 rfl rfl)
theorem dX8_init_20 : decode cX8_init 20 = .ok (.aload_n 0, 1) := dk_42 (dk_at dksX8_init_0 20 rfl rfl)
theorem dX8_init_21 : decode cX8_init 21 = .ok (.iload_n 2, 1) := dk_28 (dk_at dksX8_init_0 21 rfl rfl)
theorem dX8_init_22 : decode cX8_init 22 = .ok (.putfield 22, 3) := dk_181 0 22 (dk_at dksX8_init_1 0 rfl rfl)
theorem dX8_init_25 : decode cX8_init 25 = .ok (.return_, 1) := dk_177 (dk_at dksX8_init_1 3 rfl rfl)
abbrev cX8_all : ByteArray := prog_8_method_8_code
def yX8_all : MethodName := ⟨RX8, "all", "()LSkittleGentry$County;"⟩
def dkwX8_all_3 : List UInt8 := [180, 0, 12, 176]
abbrev dktX8_all_3 : List UInt8 := dkwX8_all_3 ++ []
def dkwX8_all_2 : List UInt8 := [4, 42, 180, 0, 26, 184, 0, 42, 42, 89, 180, 0, 26, 4, 96, 181, 0, 26, 167, 255, 190, 42]
abbrev dktX8_all_2 : List UInt8 := dkwX8_all_2 ++ dktX8_all_3
def dkwX8_all_1 : List UInt8 := [96, 181, 0, 26, 42, 27, 28, 182, 0, 77, 42, 182, 0, 34, 16, 59, 160, 0, 7, 4, 167, 0, 4, 3]
abbrev dktX8_all_1 : List UInt8 := dkwX8_all_1 ++ dktX8_all_2
def dkwX8_all_0 : List UInt8 := [42, 182, 0, 34, 2, 159, 0, 64, 42, 182, 0, 34, 60, 42, 180, 0, 26, 61, 42, 89, 180, 0, 26, 4]
abbrev dktX8_all_0 : List UInt8 := dkwX8_all_0 ++ dktX8_all_1
theorem dksX8_all_0 : cX8_all.data.toList.drop 0 = dktX8_all_0 := by decide +kernel
theorem dksX8_all_1 : cX8_all.data.toList.drop 24 = dktX8_all_1 := dk_seg dksX8_all_0 24 rfl rfl
theorem dksX8_all_2 : cX8_all.data.toList.drop 48 = dktX8_all_2 := dk_seg dksX8_all_1 24 rfl rfl
theorem dksX8_all_3 : cX8_all.data.toList.drop 70 = dktX8_all_3 := dk_seg dksX8_all_2 22 rfl rfl
theorem dX8_all_0 : decode cX8_all 0 = .ok (.aload_n 0, 1) := dk_42 (dk_at dksX8_all_0 0 rfl rfl)
theorem dX8_all_1 : decode cX8_all 1 = .ok (.invokevirtual 34, 3) := dk_182 0 34 (dk_at dksX8_all_0 1 rfl rfl)
theorem dX8_all_4 : decode cX8_all 4 = .ok (.iconst (-1), 1) := dk_2 (dk_at dksX8_all_0 4 rfl rfl)
theorem dX8_all_5 : decode cX8_all 5 = .ok (.if_icmp .eq 64, 3) := dk_159 0 64 (dk_at dksX8_all_0 5 rfl rfl)
theorem dX8_all_8 : decode cX8_all 8 = .ok (.aload_n 0, 1) := dk_42 (dk_at dksX8_all_0 8 rfl rfl)
theorem dX8_all_9 : decode cX8_all 9 = .ok (.invokevirtual 34, 3) := dk_182 0 34 (dk_at dksX8_all_0 9 rfl rfl)
theorem dX8_all_12 : decode cX8_all 12 = .ok (.istore_n 1, 1) := dk_60 (dk_at dksX8_all_0 12 rfl rfl)
theorem dX8_all_13 : decode cX8_all 13 = .ok (.aload_n 0, 1) := dk_42 (dk_at dksX8_all_0 13 rfl rfl)
theorem dX8_all_14 : decode cX8_all 14 = .ok (.getfield 26, 3) := dk_180 0 26 (dk_at dksX8_all_0 14 rfl rfl)
theorem dX8_all_17 : decode cX8_all 17 = .ok (.istore_n 2, 1) := dk_61 (dk_at dksX8_all_0 17 rfl rfl)
theorem dX8_all_18 : decode cX8_all 18 = .ok (.aload_n 0, 1) := dk_42 (dk_at dksX8_all_0 18 rfl rfl)
theorem dX8_all_19 : decode cX8_all 19 = .ok (.dup, 1) := dk_89 (dk_at dksX8_all_0 19 rfl rfl)
theorem dX8_all_20 : decode cX8_all 20 = .ok (.getfield 26, 3) := dk_180 0 26 (dk_at dksX8_all_0 20 rfl rfl)
theorem dX8_all_23 : decode cX8_all 23 = .ok (.iconst 1, 1) := dk_4 (dk_at dksX8_all_0 23 rfl rfl)
theorem dX8_all_24 : decode cX8_all 24 = .ok (.iadd, 1) := dk_96 (dk_at dksX8_all_1 0 rfl rfl)
theorem dX8_all_25 : decode cX8_all 25 = .ok (.putfield 26, 3) := dk_181 0 26 (dk_at dksX8_all_1 1 rfl rfl)
theorem dX8_all_28 : decode cX8_all 28 = .ok (.aload_n 0, 1) := dk_42 (dk_at dksX8_all_1 4 rfl rfl)
theorem dX8_all_29 : decode cX8_all 29 = .ok (.iload_n 1, 1) := dk_27 (dk_at dksX8_all_1 5 rfl rfl)
theorem dX8_all_30 : decode cX8_all 30 = .ok (.iload_n 2, 1) := dk_28 (dk_at dksX8_all_1 6 rfl rfl)
theorem dX8_all_31 : decode cX8_all 31 = .ok (.invokevirtual 77, 3) := dk_182 0 77 (dk_at dksX8_all_1 7 rfl rfl)
theorem dX8_all_34 : decode cX8_all 34 = .ok (.aload_n 0, 1) := dk_42 (dk_at dksX8_all_1 10 rfl rfl)
theorem dX8_all_35 : decode cX8_all 35 = .ok (.invokevirtual 34, 3) := dk_182 0 34 (dk_at dksX8_all_1 11 rfl rfl)
theorem dX8_all_38 : decode cX8_all 38 = .ok (.bipush 59, 2) := dk_16 59 (dk_at dksX8_all_1 14 rfl rfl)
theorem dX8_all_40 : decode cX8_all 40 = .ok (.if_icmp .ne 7, 3) := dk_160 0 7 (dk_at dksX8_all_1 16 rfl rfl)
theorem dX8_all_43 : decode cX8_all 43 = .ok (.iconst 1, 1) := dk_4 (dk_at dksX8_all_1 19 rfl rfl)
theorem dX8_all_44 : decode cX8_all 44 = .ok (.goto 4, 3) := dk_167 0 4 (dk_at dksX8_all_1 20 rfl rfl)
theorem dX8_all_47 : decode cX8_all 47 = .ok (.iconst 0, 1) := dk_3 (dk_at dksX8_all_1 23 rfl rfl)
theorem dX8_all_48 : decode cX8_all 48 = .ok (.iconst 1, 1) := dk_4 (dk_at dksX8_all_2 0 rfl rfl)
theorem dX8_all_49 : decode cX8_all 49 = .ok (.aload_n 0, 1) := dk_42 (dk_at dksX8_all_2 1 rfl rfl)
theorem dX8_all_50 : decode cX8_all 50 = .ok (.getfield 26, 3) := dk_180 0 26 (dk_at dksX8_all_2 2 rfl rfl)
theorem dX8_all_53 : decode cX8_all 53 = .ok (.invokestatic 42, 3) := dk_184 0 42 (dk_at dksX8_all_2 5 rfl rfl)
theorem dX8_all_56 : decode cX8_all 56 = .ok (.aload_n 0, 1) := dk_42 (dk_at dksX8_all_2 8 rfl rfl)
theorem dX8_all_57 : decode cX8_all 57 = .ok (.dup, 1) := dk_89 (dk_at dksX8_all_2 9 rfl rfl)
theorem dX8_all_58 : decode cX8_all 58 = .ok (.getfield 26, 3) := dk_180 0 26 (dk_at dksX8_all_2 10 rfl rfl)
theorem dX8_all_61 : decode cX8_all 61 = .ok (.iconst 1, 1) := dk_4 (dk_at dksX8_all_2 13 rfl rfl)
theorem dX8_all_62 : decode cX8_all 62 = .ok (.iadd, 1) := dk_96 (dk_at dksX8_all_2 14 rfl rfl)
theorem dX8_all_63 : decode cX8_all 63 = .ok (.putfield 26, 3) := dk_181 0 26 (dk_at dksX8_all_2 15 rfl rfl)
theorem dX8_all_66 : decode cX8_all 66 = .ok (.goto (-66), 3) := dk_167 255 190 (dk_at dksX8_all_2 18 rfl rfl)
theorem dX8_all_69 : decode cX8_all 69 = .ok (.aload_n 0, 1) := dk_42 (dk_at dksX8_all_2 21 rfl rfl)
theorem dX8_all_70 : decode cX8_all 70 = .ok (.getfield 12, 3) := dk_180 0 12 (dk_at dksX8_all_3 0 rfl rfl)
theorem dX8_all_73 : decode cX8_all 73 = .ok (.areturn, 1) := dk_176 (dk_at dksX8_all_3 3 rfl rfl)
abbrev cX8_here : ByteArray := prog_8_method_2_code
def yX8_here : MethodName := ⟨RX8, "here", "()I"⟩
def dkwX8_here_2 : List UInt8 := [162, 0, 19, 42, 180, 0, 18, 42, 180, 0, 26, 51, 17, 0, 255, 126, 167, 0, 4, 2, 172]
abbrev dktX8_here_2 : List UInt8 := dkwX8_here_2 ++ []
def dkwX8_here_1 : List UInt8 := [160, 0, 16, 42, 89, 180, 0, 26, 4, 96, 181, 0, 26, 167, 255, 221, 42, 180, 0, 26, 42, 180, 0, 22]
abbrev dktX8_here_1 : List UInt8 := dkwX8_here_1 ++ dktX8_here_2
def dkwX8_here_0 : List UInt8 := [42, 180, 0, 26, 42, 180, 0, 22, 162, 0, 30, 42, 180, 0, 18, 42, 180, 0, 26, 51, 16, 32]
abbrev dktX8_here_0 : List UInt8 := dkwX8_here_0 ++ dktX8_here_1
theorem dksX8_here_0 : cX8_here.data.toList.drop 0 = dktX8_here_0 := by decide +kernel
theorem dksX8_here_1 : cX8_here.data.toList.drop 22 = dktX8_here_1 := dk_seg dksX8_here_0 22 rfl rfl
theorem dksX8_here_2 : cX8_here.data.toList.drop 46 = dktX8_here_2 := dk_seg dksX8_here_1 24 rfl rfl
theorem dX8_here_0 : decode cX8_here 0 = .ok (.aload_n 0, 1) := dk_42 (dk_at dksX8_here_0 0 rfl rfl)
theorem dX8_here_1 : decode cX8_here 1 = .ok (.getfield 26, 3) := dk_180 0 26 (dk_at dksX8_here_0 1 rfl rfl)
theorem dX8_here_4 : decode cX8_here 4 = .ok (.aload_n 0, 1) := dk_42 (dk_at dksX8_here_0 4 rfl rfl)
theorem dX8_here_5 : decode cX8_here 5 = .ok (.getfield 22, 3) := dk_180 0 22 (dk_at dksX8_here_0 5 rfl rfl)
theorem dX8_here_8 : decode cX8_here 8 = .ok (.if_icmp .ge 30, 3) := dk_162 0 30 (dk_at dksX8_here_0 8 rfl rfl)
theorem dX8_here_11 : decode cX8_here 11 = .ok (.aload_n 0, 1) := dk_42 (dk_at dksX8_here_0 11 rfl rfl)
theorem dX8_here_12 : decode cX8_here 12 = .ok (.getfield 18, 3) := dk_180 0 18 (dk_at dksX8_here_0 12 rfl rfl)
theorem dX8_here_15 : decode cX8_here 15 = .ok (.aload_n 0, 1) := dk_42 (dk_at dksX8_here_0 15 rfl rfl)
theorem dX8_here_16 : decode cX8_here 16 = .ok (.getfield 26, 3) := dk_180 0 26 (dk_at dksX8_here_0 16 rfl rfl)
theorem dX8_here_19 : decode cX8_here 19 = .ok (.baload, 1) := dk_51 (dk_at dksX8_here_0 19 rfl rfl)
theorem dX8_here_20 : decode cX8_here 20 = .ok (.bipush 32, 2) := dk_16 32 (dk_at dksX8_here_0 20 rfl rfl)
theorem dX8_here_22 : decode cX8_here 22 = .ok (.if_icmp .ne 16, 3) := dk_160 0 16 (dk_at dksX8_here_1 0 rfl rfl)
theorem dX8_here_25 : decode cX8_here 25 = .ok (.aload_n 0, 1) := dk_42 (dk_at dksX8_here_1 3 rfl rfl)
theorem dX8_here_26 : decode cX8_here 26 = .ok (.dup, 1) := dk_89 (dk_at dksX8_here_1 4 rfl rfl)
theorem dX8_here_27 : decode cX8_here 27 = .ok (.getfield 26, 3) := dk_180 0 26 (dk_at dksX8_here_1 5 rfl rfl)
theorem dX8_here_30 : decode cX8_here 30 = .ok (.iconst 1, 1) := dk_4 (dk_at dksX8_here_1 8 rfl rfl)
theorem dX8_here_31 : decode cX8_here 31 = .ok (.iadd, 1) := dk_96 (dk_at dksX8_here_1 9 rfl rfl)
theorem dX8_here_32 : decode cX8_here 32 = .ok (.putfield 26, 3) := dk_181 0 26 (dk_at dksX8_here_1 10 rfl rfl)
theorem dX8_here_35 : decode cX8_here 35 = .ok (.goto (-35), 3) := dk_167 255 221 (dk_at dksX8_here_1 13 rfl rfl)
theorem dX8_here_38 : decode cX8_here 38 = .ok (.aload_n 0, 1) := dk_42 (dk_at dksX8_here_1 16 rfl rfl)
theorem dX8_here_39 : decode cX8_here 39 = .ok (.getfield 26, 3) := dk_180 0 26 (dk_at dksX8_here_1 17 rfl rfl)
theorem dX8_here_42 : decode cX8_here 42 = .ok (.aload_n 0, 1) := dk_42 (dk_at dksX8_here_1 20 rfl rfl)
theorem dX8_here_43 : decode cX8_here 43 = .ok (.getfield 22, 3) := dk_180 0 22 (dk_at dksX8_here_1 21 rfl rfl)
theorem dX8_here_46 : decode cX8_here 46 = .ok (.if_icmp .ge 19, 3) := dk_162 0 19 (dk_at dksX8_here_2 0 rfl rfl)
theorem dX8_here_49 : decode cX8_here 49 = .ok (.aload_n 0, 1) := dk_42 (dk_at dksX8_here_2 3 rfl rfl)
theorem dX8_here_50 : decode cX8_here 50 = .ok (.getfield 18, 3) := dk_180 0 18 (dk_at dksX8_here_2 4 rfl rfl)
theorem dX8_here_53 : decode cX8_here 53 = .ok (.aload_n 0, 1) := dk_42 (dk_at dksX8_here_2 7 rfl rfl)
theorem dX8_here_54 : decode cX8_here 54 = .ok (.getfield 26, 3) := dk_180 0 26 (dk_at dksX8_here_2 8 rfl rfl)
theorem dX8_here_57 : decode cX8_here 57 = .ok (.baload, 1) := dk_51 (dk_at dksX8_here_2 11 rfl rfl)
theorem dX8_here_58 : decode cX8_here 58 = .ok (.sipush 255, 3) := dk_17 0 255 (dk_at dksX8_here_2 12 rfl rfl)
theorem dX8_here_61 : decode cX8_here 61 = .ok (.iand, 1) := dk_126 (dk_at dksX8_here_2 15 rfl rfl)
theorem dX8_here_62 : decode cX8_here 62 = .ok (.goto 4, 3) := dk_167 0 4 (dk_at dksX8_here_2 16 rfl rfl)
theorem dX8_here_65 : decode cX8_here 65 = .ok (.iconst (-1), 1) := dk_2 (dk_at dksX8_here_2 19 rfl rfl)
theorem dX8_here_66 : decode cX8_here 66 = .ok (.ireturn, 1) := dk_172 (dk_at dksX8_here_2 20 rfl rfl)
abbrev cX8_clause : ByteArray := prog_8_method_7_code
def yX8_clause : MethodName := ⟨RX8, "clause", "(II)V"⟩
def dkwX8_clause_4 : List UInt8 := [183, 0, 31, 191, 177]
abbrev dktX8_clause_4 : List UInt8 := dkwX8_clause_4 ++ []
def dkwX8_clause_3 : List UInt8 := [42, 28, 182, 0, 71, 167, 0, 21, 42, 28, 182, 0, 74, 167, 0, 13, 187, 0, 29, 89, 4, 28]
abbrev dktX8_clause_3 : List UInt8 := dkwX8_clause_3 ++ dktX8_clause_4
def dkwX8_clause_2 : List UInt8 := [171, 0, 0, 0, 0, 0, 0, 44, 0, 0, 0, 2, 0, 0, 0, 103, 0, 0, 0, 28, 0, 0, 0, 115, 0, 0, 0, 36]
abbrev dktX8_clause_2 : List UInt8 := dkwX8_clause_2 ++ dktX8_clause_3
def dkwX8_clause_1 : List UInt8 := [184, 0, 42, 27]
abbrev dktX8_clause_1 : List UInt8 := dkwX8_clause_1 ++ dktX8_clause_2
def dkwX8_clause_0 : List UInt8 := [27, 16, 103, 159, 0, 14, 42, 180, 0, 12, 180, 0, 52, 2, 159, 0, 7, 4, 167, 0, 4, 3, 4, 28]
abbrev dktX8_clause_0 : List UInt8 := dkwX8_clause_0 ++ dktX8_clause_1
theorem dksX8_clause_0 : cX8_clause.data.toList.drop 0 = dktX8_clause_0 := by decide +kernel
theorem dksX8_clause_1 : cX8_clause.data.toList.drop 24 = dktX8_clause_1 := dk_seg dksX8_clause_0 24 rfl rfl
theorem dksX8_clause_2 : cX8_clause.data.toList.drop 28 = dktX8_clause_2 := dk_seg dksX8_clause_1 4 rfl rfl
theorem dksX8_clause_3 : cX8_clause.data.toList.drop 56 = dktX8_clause_3 := dk_seg dksX8_clause_2 28 rfl rfl
theorem dksX8_clause_4 : cX8_clause.data.toList.drop 78 = dktX8_clause_4 := dk_seg dksX8_clause_3 22 rfl rfl
theorem dX8_clause_0 : decode cX8_clause 0 = .ok (.iload_n 1, 1) := dk_27 (dk_at dksX8_clause_0 0 rfl rfl)
theorem dX8_clause_1 : decode cX8_clause 1 = .ok (.bipush 103, 2) := dk_16 103 (dk_at dksX8_clause_0 1 rfl rfl)
theorem dX8_clause_3 : decode cX8_clause 3 = .ok (.if_icmp .eq 14, 3) := dk_159 0 14 (dk_at dksX8_clause_0 3 rfl rfl)
theorem dX8_clause_6 : decode cX8_clause 6 = .ok (.aload_n 0, 1) := dk_42 (dk_at dksX8_clause_0 6 rfl rfl)
theorem dX8_clause_7 : decode cX8_clause 7 = .ok (.getfield 12, 3) := dk_180 0 12 (dk_at dksX8_clause_0 7 rfl rfl)
theorem dX8_clause_10 : decode cX8_clause 10 = .ok (.getfield 52, 3) := dk_180 0 52 (dk_at dksX8_clause_0 10 rfl rfl)
theorem dX8_clause_13 : decode cX8_clause 13 = .ok (.iconst (-1), 1) := dk_2 (dk_at dksX8_clause_0 13 rfl rfl)
theorem dX8_clause_14 : decode cX8_clause 14 = .ok (.if_icmp .eq 7, 3) := dk_159 0 7 (dk_at dksX8_clause_0 14 rfl rfl)
theorem dX8_clause_17 : decode cX8_clause 17 = .ok (.iconst 1, 1) := dk_4 (dk_at dksX8_clause_0 17 rfl rfl)
theorem dX8_clause_18 : decode cX8_clause 18 = .ok (.goto 4, 3) := dk_167 0 4 (dk_at dksX8_clause_0 18 rfl rfl)
theorem dX8_clause_21 : decode cX8_clause 21 = .ok (.iconst 0, 1) := dk_3 (dk_at dksX8_clause_0 21 rfl rfl)
theorem dX8_clause_22 : decode cX8_clause 22 = .ok (.iconst 1, 1) := dk_4 (dk_at dksX8_clause_0 22 rfl rfl)
theorem dX8_clause_23 : decode cX8_clause 23 = .ok (.iload_n 2, 1) := dk_28 (dk_at dksX8_clause_0 23 rfl rfl)
theorem dX8_clause_24 : decode cX8_clause 24 = .ok (.invokestatic 42, 3) := dk_184 0 42 (dk_at dksX8_clause_1 0 rfl rfl)
theorem dX8_clause_27 : decode cX8_clause 27 = .ok (.iload_n 1, 1) := dk_27 (dk_at dksX8_clause_1 3 rfl rfl)
theorem dX8_clause_28 : decode cX8_clause 28 = .ok (.lookupswitch 44 #[(103, 28), (115, 36)], 28) := by decide +kernel
theorem dX8_clause_56 : decode cX8_clause 56 = .ok (.aload_n 0, 1) := dk_42 (dk_at dksX8_clause_3 0 rfl rfl)
theorem dX8_clause_57 : decode cX8_clause 57 = .ok (.iload_n 2, 1) := dk_28 (dk_at dksX8_clause_3 1 rfl rfl)
theorem dX8_clause_58 : decode cX8_clause 58 = .ok (.invokevirtual 71, 3) := dk_182 0 71 (dk_at dksX8_clause_3 2 rfl rfl)
theorem dX8_clause_61 : decode cX8_clause 61 = .ok (.goto 21, 3) := dk_167 0 21 (dk_at dksX8_clause_3 5 rfl rfl)
theorem dX8_clause_64 : decode cX8_clause 64 = .ok (.aload_n 0, 1) := dk_42 (dk_at dksX8_clause_3 8 rfl rfl)
theorem dX8_clause_65 : decode cX8_clause 65 = .ok (.iload_n 2, 1) := dk_28 (dk_at dksX8_clause_3 9 rfl rfl)
theorem dX8_clause_66 : decode cX8_clause 66 = .ok (.invokevirtual 74, 3) := dk_182 0 74 (dk_at dksX8_clause_3 10 rfl rfl)
theorem dX8_clause_69 : decode cX8_clause 69 = .ok (.goto 13, 3) := dk_167 0 13 (dk_at dksX8_clause_3 13 rfl rfl)
theorem dX8_clause_72 : decode cX8_clause 72 = .ok (.new 29, 3) := dk_187 0 29 (dk_at dksX8_clause_3 16 rfl rfl)
theorem dX8_clause_75 : decode cX8_clause 75 = .ok (.dup, 1) := dk_89 (dk_at dksX8_clause_3 19 rfl rfl)
theorem dX8_clause_76 : decode cX8_clause 76 = .ok (.iconst 1, 1) := dk_4 (dk_at dksX8_clause_3 20 rfl rfl)
theorem dX8_clause_77 : decode cX8_clause 77 = .ok (.iload_n 2, 1) := dk_28 (dk_at dksX8_clause_3 21 rfl rfl)
theorem dX8_clause_78 : decode cX8_clause 78 = .ok (.invokespecial 31, 3) := dk_183 0 31 (dk_at dksX8_clause_4 0 rfl rfl)
theorem dX8_clause_81 : decode cX8_clause 81 = .ok (.athrow, 1) := dk_191 (dk_at dksX8_clause_4 3 rfl rfl)
theorem dX8_clause_82 : decode cX8_clause 82 = .ok (.return_, 1) := dk_177 (dk_at dksX8_clause_4 4 rfl rfl)
abbrev cX8_want : ByteArray := prog_8_method_3_code
def yX8_want : MethodName := ⟨RX8, "want", "(ZII)V"⟩
def dkwX8_want_0 : List UInt8 := [26, 154, 0, 13, 187, 0, 29, 89, 27, 28, 183, 0, 31, 191, 177]
abbrev dktX8_want_0 : List UInt8 := dkwX8_want_0 ++ []
theorem dksX8_want_0 : cX8_want.data.toList.drop 0 = dktX8_want_0 := by decide +kernel
theorem dX8_want_0 : decode cX8_want 0 = .ok (.iload_n 0, 1) := dk_26 (dk_at dksX8_want_0 0 rfl rfl)
theorem dX8_want_1 : decode cX8_want 1 = .ok (.ifCond .ne 13, 3) := dk_154 0 13 (dk_at dksX8_want_0 1 rfl rfl)
theorem dX8_want_4 : decode cX8_want 4 = .ok (.new 29, 3) := dk_187 0 29 (dk_at dksX8_want_0 4 rfl rfl)
theorem dX8_want_7 : decode cX8_want 7 = .ok (.dup, 1) := dk_89 (dk_at dksX8_want_0 7 rfl rfl)
theorem dX8_want_8 : decode cX8_want 8 = .ok (.iload_n 1, 1) := dk_27 (dk_at dksX8_want_0 8 rfl rfl)
theorem dX8_want_9 : decode cX8_want 9 = .ok (.iload_n 2, 1) := dk_28 (dk_at dksX8_want_0 9 rfl rfl)
theorem dX8_want_10 : decode cX8_want 10 = .ok (.invokespecial 31, 3) := dk_183 0 31 (dk_at dksX8_want_0 10 rfl rfl)
theorem dX8_want_13 : decode cX8_want 13 = .ok (.athrow, 1) := dk_191 (dk_at dksX8_want_0 13 rfl rfl)
theorem dX8_want_14 : decode cX8_want 14 = .ok (.return_, 1) := dk_177 (dk_at dksX8_want_0 14 rfl rfl)
abbrev cX8_floor : ByteArray := prog_8_method_5_code
def yX8_floor : MethodName := ⟨RX8, "floor", "(I)V"⟩
def dkwX8_floor_1 : List UInt8 := [180, 0, 12, 42, 3, 16, 9, 182, 0, 55, 181, 0, 52, 177]
abbrev dktX8_floor_1 : List UInt8 := dkwX8_floor_1 ++ []
def dkwX8_floor_0 : List UInt8 := [42, 180, 0, 12, 180, 0, 52, 2, 160, 0, 7, 4, 167, 0, 4, 3, 6, 27, 184, 0, 42, 42]
abbrev dktX8_floor_0 : List UInt8 := dkwX8_floor_0 ++ dktX8_floor_1
theorem dksX8_floor_0 : cX8_floor.data.toList.drop 0 = dktX8_floor_0 := by decide +kernel
theorem dksX8_floor_1 : cX8_floor.data.toList.drop 22 = dktX8_floor_1 := dk_seg dksX8_floor_0 22 rfl rfl
theorem dX8_floor_0 : decode cX8_floor 0 = .ok (.aload_n 0, 1) := dk_42 (dk_at dksX8_floor_0 0 rfl rfl)
theorem dX8_floor_1 : decode cX8_floor 1 = .ok (.getfield 12, 3) := dk_180 0 12 (dk_at dksX8_floor_0 1 rfl rfl)
theorem dX8_floor_4 : decode cX8_floor 4 = .ok (.getfield 52, 3) := dk_180 0 52 (dk_at dksX8_floor_0 4 rfl rfl)
theorem dX8_floor_7 : decode cX8_floor 7 = .ok (.iconst (-1), 1) := dk_2 (dk_at dksX8_floor_0 7 rfl rfl)
theorem dX8_floor_8 : decode cX8_floor 8 = .ok (.if_icmp .ne 7, 3) := dk_160 0 7 (dk_at dksX8_floor_0 8 rfl rfl)
theorem dX8_floor_11 : decode cX8_floor 11 = .ok (.iconst 1, 1) := dk_4 (dk_at dksX8_floor_0 11 rfl rfl)
theorem dX8_floor_12 : decode cX8_floor 12 = .ok (.goto 4, 3) := dk_167 0 4 (dk_at dksX8_floor_0 12 rfl rfl)
theorem dX8_floor_15 : decode cX8_floor 15 = .ok (.iconst 0, 1) := dk_3 (dk_at dksX8_floor_0 15 rfl rfl)
theorem dX8_floor_16 : decode cX8_floor 16 = .ok (.iconst 3, 1) := dk_6 (dk_at dksX8_floor_0 16 rfl rfl)
theorem dX8_floor_17 : decode cX8_floor 17 = .ok (.iload_n 1, 1) := dk_27 (dk_at dksX8_floor_0 17 rfl rfl)
theorem dX8_floor_18 : decode cX8_floor 18 = .ok (.invokestatic 42, 3) := dk_184 0 42 (dk_at dksX8_floor_0 18 rfl rfl)
theorem dX8_floor_21 : decode cX8_floor 21 = .ok (.aload_n 0, 1) := dk_42 (dk_at dksX8_floor_0 21 rfl rfl)
theorem dX8_floor_22 : decode cX8_floor 22 = .ok (.getfield 12, 3) := dk_180 0 12 (dk_at dksX8_floor_1 0 rfl rfl)
theorem dX8_floor_25 : decode cX8_floor 25 = .ok (.aload_n 0, 1) := dk_42 (dk_at dksX8_floor_1 3 rfl rfl)
theorem dX8_floor_26 : decode cX8_floor 26 = .ok (.iconst 0, 1) := dk_3 (dk_at dksX8_floor_1 4 rfl rfl)
theorem dX8_floor_27 : decode cX8_floor 27 = .ok (.bipush 9, 2) := dk_16 9 (dk_at dksX8_floor_1 5 rfl rfl)
theorem dX8_floor_29 : decode cX8_floor 29 = .ok (.invokevirtual 55, 3) := dk_182 0 55 (dk_at dksX8_floor_1 7 rfl rfl)
theorem dX8_floor_32 : decode cX8_floor 32 = .ok (.putfield 52, 3) := dk_181 0 52 (dk_at dksX8_floor_1 10 rfl rfl)
theorem dX8_floor_35 : decode cX8_floor 35 = .ok (.return_, 1) := dk_177 (dk_at dksX8_floor_1 13 rfl rfl)
abbrev cX8_number : ByteArray := prog_8_method_4_code
def yX8_number : MethodName := ⟨RX8, "number", "(II)I"⟩
def dkwX8_number_5 : List UInt8 := [167, 0, 4, 3, 5, 29, 184, 0, 42, 21, 4, 172]
abbrev dktX8_number_5 : List UInt8 := dkwX8_number_5 ++ []
def dkwX8_number_4 : List UInt8 := [167, 255, 190, 42, 180, 0, 26, 29, 6, 96, 163, 0, 17, 21, 4, 27, 28, 184, 0, 38, 153, 0, 7, 4]
abbrev dktX8_number_4 : List UInt8 := dkwX8_number_4 ++ dktX8_number_5
def dkwX8_number_3 : List UInt8 := [180, 0, 26, 51, 96, 16, 48, 100, 184, 0, 46, 54, 4, 42, 89, 180, 0, 26, 4, 96, 181, 0, 26]
abbrev dktX8_number_3 : List UInt8 := dkwX8_number_3 ++ dktX8_number_4
def dkwX8_number_2 : List UInt8 := [16, 48, 16, 57, 184, 0, 38, 153, 0, 42, 17, 39, 15, 16, 10, 21, 4, 104, 42, 180, 0, 18, 42]
abbrev dktX8_number_2 : List UInt8 := dkwX8_number_2 ++ dktX8_number_3
def dkwX8_number_1 : List UInt8 := [3, 54, 4, 42, 180, 0, 26, 42, 180, 0, 22, 162, 0, 61, 42, 180, 0, 18, 42, 180, 0, 26, 51]
abbrev dktX8_number_1 : List UInt8 := dkwX8_number_1 ++ dktX8_number_2
def dkwX8_number_0 : List UInt8 := [42, 182, 0, 34, 16, 48, 16, 57, 184, 0, 38, 4, 42, 180, 0, 26, 184, 0, 42, 42, 180, 0, 26, 62]
abbrev dktX8_number_0 : List UInt8 := dkwX8_number_0 ++ dktX8_number_1
theorem dksX8_number_0 : cX8_number.data.toList.drop 0 = dktX8_number_0 := by decide +kernel
theorem dksX8_number_1 : cX8_number.data.toList.drop 24 = dktX8_number_1 := dk_seg dksX8_number_0 24 rfl rfl
theorem dksX8_number_2 : cX8_number.data.toList.drop 47 = dktX8_number_2 := dk_seg dksX8_number_1 23 rfl rfl
theorem dksX8_number_3 : cX8_number.data.toList.drop 70 = dktX8_number_3 := dk_seg dksX8_number_2 23 rfl rfl
theorem dksX8_number_4 : cX8_number.data.toList.drop 93 = dktX8_number_4 := dk_seg dksX8_number_3 23 rfl rfl
theorem dksX8_number_5 : cX8_number.data.toList.drop 117 = dktX8_number_5 := dk_seg dksX8_number_4 24 rfl rfl
theorem dX8_number_0 : decode cX8_number 0 = .ok (.aload_n 0, 1) := dk_42 (dk_at dksX8_number_0 0 rfl rfl)
theorem dX8_number_1 : decode cX8_number 1 = .ok (.invokevirtual 34, 3) := dk_182 0 34 (dk_at dksX8_number_0 1 rfl rfl)
theorem dX8_number_4 : decode cX8_number 4 = .ok (.bipush 48, 2) := dk_16 48 (dk_at dksX8_number_0 4 rfl rfl)
theorem dX8_number_6 : decode cX8_number 6 = .ok (.bipush 57, 2) := dk_16 57 (dk_at dksX8_number_0 6 rfl rfl)
theorem dX8_number_8 : decode cX8_number 8 = .ok (.invokestatic 38, 3) := dk_184 0 38 (dk_at dksX8_number_0 8 rfl rfl)
theorem dX8_number_11 : decode cX8_number 11 = .ok (.iconst 1, 1) := dk_4 (dk_at dksX8_number_0 11 rfl rfl)
theorem dX8_number_12 : decode cX8_number 12 = .ok (.aload_n 0, 1) := dk_42 (dk_at dksX8_number_0 12 rfl rfl)
theorem dX8_number_13 : decode cX8_number 13 = .ok (.getfield 26, 3) := dk_180 0 26 (dk_at dksX8_number_0 13 rfl rfl)
theorem dX8_number_16 : decode cX8_number 16 = .ok (.invokestatic 42, 3) := dk_184 0 42 (dk_at dksX8_number_0 16 rfl rfl)
theorem dX8_number_19 : decode cX8_number 19 = .ok (.aload_n 0, 1) := dk_42 (dk_at dksX8_number_0 19 rfl rfl)
theorem dX8_number_20 : decode cX8_number 20 = .ok (.getfield 26, 3) := dk_180 0 26 (dk_at dksX8_number_0 20 rfl rfl)
theorem dX8_number_23 : decode cX8_number 23 = .ok (.istore_n 3, 1) := dk_62 (dk_at dksX8_number_0 23 rfl rfl)
theorem dX8_number_24 : decode cX8_number 24 = .ok (.iconst 0, 1) := dk_3 (dk_at dksX8_number_1 0 rfl rfl)
theorem dX8_number_25 : decode cX8_number 25 = .ok (.istore 4, 2) := dk_54 4 (dk_at dksX8_number_1 1 rfl rfl)
theorem dX8_number_27 : decode cX8_number 27 = .ok (.aload_n 0, 1) := dk_42 (dk_at dksX8_number_1 3 rfl rfl)
theorem dX8_number_28 : decode cX8_number 28 = .ok (.getfield 26, 3) := dk_180 0 26 (dk_at dksX8_number_1 4 rfl rfl)
theorem dX8_number_31 : decode cX8_number 31 = .ok (.aload_n 0, 1) := dk_42 (dk_at dksX8_number_1 7 rfl rfl)
theorem dX8_number_32 : decode cX8_number 32 = .ok (.getfield 22, 3) := dk_180 0 22 (dk_at dksX8_number_1 8 rfl rfl)
theorem dX8_number_35 : decode cX8_number 35 = .ok (.if_icmp .ge 61, 3) := dk_162 0 61 (dk_at dksX8_number_1 11 rfl rfl)
theorem dX8_number_38 : decode cX8_number 38 = .ok (.aload_n 0, 1) := dk_42 (dk_at dksX8_number_1 14 rfl rfl)
theorem dX8_number_39 : decode cX8_number 39 = .ok (.getfield 18, 3) := dk_180 0 18 (dk_at dksX8_number_1 15 rfl rfl)
theorem dX8_number_42 : decode cX8_number 42 = .ok (.aload_n 0, 1) := dk_42 (dk_at dksX8_number_1 18 rfl rfl)
theorem dX8_number_43 : decode cX8_number 43 = .ok (.getfield 26, 3) := dk_180 0 26 (dk_at dksX8_number_1 19 rfl rfl)
theorem dX8_number_46 : decode cX8_number 46 = .ok (.baload, 1) := dk_51 (dk_at dksX8_number_1 22 rfl rfl)
theorem dX8_number_47 : decode cX8_number 47 = .ok (.bipush 48, 2) := dk_16 48 (dk_at dksX8_number_2 0 rfl rfl)
theorem dX8_number_49 : decode cX8_number 49 = .ok (.bipush 57, 2) := dk_16 57 (dk_at dksX8_number_2 2 rfl rfl)
theorem dX8_number_51 : decode cX8_number 51 = .ok (.invokestatic 38, 3) := dk_184 0 38 (dk_at dksX8_number_2 4 rfl rfl)
theorem dX8_number_54 : decode cX8_number 54 = .ok (.ifCond .eq 42, 3) := dk_153 0 42 (dk_at dksX8_number_2 7 rfl rfl)
theorem dX8_number_57 : decode cX8_number 57 = .ok (.sipush 9999, 3) := dk_17 39 15 (dk_at dksX8_number_2 10 rfl rfl)
theorem dX8_number_60 : decode cX8_number 60 = .ok (.bipush 10, 2) := dk_16 10 (dk_at dksX8_number_2 13 rfl rfl)
theorem dX8_number_62 : decode cX8_number 62 = .ok (.iload 4, 2) := dk_21 4 (dk_at dksX8_number_2 15 rfl rfl)
theorem dX8_number_64 : decode cX8_number 64 = .ok (.imul, 1) := dk_104 (dk_at dksX8_number_2 17 rfl rfl)
theorem dX8_number_65 : decode cX8_number 65 = .ok (.aload_n 0, 1) := dk_42 (dk_at dksX8_number_2 18 rfl rfl)
theorem dX8_number_66 : decode cX8_number 66 = .ok (.getfield 18, 3) := dk_180 0 18 (dk_at dksX8_number_2 19 rfl rfl)
theorem dX8_number_69 : decode cX8_number 69 = .ok (.aload_n 0, 1) := dk_42 (dk_at dksX8_number_2 22 rfl rfl)
theorem dX8_number_70 : decode cX8_number 70 = .ok (.getfield 26, 3) := dk_180 0 26 (dk_at dksX8_number_3 0 rfl rfl)
theorem dX8_number_73 : decode cX8_number 73 = .ok (.baload, 1) := dk_51 (dk_at dksX8_number_3 3 rfl rfl)
theorem dX8_number_74 : decode cX8_number 74 = .ok (.iadd, 1) := dk_96 (dk_at dksX8_number_3 4 rfl rfl)
theorem dX8_number_75 : decode cX8_number 75 = .ok (.bipush 48, 2) := dk_16 48 (dk_at dksX8_number_3 5 rfl rfl)
theorem dX8_number_77 : decode cX8_number 77 = .ok (.isub, 1) := dk_100 (dk_at dksX8_number_3 7 rfl rfl)
theorem dX8_number_78 : decode cX8_number 78 = .ok (.invokestatic 46, 3) := dk_184 0 46 (dk_at dksX8_number_3 8 rfl rfl)
theorem dX8_number_81 : decode cX8_number 81 = .ok (.istore 4, 2) := dk_54 4 (dk_at dksX8_number_3 11 rfl rfl)
theorem dX8_number_83 : decode cX8_number 83 = .ok (.aload_n 0, 1) := dk_42 (dk_at dksX8_number_3 13 rfl rfl)
theorem dX8_number_84 : decode cX8_number 84 = .ok (.dup, 1) := dk_89 (dk_at dksX8_number_3 14 rfl rfl)
theorem dX8_number_85 : decode cX8_number 85 = .ok (.getfield 26, 3) := dk_180 0 26 (dk_at dksX8_number_3 15 rfl rfl)
theorem dX8_number_88 : decode cX8_number 88 = .ok (.iconst 1, 1) := dk_4 (dk_at dksX8_number_3 18 rfl rfl)
theorem dX8_number_89 : decode cX8_number 89 = .ok (.iadd, 1) := dk_96 (dk_at dksX8_number_3 19 rfl rfl)
theorem dX8_number_90 : decode cX8_number 90 = .ok (.putfield 26, 3) := dk_181 0 26 (dk_at dksX8_number_3 20 rfl rfl)
theorem dX8_number_93 : decode cX8_number 93 = .ok (.goto (-66), 3) := dk_167 255 190 (dk_at dksX8_number_4 0 rfl rfl)
theorem dX8_number_96 : decode cX8_number 96 = .ok (.aload_n 0, 1) := dk_42 (dk_at dksX8_number_4 3 rfl rfl)
theorem dX8_number_97 : decode cX8_number 97 = .ok (.getfield 26, 3) := dk_180 0 26 (dk_at dksX8_number_4 4 rfl rfl)
theorem dX8_number_100 : decode cX8_number 100 = .ok (.iload_n 3, 1) := dk_29 (dk_at dksX8_number_4 7 rfl rfl)
theorem dX8_number_101 : decode cX8_number 101 = .ok (.iconst 3, 1) := dk_6 (dk_at dksX8_number_4 8 rfl rfl)
theorem dX8_number_102 : decode cX8_number 102 = .ok (.iadd, 1) := dk_96 (dk_at dksX8_number_4 9 rfl rfl)
theorem dX8_number_103 : decode cX8_number 103 = .ok (.if_icmp .gt 17, 3) := dk_163 0 17 (dk_at dksX8_number_4 10 rfl rfl)
theorem dX8_number_106 : decode cX8_number 106 = .ok (.iload 4, 2) := dk_21 4 (dk_at dksX8_number_4 13 rfl rfl)
theorem dX8_number_108 : decode cX8_number 108 = .ok (.iload_n 1, 1) := dk_27 (dk_at dksX8_number_4 15 rfl rfl)
theorem dX8_number_109 : decode cX8_number 109 = .ok (.iload_n 2, 1) := dk_28 (dk_at dksX8_number_4 16 rfl rfl)
theorem dX8_number_110 : decode cX8_number 110 = .ok (.invokestatic 38, 3) := dk_184 0 38 (dk_at dksX8_number_4 17 rfl rfl)
theorem dX8_number_113 : decode cX8_number 113 = .ok (.ifCond .eq 7, 3) := dk_153 0 7 (dk_at dksX8_number_4 20 rfl rfl)
theorem dX8_number_116 : decode cX8_number 116 = .ok (.iconst 1, 1) := dk_4 (dk_at dksX8_number_4 23 rfl rfl)
theorem dX8_number_117 : decode cX8_number 117 = .ok (.goto 4, 3) := dk_167 0 4 (dk_at dksX8_number_5 0 rfl rfl)
theorem dX8_number_120 : decode cX8_number 120 = .ok (.iconst 0, 1) := dk_3 (dk_at dksX8_number_5 3 rfl rfl)
theorem dX8_number_121 : decode cX8_number 121 = .ok (.iconst 2, 1) := dk_5 (dk_at dksX8_number_5 4 rfl rfl)
theorem dX8_number_122 : decode cX8_number 122 = .ok (.iload_n 3, 1) := dk_29 (dk_at dksX8_number_5 5 rfl rfl)
theorem dX8_number_123 : decode cX8_number 123 = .ok (.invokestatic 42, 3) := dk_184 0 42 (dk_at dksX8_number_5 6 rfl rfl)
theorem dX8_number_126 : decode cX8_number 126 = .ok (.iload 4, 2) := dk_21 4 (dk_at dksX8_number_5 9 rfl rfl)
theorem dX8_number_128 : decode cX8_number 128 = .ok (.ireturn, 1) := dk_172 (dk_at dksX8_number_5 11 rfl rfl)
abbrev cX8_skittle : ByteArray := prog_8_method_6_code
def yX8_skittle : MethodName := ⟨RX8, "skittle", "(I)V"⟩
def dkwX8_skittle_3 : List UInt8 := [180, 0, 12, 89, 180, 0, 58, 4, 96, 181, 0, 58, 177]
abbrev dktX8_skittle_3 : List UInt8 := dkwX8_skittle_3 ++ []
def dkwX8_skittle_2 : List UInt8 := [4, 16, 20, 182, 0, 55, 79, 42, 180, 0, 12, 180, 0, 68, 28, 42, 3, 16, 9, 182, 0, 55, 79, 42]
abbrev dktX8_skittle_2 : List UInt8 := dkwX8_skittle_2 ++ dktX8_skittle_3
def dkwX8_skittle_1 : List UInt8 := [42, 180, 0, 12, 180, 0, 61, 28, 42, 3, 6, 182, 0, 55, 79, 42, 180, 0, 12, 180, 0, 65, 28, 42]
abbrev dktX8_skittle_1 : List UInt8 := dkwX8_skittle_1 ++ dktX8_skittle_2
def dkwX8_skittle_0 : List UInt8 := [42, 180, 0, 12, 180, 0, 58, 61, 28, 16, 9, 162, 0, 7, 4, 167, 0, 4, 3, 6, 27, 184, 0, 42]
abbrev dktX8_skittle_0 : List UInt8 := dkwX8_skittle_0 ++ dktX8_skittle_1
theorem dksX8_skittle_0 : cX8_skittle.data.toList.drop 0 = dktX8_skittle_0 := by decide +kernel
theorem dksX8_skittle_1 : cX8_skittle.data.toList.drop 24 = dktX8_skittle_1 := dk_seg dksX8_skittle_0 24 rfl rfl
theorem dksX8_skittle_2 : cX8_skittle.data.toList.drop 48 = dktX8_skittle_2 := dk_seg dksX8_skittle_1 24 rfl rfl
theorem dksX8_skittle_3 : cX8_skittle.data.toList.drop 72 = dktX8_skittle_3 := dk_seg dksX8_skittle_2 24 rfl rfl
theorem dX8_skittle_0 : decode cX8_skittle 0 = .ok (.aload_n 0, 1) := dk_42 (dk_at dksX8_skittle_0 0 rfl rfl)
theorem dX8_skittle_1 : decode cX8_skittle 1 = .ok (.getfield 12, 3) := dk_180 0 12 (dk_at dksX8_skittle_0 1 rfl rfl)
theorem dX8_skittle_4 : decode cX8_skittle 4 = .ok (.getfield 58, 3) := dk_180 0 58 (dk_at dksX8_skittle_0 4 rfl rfl)
theorem dX8_skittle_7 : decode cX8_skittle 7 = .ok (.istore_n 2, 1) := dk_61 (dk_at dksX8_skittle_0 7 rfl rfl)
theorem dX8_skittle_8 : decode cX8_skittle 8 = .ok (.iload_n 2, 1) := dk_28 (dk_at dksX8_skittle_0 8 rfl rfl)
theorem dX8_skittle_9 : decode cX8_skittle 9 = .ok (.bipush 9, 2) := dk_16 9 (dk_at dksX8_skittle_0 9 rfl rfl)
theorem dX8_skittle_11 : decode cX8_skittle 11 = .ok (.if_icmp .ge 7, 3) := dk_162 0 7 (dk_at dksX8_skittle_0 11 rfl rfl)
theorem dX8_skittle_14 : decode cX8_skittle 14 = .ok (.iconst 1, 1) := dk_4 (dk_at dksX8_skittle_0 14 rfl rfl)
theorem dX8_skittle_15 : decode cX8_skittle 15 = .ok (.goto 4, 3) := dk_167 0 4 (dk_at dksX8_skittle_0 15 rfl rfl)
theorem dX8_skittle_18 : decode cX8_skittle 18 = .ok (.iconst 0, 1) := dk_3 (dk_at dksX8_skittle_0 18 rfl rfl)
theorem dX8_skittle_19 : decode cX8_skittle 19 = .ok (.iconst 3, 1) := dk_6 (dk_at dksX8_skittle_0 19 rfl rfl)
theorem dX8_skittle_20 : decode cX8_skittle 20 = .ok (.iload_n 1, 1) := dk_27 (dk_at dksX8_skittle_0 20 rfl rfl)
theorem dX8_skittle_21 : decode cX8_skittle 21 = .ok (.invokestatic 42, 3) := dk_184 0 42 (dk_at dksX8_skittle_0 21 rfl rfl)
theorem dX8_skittle_24 : decode cX8_skittle 24 = .ok (.aload_n 0, 1) := dk_42 (dk_at dksX8_skittle_1 0 rfl rfl)
theorem dX8_skittle_25 : decode cX8_skittle 25 = .ok (.getfield 12, 3) := dk_180 0 12 (dk_at dksX8_skittle_1 1 rfl rfl)
theorem dX8_skittle_28 : decode cX8_skittle 28 = .ok (.getfield 61, 3) := dk_180 0 61 (dk_at dksX8_skittle_1 4 rfl rfl)
theorem dX8_skittle_31 : decode cX8_skittle 31 = .ok (.iload_n 2, 1) := dk_28 (dk_at dksX8_skittle_1 7 rfl rfl)
theorem dX8_skittle_32 : decode cX8_skittle 32 = .ok (.aload_n 0, 1) := dk_42 (dk_at dksX8_skittle_1 8 rfl rfl)
theorem dX8_skittle_33 : decode cX8_skittle 33 = .ok (.iconst 0, 1) := dk_3 (dk_at dksX8_skittle_1 9 rfl rfl)
theorem dX8_skittle_34 : decode cX8_skittle 34 = .ok (.iconst 3, 1) := dk_6 (dk_at dksX8_skittle_1 10 rfl rfl)
theorem dX8_skittle_35 : decode cX8_skittle 35 = .ok (.invokevirtual 55, 3) := dk_182 0 55 (dk_at dksX8_skittle_1 11 rfl rfl)
theorem dX8_skittle_38 : decode cX8_skittle 38 = .ok (.iastore, 1) := dk_79 (dk_at dksX8_skittle_1 14 rfl rfl)
theorem dX8_skittle_39 : decode cX8_skittle 39 = .ok (.aload_n 0, 1) := dk_42 (dk_at dksX8_skittle_1 15 rfl rfl)
theorem dX8_skittle_40 : decode cX8_skittle 40 = .ok (.getfield 12, 3) := dk_180 0 12 (dk_at dksX8_skittle_1 16 rfl rfl)
theorem dX8_skittle_43 : decode cX8_skittle 43 = .ok (.getfield 65, 3) := dk_180 0 65 (dk_at dksX8_skittle_1 19 rfl rfl)
theorem dX8_skittle_46 : decode cX8_skittle 46 = .ok (.iload_n 2, 1) := dk_28 (dk_at dksX8_skittle_1 22 rfl rfl)
theorem dX8_skittle_47 : decode cX8_skittle 47 = .ok (.aload_n 0, 1) := dk_42 (dk_at dksX8_skittle_1 23 rfl rfl)
theorem dX8_skittle_48 : decode cX8_skittle 48 = .ok (.iconst 1, 1) := dk_4 (dk_at dksX8_skittle_2 0 rfl rfl)
theorem dX8_skittle_49 : decode cX8_skittle 49 = .ok (.bipush 20, 2) := dk_16 20 (dk_at dksX8_skittle_2 1 rfl rfl)
theorem dX8_skittle_51 : decode cX8_skittle 51 = .ok (.invokevirtual 55, 3) := dk_182 0 55 (dk_at dksX8_skittle_2 3 rfl rfl)
theorem dX8_skittle_54 : decode cX8_skittle 54 = .ok (.iastore, 1) := dk_79 (dk_at dksX8_skittle_2 6 rfl rfl)
theorem dX8_skittle_55 : decode cX8_skittle 55 = .ok (.aload_n 0, 1) := dk_42 (dk_at dksX8_skittle_2 7 rfl rfl)
theorem dX8_skittle_56 : decode cX8_skittle 56 = .ok (.getfield 12, 3) := dk_180 0 12 (dk_at dksX8_skittle_2 8 rfl rfl)
theorem dX8_skittle_59 : decode cX8_skittle 59 = .ok (.getfield 68, 3) := dk_180 0 68 (dk_at dksX8_skittle_2 11 rfl rfl)
theorem dX8_skittle_62 : decode cX8_skittle 62 = .ok (.iload_n 2, 1) := dk_28 (dk_at dksX8_skittle_2 14 rfl rfl)
theorem dX8_skittle_63 : decode cX8_skittle 63 = .ok (.aload_n 0, 1) := dk_42 (dk_at dksX8_skittle_2 15 rfl rfl)
theorem dX8_skittle_64 : decode cX8_skittle 64 = .ok (.iconst 0, 1) := dk_3 (dk_at dksX8_skittle_2 16 rfl rfl)
theorem dX8_skittle_65 : decode cX8_skittle 65 = .ok (.bipush 9, 2) := dk_16 9 (dk_at dksX8_skittle_2 17 rfl rfl)
theorem dX8_skittle_67 : decode cX8_skittle 67 = .ok (.invokevirtual 55, 3) := dk_182 0 55 (dk_at dksX8_skittle_2 19 rfl rfl)
theorem dX8_skittle_70 : decode cX8_skittle 70 = .ok (.iastore, 1) := dk_79 (dk_at dksX8_skittle_2 22 rfl rfl)
theorem dX8_skittle_71 : decode cX8_skittle 71 = .ok (.aload_n 0, 1) := dk_42 (dk_at dksX8_skittle_2 23 rfl rfl)
theorem dX8_skittle_72 : decode cX8_skittle 72 = .ok (.getfield 12, 3) := dk_180 0 12 (dk_at dksX8_skittle_3 0 rfl rfl)
theorem dX8_skittle_75 : decode cX8_skittle 75 = .ok (.dup, 1) := dk_89 (dk_at dksX8_skittle_3 3 rfl rfl)
theorem dX8_skittle_76 : decode cX8_skittle 76 = .ok (.getfield 58, 3) := dk_180 0 58 (dk_at dksX8_skittle_3 4 rfl rfl)
theorem dX8_skittle_79 : decode cX8_skittle 79 = .ok (.iconst 1, 1) := dk_4 (dk_at dksX8_skittle_3 7 rfl rfl)
theorem dX8_skittle_80 : decode cX8_skittle 80 = .ok (.iadd, 1) := dk_96 (dk_at dksX8_skittle_3 8 rfl rfl)
theorem dX8_skittle_81 : decode cX8_skittle 81 = .ok (.putfield 58, 3) := dk_181 0 58 (dk_at dksX8_skittle_3 9 rfl rfl)
theorem dX8_skittle_84 : decode cX8_skittle 84 = .ok (.return_, 1) := dk_177 (dk_at dksX8_skittle_3 12 rfl rfl)
theorem q66 : (Jvm.Cond.initialized "SkittleGentry$Reader") ∈ lw_all := lw_g (lw_at lw_m1 11 rfl) rfl
theorem q89 : (Jvm.Cond.fieldLinkNest "SkittleGentry$Reader" (52 : Nat) "SkittleGentry$County" "floor" "I" "SkittleGentry") ∈ lw_tbl := lw_at lw_m1 34 rfl
theorem q94 : (Jvm.Cond.fieldLinkNest "SkittleGentry$Reader" (61 : Nat) "SkittleGentry$County" "kind" "[I" "SkittleGentry") ∈ lw_tbl := lw_at lw_m1 39 rfl
theorem q97 : (Jvm.Cond.fieldLinkNest "SkittleGentry$Reader" (65 : Nat) "SkittleGentry$County" "weight" "[I" "SkittleGentry") ∈ lw_tbl := lw_at lw_m1 42 rfl
theorem q101 : (Jvm.Cond.fieldLinkNest "SkittleGentry$Reader" (68 : Nat) "SkittleGentry$County" "chip" "[I" "SkittleGentry") ∈ lw_tbl := lw_at lw_m1 46 rfl
theorem q103 : (Jvm.Cond.fieldLinkNest "SkittleGentry$Reader" (58 : Nat) "SkittleGentry$County" "many" "I" "SkittleGentry") ∈ lw_tbl := lw_at lw_m1 48 rfl
theorem q277 : (Jvm.Cond.instantiable "SkittleGentry$Reader" (4 : Nat)) ∈ lw_all := lw_g (lw_at lw_m1 222 rfl) rfl
theorem q279 : (Jvm.Cond.instanceMethod ({ cls := "SkittleGentry$Reader", name := "<init>", desc := "([BI)V" } : Jvm.MethodName)) ∈ lw_all := lw_g (lw_at lw_m1 224 rfl) rfl
theorem q280 : (Jvm.Cond.code ({ cls := "SkittleGentry$Reader", name := "<init>", desc := "([BI)V" } : Jvm.MethodName) prog_8_method_1_code (3 : Nat) (Option.none : Option Jvm.ClassFile.FieldType)) ∈ lw_all := lw_g (lw_at lw_m1 225 rfl) rfl
theorem q281 : (Jvm.Cond.methodLink "SkittleGentry$Reader" (3 : Nat) ({ cls := "java/lang/Object", name := "<init>", desc := "()V" } : Jvm.MethodName)) ∈ lw_all := lw_g (lw_at lw_m1 226 rfl) rfl
theorem q282 : (Jvm.Cond.classLink "SkittleGentry$Reader" (9 : Nat) "SkittleGentry$County") ∈ lw_all := lw_g (lw_at lw_m1 227 rfl) rfl
theorem q283 : (Jvm.Cond.methodLinkNest "SkittleGentry$Reader" (11 : Nat) ({ cls := "SkittleGentry$County", name := "<init>", desc := "()V" } : Jvm.MethodName) "SkittleGentry") ∈ lw_tbl := lw_at lw_m1 228 rfl
theorem q284 : (Jvm.Cond.fieldLink "SkittleGentry$Reader" (18 : Nat) "SkittleGentry$Reader" "text" "[B") ∈ lw_all := lw_g (lw_at lw_m1 229 rfl) rfl
theorem q285 : (Jvm.Cond.fieldLink "SkittleGentry$Reader" (22 : Nat) "SkittleGentry$Reader" "size" "I") ∈ lw_all := lw_g (lw_at lw_m1 230 rfl) rfl
theorem q286 : (Jvm.Cond.fieldLink "SkittleGentry$Reader" (12 : Nat) "SkittleGentry$Reader" "county" "LSkittleGentry$County;") ∈ lw_all := lw_g (lw_at lw_m1 231 rfl) rfl
theorem q287 : (Jvm.Cond.fieldLink "SkittleGentry$Reader" (26 : Nat) "SkittleGentry$Reader" "at" "I") ∈ lw_all := lw_g (lw_at lw_m1 232 rfl) rfl
theorem q288 : (Jvm.Cond.laysFinal "SkittleGentry$Reader" "SkittleGentry$Reader" "text" "[B") ∈ lw_all := lw_g (lw_at lw_m1 233 rfl) rfl
theorem q289 : (Jvm.Cond.soleField "SkittleGentry$Reader" "text") ∈ lw_all := lw_g (lw_at lw_m1 234 rfl) rfl
theorem q290 : (Jvm.Cond.laysFinal "SkittleGentry$Reader" "SkittleGentry$Reader" "size" "I") ∈ lw_all := lw_g (lw_at lw_m1 235 rfl) rfl
theorem q291 : (Jvm.Cond.soleField "SkittleGentry$Reader" "size") ∈ lw_all := lw_g (lw_at lw_m1 236 rfl) rfl
theorem q292 : (Jvm.Cond.laysFinal "SkittleGentry$Reader" "SkittleGentry$Reader" "county" "LSkittleGentry$County;") ∈ lw_all := lw_g (lw_at lw_m1 237 rfl) rfl
theorem q293 : (Jvm.Cond.soleField "SkittleGentry$Reader" "county") ∈ lw_all := lw_g (lw_at lw_m1 238 rfl) rfl
theorem q294 : (Jvm.Cond.lays "SkittleGentry$Reader" "SkittleGentry$Reader" "at" "I") ∈ lw_all := lw_g (lw_at lw_m1 239 rfl) rfl
theorem q295 : (Jvm.Cond.soleField "SkittleGentry$Reader" "at") ∈ lw_all := lw_g (lw_at lw_m2 0 rfl) rfl
theorem q296 : (Jvm.Cond.superclass "SkittleGentry$Reader" "java/lang/Object") ∈ lw_all := lw_g (lw_at lw_m2 1 rfl) rfl
theorem q298 : (Jvm.Cond.instanceMethod ({ cls := "SkittleGentry$Reader", name := "all", desc := "()LSkittleGentry$County;" } : Jvm.MethodName)) ∈ lw_all := lw_g (lw_at lw_m2 3 rfl) rfl
theorem q299 : (Jvm.Cond.selects "SkittleGentry$Reader" ({ cls := "SkittleGentry$Reader", name := "all", desc := "()LSkittleGentry$County;" } : Jvm.MethodName) ({ cls := "SkittleGentry$Reader", name := "all", desc := "()LSkittleGentry$County;" } : Jvm.MethodName)) ∈ lw_all := lw_g (lw_at lw_m2 4 rfl) rfl
theorem q300 : (Jvm.Cond.code ({ cls := "SkittleGentry$Reader", name := "all", desc := "()LSkittleGentry$County;" } : Jvm.MethodName) prog_8_method_8_code (3 : Nat) (Option.some (Jvm.ClassFile.FieldType.object "SkittleGentry$County"))) ∈ lw_all := lw_g (lw_at lw_m2 5 rfl) rfl
theorem q301 : (Jvm.Cond.methodLink "SkittleGentry$Reader" (34 : Nat) ({ cls := "SkittleGentry$Reader", name := "here", desc := "()I" } : Jvm.MethodName)) ∈ lw_all := lw_g (lw_at lw_m2 6 rfl) rfl
theorem q302 : (Jvm.Cond.privateMethod ({ cls := "SkittleGentry$Reader", name := "here", desc := "()I" } : Jvm.MethodName)) ∈ lw_tbl := lw_at lw_m2 7 rfl
theorem q303 : (Jvm.Cond.instanceMethod ({ cls := "SkittleGentry$Reader", name := "here", desc := "()I" } : Jvm.MethodName)) ∈ lw_all := lw_g (lw_at lw_m2 8 rfl) rfl
theorem q304 : (Jvm.Cond.code ({ cls := "SkittleGentry$Reader", name := "here", desc := "()I" } : Jvm.MethodName) prog_8_method_2_code (1 : Nat) (Option.some Jvm.ClassFile.FieldType.int)) ∈ lw_all := lw_g (lw_at lw_m2 9 rfl) rfl
theorem q305 : (Jvm.Cond.methodLink "SkittleGentry$Reader" (77 : Nat) ({ cls := "SkittleGentry$Reader", name := "clause", desc := "(II)V" } : Jvm.MethodName)) ∈ lw_all := lw_g (lw_at lw_m2 10 rfl) rfl
theorem q306 : (Jvm.Cond.privateMethod ({ cls := "SkittleGentry$Reader", name := "clause", desc := "(II)V" } : Jvm.MethodName)) ∈ lw_tbl := lw_at lw_m2 11 rfl
theorem q307 : (Jvm.Cond.instanceMethod ({ cls := "SkittleGentry$Reader", name := "clause", desc := "(II)V" } : Jvm.MethodName)) ∈ lw_all := lw_g (lw_at lw_m2 12 rfl) rfl
theorem q308 : (Jvm.Cond.code ({ cls := "SkittleGentry$Reader", name := "clause", desc := "(II)V" } : Jvm.MethodName) prog_8_method_7_code (3 : Nat) (Option.none : Option Jvm.ClassFile.FieldType)) ∈ lw_all := lw_g (lw_at lw_m2 13 rfl) rfl
theorem q309 : (Jvm.Cond.methodLink "SkittleGentry$Reader" (42 : Nat) ({ cls := "SkittleGentry$Reader", name := "want", desc := "(ZII)V" } : Jvm.MethodName)) ∈ lw_all := lw_g (lw_at lw_m2 14 rfl) rfl
theorem q310 : (Jvm.Cond.static ({ cls := "SkittleGentry$Reader", name := "want", desc := "(ZII)V" } : Jvm.MethodName)) ∈ lw_all := lw_g (lw_at lw_m2 15 rfl) rfl
theorem q311 : (Jvm.Cond.code ({ cls := "SkittleGentry$Reader", name := "want", desc := "(ZII)V" } : Jvm.MethodName) prog_8_method_3_code (3 : Nat) (Option.none : Option Jvm.ClassFile.FieldType)) ∈ lw_all := lw_g (lw_at lw_m2 16 rfl) rfl
theorem q312 : (Jvm.Cond.classLink "SkittleGentry$Reader" (29 : Nat) "SkittleGentry$Fault") ∈ lw_all := lw_g (lw_at lw_m2 17 rfl) rfl
theorem q349 : (Jvm.Cond.methodLink "SkittleGentry$Reader" (31 : Nat) ({ cls := "SkittleGentry$Fault", name := "<init>", desc := "(II)V" } : Jvm.MethodName)) ∈ lw_all := lw_g (lw_at lw_m2 54 rfl) rfl
theorem q379 : (Jvm.Cond.methodLink "SkittleGentry$Reader" (71 : Nat) ({ cls := "SkittleGentry$Reader", name := "floor", desc := "(I)V" } : Jvm.MethodName)) ∈ lw_all := lw_g (lw_at lw_m2 84 rfl) rfl
theorem q380 : (Jvm.Cond.privateMethod ({ cls := "SkittleGentry$Reader", name := "floor", desc := "(I)V" } : Jvm.MethodName)) ∈ lw_tbl := lw_at lw_m2 85 rfl
theorem q381 : (Jvm.Cond.instanceMethod ({ cls := "SkittleGentry$Reader", name := "floor", desc := "(I)V" } : Jvm.MethodName)) ∈ lw_all := lw_g (lw_at lw_m2 86 rfl) rfl
theorem q382 : (Jvm.Cond.code ({ cls := "SkittleGentry$Reader", name := "floor", desc := "(I)V" } : Jvm.MethodName) prog_8_method_5_code (2 : Nat) (Option.none : Option Jvm.ClassFile.FieldType)) ∈ lw_all := lw_g (lw_at lw_m2 87 rfl) rfl
theorem q383 : (Jvm.Cond.methodLink "SkittleGentry$Reader" (55 : Nat) ({ cls := "SkittleGentry$Reader", name := "number", desc := "(II)I" } : Jvm.MethodName)) ∈ lw_all := lw_g (lw_at lw_m2 88 rfl) rfl
theorem q384 : (Jvm.Cond.privateMethod ({ cls := "SkittleGentry$Reader", name := "number", desc := "(II)I" } : Jvm.MethodName)) ∈ lw_tbl := lw_at lw_m2 89 rfl
theorem q385 : (Jvm.Cond.instanceMethod ({ cls := "SkittleGentry$Reader", name := "number", desc := "(II)I" } : Jvm.MethodName)) ∈ lw_all := lw_g (lw_at lw_m2 90 rfl) rfl
theorem q386 : (Jvm.Cond.code ({ cls := "SkittleGentry$Reader", name := "number", desc := "(II)I" } : Jvm.MethodName) prog_8_method_4_code (5 : Nat) (Option.some Jvm.ClassFile.FieldType.int)) ∈ lw_all := lw_g (lw_at lw_m2 91 rfl) rfl
theorem q387 : (Jvm.Cond.methodLinkNest "SkittleGentry$Reader" (38 : Nat) ({ cls := "SkittleGentry", name := "isIn", desc := "(III)Z" } : Jvm.MethodName) "SkittleGentry") ∈ lw_tbl := lw_at lw_m2 92 rfl
theorem q388 : (Jvm.Cond.methodLink "SkittleGentry$Reader" (46 : Nat) ({ cls := "java/lang/Math", name := "min", desc := "(II)I" } : Jvm.MethodName)) ∈ lw_all := lw_g (lw_at lw_m2 93 rfl) rfl
theorem q391 : (Jvm.Cond.methodLink "SkittleGentry$Reader" (74 : Nat) ({ cls := "SkittleGentry$Reader", name := "skittle", desc := "(I)V" } : Jvm.MethodName)) ∈ lw_all := lw_g (lw_at lw_m2 96 rfl) rfl
theorem q392 : (Jvm.Cond.privateMethod ({ cls := "SkittleGentry$Reader", name := "skittle", desc := "(I)V" } : Jvm.MethodName)) ∈ lw_tbl := lw_at lw_m2 97 rfl
theorem q393 : (Jvm.Cond.instanceMethod ({ cls := "SkittleGentry$Reader", name := "skittle", desc := "(I)V" } : Jvm.MethodName)) ∈ lw_all := lw_g (lw_at lw_m2 98 rfl) rfl
theorem q394 : (Jvm.Cond.code ({ cls := "SkittleGentry$Reader", name := "skittle", desc := "(I)V" } : Jvm.MethodName) prog_8_method_6_code (3 : Nat) (Option.none : Option Jvm.ClassFile.FieldType)) ∈ lw_all := lw_g (lw_at lw_m2 99 rfl) rfl
theorem in_X8 : ∀ w ∈ wsX80, w ∈ lw_all := lw_in wsX80 [288, 290, 292, 294] (by decide +kernel) (by decide +kernel)

/-! SkittleGentry$Fault -/
set_option maxRecDepth 100000
def RX9 : String := "SkittleGentry$Fault"
def TX9 : u_T := fun k => match k with
  | 0 => ("java/lang/Throwable", "cause", "Ljava/lang/Throwable;", false)
  | 1 => ("java/lang/Throwable", "stackTrace", "[Ljava/lang/StackTraceElement;", false)
  | 2 => ("java/lang/Throwable", "suppressedExceptions", "Ljava/util/List;", false)
  | 3 => ("java/lang/Throwable", "detailMessage", "Ljava/lang/String;", false)
  | 4 => ("java/lang/Throwable", "backtrace", "Ljava/lang/Object;", false)
  | 5 => ("java/lang/Throwable", "depth", "I", false)
  | 6 => ("SkittleGentry$Fault", "number", "I", true)
  | _ => ("SkittleGentry$Fault", "place", "I", true)
def tyX9 : Nat → FieldType := fun k => match k with
  | 0 => .object "java/lang/Throwable"
  | 1 => .array (.object "java/lang/StackTraceElement")
  | 2 => .object "java/util/List"
  | 3 => .object "java/lang/String"
  | 4 => .object "java/lang/Object"
  | 5 => .int
  | 6 => .int
  | _ => .int
abbrev wsX90 : List Cond := u_ws RX9 TX9 8
theorem nmX9 : ∀ a, a < 8 → ∀ b, b < 8 → a ≠ b → (TX9 a).2.1 ≠ (TX9 b).2.1 := by decide +kernel
theorem tyX9_ok : ∀ k, k < 8 → parseFieldDescriptor (TX9 k).2.2.1 = some (tyX9 k) := by decide +kernel
abbrev cX9_init : ByteArray := prog_5_method_1_code
def yX9_init : MethodName := ⟨RX9, "<init>", "(II)V"⟩
def dkwX9_init_0 : List UInt8 := [42, 1, 1, 3, 3, 183, 0, 1, 42, 27, 181, 0, 7, 42, 28, 181, 0, 13, 177]
abbrev dktX9_init_0 : List UInt8 := dkwX9_init_0 ++ []
theorem dksX9_init_0 : cX9_init.data.toList.drop 0 = dktX9_init_0 := by decide +kernel
theorem dX9_init_0 : decode cX9_init 0 = .ok (.aload_n 0, 1) := dk_42 (dk_at dksX9_init_0 0 rfl rfl)
theorem dX9_init_1 : decode cX9_init 1 = .ok (.aconst_null, 1) := dk_1 (dk_at dksX9_init_0 1 rfl rfl)
theorem dX9_init_2 : decode cX9_init 2 = .ok (.aconst_null, 1) := dk_1 (dk_at dksX9_init_0 2 rfl rfl)
theorem dX9_init_3 : decode cX9_init 3 = .ok (.iconst 0, 1) := dk_3 (dk_at dksX9_init_0 3 rfl rfl)
theorem dX9_init_4 : decode cX9_init 4 = .ok (.iconst 0, 1) := dk_3 (dk_at dksX9_init_0 4 rfl rfl)
theorem dX9_init_5 : decode cX9_init 5 = .ok (.invokespecial 1, 3) := dk_183 0 1 (dk_at dksX9_init_0 5 rfl rfl)
theorem dX9_init_8 : decode cX9_init 8 = .ok (.aload_n 0, 1) := dk_42 (dk_at dksX9_init_0 8 rfl rfl)
theorem dX9_init_9 : decode cX9_init 9 = .ok (.iload_n 1, 1) := dk_27 (dk_at dksX9_init_0 9 rfl rfl)
theorem dX9_init_10 : decode cX9_init 10 = .ok (.putfield 7, 3) := dk_181 0 7 (dk_at dksX9_init_0 10 rfl rfl)
theorem dX9_init_13 : decode cX9_init 13 = .ok (.aload_n 0, 1) := dk_42 (dk_at dksX9_init_0 13 rfl rfl)
theorem dX9_init_14 : decode cX9_init 14 = .ok (.iload_n 2, 1) := dk_28 (dk_at dksX9_init_0 14 rfl rfl)
theorem dX9_init_15 : decode cX9_init 15 = .ok (.putfield 13, 3) := dk_181 0 13 (dk_at dksX9_init_0 15 rfl rfl)
theorem dX9_init_18 : decode cX9_init 18 = .ok (.return_, 1) := dk_177 (dk_at dksX9_init_0 18 rfl rfl)
theorem q69 : (Jvm.Cond.initialized "SkittleGentry$Fault") ∈ lw_all := lw_g (lw_at lw_m1 14 rfl) rfl
theorem q313 : (Jvm.Cond.instantiable "SkittleGentry$Fault" (8 : Nat)) ∈ lw_all := lw_g (lw_at lw_m2 18 rfl) rfl
theorem q314 : (Jvm.Cond.castable "SkittleGentry$Fault" "SkittleGentry$Fault") ∈ lw_tbl := lw_at lw_m2 19 rfl
theorem q319 : (Jvm.Cond.selects "SkittleGentry$Fault" ({ cls := "java/lang/Throwable", name := "fillInStackTrace", desc := "(I)Ljava/lang/Throwable;" } : Jvm.MethodName) ({ cls := "java/lang/Throwable", name := "fillInStackTrace", desc := "(I)Ljava/lang/Throwable;" } : Jvm.MethodName)) ∈ lw_all := lw_g (lw_at lw_m2 24 rfl) rfl
theorem q320 : (Jvm.Cond.selects "SkittleGentry$Fault" ({ cls := "java/lang/Throwable", name := "fillInStackTrace", desc := "()Ljava/lang/Throwable;" } : Jvm.MethodName) ({ cls := "java/lang/Throwable", name := "fillInStackTrace", desc := "()Ljava/lang/Throwable;" } : Jvm.MethodName)) ∈ lw_all := lw_g (lw_at lw_m2 25 rfl) rfl
theorem q321 : (Jvm.Cond.lays "SkittleGentry$Fault" "java/lang/Throwable" "cause" "Ljava/lang/Throwable;") ∈ lw_all := lw_g (lw_at lw_m2 26 rfl) rfl
theorem q323 : (Jvm.Cond.lays "SkittleGentry$Fault" "java/lang/Throwable" "stackTrace" "[Ljava/lang/StackTraceElement;") ∈ lw_all := lw_g (lw_at lw_m2 28 rfl) rfl
theorem q325 : (Jvm.Cond.lays "SkittleGentry$Fault" "java/lang/Throwable" "suppressedExceptions" "Ljava/util/List;") ∈ lw_all := lw_g (lw_at lw_m2 30 rfl) rfl
theorem q327 : (Jvm.Cond.lays "SkittleGentry$Fault" "java/lang/Throwable" "detailMessage" "Ljava/lang/String;") ∈ lw_all := lw_g (lw_at lw_m2 32 rfl) rfl
theorem q329 : (Jvm.Cond.lays "SkittleGentry$Fault" "java/lang/Throwable" "backtrace" "Ljava/lang/Object;") ∈ lw_all := lw_g (lw_at lw_m2 34 rfl) rfl
theorem q350 : (Jvm.Cond.instanceMethod ({ cls := "SkittleGentry$Fault", name := "<init>", desc := "(II)V" } : Jvm.MethodName)) ∈ lw_all := lw_g (lw_at lw_m2 55 rfl) rfl
theorem q351 : (Jvm.Cond.code ({ cls := "SkittleGentry$Fault", name := "<init>", desc := "(II)V" } : Jvm.MethodName) prog_5_method_1_code (3 : Nat) (Option.none : Option Jvm.ClassFile.FieldType)) ∈ lw_all := lw_g (lw_at lw_m2 56 rfl) rfl
theorem q352 : (Jvm.Cond.methodLink "SkittleGentry$Fault" (1 : Nat) ({ cls := "java/lang/Exception", name := "<init>", desc := "(Ljava/lang/String;Ljava/lang/Throwable;ZZ)V" } : Jvm.MethodName)) ∈ lw_all := lw_g (lw_at lw_m2 57 rfl) rfl
theorem q358 : (Jvm.Cond.fieldLink "SkittleGentry$Fault" (7 : Nat) "SkittleGentry$Fault" "number" "I") ∈ lw_all := lw_g (lw_at lw_m2 63 rfl) rfl
theorem q360 : (Jvm.Cond.fieldLink "SkittleGentry$Fault" (13 : Nat) "SkittleGentry$Fault" "place" "I") ∈ lw_all := lw_g (lw_at lw_m2 65 rfl) rfl
theorem q367 : (Jvm.Cond.laysFinal "SkittleGentry$Fault" "SkittleGentry$Fault" "number" "I") ∈ lw_all := lw_g (lw_at lw_m2 72 rfl) rfl
theorem q368 : (Jvm.Cond.soleField "SkittleGentry$Fault" "number") ∈ lw_all := lw_g (lw_at lw_m2 73 rfl) rfl
theorem q369 : (Jvm.Cond.laysFinal "SkittleGentry$Fault" "SkittleGentry$Fault" "place" "I") ∈ lw_all := lw_g (lw_at lw_m2 74 rfl) rfl
theorem q370 : (Jvm.Cond.soleField "SkittleGentry$Fault" "place") ∈ lw_all := lw_g (lw_at lw_m2 75 rfl) rfl
theorem q375 : (Jvm.Cond.lays "SkittleGentry$Fault" "java/lang/Throwable" "depth" "I") ∈ lw_all := lw_g (lw_at lw_m2 80 rfl) rfl
theorem q378 : (Jvm.Cond.superclass "SkittleGentry$Fault" "java/lang/Exception") ∈ lw_all := lw_g (lw_at lw_m2 83 rfl) rfl
theorem in_X9 : ∀ w ∈ wsX90, w ∈ lw_all := lw_in wsX90 [321, 323, 325, 327, 329, 375, 367, 369] (by decide +kernel) (by decide +kernel)
