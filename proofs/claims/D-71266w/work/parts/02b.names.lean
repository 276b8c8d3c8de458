/-! SkittleGentry$State -/
set_option maxRecDepth 100000
def RX2 : String := "SkittleGentry$State"
def TX2 : u_T := fun k => match k with
  | 0 => ("SkittleGentry$State", "kind", "[I", true)
  | 1 => ("SkittleGentry$State", "chip", "[I", true)
  | 2 => ("SkittleGentry$State", "plate", "[I", true)
  | 3 => ("SkittleGentry$State", "rocked", "[I", true)
  | 4 => ("SkittleGentry$State", "taken", "[I", true)
  | 5 => ("SkittleGentry$State", "stands", "I", false)
  | 6 => ("SkittleGentry$State", "throwMany", "I", false)
  | 7 => ("SkittleGentry$State", "floorers", "I", false)
  | 8 => ("SkittleGentry$State", "seed", "I", false)
  | 9 => ("SkittleGentry$State", "isKept", "Z", false)
  | 10 => ("SkittleGentry$State", "rocks", "I", false)
  | 11 => ("SkittleGentry$State", "stays", "I", false)
  | _ => ("SkittleGentry$State", "this$0", "LSkittleGentry;", true)
def tyX2 : Nat → FieldType := fun k => match k with
  | 0 => .array .int
  | 1 => .array .int
  | 2 => .array .int
  | 3 => .array .int
  | 4 => .array .int
  | 5 => .int
  | 6 => .int
  | 7 => .int
  | 8 => .int
  | 9 => .boolean
  | 10 => .int
  | 11 => .int
  | _ => .object "SkittleGentry"
abbrev wsX20 : List Cond := u_ws RX2 TX2 13
set_option maxRecDepth 100000 in
theorem nmX2 : ∀ a, a < 13 → ∀ b, b < 13 → a ≠ b → (TX2 a).2.1 ≠ (TX2 b).2.1 := by decide +kernel
set_option maxRecDepth 100000 in
theorem tyX2_ok : ∀ k, k < 13 → parseFieldDescriptor (TX2 k).2.2.1 = some (tyX2 k) := by decide +kernel
abbrev cX2_init : ByteArray := prog_10_method_1_code
def yX2_init : MethodName := ⟨RX2, "<init>", "(LSkittleGentry;)V"⟩
def dkwX2_init_2 : List UInt8 := [181, 0, 28, 177]
abbrev dktX2_init_2 : List UInt8 := dkwX2_init_2 ++ []
def dkwX2_init_1 : List UInt8 := [181, 0, 19, 42, 16, 9, 188, 10, 181, 0, 22, 42, 16, 9, 188, 10, 181, 0, 25, 42, 16, 9, 188, 10]
abbrev dktX2_init_1 : List UInt8 := dkwX2_init_1 ++ dktX2_init_2
def dkwX2_init_0 : List UInt8 := [42, 43, 181, 0, 3, 42, 183, 0, 9, 42, 16, 9, 188, 10, 181, 0, 15, 42, 16, 9, 188, 10]
abbrev dktX2_init_0 : List UInt8 := dkwX2_init_0 ++ dktX2_init_1
theorem dksX2_init_0 : cX2_init.data.toList.drop 0 = dktX2_init_0 := by decide +kernel
theorem dksX2_init_1 : cX2_init.data.toList.drop 22 = dktX2_init_1 := dk_seg dksX2_init_0 22 rfl rfl
theorem dksX2_init_2 : cX2_init.data.toList.drop 46 = dktX2_init_2 := dk_seg dksX2_init_1 24 rfl rfl
theorem dX2_init_0 : decode cX2_init 0 = .ok (.aload_n 0, 1) := dk_42 (dk_at dksX2_init_0 0 rfl rfl)
theorem dX2_init_1 : decode cX2_init 1 = .ok (.aload_n 1, 1) := dk_43 (dk_at dksX2_init_0 1 rfl rfl)
theorem dX2_init_2 : decode cX2_init 2 = .ok (.putfield 3, 3) := dk_181 0 3 (dk_at dksX2_init_0 2 rfl rfl)
theorem dX2_init_5 : decode cX2_init 5 = .ok (.aload_n 0, 1) := dk_42 (dk_at dksX2_init_0 5 rfl rfl)
theorem dX2_init_6 : decode cX2_init 6 = .ok (.invokespecial 9, 3) := dk_183 0 9 (dk_at dksX2_init_0 6 rfl rfl)
theorem dX2_init_9 : decode cX2_init 9 = .ok (.aload_n 0, 1) := dk_42 (dk_at dksX2_init_0 9 rfl rfl)
theorem dX2_init_10 : decode cX2_init 10 = .ok (.bipush 9, 2) := dk_16 9 (dk_at dksX2_init_0 10 rfl rfl)
theorem dX2_init_12 : decode cX2_init 12 = .ok (.newarray .int, 2) := dk_188_10 (dk_at dksX2_init_0 12 rfl rfl)
theorem dX2_init_14 : decode cX2_init 14 = .ok (.putfield 15, 3) := dk_181 0 15 (dk_at dksX2_init_0 14 rfl rfl)
theorem dX2_init_17 : decode cX2_init 17 = .ok (.aload_n 0, 1) := dk_42 (dk_at dksX2_init_0 17 rfl rfl)
theorem dX2_init_18 : decode cX2_init 18 = .ok (.bipush 9, 2) := dk_16 9 (dk_at dksX2_init_0 18 rfl rfl)
theorem dX2_init_20 : decode cX2_init 20 = .ok (.newarray .int, 2) := dk_188_10 (dk_at dksX2_init_0 20 rfl rfl)
theorem dX2_init_22 : decode cX2_init 22 = .ok (.putfield 19, 3) := dk_181 0 19 (dk_at dksX2_init_1 0 rfl rfl)
theorem dX2_init_25 : decode cX2_init 25 = .ok (.aload_n 0, 1) := dk_42 (dk_at dksX2_init_1 3 rfl rfl)
theorem dX2_init_26 : decode cX2_init 26 = .ok (.bipush 9, 2) := dk_16 9 (dk_at dksX2_init_1 4 rfl rfl)
theorem dX2_init_28 : decode cX2_init 28 = .ok (.newarray .int, 2) := dk_188_10 (dk_at dksX2_init_1 6 rfl rfl)
theorem dX2_init_30 : decode cX2_init 30 = .ok (.putfield 22, 3) := dk_181 0 22 (dk_at dksX2_init_1 8 rfl rfl)
theorem dX2_init_33 : decode cX2_init 33 = .ok (.aload_n 0, 1) := dk_42 (dk_at dksX2_init_1 11 rfl rfl)
theorem dX2_init_34 : decode cX2_init 34 = .ok (.bipush 9, 2) := dk_16 9 (dk_at dksX2_init_1 12 rfl rfl)
theorem dX2_init_36 : decode cX2_init 36 = .ok (.newarray .int, 2) := dk_188_10 (dk_at dksX2_init_1 14 rfl rfl)
theorem dX2_init_38 : decode cX2_init 38 = .ok (.putfield 25, 3) := dk_181 0 25 (dk_at dksX2_init_1 16 rfl rfl)
theorem dX2_init_41 : decode cX2_init 41 = .ok (.aload_n 0, 1) := dk_42 (dk_at dksX2_init_1 19 rfl rfl)
theorem dX2_init_42 : decode cX2_init 42 = .ok (.bipush 9, 2) := dk_16 9 (dk_at dksX2_init_1 20 rfl rfl)
theorem dX2_init_44 : decode cX2_init 44 = .ok (.newarray .int, 2) := dk_188_10 (dk_at dksX2_init_1 22 rfl rfl)
theorem dX2_init_46 : decode cX2_init 46 = .ok (.putfield 28, 3) := dk_181 0 28 (dk_at dksX2_init_2 0 rfl rfl)
theorem dX2_init_49 : decode cX2_init 49 = .ok (.return_, 1) := dk_177 (dk_at dksX2_init_2 3 rfl rfl)
abbrev cX2_begin : ByteArray := prog_10_method_2_code
def yX2_begin : MethodName := ⟨RX2, "begin", "()V"⟩
def dkwX2_begin_5 : List UInt8 := [181, 0, 58, 42, 3, 181, 0, 61, 177]
abbrev dktX2_begin_5 : List UInt8 := dkwX2_begin_5 ++ []
def dkwX2_begin_4 : List UInt8 := [2, 184, 0, 49, 42, 4, 42, 180, 0, 3, 180, 0, 31, 180, 0, 45, 120, 4, 100, 181, 0, 55, 42, 3]
abbrev dktX2_begin_4 : List UInt8 := dkwX2_begin_4 ++ dktX2_begin_5
def dkwX2_begin_3 : List UInt8 := [27, 167, 0, 4, 2, 79, 132, 1, 1, 167, 255, 222, 42, 180, 0, 25, 3, 184, 0, 49, 42, 180, 0, 28]
abbrev dktX2_begin_3 : List UInt8 := dkwX2_begin_3 ++ dktX2_begin_4
def dkwX2_begin_2 : List UInt8 := [16, 9, 162, 0, 34, 42, 180, 0, 22, 27, 27, 42, 180, 0, 3, 180, 0, 31, 180, 0, 45, 162, 0, 7]
abbrev dktX2_begin_2 : List UInt8 := dkwX2_begin_2 ++ dktX2_begin_3
def dkwX2_begin_1 : List UInt8 := [180, 0, 3, 180, 0, 31, 180, 0, 44, 3, 42, 180, 0, 19, 3, 16, 9, 184, 0, 38, 3, 60, 27]
abbrev dktX2_begin_1 : List UInt8 := dkwX2_begin_1 ++ dktX2_begin_2
def dkwX2_begin_0 : List UInt8 := [42, 180, 0, 3, 180, 0, 31, 180, 0, 35, 3, 42, 180, 0, 15, 3, 16, 9, 184, 0, 38, 42]
abbrev dktX2_begin_0 : List UInt8 := dkwX2_begin_0 ++ dktX2_begin_1
theorem dksX2_begin_0 : cX2_begin.data.toList.drop 0 = dktX2_begin_0 := by decide +kernel
theorem dksX2_begin_1 : cX2_begin.data.toList.drop 22 = dktX2_begin_1 := dk_seg dksX2_begin_0 22 rfl rfl
theorem dksX2_begin_2 : cX2_begin.data.toList.drop 45 = dktX2_begin_2 := dk_seg dksX2_begin_1 23 rfl rfl
theorem dksX2_begin_3 : cX2_begin.data.toList.drop 69 = dktX2_begin_3 := dk_seg dksX2_begin_2 24 rfl rfl
theorem dksX2_begin_4 : cX2_begin.data.toList.drop 93 = dktX2_begin_4 := dk_seg dksX2_begin_3 24 rfl rfl
theorem dksX2_begin_5 : cX2_begin.data.toList.drop 117 = dktX2_begin_5 := dk_seg dksX2_begin_4 24 rfl rfl
theorem dX2_begin_0 : decode cX2_begin 0 = .ok (.aload_n 0, 1) := dk_42 (dk_at dksX2_begin_0 0 rfl rfl)
theorem dX2_begin_1 : decode cX2_begin 1 = .ok (.getfield 3, 3) := dk_180 0 3 (dk_at dksX2_begin_0 1 rfl rfl)
theorem dX2_begin_4 : decode cX2_begin 4 = .ok (.getfield 31, 3) := dk_180 0 31 (dk_at dksX2_begin_0 4 rfl rfl)
theorem dX2_begin_7 : decode cX2_begin 7 = .ok (.getfield 35, 3) := dk_180 0 35 (dk_at dksX2_begin_0 7 rfl rfl)
theorem dX2_begin_10 : decode cX2_begin 10 = .ok (.iconst 0, 1) := dk_3 (dk_at dksX2_begin_0 10 rfl rfl)
theorem dX2_begin_11 : decode cX2_begin 11 = .ok (.aload_n 0, 1) := dk_42 (dk_at dksX2_begin_0 11 rfl rfl)
theorem dX2_begin_12 : decode cX2_begin 12 = .ok (.getfield 15, 3) := dk_180 0 15 (dk_at dksX2_begin_0 12 rfl rfl)
theorem dX2_begin_15 : decode cX2_begin 15 = .ok (.iconst 0, 1) := dk_3 (dk_at dksX2_begin_0 15 rfl rfl)
theorem dX2_begin_16 : decode cX2_begin 16 = .ok (.bipush 9, 2) := dk_16 9 (dk_at dksX2_begin_0 16 rfl rfl)
theorem dX2_begin_18 : decode cX2_begin 18 = .ok (.invokestatic 38, 3) := dk_184 0 38 (dk_at dksX2_begin_0 18 rfl rfl)
theorem dX2_begin_21 : decode cX2_begin 21 = .ok (.aload_n 0, 1) := dk_42 (dk_at dksX2_begin_0 21 rfl rfl)
theorem dX2_begin_22 : decode cX2_begin 22 = .ok (.getfield 3, 3) := dk_180 0 3 (dk_at dksX2_begin_1 0 rfl rfl)
theorem dX2_begin_25 : decode cX2_begin 25 = .ok (.getfield 31, 3) := dk_180 0 31 (dk_at dksX2_begin_1 3 rfl rfl)
theorem dX2_begin_28 : decode cX2_begin 28 = .ok (.getfield 44, 3) := dk_180 0 44 (dk_at dksX2_begin_1 6 rfl rfl)
theorem dX2_begin_31 : decode cX2_begin 31 = .ok (.iconst 0, 1) := dk_3 (dk_at dksX2_begin_1 9 rfl rfl)
theorem dX2_begin_32 : decode cX2_begin 32 = .ok (.aload_n 0, 1) := dk_42 (dk_at dksX2_begin_1 10 rfl rfl)
theorem dX2_begin_33 : decode cX2_begin 33 = .ok (.getfield 19, 3) := dk_180 0 19 (dk_at dksX2_begin_1 11 rfl rfl)
theorem dX2_begin_36 : decode cX2_begin 36 = .ok (.iconst 0, 1) := dk_3 (dk_at dksX2_begin_1 14 rfl rfl)
theorem dX2_begin_37 : decode cX2_begin 37 = .ok (.bipush 9, 2) := dk_16 9 (dk_at dksX2_begin_1 15 rfl rfl)
theorem dX2_begin_39 : decode cX2_begin 39 = .ok (.invokestatic 38, 3) := dk_184 0 38 (dk_at dksX2_begin_1 17 rfl rfl)
theorem dX2_begin_42 : decode cX2_begin 42 = .ok (.iconst 0, 1) := dk_3 (dk_at dksX2_begin_1 20 rfl rfl)
theorem dX2_begin_43 : decode cX2_begin 43 = .ok (.istore_n 1, 1) := dk_60 (dk_at dksX2_begin_1 21 rfl rfl)
theorem dX2_begin_44 : decode cX2_begin 44 = .ok (.iload_n 1, 1) := dk_27 (dk_at dksX2_begin_1 22 rfl rfl)
theorem dX2_begin_45 : decode cX2_begin 45 = .ok (.bipush 9, 2) := dk_16 9 (dk_at dksX2_begin_2 0 rfl rfl)
theorem dX2_begin_47 : decode cX2_begin 47 = .ok (.if_icmp .ge 34, 3) := dk_162 0 34 (dk_at dksX2_begin_2 2 rfl rfl)
theorem dX2_begin_50 : decode cX2_begin 50 = .ok (.aload_n 0, 1) := dk_42 (dk_at dksX2_begin_2 5 rfl rfl)
theorem dX2_begin_51 : decode cX2_begin 51 = .ok (.getfield 22, 3) := dk_180 0 22 (dk_at dksX2_begin_2 6 rfl rfl)
theorem dX2_begin_54 : decode cX2_begin 54 = .ok (.iload_n 1, 1) := dk_27 (dk_at dksX2_begin_2 9 rfl rfl)
theorem dX2_begin_55 : decode cX2_begin 55 = .ok (.iload_n 1, 1) := dk_27 (dk_at dksX2_begin_2 10 rfl rfl)
theorem dX2_begin_56 : decode cX2_begin 56 = .ok (.aload_n 0, 1) := dk_42 (dk_at dksX2_begin_2 11 rfl rfl)
theorem dX2_begin_57 : decode cX2_begin 57 = .ok (.getfield 3, 3) := dk_180 0 3 (dk_at dksX2_begin_2 12 rfl rfl)
theorem dX2_begin_60 : decode cX2_begin 60 = .ok (.getfield 31, 3) := dk_180 0 31 (dk_at dksX2_begin_2 15 rfl rfl)
theorem dX2_begin_63 : decode cX2_begin 63 = .ok (.getfield 45, 3) := dk_180 0 45 (dk_at dksX2_begin_2 18 rfl rfl)
theorem dX2_begin_66 : decode cX2_begin 66 = .ok (.if_icmp .ge 7, 3) := dk_162 0 7 (dk_at dksX2_begin_2 21 rfl rfl)
theorem dX2_begin_69 : decode cX2_begin 69 = .ok (.iload_n 1, 1) := dk_27 (dk_at dksX2_begin_3 0 rfl rfl)
theorem dX2_begin_70 : decode cX2_begin 70 = .ok (.goto 4, 3) := dk_167 0 4 (dk_at dksX2_begin_3 1 rfl rfl)
theorem dX2_begin_73 : decode cX2_begin 73 = .ok (.iconst (-1), 1) := dk_2 (dk_at dksX2_begin_3 4 rfl rfl)
theorem dX2_begin_74 : decode cX2_begin 74 = .ok (.iastore, 1) := dk_79 (dk_at dksX2_begin_3 5 rfl rfl)
theorem dX2_begin_75 : decode cX2_begin 75 = .ok (.iinc 1 1, 3) := dk_132 1 1 (dk_at dksX2_begin_3 6 rfl rfl)
theorem dX2_begin_78 : decode cX2_begin 78 = .ok (.goto (-34), 3) := dk_167 255 222 (dk_at dksX2_begin_3 9 rfl rfl)
theorem dX2_begin_81 : decode cX2_begin 81 = .ok (.aload_n 0, 1) := dk_42 (dk_at dksX2_begin_3 12 rfl rfl)
theorem dX2_begin_82 : decode cX2_begin 82 = .ok (.getfield 25, 3) := dk_180 0 25 (dk_at dksX2_begin_3 13 rfl rfl)
theorem dX2_begin_85 : decode cX2_begin 85 = .ok (.iconst 0, 1) := dk_3 (dk_at dksX2_begin_3 16 rfl rfl)
theorem dX2_begin_86 : decode cX2_begin 86 = .ok (.invokestatic 49, 3) := dk_184 0 49 (dk_at dksX2_begin_3 17 rfl rfl)
theorem dX2_begin_89 : decode cX2_begin 89 = .ok (.aload_n 0, 1) := dk_42 (dk_at dksX2_begin_3 20 rfl rfl)
theorem dX2_begin_90 : decode cX2_begin 90 = .ok (.getfield 28, 3) := dk_180 0 28 (dk_at dksX2_begin_3 21 rfl rfl)
theorem dX2_begin_93 : decode cX2_begin 93 = .ok (.iconst (-1), 1) := dk_2 (dk_at dksX2_begin_4 0 rfl rfl)
theorem dX2_begin_94 : decode cX2_begin 94 = .ok (.invokestatic 49, 3) := dk_184 0 49 (dk_at dksX2_begin_4 1 rfl rfl)
theorem dX2_begin_97 : decode cX2_begin 97 = .ok (.aload_n 0, 1) := dk_42 (dk_at dksX2_begin_4 4 rfl rfl)
theorem dX2_begin_98 : decode cX2_begin 98 = .ok (.iconst 1, 1) := dk_4 (dk_at dksX2_begin_4 5 rfl rfl)
theorem dX2_begin_99 : decode cX2_begin 99 = .ok (.aload_n 0, 1) := dk_42 (dk_at dksX2_begin_4 6 rfl rfl)
theorem dX2_begin_100 : decode cX2_begin 100 = .ok (.getfield 3, 3) := dk_180 0 3 (dk_at dksX2_begin_4 7 rfl rfl)
theorem dX2_begin_103 : decode cX2_begin 103 = .ok (.getfield 31, 3) := dk_180 0 31 (dk_at dksX2_begin_4 10 rfl rfl)
theorem dX2_begin_106 : decode cX2_begin 106 = .ok (.getfield 45, 3) := dk_180 0 45 (dk_at dksX2_begin_4 13 rfl rfl)
theorem dX2_begin_109 : decode cX2_begin 109 = .ok (.ishl, 1) := dk_120 (dk_at dksX2_begin_4 16 rfl rfl)
theorem dX2_begin_110 : decode cX2_begin 110 = .ok (.iconst 1, 1) := dk_4 (dk_at dksX2_begin_4 17 rfl rfl)
theorem dX2_begin_111 : decode cX2_begin 111 = .ok (.isub, 1) := dk_100 (dk_at dksX2_begin_4 18 rfl rfl)
theorem dX2_begin_112 : decode cX2_begin 112 = .ok (.putfield 55, 3) := dk_181 0 55 (dk_at dksX2_begin_4 19 rfl rfl)
theorem dX2_begin_115 : decode cX2_begin 115 = .ok (.aload_n 0, 1) := dk_42 (dk_at dksX2_begin_4 22 rfl rfl)
theorem dX2_begin_116 : decode cX2_begin 116 = .ok (.iconst 0, 1) := dk_3 (dk_at dksX2_begin_4 23 rfl rfl)
theorem dX2_begin_117 : decode cX2_begin 117 = .ok (.putfield 58, 3) := dk_181 0 58 (dk_at dksX2_begin_5 0 rfl rfl)
theorem dX2_begin_120 : decode cX2_begin 120 = .ok (.aload_n 0, 1) := dk_42 (dk_at dksX2_begin_5 3 rfl rfl)
theorem dX2_begin_121 : decode cX2_begin 121 = .ok (.iconst 0, 1) := dk_3 (dk_at dksX2_begin_5 4 rfl rfl)
theorem dX2_begin_122 : decode cX2_begin 122 = .ok (.putfield 61, 3) := dk_181 0 61 (dk_at dksX2_begin_5 5 rfl rfl)
theorem dX2_begin_125 : decode cX2_begin 125 = .ok (.return_, 1) := dk_177 (dk_at dksX2_begin_5 8 rfl rfl)
abbrev cX2_set : ByteArray := prog_10_method_3_code
def yX2_set : MethodName := ⟨RX2, "set", "(LSkittleGentry$State;)V"⟩
def dkwX2_set_4 : List UInt8 := [180, 0, 61, 181, 0, 61, 42, 43, 180, 0, 64, 181, 0, 64, 177]
abbrev dktX2_set_4 : List UInt8 := dkwX2_set_4 ++ []
def dkwX2_set_3 : List UInt8 := [16, 9, 184, 0, 38, 42, 43, 180, 0, 55, 181, 0, 55, 42, 43, 180, 0, 58, 181, 0, 58, 42, 43]
abbrev dktX2_set_3 : List UInt8 := dkwX2_set_3 ++ dktX2_set_4
def dkwX2_set_2 : List UInt8 := [180, 0, 25, 3, 42, 180, 0, 25, 3, 16, 9, 184, 0, 38, 43, 180, 0, 28, 3, 42, 180, 0, 28, 3]
abbrev dktX2_set_2 : List UInt8 := dkwX2_set_2 ++ dktX2_set_3
def dkwX2_set_1 : List UInt8 := [3, 16, 9, 184, 0, 38, 43, 180, 0, 22, 3, 42, 180, 0, 22, 3, 16, 9, 184, 0, 38, 43]
abbrev dktX2_set_1 : List UInt8 := dkwX2_set_1 ++ dktX2_set_2
def dkwX2_set_0 : List UInt8 := [43, 180, 0, 15, 3, 42, 180, 0, 15, 3, 16, 9, 184, 0, 38, 43, 180, 0, 19, 3, 42, 180, 0, 19]
abbrev dktX2_set_0 : List UInt8 := dkwX2_set_0 ++ dktX2_set_1
theorem dksX2_set_0 : cX2_set.data.toList.drop 0 = dktX2_set_0 := by decide +kernel
theorem dksX2_set_1 : cX2_set.data.toList.drop 24 = dktX2_set_1 := dk_seg dksX2_set_0 24 rfl rfl
theorem dksX2_set_2 : cX2_set.data.toList.drop 46 = dktX2_set_2 := dk_seg dksX2_set_1 22 rfl rfl
theorem dksX2_set_3 : cX2_set.data.toList.drop 70 = dktX2_set_3 := dk_seg dksX2_set_2 24 rfl rfl
theorem dksX2_set_4 : cX2_set.data.toList.drop 93 = dktX2_set_4 := dk_seg dksX2_set_3 23 rfl rfl
theorem dX2_set_0 : decode cX2_set 0 = .ok (.aload_n 1, 1) := dk_43 (dk_at dksX2_set_0 0 rfl rfl)
theorem dX2_set_1 : decode cX2_set 1 = .ok (.getfield 15, 3) := dk_180 0 15 (dk_at dksX2_set_0 1 rfl rfl)
theorem dX2_set_4 : decode cX2_set 4 = .ok (.iconst 0, 1) := dk_3 (dk_at dksX2_set_0 4 rfl rfl)
theorem dX2_set_5 : decode cX2_set 5 = .ok (.aload_n 0, 1) := dk_42 (dk_at dksX2_set_0 5 rfl rfl)
theorem dX2_set_6 : decode cX2_set 6 = .ok (.getfield 15, 3) := dk_180 0 15 (dk_at dksX2_set_0 6 rfl rfl)
theorem dX2_set_9 : decode cX2_set 9 = .ok (.iconst 0, 1) := dk_3 (dk_at dksX2_set_0 9 rfl rfl)
theorem dX2_set_10 : decode cX2_set 10 = .ok (.bipush 9, 2) := dk_16 9 (dk_at dksX2_set_0 10 rfl rfl)
theorem dX2_set_12 : decode cX2_set 12 = .ok (.invokestatic 38, 3) := dk_184 0 38 (dk_at dksX2_set_0 12 rfl rfl)
theorem dX2_set_15 : decode cX2_set 15 = .ok (.aload_n 1, 1) := dk_43 (dk_at dksX2_set_0 15 rfl rfl)
theorem dX2_set_16 : decode cX2_set 16 = .ok (.getfield 19, 3) := dk_180 0 19 (dk_at dksX2_set_0 16 rfl rfl)
theorem dX2_set_19 : decode cX2_set 19 = .ok (.iconst 0, 1) := dk_3 (dk_at dksX2_set_0 19 rfl rfl)
theorem dX2_set_20 : decode cX2_set 20 = .ok (.aload_n 0, 1) := dk_42 (dk_at dksX2_set_0 20 rfl rfl)
theorem dX2_set_21 : decode cX2_set 21 = .ok (.getfield 19, 3) := dk_180 0 19 (dk_at dksX2_set_0 21 rfl rfl)
theorem dX2_set_24 : decode cX2_set 24 = .ok (.iconst 0, 1) := dk_3 (dk_at dksX2_set_1 0 rfl rfl)
theorem dX2_set_25 : decode cX2_set 25 = .ok (.bipush 9, 2) := dk_16 9 (dk_at dksX2_set_1 1 rfl rfl)
theorem dX2_set_27 : decode cX2_set 27 = .ok (.invokestatic 38, 3) := dk_184 0 38 (dk_at dksX2_set_1 3 rfl rfl)
theorem dX2_set_30 : decode cX2_set 30 = .ok (.aload_n 1, 1) := dk_43 (dk_at dksX2_set_1 6 rfl rfl)
theorem dX2_set_31 : decode cX2_set 31 = .ok (.getfield 22, 3) := dk_180 0 22 (dk_at dksX2_set_1 7 rfl rfl)
theorem dX2_set_34 : decode cX2_set 34 = .ok (.iconst 0, 1) := dk_3 (dk_at dksX2_set_1 10 rfl rfl)
theorem dX2_set_35 : decode cX2_set 35 = .ok (.aload_n 0, 1) := dk_42 (dk_at dksX2_set_1 11 rfl rfl)
theorem dX2_set_36 : decode cX2_set 36 = .ok (.getfield 22, 3) := dk_180 0 22 (dk_at dksX2_set_1 12 rfl rfl)
theorem dX2_set_39 : decode cX2_set 39 = .ok (.iconst 0, 1) := dk_3 (dk_at dksX2_set_1 15 rfl rfl)
theorem dX2_set_40 : decode cX2_set 40 = .ok (.bipush 9, 2) := dk_16 9 (dk_at dksX2_set_1 16 rfl rfl)
theorem dX2_set_42 : decode cX2_set 42 = .ok (.invokestatic 38, 3) := dk_184 0 38 (dk_at dksX2_set_1 18 rfl rfl)
theorem dX2_set_45 : decode cX2_set 45 = .ok (.aload_n 1, 1) := dk_43 (dk_at dksX2_set_1 21 rfl rfl)
theorem dX2_set_46 : decode cX2_set 46 = .ok (.getfield 25, 3) := dk_180 0 25 (dk_at dksX2_set_2 0 rfl rfl)
theorem dX2_set_49 : decode cX2_set 49 = .ok (.iconst 0, 1) := dk_3 (dk_at dksX2_set_2 3 rfl rfl)
theorem dX2_set_50 : decode cX2_set 50 = .ok (.aload_n 0, 1) := dk_42 (dk_at dksX2_set_2 4 rfl rfl)
theorem dX2_set_51 : decode cX2_set 51 = .ok (.getfield 25, 3) := dk_180 0 25 (dk_at dksX2_set_2 5 rfl rfl)
theorem dX2_set_54 : decode cX2_set 54 = .ok (.iconst 0, 1) := dk_3 (dk_at dksX2_set_2 8 rfl rfl)
theorem dX2_set_55 : decode cX2_set 55 = .ok (.bipush 9, 2) := dk_16 9 (dk_at dksX2_set_2 9 rfl rfl)
theorem dX2_set_57 : decode cX2_set 57 = .ok (.invokestatic 38, 3) := dk_184 0 38 (dk_at dksX2_set_2 11 rfl rfl)
theorem dX2_set_60 : decode cX2_set 60 = .ok (.aload_n 1, 1) := dk_43 (dk_at dksX2_set_2 14 rfl rfl)
theorem dX2_set_61 : decode cX2_set 61 = .ok (.getfield 28, 3) := dk_180 0 28 (dk_at dksX2_set_2 15 rfl rfl)
theorem dX2_set_64 : decode cX2_set 64 = .ok (.iconst 0, 1) := dk_3 (dk_at dksX2_set_2 18 rfl rfl)
theorem dX2_set_65 : decode cX2_set 65 = .ok (.aload_n 0, 1) := dk_42 (dk_at dksX2_set_2 19 rfl rfl)
theorem dX2_set_66 : decode cX2_set 66 = .ok (.getfield 28, 3) := dk_180 0 28 (dk_at dksX2_set_2 20 rfl rfl)
theorem dX2_set_69 : decode cX2_set 69 = .ok (.iconst 0, 1) := dk_3 (dk_at dksX2_set_2 23 rfl rfl)
theorem dX2_set_70 : decode cX2_set 70 = .ok (.bipush 9, 2) := dk_16 9 (dk_at dksX2_set_3 0 rfl rfl)
theorem dX2_set_72 : decode cX2_set 72 = .ok (.invokestatic 38, 3) := dk_184 0 38 (dk_at dksX2_set_3 2 rfl rfl)
theorem dX2_set_75 : decode cX2_set 75 = .ok (.aload_n 0, 1) := dk_42 (dk_at dksX2_set_3 5 rfl rfl)
theorem dX2_set_76 : decode cX2_set 76 = .ok (.aload_n 1, 1) := dk_43 (dk_at dksX2_set_3 6 rfl rfl)
theorem dX2_set_77 : decode cX2_set 77 = .ok (.getfield 55, 3) := dk_180 0 55 (dk_at dksX2_set_3 7 rfl rfl)
theorem dX2_set_80 : decode cX2_set 80 = .ok (.putfield 55, 3) := dk_181 0 55 (dk_at dksX2_set_3 10 rfl rfl)
theorem dX2_set_83 : decode cX2_set 83 = .ok (.aload_n 0, 1) := dk_42 (dk_at dksX2_set_3 13 rfl rfl)
theorem dX2_set_84 : decode cX2_set 84 = .ok (.aload_n 1, 1) := dk_43 (dk_at dksX2_set_3 14 rfl rfl)
theorem dX2_set_85 : decode cX2_set 85 = .ok (.getfield 58, 3) := dk_180 0 58 (dk_at dksX2_set_3 15 rfl rfl)
theorem dX2_set_88 : decode cX2_set 88 = .ok (.putfield 58, 3) := dk_181 0 58 (dk_at dksX2_set_3 18 rfl rfl)
theorem dX2_set_91 : decode cX2_set 91 = .ok (.aload_n 0, 1) := dk_42 (dk_at dksX2_set_3 21 rfl rfl)
theorem dX2_set_92 : decode cX2_set 92 = .ok (.aload_n 1, 1) := dk_43 (dk_at dksX2_set_3 22 rfl rfl)
theorem dX2_set_93 : decode cX2_set 93 = .ok (.getfield 61, 3) := dk_180 0 61 (dk_at dksX2_set_4 0 rfl rfl)
theorem dX2_set_96 : decode cX2_set 96 = .ok (.putfield 61, 3) := dk_181 0 61 (dk_at dksX2_set_4 3 rfl rfl)
theorem dX2_set_99 : decode cX2_set 99 = .ok (.aload_n 0, 1) := dk_42 (dk_at dksX2_set_4 6 rfl rfl)
theorem dX2_set_100 : decode cX2_set 100 = .ok (.aload_n 1, 1) := dk_43 (dk_at dksX2_set_4 7 rfl rfl)
theorem dX2_set_101 : decode cX2_set 101 = .ok (.getfield 64, 3) := dk_180 0 64 (dk_at dksX2_set_4 8 rfl rfl)
theorem dX2_set_104 : decode cX2_set 104 = .ok (.putfield 64, 3) := dk_181 0 64 (dk_at dksX2_set_4 11 rfl rfl)
theorem dX2_set_107 : decode cX2_set 107 = .ok (.return_, 1) := dk_177 (dk_at dksX2_set_4 14 rfl rfl)
abbrev cX2_rollBall : ByteArray := prog_10_method_11_code
def yX2_rollBall : MethodName := ⟨RX2, "rollBall", "(I)I"⟩
def dkwX2_rollBall_0 : List UInt8 := [42, 27, 17, 3, 232, 108, 27, 17, 3, 232, 112, 16, 100, 108, 27, 16, 100, 112, 182, 0, 135, 172]
abbrev dktX2_rollBall_0 : List UInt8 := dkwX2_rollBall_0 ++ []
theorem dksX2_rollBall_0 : cX2_rollBall.data.toList.drop 0 = dktX2_rollBall_0 := by decide +kernel
theorem dX2_rollBall_0 : decode cX2_rollBall 0 = .ok (.aload_n 0, 1) := dk_42 (dk_at dksX2_rollBall_0 0 rfl rfl)
theorem dX2_rollBall_1 : decode cX2_rollBall 1 = .ok (.iload_n 1, 1) := dk_27 (dk_at dksX2_rollBall_0 1 rfl rfl)
theorem dX2_rollBall_2 : decode cX2_rollBall 2 = .ok (.sipush 1000, 3) := dk_17 3 232 (dk_at dksX2_rollBall_0 2 rfl rfl)
theorem dX2_rollBall_5 : decode cX2_rollBall 5 = .ok (.idiv, 1) := dk_108 (dk_at dksX2_rollBall_0 5 rfl rfl)
theorem dX2_rollBall_6 : decode cX2_rollBall 6 = .ok (.iload_n 1, 1) := dk_27 (dk_at dksX2_rollBall_0 6 rfl rfl)
theorem dX2_rollBall_7 : decode cX2_rollBall 7 = .ok (.sipush 1000, 3) := dk_17 3 232 (dk_at dksX2_rollBall_0 7 rfl rfl)
theorem dX2_rollBall_10 : decode cX2_rollBall 10 = .ok (.irem, 1) := dk_112 (dk_at dksX2_rollBall_0 10 rfl rfl)
theorem dX2_rollBall_11 : decode cX2_rollBall 11 = .ok (.bipush 100, 2) := dk_16 100 (dk_at dksX2_rollBall_0 11 rfl rfl)
theorem dX2_rollBall_13 : decode cX2_rollBall 13 = .ok (.idiv, 1) := dk_108 (dk_at dksX2_rollBall_0 13 rfl rfl)
theorem dX2_rollBall_14 : decode cX2_rollBall 14 = .ok (.iload_n 1, 1) := dk_27 (dk_at dksX2_rollBall_0 14 rfl rfl)
theorem dX2_rollBall_15 : decode cX2_rollBall 15 = .ok (.bipush 100, 2) := dk_16 100 (dk_at dksX2_rollBall_0 15 rfl rfl)
theorem dX2_rollBall_17 : decode cX2_rollBall 17 = .ok (.irem, 1) := dk_112 (dk_at dksX2_rollBall_0 17 rfl rfl)
theorem dX2_rollBall_18 : decode cX2_rollBall 18 = .ok (.invokevirtual 135, 3) := dk_182 0 135 (dk_at dksX2_rollBall_0 18 rfl rfl)
theorem dX2_rollBall_21 : decode cX2_rollBall 21 = .ok (.ireturn, 1) := dk_172 (dk_at dksX2_rollBall_0 21 rfl rfl)
abbrev cX2_roll : ByteArray := prog_10_method_10_code
def yX2_roll : MethodName := ⟨RX2, "roll", "(III)I"⟩
def dkwX2_roll_6 : List UInt8 := [167, 255, 136, 21, 4, 42, 180, 0, 55, 2, 130, 126, 172]
abbrev dktX2_roll_6 : List UInt8 := dkwX2_roll_6 ++ []
def dkwX2_roll_5 : List UInt8 := [42, 21, 8, 153, 0, 8, 21, 5, 157, 0, 8, 21, 6, 167, 0, 4, 2, 181, 0, 129, 132, 6, 1]
abbrev dktX2_roll_5 : List UInt8 := dkwX2_roll_5 ++ dktX2_roll_6
def dkwX2_roll_4 : List UInt8 := [5, 108, 4, 96, 100, 54, 5, 21, 5, 42, 180, 0, 3, 180, 0, 31, 180, 0, 132, 6, 108, 100, 54, 5]
abbrev dktX2_roll_4 : List UInt8 := dkwX2_roll_4 ++ dktX2_roll_5
def dkwX2_roll_3 : List UInt8 := [167, 0, 4, 3, 54, 8, 21, 5, 21, 7, 2, 160, 0, 7, 3, 167, 0, 13, 42, 21, 7, 182, 0, 107]
abbrev dktX2_roll_3 : List UInt8 := dkwX2_roll_3 ++ dktX2_roll_4
def dkwX2_roll_2 : List UInt8 := [182, 0, 122, 54, 7, 21, 7, 2, 159, 0, 15, 42, 21, 7, 21, 5, 2, 182, 0, 125, 153, 0, 7, 4]
abbrev dktX2_roll_2 : List UInt8 := dkwX2_roll_2 ++ dktX2_roll_3
def dkwX2_roll_1 : List UInt8 := [8, 162, 0, 120, 42, 180, 0, 129, 2, 160, 0, 112, 42, 21, 6, 27, 28, 4, 100, 21, 6, 104, 96]
abbrev dktX2_roll_1 : List UInt8 := dkwX2_roll_1 ++ dktX2_roll_2
def dkwX2_roll_0 : List UInt8 := [42, 180, 0, 55, 54, 4, 29, 54, 5, 42, 3, 181, 0, 116, 42, 2, 181, 0, 129, 3, 54, 6, 21, 6]
abbrev dktX2_roll_0 : List UInt8 := dkwX2_roll_0 ++ dktX2_roll_1
theorem dksX2_roll_0 : cX2_roll.data.toList.drop 0 = dktX2_roll_0 := by decide +kernel
theorem dksX2_roll_1 : cX2_roll.data.toList.drop 24 = dktX2_roll_1 := dk_seg dksX2_roll_0 24 rfl rfl
theorem dksX2_roll_2 : cX2_roll.data.toList.drop 47 = dktX2_roll_2 := dk_seg dksX2_roll_1 23 rfl rfl
theorem dksX2_roll_3 : cX2_roll.data.toList.drop 71 = dktX2_roll_3 := dk_seg dksX2_roll_2 24 rfl rfl
theorem dksX2_roll_4 : cX2_roll.data.toList.drop 95 = dktX2_roll_4 := dk_seg dksX2_roll_3 24 rfl rfl
theorem dksX2_roll_5 : cX2_roll.data.toList.drop 119 = dktX2_roll_5 := dk_seg dksX2_roll_4 24 rfl rfl
theorem dksX2_roll_6 : cX2_roll.data.toList.drop 142 = dktX2_roll_6 := dk_seg dksX2_roll_5 23 rfl rfl
theorem dX2_roll_0 : decode cX2_roll 0 = .ok (.aload_n 0, 1) := dk_42 (dk_at dksX2_roll_0 0 rfl rfl)
theorem dX2_roll_1 : decode cX2_roll 1 = .ok (.getfield 55, 3) := dk_180 0 55 (dk_at dksX2_roll_0 1 rfl rfl)
theorem dX2_roll_4 : decode cX2_roll 4 = .ok (.istore 4, 2) := dk_54 4 (dk_at dksX2_roll_0 4 rfl rfl)
theorem dX2_roll_6 : decode cX2_roll 6 = .ok (.iload_n 3, 1) := dk_29 (dk_at dksX2_roll_0 6 rfl rfl)
theorem dX2_roll_7 : decode cX2_roll 7 = .ok (.istore 5, 2) := dk_54 5 (dk_at dksX2_roll_0 7 rfl rfl)
theorem dX2_roll_9 : decode cX2_roll 9 = .ok (.aload_n 0, 1) := dk_42 (dk_at dksX2_roll_0 9 rfl rfl)
theorem dX2_roll_10 : decode cX2_roll 10 = .ok (.iconst 0, 1) := dk_3 (dk_at dksX2_roll_0 10 rfl rfl)
theorem dX2_roll_11 : decode cX2_roll 11 = .ok (.putfield 116, 3) := dk_181 0 116 (dk_at dksX2_roll_0 11 rfl rfl)
theorem dX2_roll_14 : decode cX2_roll 14 = .ok (.aload_n 0, 1) := dk_42 (dk_at dksX2_roll_0 14 rfl rfl)
theorem dX2_roll_15 : decode cX2_roll 15 = .ok (.iconst (-1), 1) := dk_2 (dk_at dksX2_roll_0 15 rfl rfl)
theorem dX2_roll_16 : decode cX2_roll 16 = .ok (.putfield 129, 3) := dk_181 0 129 (dk_at dksX2_roll_0 16 rfl rfl)
theorem dX2_roll_19 : decode cX2_roll 19 = .ok (.iconst 0, 1) := dk_3 (dk_at dksX2_roll_0 19 rfl rfl)
theorem dX2_roll_20 : decode cX2_roll 20 = .ok (.istore 6, 2) := dk_54 6 (dk_at dksX2_roll_0 20 rfl rfl)
theorem dX2_roll_22 : decode cX2_roll 22 = .ok (.iload 6, 2) := dk_21 6 (dk_at dksX2_roll_0 22 rfl rfl)
theorem dX2_roll_24 : decode cX2_roll 24 = .ok (.iconst 5, 1) := dk_8 (dk_at dksX2_roll_1 0 rfl rfl)
theorem dX2_roll_25 : decode cX2_roll 25 = .ok (.if_icmp .ge 120, 3) := dk_162 0 120 (dk_at dksX2_roll_1 1 rfl rfl)
theorem dX2_roll_28 : decode cX2_roll 28 = .ok (.aload_n 0, 1) := dk_42 (dk_at dksX2_roll_1 4 rfl rfl)
theorem dX2_roll_29 : decode cX2_roll 29 = .ok (.getfield 129, 3) := dk_180 0 129 (dk_at dksX2_roll_1 5 rfl rfl)
theorem dX2_roll_32 : decode cX2_roll 32 = .ok (.iconst (-1), 1) := dk_2 (dk_at dksX2_roll_1 8 rfl rfl)
theorem dX2_roll_33 : decode cX2_roll 33 = .ok (.if_icmp .ne 112, 3) := dk_160 0 112 (dk_at dksX2_roll_1 9 rfl rfl)
theorem dX2_roll_36 : decode cX2_roll 36 = .ok (.aload_n 0, 1) := dk_42 (dk_at dksX2_roll_1 12 rfl rfl)
theorem dX2_roll_37 : decode cX2_roll 37 = .ok (.iload 6, 2) := dk_21 6 (dk_at dksX2_roll_1 13 rfl rfl)
theorem dX2_roll_39 : decode cX2_roll 39 = .ok (.iload_n 1, 1) := dk_27 (dk_at dksX2_roll_1 15 rfl rfl)
theorem dX2_roll_40 : decode cX2_roll 40 = .ok (.iload_n 2, 1) := dk_28 (dk_at dksX2_roll_1 16 rfl rfl)
theorem dX2_roll_41 : decode cX2_roll 41 = .ok (.iconst 1, 1) := dk_4 (dk_at dksX2_roll_1 17 rfl rfl)
theorem dX2_roll_42 : decode cX2_roll 42 = .ok (.isub, 1) := dk_100 (dk_at dksX2_roll_1 18 rfl rfl)
theorem dX2_roll_43 : decode cX2_roll 43 = .ok (.iload 6, 2) := dk_21 6 (dk_at dksX2_roll_1 19 rfl rfl)
theorem dX2_roll_45 : decode cX2_roll 45 = .ok (.imul, 1) := dk_104 (dk_at dksX2_roll_1 21 rfl rfl)
theorem dX2_roll_46 : decode cX2_roll 46 = .ok (.iadd, 1) := dk_96 (dk_at dksX2_roll_1 22 rfl rfl)
theorem dX2_roll_47 : decode cX2_roll 47 = .ok (.invokevirtual 122, 3) := dk_182 0 122 (dk_at dksX2_roll_2 0 rfl rfl)
theorem dX2_roll_50 : decode cX2_roll 50 = .ok (.istore 7, 2) := dk_54 7 (dk_at dksX2_roll_2 3 rfl rfl)
theorem dX2_roll_52 : decode cX2_roll 52 = .ok (.iload 7, 2) := dk_21 7 (dk_at dksX2_roll_2 5 rfl rfl)
theorem dX2_roll_54 : decode cX2_roll 54 = .ok (.iconst (-1), 1) := dk_2 (dk_at dksX2_roll_2 7 rfl rfl)
theorem dX2_roll_55 : decode cX2_roll 55 = .ok (.if_icmp .eq 15, 3) := dk_159 0 15 (dk_at dksX2_roll_2 8 rfl rfl)
theorem dX2_roll_58 : decode cX2_roll 58 = .ok (.aload_n 0, 1) := dk_42 (dk_at dksX2_roll_2 11 rfl rfl)
theorem dX2_roll_59 : decode cX2_roll 59 = .ok (.iload 7, 2) := dk_21 7 (dk_at dksX2_roll_2 12 rfl rfl)
theorem dX2_roll_61 : decode cX2_roll 61 = .ok (.iload 5, 2) := dk_21 5 (dk_at dksX2_roll_2 14 rfl rfl)
theorem dX2_roll_63 : decode cX2_roll 63 = .ok (.iconst (-1), 1) := dk_2 (dk_at dksX2_roll_2 16 rfl rfl)
theorem dX2_roll_64 : decode cX2_roll 64 = .ok (.invokevirtual 125, 3) := dk_182 0 125 (dk_at dksX2_roll_2 17 rfl rfl)
theorem dX2_roll_67 : decode cX2_roll 67 = .ok (.ifCond .eq 7, 3) := dk_153 0 7 (dk_at dksX2_roll_2 20 rfl rfl)
theorem dX2_roll_70 : decode cX2_roll 70 = .ok (.iconst 1, 1) := dk_4 (dk_at dksX2_roll_2 23 rfl rfl)
theorem dX2_roll_71 : decode cX2_roll 71 = .ok (.goto 4, 3) := dk_167 0 4 (dk_at dksX2_roll_3 0 rfl rfl)
theorem dX2_roll_74 : decode cX2_roll 74 = .ok (.iconst 0, 1) := dk_3 (dk_at dksX2_roll_3 3 rfl rfl)
theorem dX2_roll_75 : decode cX2_roll 75 = .ok (.istore 8, 2) := dk_54 8 (dk_at dksX2_roll_3 4 rfl rfl)
theorem dX2_roll_77 : decode cX2_roll 77 = .ok (.iload 5, 2) := dk_21 5 (dk_at dksX2_roll_3 6 rfl rfl)
theorem dX2_roll_79 : decode cX2_roll 79 = .ok (.iload 7, 2) := dk_21 7 (dk_at dksX2_roll_3 8 rfl rfl)
theorem dX2_roll_81 : decode cX2_roll 81 = .ok (.iconst (-1), 1) := dk_2 (dk_at dksX2_roll_3 10 rfl rfl)
theorem dX2_roll_82 : decode cX2_roll 82 = .ok (.if_icmp .ne 7, 3) := dk_160 0 7 (dk_at dksX2_roll_3 11 rfl rfl)
theorem dX2_roll_85 : decode cX2_roll 85 = .ok (.iconst 0, 1) := dk_3 (dk_at dksX2_roll_3 14 rfl rfl)
theorem dX2_roll_86 : decode cX2_roll 86 = .ok (.goto 13, 3) := dk_167 0 13 (dk_at dksX2_roll_3 15 rfl rfl)
theorem dX2_roll_89 : decode cX2_roll 89 = .ok (.aload_n 0, 1) := dk_42 (dk_at dksX2_roll_3 18 rfl rfl)
theorem dX2_roll_90 : decode cX2_roll 90 = .ok (.iload 7, 2) := dk_21 7 (dk_at dksX2_roll_3 19 rfl rfl)
theorem dX2_roll_92 : decode cX2_roll 92 = .ok (.invokevirtual 107, 3) := dk_182 0 107 (dk_at dksX2_roll_3 21 rfl rfl)
theorem dX2_roll_95 : decode cX2_roll 95 = .ok (.iconst 2, 1) := dk_5 (dk_at dksX2_roll_4 0 rfl rfl)
theorem dX2_roll_96 : decode cX2_roll 96 = .ok (.idiv, 1) := dk_108 (dk_at dksX2_roll_4 1 rfl rfl)
theorem dX2_roll_97 : decode cX2_roll 97 = .ok (.iconst 1, 1) := dk_4 (dk_at dksX2_roll_4 2 rfl rfl)
theorem dX2_roll_98 : decode cX2_roll 98 = .ok (.iadd, 1) := dk_96 (dk_at dksX2_roll_4 3 rfl rfl)
theorem dX2_roll_99 : decode cX2_roll 99 = .ok (.isub, 1) := dk_100 (dk_at dksX2_roll_4 4 rfl rfl)
theorem dX2_roll_100 : decode cX2_roll 100 = .ok (.istore 5, 2) := dk_54 5 (dk_at dksX2_roll_4 5 rfl rfl)
theorem dX2_roll_102 : decode cX2_roll 102 = .ok (.iload 5, 2) := dk_21 5 (dk_at dksX2_roll_4 7 rfl rfl)
theorem dX2_roll_104 : decode cX2_roll 104 = .ok (.aload_n 0, 1) := dk_42 (dk_at dksX2_roll_4 9 rfl rfl)
theorem dX2_roll_105 : decode cX2_roll 105 = .ok (.getfield 3, 3) := dk_180 0 3 (dk_at dksX2_roll_4 10 rfl rfl)
theorem dX2_roll_108 : decode cX2_roll 108 = .ok (.getfield 31, 3) := dk_180 0 31 (dk_at dksX2_roll_4 13 rfl rfl)
theorem dX2_roll_111 : decode cX2_roll 111 = .ok (.getfield 132, 3) := dk_180 0 132 (dk_at dksX2_roll_4 16 rfl rfl)
theorem dX2_roll_114 : decode cX2_roll 114 = .ok (.iconst 3, 1) := dk_6 (dk_at dksX2_roll_4 19 rfl rfl)
theorem dX2_roll_115 : decode cX2_roll 115 = .ok (.idiv, 1) := dk_108 (dk_at dksX2_roll_4 20 rfl rfl)
theorem dX2_roll_116 : decode cX2_roll 116 = .ok (.isub, 1) := dk_100 (dk_at dksX2_roll_4 21 rfl rfl)
theorem dX2_roll_117 : decode cX2_roll 117 = .ok (.istore 5, 2) := dk_54 5 (dk_at dksX2_roll_4 22 rfl rfl)
theorem dX2_roll_119 : decode cX2_roll 119 = .ok (.aload_n 0, 1) := dk_42 (dk_at dksX2_roll_5 0 rfl rfl)
theorem dX2_roll_120 : decode cX2_roll 120 = .ok (.iload 8, 2) := dk_21 8 (dk_at dksX2_roll_5 1 rfl rfl)
theorem dX2_roll_122 : decode cX2_roll 122 = .ok (.ifCond .eq 8, 3) := dk_153 0 8 (dk_at dksX2_roll_5 3 rfl rfl)
theorem dX2_roll_125 : decode cX2_roll 125 = .ok (.iload 5, 2) := dk_21 5 (dk_at dksX2_roll_5 6 rfl rfl)
theorem dX2_roll_127 : decode cX2_roll 127 = .ok (.ifCond .gt 8, 3) := dk_157 0 8 (dk_at dksX2_roll_5 8 rfl rfl)
theorem dX2_roll_130 : decode cX2_roll 130 = .ok (.iload 6, 2) := dk_21 6 (dk_at dksX2_roll_5 11 rfl rfl)
theorem dX2_roll_132 : decode cX2_roll 132 = .ok (.goto 4, 3) := dk_167 0 4 (dk_at dksX2_roll_5 13 rfl rfl)
theorem dX2_roll_135 : decode cX2_roll 135 = .ok (.iconst (-1), 1) := dk_2 (dk_at dksX2_roll_5 16 rfl rfl)
theorem dX2_roll_136 : decode cX2_roll 136 = .ok (.putfield 129, 3) := dk_181 0 129 (dk_at dksX2_roll_5 17 rfl rfl)
theorem dX2_roll_139 : decode cX2_roll 139 = .ok (.iinc 6 1, 3) := dk_132 6 1 (dk_at dksX2_roll_5 20 rfl rfl)
theorem dX2_roll_142 : decode cX2_roll 142 = .ok (.goto (-120), 3) := dk_167 255 136 (dk_at dksX2_roll_6 0 rfl rfl)
theorem dX2_roll_145 : decode cX2_roll 145 = .ok (.iload 4, 2) := dk_21 4 (dk_at dksX2_roll_6 3 rfl rfl)
theorem dX2_roll_147 : decode cX2_roll 147 = .ok (.aload_n 0, 1) := dk_42 (dk_at dksX2_roll_6 5 rfl rfl)
theorem dX2_roll_148 : decode cX2_roll 148 = .ok (.getfield 55, 3) := dk_180 0 55 (dk_at dksX2_roll_6 6 rfl rfl)
theorem dX2_roll_151 : decode cX2_roll 151 = .ok (.iconst (-1), 1) := dk_2 (dk_at dksX2_roll_6 9 rfl rfl)
theorem dX2_roll_152 : decode cX2_roll 152 = .ok (.ixor, 1) := dk_130 (dk_at dksX2_roll_6 10 rfl rfl)
theorem dX2_roll_153 : decode cX2_roll 153 = .ok (.iand, 1) := dk_126 (dk_at dksX2_roll_6 11 rfl rfl)
theorem dX2_roll_154 : decode cX2_roll 154 = .ok (.ireturn, 1) := dk_172 (dk_at dksX2_roll_6 12 rfl rfl)
abbrev cX2_standingAt : ByteArray := prog_10_method_7_code
def yX2_standingAt : MethodName := ⟨RX2, "standingAt", "(II)I"⟩
def dkwX2_standingAt_1 : List UInt8 := [2, 159, 0, 20, 42, 180, 0, 55, 21, 4, 184, 0, 103, 153, 0, 8, 21, 4, 167, 0, 4, 2, 172]
abbrev dktX2_standingAt_1 : List UInt8 := dkwX2_standingAt_1 ++ []
def dkwX2_standingAt_0 : List UInt8 := [27, 28, 184, 0, 97, 62, 29, 2, 160, 0, 7, 2, 167, 0, 8, 42, 29, 182, 0, 100, 54, 4, 21, 4]
abbrev dktX2_standingAt_0 : List UInt8 := dkwX2_standingAt_0 ++ dktX2_standingAt_1
theorem dksX2_standingAt_0 : cX2_standingAt.data.toList.drop 0 = dktX2_standingAt_0 := by decide +kernel
theorem dksX2_standingAt_1 : cX2_standingAt.data.toList.drop 24 = dktX2_standingAt_1 := dk_seg dksX2_standingAt_0 24 rfl rfl
theorem dX2_standingAt_0 : decode cX2_standingAt 0 = .ok (.iload_n 1, 1) := dk_27 (dk_at dksX2_standingAt_0 0 rfl rfl)
theorem dX2_standingAt_1 : decode cX2_standingAt 1 = .ok (.iload_n 2, 1) := dk_28 (dk_at dksX2_standingAt_0 1 rfl rfl)
theorem dX2_standingAt_2 : decode cX2_standingAt 2 = .ok (.invokestatic 97, 3) := dk_184 0 97 (dk_at dksX2_standingAt_0 2 rfl rfl)
theorem dX2_standingAt_5 : decode cX2_standingAt 5 = .ok (.istore_n 3, 1) := dk_62 (dk_at dksX2_standingAt_0 5 rfl rfl)
theorem dX2_standingAt_6 : decode cX2_standingAt 6 = .ok (.iload_n 3, 1) := dk_29 (dk_at dksX2_standingAt_0 6 rfl rfl)
theorem dX2_standingAt_7 : decode cX2_standingAt 7 = .ok (.iconst (-1), 1) := dk_2 (dk_at dksX2_standingAt_0 7 rfl rfl)
theorem dX2_standingAt_8 : decode cX2_standingAt 8 = .ok (.if_icmp .ne 7, 3) := dk_160 0 7 (dk_at dksX2_standingAt_0 8 rfl rfl)
theorem dX2_standingAt_11 : decode cX2_standingAt 11 = .ok (.iconst (-1), 1) := dk_2 (dk_at dksX2_standingAt_0 11 rfl rfl)
theorem dX2_standingAt_12 : decode cX2_standingAt 12 = .ok (.goto 8, 3) := dk_167 0 8 (dk_at dksX2_standingAt_0 12 rfl rfl)
theorem dX2_standingAt_15 : decode cX2_standingAt 15 = .ok (.aload_n 0, 1) := dk_42 (dk_at dksX2_standingAt_0 15 rfl rfl)
theorem dX2_standingAt_16 : decode cX2_standingAt 16 = .ok (.iload_n 3, 1) := dk_29 (dk_at dksX2_standingAt_0 16 rfl rfl)
theorem dX2_standingAt_17 : decode cX2_standingAt 17 = .ok (.invokevirtual 100, 3) := dk_182 0 100 (dk_at dksX2_standingAt_0 17 rfl rfl)
theorem dX2_standingAt_20 : decode cX2_standingAt 20 = .ok (.istore 4, 2) := dk_54 4 (dk_at dksX2_standingAt_0 20 rfl rfl)
theorem dX2_standingAt_22 : decode cX2_standingAt 22 = .ok (.iload 4, 2) := dk_21 4 (dk_at dksX2_standingAt_0 22 rfl rfl)
theorem dX2_standingAt_24 : decode cX2_standingAt 24 = .ok (.iconst (-1), 1) := dk_2 (dk_at dksX2_standingAt_1 0 rfl rfl)
theorem dX2_standingAt_25 : decode cX2_standingAt 25 = .ok (.if_icmp .eq 20, 3) := dk_159 0 20 (dk_at dksX2_standingAt_1 1 rfl rfl)
theorem dX2_standingAt_28 : decode cX2_standingAt 28 = .ok (.aload_n 0, 1) := dk_42 (dk_at dksX2_standingAt_1 4 rfl rfl)
theorem dX2_standingAt_29 : decode cX2_standingAt 29 = .ok (.getfield 55, 3) := dk_180 0 55 (dk_at dksX2_standingAt_1 5 rfl rfl)
theorem dX2_standingAt_32 : decode cX2_standingAt 32 = .ok (.iload 4, 2) := dk_21 4 (dk_at dksX2_standingAt_1 8 rfl rfl)
theorem dX2_standingAt_34 : decode cX2_standingAt 34 = .ok (.invokestatic 103, 3) := dk_184 0 103 (dk_at dksX2_standingAt_1 10 rfl rfl)
theorem dX2_standingAt_37 : decode cX2_standingAt 37 = .ok (.ifCond .eq 8, 3) := dk_153 0 8 (dk_at dksX2_standingAt_1 13 rfl rfl)
theorem dX2_standingAt_40 : decode cX2_standingAt 40 = .ok (.iload 4, 2) := dk_21 4 (dk_at dksX2_standingAt_1 16 rfl rfl)
theorem dX2_standingAt_42 : decode cX2_standingAt 42 = .ok (.goto 4, 3) := dk_167 0 4 (dk_at dksX2_standingAt_1 18 rfl rfl)
theorem dX2_standingAt_45 : decode cX2_standingAt 45 = .ok (.iconst (-1), 1) := dk_2 (dk_at dksX2_standingAt_1 21 rfl rfl)
theorem dX2_standingAt_46 : decode cX2_standingAt 46 = .ok (.ireturn, 1) := dk_172 (dk_at dksX2_standingAt_1 22 rfl rfl)
abbrev cX2_onPlate : ByteArray := prog_10_method_5_code
def yX2_onPlate : MethodName := ⟨RX2, "onPlate", "(I)I"⟩
def dkwX2_onPlate_1 : List UInt8 := [27, 160, 0, 7, 29, 167, 0, 4, 28, 61, 132, 3, 1, 167, 255, 223, 28, 172]
abbrev dktX2_onPlate_1 : List UInt8 := dkwX2_onPlate_1 ++ []
def dkwX2_onPlate_0 : List UInt8 := [2, 61, 3, 62, 29, 42, 180, 0, 3, 180, 0, 31, 180, 0, 45, 162, 0, 25, 42, 180, 0, 22, 29, 46]
abbrev dktX2_onPlate_0 : List UInt8 := dkwX2_onPlate_0 ++ dktX2_onPlate_1
theorem dksX2_onPlate_0 : cX2_onPlate.data.toList.drop 0 = dktX2_onPlate_0 := by decide +kernel
theorem dksX2_onPlate_1 : cX2_onPlate.data.toList.drop 24 = dktX2_onPlate_1 := dk_seg dksX2_onPlate_0 24 rfl rfl
theorem dX2_onPlate_0 : decode cX2_onPlate 0 = .ok (.iconst (-1), 1) := dk_2 (dk_at dksX2_onPlate_0 0 rfl rfl)
theorem dX2_onPlate_1 : decode cX2_onPlate 1 = .ok (.istore_n 2, 1) := dk_61 (dk_at dksX2_onPlate_0 1 rfl rfl)
theorem dX2_onPlate_2 : decode cX2_onPlate 2 = .ok (.iconst 0, 1) := dk_3 (dk_at dksX2_onPlate_0 2 rfl rfl)
theorem dX2_onPlate_3 : decode cX2_onPlate 3 = .ok (.istore_n 3, 1) := dk_62 (dk_at dksX2_onPlate_0 3 rfl rfl)
theorem dX2_onPlate_4 : decode cX2_onPlate 4 = .ok (.iload_n 3, 1) := dk_29 (dk_at dksX2_onPlate_0 4 rfl rfl)
theorem dX2_onPlate_5 : decode cX2_onPlate 5 = .ok (.aload_n 0, 1) := dk_42 (dk_at dksX2_onPlate_0 5 rfl rfl)
theorem dX2_onPlate_6 : decode cX2_onPlate 6 = .ok (.getfield 3, 3) := dk_180 0 3 (dk_at dksX2_onPlate_0 6 rfl rfl)
theorem dX2_onPlate_9 : decode cX2_onPlate 9 = .ok (.getfield 31, 3) := dk_180 0 31 (dk_at dksX2_onPlate_0 9 rfl rfl)
theorem dX2_onPlate_12 : decode cX2_onPlate 12 = .ok (.getfield 45, 3) := dk_180 0 45 (dk_at dksX2_onPlate_0 12 rfl rfl)
theorem dX2_onPlate_15 : decode cX2_onPlate 15 = .ok (.if_icmp .ge 25, 3) := dk_162 0 25 (dk_at dksX2_onPlate_0 15 rfl rfl)
theorem dX2_onPlate_18 : decode cX2_onPlate 18 = .ok (.aload_n 0, 1) := dk_42 (dk_at dksX2_onPlate_0 18 rfl rfl)
theorem dX2_onPlate_19 : decode cX2_onPlate 19 = .ok (.getfield 22, 3) := dk_180 0 22 (dk_at dksX2_onPlate_0 19 rfl rfl)
theorem dX2_onPlate_22 : decode cX2_onPlate 22 = .ok (.iload_n 3, 1) := dk_29 (dk_at dksX2_onPlate_0 22 rfl rfl)
theorem dX2_onPlate_23 : decode cX2_onPlate 23 = .ok (.iaload, 1) := dk_46 (dk_at dksX2_onPlate_0 23 rfl rfl)
theorem dX2_onPlate_24 : decode cX2_onPlate 24 = .ok (.iload_n 1, 1) := dk_27 (dk_at dksX2_onPlate_1 0 rfl rfl)
theorem dX2_onPlate_25 : decode cX2_onPlate 25 = .ok (.if_icmp .ne 7, 3) := dk_160 0 7 (dk_at dksX2_onPlate_1 1 rfl rfl)
theorem dX2_onPlate_28 : decode cX2_onPlate 28 = .ok (.iload_n 3, 1) := dk_29 (dk_at dksX2_onPlate_1 4 rfl rfl)
theorem dX2_onPlate_29 : decode cX2_onPlate 29 = .ok (.goto 4, 3) := dk_167 0 4 (dk_at dksX2_onPlate_1 5 rfl rfl)
theorem dX2_onPlate_32 : decode cX2_onPlate 32 = .ok (.iload_n 2, 1) := dk_28 (dk_at dksX2_onPlate_1 8 rfl rfl)
theorem dX2_onPlate_33 : decode cX2_onPlate 33 = .ok (.istore_n 2, 1) := dk_61 (dk_at dksX2_onPlate_1 9 rfl rfl)
theorem dX2_onPlate_34 : decode cX2_onPlate 34 = .ok (.iinc 3 1, 3) := dk_132 3 1 (dk_at dksX2_onPlate_1 10 rfl rfl)
theorem dX2_onPlate_37 : decode cX2_onPlate 37 = .ok (.goto (-33), 3) := dk_167 255 223 (dk_at dksX2_onPlate_1 13 rfl rfl)
theorem dX2_onPlate_40 : decode cX2_onPlate 40 = .ok (.iload_n 2, 1) := dk_28 (dk_at dksX2_onPlate_1 16 rfl rfl)
theorem dX2_onPlate_41 : decode cX2_onPlate 41 = .ok (.ireturn, 1) := dk_172 (dk_at dksX2_onPlate_1 17 rfl rfl)
abbrev cX2_hit : ByteArray := prog_10_method_8_code
def yX2_hit : MethodName := ⟨RX2, "hit", "(III)Z"⟩
def dkwX2_hit_4 : List UInt8 := [172]
abbrev dktX2_hit_4 : List UInt8 := dkwX2_hit_4 ++ []
def dkwX2_hit_3 : List UInt8 := [42, 180, 0, 25, 27, 46, 4, 96, 184, 0, 113, 79, 42, 89, 180, 0, 116, 4, 96, 181, 0, 116, 21, 4]
abbrev dktX2_hit_3 : List UInt8 := dkwX2_hit_3 ++ dktX2_hit_4
def dkwX2_hit_2 : List UInt8 := [2, 182, 0, 109, 42, 27, 28, 5, 108, 4, 182, 0, 109, 167, 0, 33, 42, 180, 0, 25, 27, 17, 39, 15]
abbrev dktX2_hit_2 : List UInt8 := dkwX2_hit_2 ++ dktX2_hit_3
def dkwX2_hit_1 : List UInt8 := [180, 0, 55, 4, 27, 120, 2, 130, 126, 181, 0, 55, 42, 180, 0, 28, 27, 29, 79, 42, 27, 28, 5, 108]
abbrev dktX2_hit_1 : List UInt8 := dkwX2_hit_1 ++ dktX2_hit_2
def dkwX2_hit_0 : List UInt8 := [28, 42, 27, 182, 0, 107, 161, 0, 7, 4, 167, 0, 4, 3, 54, 4, 21, 4, 153, 0, 45, 42, 89]
abbrev dktX2_hit_0 : List UInt8 := dkwX2_hit_0 ++ dktX2_hit_1
theorem dksX2_hit_0 : cX2_hit.data.toList.drop 0 = dktX2_hit_0 := by decide +kernel
theorem dksX2_hit_1 : cX2_hit.data.toList.drop 23 = dktX2_hit_1 := dk_seg dksX2_hit_0 23 rfl rfl
theorem dksX2_hit_2 : cX2_hit.data.toList.drop 47 = dktX2_hit_2 := dk_seg dksX2_hit_1 24 rfl rfl
theorem dksX2_hit_3 : cX2_hit.data.toList.drop 71 = dktX2_hit_3 := dk_seg dksX2_hit_2 24 rfl rfl
theorem dksX2_hit_4 : cX2_hit.data.toList.drop 95 = dktX2_hit_4 := dk_seg dksX2_hit_3 24 rfl rfl
theorem dX2_hit_0 : decode cX2_hit 0 = .ok (.iload_n 2, 1) := dk_28 (dk_at dksX2_hit_0 0 rfl rfl)
theorem dX2_hit_1 : decode cX2_hit 1 = .ok (.aload_n 0, 1) := dk_42 (dk_at dksX2_hit_0 1 rfl rfl)
theorem dX2_hit_2 : decode cX2_hit 2 = .ok (.iload_n 1, 1) := dk_27 (dk_at dksX2_hit_0 2 rfl rfl)
theorem dX2_hit_3 : decode cX2_hit 3 = .ok (.invokevirtual 107, 3) := dk_182 0 107 (dk_at dksX2_hit_0 3 rfl rfl)
theorem dX2_hit_6 : decode cX2_hit 6 = .ok (.if_icmp .lt 7, 3) := dk_161 0 7 (dk_at dksX2_hit_0 6 rfl rfl)
theorem dX2_hit_9 : decode cX2_hit 9 = .ok (.iconst 1, 1) := dk_4 (dk_at dksX2_hit_0 9 rfl rfl)
theorem dX2_hit_10 : decode cX2_hit 10 = .ok (.goto 4, 3) := dk_167 0 4 (dk_at dksX2_hit_0 10 rfl rfl)
theorem dX2_hit_13 : decode cX2_hit 13 = .ok (.iconst 0, 1) := dk_3 (dk_at dksX2_hit_0 13 rfl rfl)
theorem dX2_hit_14 : decode cX2_hit 14 = .ok (.istore 4, 2) := dk_54 4 (dk_at dksX2_hit_0 14 rfl rfl)
theorem dX2_hit_16 : decode cX2_hit 16 = .ok (.iload 4, 2) := dk_21 4 (dk_at dksX2_hit_0 16 rfl rfl)
theorem dX2_hit_18 : decode cX2_hit 18 = .ok (.ifCond .eq 45, 3) := dk_153 0 45 (dk_at dksX2_hit_0 18 rfl rfl)
theorem dX2_hit_21 : decode cX2_hit 21 = .ok (.aload_n 0, 1) := dk_42 (dk_at dksX2_hit_0 21 rfl rfl)
theorem dX2_hit_22 : decode cX2_hit 22 = .ok (.dup, 1) := dk_89 (dk_at dksX2_hit_0 22 rfl rfl)
theorem dX2_hit_23 : decode cX2_hit 23 = .ok (.getfield 55, 3) := dk_180 0 55 (dk_at dksX2_hit_1 0 rfl rfl)
theorem dX2_hit_26 : decode cX2_hit 26 = .ok (.iconst 1, 1) := dk_4 (dk_at dksX2_hit_1 3 rfl rfl)
theorem dX2_hit_27 : decode cX2_hit 27 = .ok (.iload_n 1, 1) := dk_27 (dk_at dksX2_hit_1 4 rfl rfl)
theorem dX2_hit_28 : decode cX2_hit 28 = .ok (.ishl, 1) := dk_120 (dk_at dksX2_hit_1 5 rfl rfl)
theorem dX2_hit_29 : decode cX2_hit 29 = .ok (.iconst (-1), 1) := dk_2 (dk_at dksX2_hit_1 6 rfl rfl)
theorem dX2_hit_30 : decode cX2_hit 30 = .ok (.ixor, 1) := dk_130 (dk_at dksX2_hit_1 7 rfl rfl)
theorem dX2_hit_31 : decode cX2_hit 31 = .ok (.iand, 1) := dk_126 (dk_at dksX2_hit_1 8 rfl rfl)
theorem dX2_hit_32 : decode cX2_hit 32 = .ok (.putfield 55, 3) := dk_181 0 55 (dk_at dksX2_hit_1 9 rfl rfl)
theorem dX2_hit_35 : decode cX2_hit 35 = .ok (.aload_n 0, 1) := dk_42 (dk_at dksX2_hit_1 12 rfl rfl)
theorem dX2_hit_36 : decode cX2_hit 36 = .ok (.getfield 28, 3) := dk_180 0 28 (dk_at dksX2_hit_1 13 rfl rfl)
theorem dX2_hit_39 : decode cX2_hit 39 = .ok (.iload_n 1, 1) := dk_27 (dk_at dksX2_hit_1 16 rfl rfl)
theorem dX2_hit_40 : decode cX2_hit 40 = .ok (.iload_n 3, 1) := dk_29 (dk_at dksX2_hit_1 17 rfl rfl)
theorem dX2_hit_41 : decode cX2_hit 41 = .ok (.iastore, 1) := dk_79 (dk_at dksX2_hit_1 18 rfl rfl)
theorem dX2_hit_42 : decode cX2_hit 42 = .ok (.aload_n 0, 1) := dk_42 (dk_at dksX2_hit_1 19 rfl rfl)
theorem dX2_hit_43 : decode cX2_hit 43 = .ok (.iload_n 1, 1) := dk_27 (dk_at dksX2_hit_1 20 rfl rfl)
theorem dX2_hit_44 : decode cX2_hit 44 = .ok (.iload_n 2, 1) := dk_28 (dk_at dksX2_hit_1 21 rfl rfl)
theorem dX2_hit_45 : decode cX2_hit 45 = .ok (.iconst 2, 1) := dk_5 (dk_at dksX2_hit_1 22 rfl rfl)
theorem dX2_hit_46 : decode cX2_hit 46 = .ok (.idiv, 1) := dk_108 (dk_at dksX2_hit_1 23 rfl rfl)
theorem dX2_hit_47 : decode cX2_hit 47 = .ok (.iconst (-1), 1) := dk_2 (dk_at dksX2_hit_2 0 rfl rfl)
theorem dX2_hit_48 : decode cX2_hit 48 = .ok (.invokevirtual 109, 3) := dk_182 0 109 (dk_at dksX2_hit_2 1 rfl rfl)
theorem dX2_hit_51 : decode cX2_hit 51 = .ok (.aload_n 0, 1) := dk_42 (dk_at dksX2_hit_2 4 rfl rfl)
theorem dX2_hit_52 : decode cX2_hit 52 = .ok (.iload_n 1, 1) := dk_27 (dk_at dksX2_hit_2 5 rfl rfl)
theorem dX2_hit_53 : decode cX2_hit 53 = .ok (.iload_n 2, 1) := dk_28 (dk_at dksX2_hit_2 6 rfl rfl)
theorem dX2_hit_54 : decode cX2_hit 54 = .ok (.iconst 2, 1) := dk_5 (dk_at dksX2_hit_2 7 rfl rfl)
theorem dX2_hit_55 : decode cX2_hit 55 = .ok (.idiv, 1) := dk_108 (dk_at dksX2_hit_2 8 rfl rfl)
theorem dX2_hit_56 : decode cX2_hit 56 = .ok (.iconst 1, 1) := dk_4 (dk_at dksX2_hit_2 9 rfl rfl)
theorem dX2_hit_57 : decode cX2_hit 57 = .ok (.invokevirtual 109, 3) := dk_182 0 109 (dk_at dksX2_hit_2 10 rfl rfl)
theorem dX2_hit_60 : decode cX2_hit 60 = .ok (.goto 33, 3) := dk_167 0 33 (dk_at dksX2_hit_2 13 rfl rfl)
theorem dX2_hit_63 : decode cX2_hit 63 = .ok (.aload_n 0, 1) := dk_42 (dk_at dksX2_hit_2 16 rfl rfl)
theorem dX2_hit_64 : decode cX2_hit 64 = .ok (.getfield 25, 3) := dk_180 0 25 (dk_at dksX2_hit_2 17 rfl rfl)
theorem dX2_hit_67 : decode cX2_hit 67 = .ok (.iload_n 1, 1) := dk_27 (dk_at dksX2_hit_2 20 rfl rfl)
theorem dX2_hit_68 : decode cX2_hit 68 = .ok (.sipush 9999, 3) := dk_17 39 15 (dk_at dksX2_hit_2 21 rfl rfl)
theorem dX2_hit_71 : decode cX2_hit 71 = .ok (.aload_n 0, 1) := dk_42 (dk_at dksX2_hit_3 0 rfl rfl)
theorem dX2_hit_72 : decode cX2_hit 72 = .ok (.getfield 25, 3) := dk_180 0 25 (dk_at dksX2_hit_3 1 rfl rfl)
theorem dX2_hit_75 : decode cX2_hit 75 = .ok (.iload_n 1, 1) := dk_27 (dk_at dksX2_hit_3 4 rfl rfl)
theorem dX2_hit_76 : decode cX2_hit 76 = .ok (.iaload, 1) := dk_46 (dk_at dksX2_hit_3 5 rfl rfl)
theorem dX2_hit_77 : decode cX2_hit 77 = .ok (.iconst 1, 1) := dk_4 (dk_at dksX2_hit_3 6 rfl rfl)
theorem dX2_hit_78 : decode cX2_hit 78 = .ok (.iadd, 1) := dk_96 (dk_at dksX2_hit_3 7 rfl rfl)
theorem dX2_hit_79 : decode cX2_hit 79 = .ok (.invokestatic 113, 3) := dk_184 0 113 (dk_at dksX2_hit_3 8 rfl rfl)
theorem dX2_hit_82 : decode cX2_hit 82 = .ok (.iastore, 1) := dk_79 (dk_at dksX2_hit_3 11 rfl rfl)
theorem dX2_hit_83 : decode cX2_hit 83 = .ok (.aload_n 0, 1) := dk_42 (dk_at dksX2_hit_3 12 rfl rfl)
theorem dX2_hit_84 : decode cX2_hit 84 = .ok (.dup, 1) := dk_89 (dk_at dksX2_hit_3 13 rfl rfl)
theorem dX2_hit_85 : decode cX2_hit 85 = .ok (.getfield 116, 3) := dk_180 0 116 (dk_at dksX2_hit_3 14 rfl rfl)
theorem dX2_hit_88 : decode cX2_hit 88 = .ok (.iconst 1, 1) := dk_4 (dk_at dksX2_hit_3 17 rfl rfl)
theorem dX2_hit_89 : decode cX2_hit 89 = .ok (.iadd, 1) := dk_96 (dk_at dksX2_hit_3 18 rfl rfl)
theorem dX2_hit_90 : decode cX2_hit 90 = .ok (.putfield 116, 3) := dk_181 0 116 (dk_at dksX2_hit_3 19 rfl rfl)
theorem dX2_hit_93 : decode cX2_hit 93 = .ok (.iload 4, 2) := dk_21 4 (dk_at dksX2_hit_3 22 rfl rfl)
theorem dX2_hit_95 : decode cX2_hit 95 = .ok (.ireturn, 1) := dk_172 (dk_at dksX2_hit_4 0 rfl rfl)
abbrev cX2_bears : ByteArray := prog_10_method_6_code
def yX2_bears : MethodName := ⟨RX2, "bears", "(I)I"⟩
def dkwX2_bears_2 : List UInt8 := [184, 0, 91, 172]
abbrev dktX2_bears_2 : List UInt8 := dkwX2_bears_2 ++ []
def dkwX2_bears_1 : List UInt8 := [27, 46, 42, 180, 0, 19, 27, 46, 42, 180, 0, 22, 27, 46, 184, 0, 81, 182, 0, 85, 61, 4, 28]
abbrev dktX2_bears_1 : List UInt8 := dkwX2_bears_1 ++ dktX2_bears_2
def dkwX2_bears_0 : List UInt8 := [42, 180, 0, 3, 180, 0, 74, 42, 180, 0, 15, 27, 46, 50, 42, 180, 0, 3, 180, 0, 31, 180, 0, 78]
abbrev dktX2_bears_0 : List UInt8 := dkwX2_bears_0 ++ dktX2_bears_1
theorem dksX2_bears_0 : cX2_bears.data.toList.drop 0 = dktX2_bears_0 := by decide +kernel
theorem dksX2_bears_1 : cX2_bears.data.toList.drop 24 = dktX2_bears_1 := dk_seg dksX2_bears_0 24 rfl rfl
theorem dksX2_bears_2 : cX2_bears.data.toList.drop 47 = dktX2_bears_2 := dk_seg dksX2_bears_1 23 rfl rfl
theorem dX2_bears_0 : decode cX2_bears 0 = .ok (.aload_n 0, 1) := dk_42 (dk_at dksX2_bears_0 0 rfl rfl)
theorem dX2_bears_1 : decode cX2_bears 1 = .ok (.getfield 3, 3) := dk_180 0 3 (dk_at dksX2_bears_0 1 rfl rfl)
theorem dX2_bears_4 : decode cX2_bears 4 = .ok (.getfield 74, 3) := dk_180 0 74 (dk_at dksX2_bears_0 4 rfl rfl)
theorem dX2_bears_7 : decode cX2_bears 7 = .ok (.aload_n 0, 1) := dk_42 (dk_at dksX2_bears_0 7 rfl rfl)
theorem dX2_bears_8 : decode cX2_bears 8 = .ok (.getfield 15, 3) := dk_180 0 15 (dk_at dksX2_bears_0 8 rfl rfl)
theorem dX2_bears_11 : decode cX2_bears 11 = .ok (.iload_n 1, 1) := dk_27 (dk_at dksX2_bears_0 11 rfl rfl)
theorem dX2_bears_12 : decode cX2_bears 12 = .ok (.iaload, 1) := dk_46 (dk_at dksX2_bears_0 12 rfl rfl)
theorem dX2_bears_13 : decode cX2_bears 13 = .ok (.aaload, 1) := dk_50 (dk_at dksX2_bears_0 13 rfl rfl)
theorem dX2_bears_14 : decode cX2_bears 14 = .ok (.aload_n 0, 1) := dk_42 (dk_at dksX2_bears_0 14 rfl rfl)
theorem dX2_bears_15 : decode cX2_bears 15 = .ok (.getfield 3, 3) := dk_180 0 3 (dk_at dksX2_bears_0 15 rfl rfl)
theorem dX2_bears_18 : decode cX2_bears 18 = .ok (.getfield 31, 3) := dk_180 0 31 (dk_at dksX2_bears_0 18 rfl rfl)
theorem dX2_bears_21 : decode cX2_bears 21 = .ok (.getfield 78, 3) := dk_180 0 78 (dk_at dksX2_bears_0 21 rfl rfl)
theorem dX2_bears_24 : decode cX2_bears 24 = .ok (.iload_n 1, 1) := dk_27 (dk_at dksX2_bears_1 0 rfl rfl)
theorem dX2_bears_25 : decode cX2_bears 25 = .ok (.iaload, 1) := dk_46 (dk_at dksX2_bears_1 1 rfl rfl)
theorem dX2_bears_26 : decode cX2_bears 26 = .ok (.aload_n 0, 1) := dk_42 (dk_at dksX2_bears_1 2 rfl rfl)
theorem dX2_bears_27 : decode cX2_bears 27 = .ok (.getfield 19, 3) := dk_180 0 19 (dk_at dksX2_bears_1 3 rfl rfl)
theorem dX2_bears_30 : decode cX2_bears 30 = .ok (.iload_n 1, 1) := dk_27 (dk_at dksX2_bears_1 6 rfl rfl)
theorem dX2_bears_31 : decode cX2_bears 31 = .ok (.iaload, 1) := dk_46 (dk_at dksX2_bears_1 7 rfl rfl)
theorem dX2_bears_32 : decode cX2_bears 32 = .ok (.aload_n 0, 1) := dk_42 (dk_at dksX2_bears_1 8 rfl rfl)
theorem dX2_bears_33 : decode cX2_bears 33 = .ok (.getfield 22, 3) := dk_180 0 22 (dk_at dksX2_bears_1 9 rfl rfl)
theorem dX2_bears_36 : decode cX2_bears 36 = .ok (.iload_n 1, 1) := dk_27 (dk_at dksX2_bears_1 12 rfl rfl)
theorem dX2_bears_37 : decode cX2_bears 37 = .ok (.iaload, 1) := dk_46 (dk_at dksX2_bears_1 13 rfl rfl)
theorem dX2_bears_38 : decode cX2_bears 38 = .ok (.invokestatic 81, 3) := dk_184 0 81 (dk_at dksX2_bears_1 14 rfl rfl)
theorem dX2_bears_41 : decode cX2_bears 41 = .ok (.invokevirtual 85, 3) := dk_182 0 85 (dk_at dksX2_bears_1 17 rfl rfl)
theorem dX2_bears_44 : decode cX2_bears 44 = .ok (.istore_n 2, 1) := dk_61 (dk_at dksX2_bears_1 20 rfl rfl)
theorem dX2_bears_45 : decode cX2_bears 45 = .ok (.iconst 1, 1) := dk_4 (dk_at dksX2_bears_1 21 rfl rfl)
theorem dX2_bears_46 : decode cX2_bears 46 = .ok (.iload_n 2, 1) := dk_28 (dk_at dksX2_bears_1 22 rfl rfl)
theorem dX2_bears_47 : decode cX2_bears 47 = .ok (.invokestatic 91, 3) := dk_184 0 91 (dk_at dksX2_bears_2 0 rfl rfl)
theorem dX2_bears_50 : decode cX2_bears 50 = .ok (.ireturn, 1) := dk_172 (dk_at dksX2_bears_2 3 rfl rfl)
abbrev cX2_strike : ByteArray := prog_10_method_9_code
def yX2_strike : MethodName := ⟨RX2, "strike", "(III)V"⟩
def dkwX2_strike_2 : List UInt8 := [54, 5, 177]
abbrev dktX2_strike_2 : List UInt8 := dkwX2_strike_2 ++ []
def dkwX2_strike_1 : List UInt8 := [182, 0, 122, 54, 4, 21, 4, 2, 159, 0, 17, 28, 158, 0, 13, 42, 21, 4, 28, 27, 182, 0, 125]
abbrev dktX2_strike_1 : List UInt8 := dkwX2_strike_1 ++ dktX2_strike_2
def dkwX2_strike_0 : List UInt8 := [42, 42, 180, 0, 22, 27, 46, 184, 0, 81, 4, 96, 42, 180, 0, 22, 27, 46, 184, 0, 119, 29, 96]
abbrev dktX2_strike_0 : List UInt8 := dkwX2_strike_0 ++ dktX2_strike_1
theorem dksX2_strike_0 : cX2_strike.data.toList.drop 0 = dktX2_strike_0 := by decide +kernel
theorem dksX2_strike_1 : cX2_strike.data.toList.drop 23 = dktX2_strike_1 := dk_seg dksX2_strike_0 23 rfl rfl
theorem dksX2_strike_2 : cX2_strike.data.toList.drop 46 = dktX2_strike_2 := dk_seg dksX2_strike_1 23 rfl rfl
theorem dX2_strike_0 : decode cX2_strike 0 = .ok (.aload_n 0, 1) := dk_42 (dk_at dksX2_strike_0 0 rfl rfl)
theorem dX2_strike_1 : decode cX2_strike 1 = .ok (.aload_n 0, 1) := dk_42 (dk_at dksX2_strike_0 1 rfl rfl)
theorem dX2_strike_2 : decode cX2_strike 2 = .ok (.getfield 22, 3) := dk_180 0 22 (dk_at dksX2_strike_0 2 rfl rfl)
theorem dX2_strike_5 : decode cX2_strike 5 = .ok (.iload_n 1, 1) := dk_27 (dk_at dksX2_strike_0 5 rfl rfl)
theorem dX2_strike_6 : decode cX2_strike 6 = .ok (.iaload, 1) := dk_46 (dk_at dksX2_strike_0 6 rfl rfl)
theorem dX2_strike_7 : decode cX2_strike 7 = .ok (.invokestatic 81, 3) := dk_184 0 81 (dk_at dksX2_strike_0 7 rfl rfl)
theorem dX2_strike_10 : decode cX2_strike 10 = .ok (.iconst 1, 1) := dk_4 (dk_at dksX2_strike_0 10 rfl rfl)
theorem dX2_strike_11 : decode cX2_strike 11 = .ok (.iadd, 1) := dk_96 (dk_at dksX2_strike_0 11 rfl rfl)
theorem dX2_strike_12 : decode cX2_strike 12 = .ok (.aload_n 0, 1) := dk_42 (dk_at dksX2_strike_0 12 rfl rfl)
theorem dX2_strike_13 : decode cX2_strike 13 = .ok (.getfield 22, 3) := dk_180 0 22 (dk_at dksX2_strike_0 13 rfl rfl)
theorem dX2_strike_16 : decode cX2_strike 16 = .ok (.iload_n 1, 1) := dk_27 (dk_at dksX2_strike_0 16 rfl rfl)
theorem dX2_strike_17 : decode cX2_strike 17 = .ok (.iaload, 1) := dk_46 (dk_at dksX2_strike_0 17 rfl rfl)
theorem dX2_strike_18 : decode cX2_strike 18 = .ok (.invokestatic 119, 3) := dk_184 0 119 (dk_at dksX2_strike_0 18 rfl rfl)
theorem dX2_strike_21 : decode cX2_strike 21 = .ok (.iload_n 3, 1) := dk_29 (dk_at dksX2_strike_0 21 rfl rfl)
theorem dX2_strike_22 : decode cX2_strike 22 = .ok (.iadd, 1) := dk_96 (dk_at dksX2_strike_0 22 rfl rfl)
theorem dX2_strike_23 : decode cX2_strike 23 = .ok (.invokevirtual 122, 3) := dk_182 0 122 (dk_at dksX2_strike_1 0 rfl rfl)
theorem dX2_strike_26 : decode cX2_strike 26 = .ok (.istore 4, 2) := dk_54 4 (dk_at dksX2_strike_1 3 rfl rfl)
theorem dX2_strike_28 : decode cX2_strike 28 = .ok (.iload 4, 2) := dk_21 4 (dk_at dksX2_strike_1 5 rfl rfl)
theorem dX2_strike_30 : decode cX2_strike 30 = .ok (.iconst (-1), 1) := dk_2 (dk_at dksX2_strike_1 7 rfl rfl)
theorem dX2_strike_31 : decode cX2_strike 31 = .ok (.if_icmp .eq 17, 3) := dk_159 0 17 (dk_at dksX2_strike_1 8 rfl rfl)
theorem dX2_strike_34 : decode cX2_strike 34 = .ok (.iload_n 2, 1) := dk_28 (dk_at dksX2_strike_1 11 rfl rfl)
theorem dX2_strike_35 : decode cX2_strike 35 = .ok (.ifCond .le 13, 3) := dk_158 0 13 (dk_at dksX2_strike_1 12 rfl rfl)
theorem dX2_strike_38 : decode cX2_strike 38 = .ok (.aload_n 0, 1) := dk_42 (dk_at dksX2_strike_1 15 rfl rfl)
theorem dX2_strike_39 : decode cX2_strike 39 = .ok (.iload 4, 2) := dk_21 4 (dk_at dksX2_strike_1 16 rfl rfl)
theorem dX2_strike_41 : decode cX2_strike 41 = .ok (.iload_n 2, 1) := dk_28 (dk_at dksX2_strike_1 18 rfl rfl)
theorem dX2_strike_42 : decode cX2_strike 42 = .ok (.iload_n 1, 1) := dk_27 (dk_at dksX2_strike_1 19 rfl rfl)
theorem dX2_strike_43 : decode cX2_strike 43 = .ok (.invokevirtual 125, 3) := dk_182 0 125 (dk_at dksX2_strike_1 20 rfl rfl)
theorem dX2_strike_46 : decode cX2_strike 46 = .ok (.istore 5, 2) := dk_54 5 (dk_at dksX2_strike_2 0 rfl rfl)
theorem dX2_strike_48 : decode cX2_strike 48 = .ok (.return_, 1) := dk_177 (dk_at dksX2_strike_2 2 rfl rfl)
abbrev cX2_throwBall : ByteArray := prog_10_method_12_code
def yX2_throwBall : MethodName := ⟨RX2, "throwBall", "(III)I"⟩
def dkwX2_throwBall_2 : List UInt8 := [167, 0, 4, 3, 96, 181, 0, 61, 21, 5, 172]
abbrev dktX2_throwBall_2 : List UInt8 := dkwX2_throwBall_2 ++ []
def dkwX2_throwBall_1 : List UInt8 := [181, 0, 58, 42, 89, 180, 0, 61, 21, 4, 17, 1, 255, 160, 0, 14, 42, 180, 0, 55, 154, 0, 7, 4]
abbrev dktX2_throwBall_1 : List UInt8 := dkwX2_throwBall_1 ++ dktX2_throwBall_2
def dkwX2_throwBall_0 : List UInt8 := [42, 180, 0, 55, 54, 4, 42, 27, 28, 29, 182, 0, 135, 54, 5, 42, 89, 180, 0, 58, 4, 96]
abbrev dktX2_throwBall_0 : List UInt8 := dkwX2_throwBall_0 ++ dktX2_throwBall_1
theorem dksX2_throwBall_0 : cX2_throwBall.data.toList.drop 0 = dktX2_throwBall_0 := by decide +kernel
theorem dksX2_throwBall_1 : cX2_throwBall.data.toList.drop 22 = dktX2_throwBall_1 := dk_seg dksX2_throwBall_0 22 rfl rfl
theorem dksX2_throwBall_2 : cX2_throwBall.data.toList.drop 46 = dktX2_throwBall_2 := dk_seg dksX2_throwBall_1 24 rfl rfl
theorem dX2_throwBall_0 : decode cX2_throwBall 0 = .ok (.aload_n 0, 1) := dk_42 (dk_at dksX2_throwBall_0 0 rfl rfl)
theorem dX2_throwBall_1 : decode cX2_throwBall 1 = .ok (.getfield 55, 3) := dk_180 0 55 (dk_at dksX2_throwBall_0 1 rfl rfl)
theorem dX2_throwBall_4 : decode cX2_throwBall 4 = .ok (.istore 4, 2) := dk_54 4 (dk_at dksX2_throwBall_0 4 rfl rfl)
theorem dX2_throwBall_6 : decode cX2_throwBall 6 = .ok (.aload_n 0, 1) := dk_42 (dk_at dksX2_throwBall_0 6 rfl rfl)
theorem dX2_throwBall_7 : decode cX2_throwBall 7 = .ok (.iload_n 1, 1) := dk_27 (dk_at dksX2_throwBall_0 7 rfl rfl)
theorem dX2_throwBall_8 : decode cX2_throwBall 8 = .ok (.iload_n 2, 1) := dk_28 (dk_at dksX2_throwBall_0 8 rfl rfl)
theorem dX2_throwBall_9 : decode cX2_throwBall 9 = .ok (.iload_n 3, 1) := dk_29 (dk_at dksX2_throwBall_0 9 rfl rfl)
theorem dX2_throwBall_10 : decode cX2_throwBall 10 = .ok (.invokevirtual 135, 3) := dk_182 0 135 (dk_at dksX2_throwBall_0 10 rfl rfl)
theorem dX2_throwBall_13 : decode cX2_throwBall 13 = .ok (.istore 5, 2) := dk_54 5 (dk_at dksX2_throwBall_0 13 rfl rfl)
theorem dX2_throwBall_15 : decode cX2_throwBall 15 = .ok (.aload_n 0, 1) := dk_42 (dk_at dksX2_throwBall_0 15 rfl rfl)
theorem dX2_throwBall_16 : decode cX2_throwBall 16 = .ok (.dup, 1) := dk_89 (dk_at dksX2_throwBall_0 16 rfl rfl)
theorem dX2_throwBall_17 : decode cX2_throwBall 17 = .ok (.getfield 58, 3) := dk_180 0 58 (dk_at dksX2_throwBall_0 17 rfl rfl)
theorem dX2_throwBall_20 : decode cX2_throwBall 20 = .ok (.iconst 1, 1) := dk_4 (dk_at dksX2_throwBall_0 20 rfl rfl)
theorem dX2_throwBall_21 : decode cX2_throwBall 21 = .ok (.iadd, 1) := dk_96 (dk_at dksX2_throwBall_0 21 rfl rfl)
theorem dX2_throwBall_22 : decode cX2_throwBall 22 = .ok (.putfield 58, 3) := dk_181 0 58 (dk_at dksX2_throwBall_1 0 rfl rfl)
theorem dX2_throwBall_25 : decode cX2_throwBall 25 = .ok (.aload_n 0, 1) := dk_42 (dk_at dksX2_throwBall_1 3 rfl rfl)
theorem dX2_throwBall_26 : decode cX2_throwBall 26 = .ok (.dup, 1) := dk_89 (dk_at dksX2_throwBall_1 4 rfl rfl)
theorem dX2_throwBall_27 : decode cX2_throwBall 27 = .ok (.getfield 61, 3) := dk_180 0 61 (dk_at dksX2_throwBall_1 5 rfl rfl)
theorem dX2_throwBall_30 : decode cX2_throwBall 30 = .ok (.iload 4, 2) := dk_21 4 (dk_at dksX2_throwBall_1 8 rfl rfl)
theorem dX2_throwBall_32 : decode cX2_throwBall 32 = .ok (.sipush 511, 3) := dk_17 1 255 (dk_at dksX2_throwBall_1 10 rfl rfl)
theorem dX2_throwBall_35 : decode cX2_throwBall 35 = .ok (.if_icmp .ne 14, 3) := dk_160 0 14 (dk_at dksX2_throwBall_1 13 rfl rfl)
theorem dX2_throwBall_38 : decode cX2_throwBall 38 = .ok (.aload_n 0, 1) := dk_42 (dk_at dksX2_throwBall_1 16 rfl rfl)
theorem dX2_throwBall_39 : decode cX2_throwBall 39 = .ok (.getfield 55, 3) := dk_180 0 55 (dk_at dksX2_throwBall_1 17 rfl rfl)
theorem dX2_throwBall_42 : decode cX2_throwBall 42 = .ok (.ifCond .ne 7, 3) := dk_154 0 7 (dk_at dksX2_throwBall_1 20 rfl rfl)
theorem dX2_throwBall_45 : decode cX2_throwBall 45 = .ok (.iconst 1, 1) := dk_4 (dk_at dksX2_throwBall_1 23 rfl rfl)
theorem dX2_throwBall_46 : decode cX2_throwBall 46 = .ok (.goto 4, 3) := dk_167 0 4 (dk_at dksX2_throwBall_2 0 rfl rfl)
theorem dX2_throwBall_49 : decode cX2_throwBall 49 = .ok (.iconst 0, 1) := dk_3 (dk_at dksX2_throwBall_2 3 rfl rfl)
theorem dX2_throwBall_50 : decode cX2_throwBall 50 = .ok (.iadd, 1) := dk_96 (dk_at dksX2_throwBall_2 4 rfl rfl)
theorem dX2_throwBall_51 : decode cX2_throwBall 51 = .ok (.putfield 61, 3) := dk_181 0 61 (dk_at dksX2_throwBall_2 5 rfl rfl)
theorem dX2_throwBall_54 : decode cX2_throwBall 54 = .ok (.iload 5, 2) := dk_21 5 (dk_at dksX2_throwBall_2 8 rfl rfl)
theorem dX2_throwBall_56 : decode cX2_throwBall 56 = .ok (.ireturn, 1) := dk_172 (dk_at dksX2_throwBall_2 10 rfl rfl)
abbrev cX2_setUp : ByteArray := prog_10_method_13_code
def yX2_setUp : MethodName := ⟨RX2, "setUp", "()I"⟩
def dkwX2_setUp_1 : List UInt8 := [180, 0, 3, 180, 0, 31, 180, 0, 45, 120, 4, 100, 181, 0, 55, 27, 172]
abbrev dktX2_setUp_1 : List UInt8 := dkwX2_setUp_1 ++ []
def dkwX2_setUp_0 : List UInt8 := [42, 180, 0, 3, 180, 0, 31, 180, 0, 45, 42, 180, 0, 55, 184, 0, 138, 100, 60, 42, 4, 42]
abbrev dktX2_setUp_0 : List UInt8 := dkwX2_setUp_0 ++ dktX2_setUp_1
theorem dksX2_setUp_0 : cX2_setUp.data.toList.drop 0 = dktX2_setUp_0 := by decide +kernel
theorem dksX2_setUp_1 : cX2_setUp.data.toList.drop 22 = dktX2_setUp_1 := dk_seg dksX2_setUp_0 22 rfl rfl
theorem dX2_setUp_0 : decode cX2_setUp 0 = .ok (.aload_n 0, 1) := dk_42 (dk_at dksX2_setUp_0 0 rfl rfl)
theorem dX2_setUp_1 : decode cX2_setUp 1 = .ok (.getfield 3, 3) := dk_180 0 3 (dk_at dksX2_setUp_0 1 rfl rfl)
theorem dX2_setUp_4 : decode cX2_setUp 4 = .ok (.getfield 31, 3) := dk_180 0 31 (dk_at dksX2_setUp_0 4 rfl rfl)
theorem dX2_setUp_7 : decode cX2_setUp 7 = .ok (.getfield 45, 3) := dk_180 0 45 (dk_at dksX2_setUp_0 7 rfl rfl)
theorem dX2_setUp_10 : decode cX2_setUp 10 = .ok (.aload_n 0, 1) := dk_42 (dk_at dksX2_setUp_0 10 rfl rfl)
theorem dX2_setUp_11 : decode cX2_setUp 11 = .ok (.getfield 55, 3) := dk_180 0 55 (dk_at dksX2_setUp_0 11 rfl rfl)
theorem dX2_setUp_14 : decode cX2_setUp 14 = .ok (.invokestatic 138, 3) := dk_184 0 138 (dk_at dksX2_setUp_0 14 rfl rfl)
theorem dX2_setUp_17 : decode cX2_setUp 17 = .ok (.isub, 1) := dk_100 (dk_at dksX2_setUp_0 17 rfl rfl)
theorem dX2_setUp_18 : decode cX2_setUp 18 = .ok (.istore_n 1, 1) := dk_60 (dk_at dksX2_setUp_0 18 rfl rfl)
theorem dX2_setUp_19 : decode cX2_setUp 19 = .ok (.aload_n 0, 1) := dk_42 (dk_at dksX2_setUp_0 19 rfl rfl)
theorem dX2_setUp_20 : decode cX2_setUp 20 = .ok (.iconst 1, 1) := dk_4 (dk_at dksX2_setUp_0 20 rfl rfl)
theorem dX2_setUp_21 : decode cX2_setUp 21 = .ok (.aload_n 0, 1) := dk_42 (dk_at dksX2_setUp_0 21 rfl rfl)
theorem dX2_setUp_22 : decode cX2_setUp 22 = .ok (.getfield 3, 3) := dk_180 0 3 (dk_at dksX2_setUp_1 0 rfl rfl)
theorem dX2_setUp_25 : decode cX2_setUp 25 = .ok (.getfield 31, 3) := dk_180 0 31 (dk_at dksX2_setUp_1 3 rfl rfl)
theorem dX2_setUp_28 : decode cX2_setUp 28 = .ok (.getfield 45, 3) := dk_180 0 45 (dk_at dksX2_setUp_1 6 rfl rfl)
theorem dX2_setUp_31 : decode cX2_setUp 31 = .ok (.ishl, 1) := dk_120 (dk_at dksX2_setUp_1 9 rfl rfl)
theorem dX2_setUp_32 : decode cX2_setUp 32 = .ok (.iconst 1, 1) := dk_4 (dk_at dksX2_setUp_1 10 rfl rfl)
theorem dX2_setUp_33 : decode cX2_setUp 33 = .ok (.isub, 1) := dk_100 (dk_at dksX2_setUp_1 11 rfl rfl)
theorem dX2_setUp_34 : decode cX2_setUp 34 = .ok (.putfield 55, 3) := dk_181 0 55 (dk_at dksX2_setUp_1 12 rfl rfl)
theorem dX2_setUp_37 : decode cX2_setUp 37 = .ok (.iload_n 1, 1) := dk_27 (dk_at dksX2_setUp_1 15 rfl rfl)
theorem dX2_setUp_38 : decode cX2_setUp 38 = .ok (.ireturn, 1) := dk_172 (dk_at dksX2_setUp_1 16 rfl rfl)
abbrev cX2_change : ByteArray := prog_10_method_14_code
def yX2_change : MethodName := ⟨RX2, "change", "(II)V"⟩
def dkwX2_change_1 : List UInt8 := [79, 21, 4, 2, 159, 0, 11, 42, 180, 0, 22, 21, 4, 27, 79, 177]
abbrev dktX2_change_1 : List UInt8 := dkwX2_change_1 ++ []
def dkwX2_change_0 : List UInt8 := [42, 27, 182, 0, 100, 62, 42, 28, 182, 0, 100, 54, 4, 29, 2, 159, 0, 10, 42, 180, 0, 22, 29, 28]
abbrev dktX2_change_0 : List UInt8 := dkwX2_change_0 ++ dktX2_change_1
theorem dksX2_change_0 : cX2_change.data.toList.drop 0 = dktX2_change_0 := by decide +kernel
theorem dksX2_change_1 : cX2_change.data.toList.drop 24 = dktX2_change_1 := dk_seg dksX2_change_0 24 rfl rfl
theorem dX2_change_0 : decode cX2_change 0 = .ok (.aload_n 0, 1) := dk_42 (dk_at dksX2_change_0 0 rfl rfl)
theorem dX2_change_1 : decode cX2_change 1 = .ok (.iload_n 1, 1) := dk_27 (dk_at dksX2_change_0 1 rfl rfl)
theorem dX2_change_2 : decode cX2_change 2 = .ok (.invokevirtual 100, 3) := dk_182 0 100 (dk_at dksX2_change_0 2 rfl rfl)
theorem dX2_change_5 : decode cX2_change 5 = .ok (.istore_n 3, 1) := dk_62 (dk_at dksX2_change_0 5 rfl rfl)
theorem dX2_change_6 : decode cX2_change 6 = .ok (.aload_n 0, 1) := dk_42 (dk_at dksX2_change_0 6 rfl rfl)
theorem dX2_change_7 : decode cX2_change 7 = .ok (.iload_n 2, 1) := dk_28 (dk_at dksX2_change_0 7 rfl rfl)
theorem dX2_change_8 : decode cX2_change 8 = .ok (.invokevirtual 100, 3) := dk_182 0 100 (dk_at dksX2_change_0 8 rfl rfl)
theorem dX2_change_11 : decode cX2_change 11 = .ok (.istore 4, 2) := dk_54 4 (dk_at dksX2_change_0 11 rfl rfl)
theorem dX2_change_13 : decode cX2_change 13 = .ok (.iload_n 3, 1) := dk_29 (dk_at dksX2_change_0 13 rfl rfl)
theorem dX2_change_14 : decode cX2_change 14 = .ok (.iconst (-1), 1) := dk_2 (dk_at dksX2_change_0 14 rfl rfl)
theorem dX2_change_15 : decode cX2_change 15 = .ok (.if_icmp .eq 10, 3) := dk_159 0 10 (dk_at dksX2_change_0 15 rfl rfl)
theorem dX2_change_18 : decode cX2_change 18 = .ok (.aload_n 0, 1) := dk_42 (dk_at dksX2_change_0 18 rfl rfl)
theorem dX2_change_19 : decode cX2_change 19 = .ok (.getfield 22, 3) := dk_180 0 22 (dk_at dksX2_change_0 19 rfl rfl)
theorem dX2_change_22 : decode cX2_change 22 = .ok (.iload_n 3, 1) := dk_29 (dk_at dksX2_change_0 22 rfl rfl)
theorem dX2_change_23 : decode cX2_change 23 = .ok (.iload_n 2, 1) := dk_28 (dk_at dksX2_change_0 23 rfl rfl)
theorem dX2_change_24 : decode cX2_change 24 = .ok (.iastore, 1) := dk_79 (dk_at dksX2_change_1 0 rfl rfl)
theorem dX2_change_25 : decode cX2_change 25 = .ok (.iload 4, 2) := dk_21 4 (dk_at dksX2_change_1 1 rfl rfl)
theorem dX2_change_27 : decode cX2_change 27 = .ok (.iconst (-1), 1) := dk_2 (dk_at dksX2_change_1 3 rfl rfl)
theorem dX2_change_28 : decode cX2_change 28 = .ok (.if_icmp .eq 11, 3) := dk_159 0 11 (dk_at dksX2_change_1 4 rfl rfl)
theorem dX2_change_31 : decode cX2_change 31 = .ok (.aload_n 0, 1) := dk_42 (dk_at dksX2_change_1 7 rfl rfl)
theorem dX2_change_32 : decode cX2_change 32 = .ok (.getfield 22, 3) := dk_180 0 22 (dk_at dksX2_change_1 8 rfl rfl)
theorem dX2_change_35 : decode cX2_change 35 = .ok (.iload 4, 2) := dk_21 4 (dk_at dksX2_change_1 11 rfl rfl)
theorem dX2_change_37 : decode cX2_change 37 = .ok (.iload_n 1, 1) := dk_27 (dk_at dksX2_change_1 13 rfl rfl)
theorem dX2_change_38 : decode cX2_change 38 = .ok (.iastore, 1) := dk_79 (dk_at dksX2_change_1 14 rfl rfl)
theorem dX2_change_39 : decode cX2_change 39 = .ok (.return_, 1) := dk_177 (dk_at dksX2_change_1 15 rfl rfl)
abbrev cX2_byDraws : ByteArray := prog_10_method_15_code
def yX2_byDraws : MethodName := ⟨RX2, "byDraws", "()V"⟩
def dkwX2_byDraws_3 : List UInt8 := [182, 0, 153, 177]
abbrev dktX2_byDraws_3 : List UInt8 := dkwX2_byDraws_3 ++ []
def dkwX2_byDraws_2 : List UInt8 := [182, 0, 149, 61, 167, 0, 23, 42, 16, 9, 182, 0, 143, 61, 42, 16, 9, 182, 0, 143, 62, 42, 28, 29]
abbrev dktX2_byDraws_2 : List UInt8 := dkwX2_byDraws_2 ++ dktX2_byDraws_3
def dkwX2_byDraws_1 : List UInt8 := [28, 29, 4, 42, 16, 40, 182, 0, 143, 96, 182, 0, 146, 54, 4, 167, 0, 36, 27, 5, 160, 0, 11, 42]
abbrev dktX2_byDraws_1 : List UInt8 := dkwX2_byDraws_1 ++ dktX2_byDraws_2
def dkwX2_byDraws_0 : List UInt8 := [42, 7, 182, 0, 143, 60, 27, 5, 162, 0, 34, 42, 8, 182, 0, 143, 61, 42, 6, 182, 0, 143, 62, 42]
abbrev dktX2_byDraws_0 : List UInt8 := dkwX2_byDraws_0 ++ dktX2_byDraws_1
theorem dksX2_byDraws_0 : cX2_byDraws.data.toList.drop 0 = dktX2_byDraws_0 := by decide +kernel
theorem dksX2_byDraws_1 : cX2_byDraws.data.toList.drop 24 = dktX2_byDraws_1 := dk_seg dksX2_byDraws_0 24 rfl rfl
theorem dksX2_byDraws_2 : cX2_byDraws.data.toList.drop 48 = dktX2_byDraws_2 := dk_seg dksX2_byDraws_1 24 rfl rfl
theorem dksX2_byDraws_3 : cX2_byDraws.data.toList.drop 72 = dktX2_byDraws_3 := dk_seg dksX2_byDraws_2 24 rfl rfl
theorem dX2_byDraws_0 : decode cX2_byDraws 0 = .ok (.aload_n 0, 1) := dk_42 (dk_at dksX2_byDraws_0 0 rfl rfl)
theorem dX2_byDraws_1 : decode cX2_byDraws 1 = .ok (.iconst 4, 1) := dk_7 (dk_at dksX2_byDraws_0 1 rfl rfl)
theorem dX2_byDraws_2 : decode cX2_byDraws 2 = .ok (.invokevirtual 143, 3) := dk_182 0 143 (dk_at dksX2_byDraws_0 2 rfl rfl)
theorem dX2_byDraws_5 : decode cX2_byDraws 5 = .ok (.istore_n 1, 1) := dk_60 (dk_at dksX2_byDraws_0 5 rfl rfl)
theorem dX2_byDraws_6 : decode cX2_byDraws 6 = .ok (.iload_n 1, 1) := dk_27 (dk_at dksX2_byDraws_0 6 rfl rfl)
theorem dX2_byDraws_7 : decode cX2_byDraws 7 = .ok (.iconst 2, 1) := dk_5 (dk_at dksX2_byDraws_0 7 rfl rfl)
theorem dX2_byDraws_8 : decode cX2_byDraws 8 = .ok (.if_icmp .ge 34, 3) := dk_162 0 34 (dk_at dksX2_byDraws_0 8 rfl rfl)
theorem dX2_byDraws_11 : decode cX2_byDraws 11 = .ok (.aload_n 0, 1) := dk_42 (dk_at dksX2_byDraws_0 11 rfl rfl)
theorem dX2_byDraws_12 : decode cX2_byDraws 12 = .ok (.iconst 5, 1) := dk_8 (dk_at dksX2_byDraws_0 12 rfl rfl)
theorem dX2_byDraws_13 : decode cX2_byDraws 13 = .ok (.invokevirtual 143, 3) := dk_182 0 143 (dk_at dksX2_byDraws_0 13 rfl rfl)
theorem dX2_byDraws_16 : decode cX2_byDraws 16 = .ok (.istore_n 2, 1) := dk_61 (dk_at dksX2_byDraws_0 16 rfl rfl)
theorem dX2_byDraws_17 : decode cX2_byDraws 17 = .ok (.aload_n 0, 1) := dk_42 (dk_at dksX2_byDraws_0 17 rfl rfl)
theorem dX2_byDraws_18 : decode cX2_byDraws 18 = .ok (.iconst 3, 1) := dk_6 (dk_at dksX2_byDraws_0 18 rfl rfl)
theorem dX2_byDraws_19 : decode cX2_byDraws 19 = .ok (.invokevirtual 143, 3) := dk_182 0 143 (dk_at dksX2_byDraws_0 19 rfl rfl)
theorem dX2_byDraws_22 : decode cX2_byDraws 22 = .ok (.istore_n 3, 1) := dk_62 (dk_at dksX2_byDraws_0 22 rfl rfl)
theorem dX2_byDraws_23 : decode cX2_byDraws 23 = .ok (.aload_n 0, 1) := dk_42 (dk_at dksX2_byDraws_0 23 rfl rfl)
theorem dX2_byDraws_24 : decode cX2_byDraws 24 = .ok (.iload_n 2, 1) := dk_28 (dk_at dksX2_byDraws_1 0 rfl rfl)
theorem dX2_byDraws_25 : decode cX2_byDraws 25 = .ok (.iload_n 3, 1) := dk_29 (dk_at dksX2_byDraws_1 1 rfl rfl)
theorem dX2_byDraws_26 : decode cX2_byDraws 26 = .ok (.iconst 1, 1) := dk_4 (dk_at dksX2_byDraws_1 2 rfl rfl)
theorem dX2_byDraws_27 : decode cX2_byDraws 27 = .ok (.aload_n 0, 1) := dk_42 (dk_at dksX2_byDraws_1 3 rfl rfl)
theorem dX2_byDraws_28 : decode cX2_byDraws 28 = .ok (.bipush 40, 2) := dk_16 40 (dk_at dksX2_byDraws_1 4 rfl rfl)
theorem dX2_byDraws_30 : decode cX2_byDraws 30 = .ok (.invokevirtual 143, 3) := dk_182 0 143 (dk_at dksX2_byDraws_1 6 rfl rfl)
theorem dX2_byDraws_33 : decode cX2_byDraws 33 = .ok (.iadd, 1) := dk_96 (dk_at dksX2_byDraws_1 9 rfl rfl)
theorem dX2_byDraws_34 : decode cX2_byDraws 34 = .ok (.invokevirtual 146, 3) := dk_182 0 146 (dk_at dksX2_byDraws_1 10 rfl rfl)
theorem dX2_byDraws_37 : decode cX2_byDraws 37 = .ok (.istore 4, 2) := dk_54 4 (dk_at dksX2_byDraws_1 13 rfl rfl)
theorem dX2_byDraws_39 : decode cX2_byDraws 39 = .ok (.goto 36, 3) := dk_167 0 36 (dk_at dksX2_byDraws_1 15 rfl rfl)
theorem dX2_byDraws_42 : decode cX2_byDraws 42 = .ok (.iload_n 1, 1) := dk_27 (dk_at dksX2_byDraws_1 18 rfl rfl)
theorem dX2_byDraws_43 : decode cX2_byDraws 43 = .ok (.iconst 2, 1) := dk_5 (dk_at dksX2_byDraws_1 19 rfl rfl)
theorem dX2_byDraws_44 : decode cX2_byDraws 44 = .ok (.if_icmp .ne 11, 3) := dk_160 0 11 (dk_at dksX2_byDraws_1 20 rfl rfl)
theorem dX2_byDraws_47 : decode cX2_byDraws 47 = .ok (.aload_n 0, 1) := dk_42 (dk_at dksX2_byDraws_1 23 rfl rfl)
theorem dX2_byDraws_48 : decode cX2_byDraws 48 = .ok (.invokevirtual 149, 3) := dk_182 0 149 (dk_at dksX2_byDraws_2 0 rfl rfl)
theorem dX2_byDraws_51 : decode cX2_byDraws 51 = .ok (.istore_n 2, 1) := dk_61 (dk_at dksX2_byDraws_2 3 rfl rfl)
theorem dX2_byDraws_52 : decode cX2_byDraws 52 = .ok (.goto 23, 3) := dk_167 0 23 (dk_at dksX2_byDraws_2 4 rfl rfl)
theorem dX2_byDraws_55 : decode cX2_byDraws 55 = .ok (.aload_n 0, 1) := dk_42 (dk_at dksX2_byDraws_2 7 rfl rfl)
theorem dX2_byDraws_56 : decode cX2_byDraws 56 = .ok (.bipush 9, 2) := dk_16 9 (dk_at dksX2_byDraws_2 8 rfl rfl)
theorem dX2_byDraws_58 : decode cX2_byDraws 58 = .ok (.invokevirtual 143, 3) := dk_182 0 143 (dk_at dksX2_byDraws_2 10 rfl rfl)
theorem dX2_byDraws_61 : decode cX2_byDraws 61 = .ok (.istore_n 2, 1) := dk_61 (dk_at dksX2_byDraws_2 13 rfl rfl)
theorem dX2_byDraws_62 : decode cX2_byDraws 62 = .ok (.aload_n 0, 1) := dk_42 (dk_at dksX2_byDraws_2 14 rfl rfl)
theorem dX2_byDraws_63 : decode cX2_byDraws 63 = .ok (.bipush 9, 2) := dk_16 9 (dk_at dksX2_byDraws_2 15 rfl rfl)
theorem dX2_byDraws_65 : decode cX2_byDraws 65 = .ok (.invokevirtual 143, 3) := dk_182 0 143 (dk_at dksX2_byDraws_2 17 rfl rfl)
theorem dX2_byDraws_68 : decode cX2_byDraws 68 = .ok (.istore_n 3, 1) := dk_62 (dk_at dksX2_byDraws_2 20 rfl rfl)
theorem dX2_byDraws_69 : decode cX2_byDraws 69 = .ok (.aload_n 0, 1) := dk_42 (dk_at dksX2_byDraws_2 21 rfl rfl)
theorem dX2_byDraws_70 : decode cX2_byDraws 70 = .ok (.iload_n 2, 1) := dk_28 (dk_at dksX2_byDraws_2 22 rfl rfl)
theorem dX2_byDraws_71 : decode cX2_byDraws 71 = .ok (.iload_n 3, 1) := dk_29 (dk_at dksX2_byDraws_2 23 rfl rfl)
theorem dX2_byDraws_72 : decode cX2_byDraws 72 = .ok (.invokevirtual 153, 3) := dk_182 0 153 (dk_at dksX2_byDraws_3 0 rfl rfl)
theorem dX2_byDraws_75 : decode cX2_byDraws 75 = .ok (.return_, 1) := dk_177 (dk_at dksX2_byDraws_3 3 rfl rfl)
abbrev cX2_draw : ByteArray := prog_10_method_4_code
def yX2_draw : MethodName := ⟨RX2, "draw", "(I)I"⟩
def dkwX2_draw_1 : List UInt8 := [180, 0, 64, 18, 73, 108, 27, 112, 172]
abbrev dktX2_draw_1 : List UInt8 := dkwX2_draw_1 ++ []
def dkwX2_draw_0 : List UInt8 := [42, 42, 180, 0, 64, 133, 20, 0, 67, 105, 20, 0, 69, 97, 20, 0, 71, 113, 136, 181, 0, 64, 42]
abbrev dktX2_draw_0 : List UInt8 := dkwX2_draw_0 ++ dktX2_draw_1
theorem dksX2_draw_0 : cX2_draw.data.toList.drop 0 = dktX2_draw_0 := by decide +kernel
theorem dksX2_draw_1 : cX2_draw.data.toList.drop 23 = dktX2_draw_1 := dk_seg dksX2_draw_0 23 rfl rfl
theorem dX2_draw_0 : decode cX2_draw 0 = .ok (.aload_n 0, 1) := dk_42 (dk_at dksX2_draw_0 0 rfl rfl)
theorem dX2_draw_1 : decode cX2_draw 1 = .ok (.aload_n 0, 1) := dk_42 (dk_at dksX2_draw_0 1 rfl rfl)
theorem dX2_draw_2 : decode cX2_draw 2 = .ok (.getfield 64, 3) := dk_180 0 64 (dk_at dksX2_draw_0 2 rfl rfl)
theorem dX2_draw_5 : decode cX2_draw 5 = .ok (.i2l, 1) := dk_133 (dk_at dksX2_draw_0 5 rfl rfl)
theorem dX2_draw_6 : decode cX2_draw 6 = .ok (.ldc2_w 67, 3) := dk_20 0 67 (dk_at dksX2_draw_0 6 rfl rfl)
theorem dX2_draw_9 : decode cX2_draw 9 = .ok (.lmul, 1) := dk_105 (dk_at dksX2_draw_0 9 rfl rfl)
theorem dX2_draw_10 : decode cX2_draw 10 = .ok (.ldc2_w 69, 3) := dk_20 0 69 (dk_at dksX2_draw_0 10 rfl rfl)
theorem dX2_draw_13 : decode cX2_draw 13 = .ok (.ladd, 1) := dk_97 (dk_at dksX2_draw_0 13 rfl rfl)
theorem dX2_draw_14 : decode cX2_draw 14 = .ok (.ldc2_w 71, 3) := dk_20 0 71 (dk_at dksX2_draw_0 14 rfl rfl)
theorem dX2_draw_17 : decode cX2_draw 17 = .ok (.lrem, 1) := dk_113 (dk_at dksX2_draw_0 17 rfl rfl)
theorem dX2_draw_18 : decode cX2_draw 18 = .ok (.l2i, 1) := dk_136 (dk_at dksX2_draw_0 18 rfl rfl)
theorem dX2_draw_19 : decode cX2_draw 19 = .ok (.putfield 64, 3) := dk_181 0 64 (dk_at dksX2_draw_0 19 rfl rfl)
theorem dX2_draw_22 : decode cX2_draw 22 = .ok (.aload_n 0, 1) := dk_42 (dk_at dksX2_draw_0 22 rfl rfl)
theorem dX2_draw_23 : decode cX2_draw 23 = .ok (.getfield 64, 3) := dk_180 0 64 (dk_at dksX2_draw_1 0 rfl rfl)
theorem dX2_draw_26 : decode cX2_draw 26 = .ok (.ldc 73, 2) := dk_18 73 (dk_at dksX2_draw_1 3 rfl rfl)
theorem dX2_draw_28 : decode cX2_draw 28 = .ok (.idiv, 1) := dk_108 (dk_at dksX2_draw_1 5 rfl rfl)
theorem dX2_draw_29 : decode cX2_draw 29 = .ok (.iload_n 1, 1) := dk_27 (dk_at dksX2_draw_1 6 rfl rfl)
theorem dX2_draw_30 : decode cX2_draw 30 = .ok (.irem, 1) := dk_112 (dk_at dksX2_draw_1 7 rfl rfl)
theorem dX2_draw_31 : decode cX2_draw 31 = .ok (.ireturn, 1) := dk_172 (dk_at dksX2_draw_1 8 rfl rfl)
theorem q58 : (Jvm.Cond.initialized "SkittleGentry$State") ∈ lw_all := lw_g (lw_at lw_m1 3 rfl) rfl
theorem q90 : (Jvm.Cond.fieldLinkNest "SkittleGentry$State" (132 : Nat) "SkittleGentry$County" "floor" "I" "SkittleGentry") ∈ lw_tbl := lw_at lw_m1 35 rfl
theorem q93 : (Jvm.Cond.fieldLinkNest "SkittleGentry$State" (35 : Nat) "SkittleGentry$County" "kind" "[I" "SkittleGentry") ∈ lw_tbl := lw_at lw_m1 38 rfl
theorem q96 : (Jvm.Cond.fieldLinkNest "SkittleGentry$State" (78 : Nat) "SkittleGentry$County" "weight" "[I" "SkittleGentry") ∈ lw_tbl := lw_at lw_m1 41 rfl
theorem q100 : (Jvm.Cond.fieldLinkNest "SkittleGentry$State" (44 : Nat) "SkittleGentry$County" "chip" "[I" "SkittleGentry") ∈ lw_tbl := lw_at lw_m1 45 rfl
theorem q102 : (Jvm.Cond.fieldLinkNest "SkittleGentry$State" (45 : Nat) "SkittleGentry$County" "many" "I" "SkittleGentry") ∈ lw_tbl := lw_at lw_m1 47 rfl
theorem q118 : (Jvm.Cond.instantiable "SkittleGentry$State" (13 : Nat)) ∈ lw_all := lw_g (lw_at lw_m1 63 rfl) rfl
theorem q120 : (Jvm.Cond.instanceMethod ({ cls := "SkittleGentry$State", name := "<init>", desc := "(LSkittleGentry;)V" } : Jvm.MethodName)) ∈ lw_all := lw_g (lw_at lw_m1 65 rfl) rfl
theorem q121 : (Jvm.Cond.code ({ cls := "SkittleGentry$State", name := "<init>", desc := "(LSkittleGentry;)V" } : Jvm.MethodName) prog_10_method_1_code (2 : Nat) (Option.none : Option Jvm.ClassFile.FieldType)) ∈ lw_all := lw_g (lw_at lw_m1 66 rfl) rfl
theorem q122 : (Jvm.Cond.methodLink "SkittleGentry$State" (9 : Nat) ({ cls := "java/lang/Object", name := "<init>", desc := "()V" } : Jvm.MethodName)) ∈ lw_all := lw_g (lw_at lw_m1 67 rfl) rfl
theorem q123 : (Jvm.Cond.fieldLink "SkittleGentry$State" (15 : Nat) "SkittleGentry$State" "kind" "[I") ∈ lw_all := lw_g (lw_at lw_m1 68 rfl) rfl
theorem q125 : (Jvm.Cond.fieldLink "SkittleGentry$State" (19 : Nat) "SkittleGentry$State" "chip" "[I") ∈ lw_all := lw_g (lw_at lw_m1 70 rfl) rfl
theorem q127 : (Jvm.Cond.fieldLink "SkittleGentry$State" (22 : Nat) "SkittleGentry$State" "plate" "[I") ∈ lw_all := lw_g (lw_at lw_m1 72 rfl) rfl
theorem q129 : (Jvm.Cond.fieldLink "SkittleGentry$State" (25 : Nat) "SkittleGentry$State" "rocked" "[I") ∈ lw_all := lw_g (lw_at lw_m1 74 rfl) rfl
theorem q131 : (Jvm.Cond.fieldLink "SkittleGentry$State" (28 : Nat) "SkittleGentry$State" "taken" "[I") ∈ lw_all := lw_g (lw_at lw_m1 76 rfl) rfl
theorem q133 : (Jvm.Cond.fieldLink "SkittleGentry$State" (55 : Nat) "SkittleGentry$State" "stands" "I") ∈ lw_all := lw_g (lw_at lw_m1 78 rfl) rfl
theorem q135 : (Jvm.Cond.fieldLink "SkittleGentry$State" (58 : Nat) "SkittleGentry$State" "throwMany" "I") ∈ lw_all := lw_g (lw_at lw_m1 80 rfl) rfl
theorem q137 : (Jvm.Cond.fieldLink "SkittleGentry$State" (61 : Nat) "SkittleGentry$State" "floorers" "I") ∈ lw_all := lw_g (lw_at lw_m1 82 rfl) rfl
theorem q139 : (Jvm.Cond.fieldLink "SkittleGentry$State" (64 : Nat) "SkittleGentry$State" "seed" "I") ∈ lw_all := lw_g (lw_at lw_m1 84 rfl) rfl
theorem q142 : (Jvm.Cond.fieldLink "SkittleGentry$State" (116 : Nat) "SkittleGentry$State" "rocks" "I") ∈ lw_all := lw_g (lw_at lw_m1 87 rfl) rfl
theorem q144 : (Jvm.Cond.fieldLink "SkittleGentry$State" (129 : Nat) "SkittleGentry$State" "stays" "I") ∈ lw_all := lw_g (lw_at lw_m1 89 rfl) rfl
theorem q146 : (Jvm.Cond.fieldLink "SkittleGentry$State" (3 : Nat) "SkittleGentry$State" "this$0" "LSkittleGentry;") ∈ lw_all := lw_g (lw_at lw_m1 91 rfl) rfl
theorem q147 : (Jvm.Cond.laysFinal "SkittleGentry$State" "SkittleGentry$State" "kind" "[I") ∈ lw_all := lw_g (lw_at lw_m1 92 rfl) rfl
theorem q148 : (Jvm.Cond.soleField "SkittleGentry$State" "kind") ∈ lw_all := lw_g (lw_at lw_m1 93 rfl) rfl
theorem q149 : (Jvm.Cond.laysFinal "SkittleGentry$State" "SkittleGentry$State" "chip" "[I") ∈ lw_all := lw_g (lw_at lw_m1 94 rfl) rfl
theorem q150 : (Jvm.Cond.soleField "SkittleGentry$State" "chip") ∈ lw_all := lw_g (lw_at lw_m1 95 rfl) rfl
theorem q151 : (Jvm.Cond.laysFinal "SkittleGentry$State" "SkittleGentry$State" "plate" "[I") ∈ lw_all := lw_g (lw_at lw_m1 96 rfl) rfl
theorem q152 : (Jvm.Cond.soleField "SkittleGentry$State" "plate") ∈ lw_all := lw_g (lw_at lw_m1 97 rfl) rfl
theorem q153 : (Jvm.Cond.laysFinal "SkittleGentry$State" "SkittleGentry$State" "rocked" "[I") ∈ lw_all := lw_g (lw_at lw_m1 98 rfl) rfl
theorem q154 : (Jvm.Cond.soleField "SkittleGentry$State" "rocked") ∈ lw_all := lw_g (lw_at lw_m1 99 rfl) rfl
theorem q155 : (Jvm.Cond.laysFinal "SkittleGentry$State" "SkittleGentry$State" "taken" "[I") ∈ lw_all := lw_g (lw_at lw_m1 100 rfl) rfl
theorem q156 : (Jvm.Cond.soleField "SkittleGentry$State" "taken") ∈ lw_all := lw_g (lw_at lw_m1 101 rfl) rfl
theorem q157 : (Jvm.Cond.lays "SkittleGentry$State" "SkittleGentry$State" "stands" "I") ∈ lw_all := lw_g (lw_at lw_m1 102 rfl) rfl
theorem q158 : (Jvm.Cond.soleField "SkittleGentry$State" "stands") ∈ lw_all := lw_g (lw_at lw_m1 103 rfl) rfl
theorem q159 : (Jvm.Cond.lays "SkittleGentry$State" "SkittleGentry$State" "throwMany" "I") ∈ lw_all := lw_g (lw_at lw_m1 104 rfl) rfl
theorem q160 : (Jvm.Cond.soleField "SkittleGentry$State" "throwMany") ∈ lw_all := lw_g (lw_at lw_m1 105 rfl) rfl
theorem q161 : (Jvm.Cond.lays "SkittleGentry$State" "SkittleGentry$State" "floorers" "I") ∈ lw_all := lw_g (lw_at lw_m1 106 rfl) rfl
theorem q162 : (Jvm.Cond.soleField "SkittleGentry$State" "floorers") ∈ lw_all := lw_g (lw_at lw_m1 107 rfl) rfl
theorem q163 : (Jvm.Cond.lays "SkittleGentry$State" "SkittleGentry$State" "seed" "I") ∈ lw_all := lw_g (lw_at lw_m1 108 rfl) rfl
theorem q164 : (Jvm.Cond.soleField "SkittleGentry$State" "seed") ∈ lw_all := lw_g (lw_at lw_m1 109 rfl) rfl
theorem q165 : (Jvm.Cond.lays "SkittleGentry$State" "SkittleGentry$State" "isKept" "Z") ∈ lw_all := lw_g (lw_at lw_m1 110 rfl) rfl
theorem q166 : (Jvm.Cond.soleField "SkittleGentry$State" "isKept") ∈ lw_all := lw_g (lw_at lw_m1 111 rfl) rfl
theorem q167 : (Jvm.Cond.lays "SkittleGentry$State" "SkittleGentry$State" "rocks" "I") ∈ lw_all := lw_g (lw_at lw_m1 112 rfl) rfl
theorem q168 : (Jvm.Cond.soleField "SkittleGentry$State" "rocks") ∈ lw_all := lw_g (lw_at lw_m1 113 rfl) rfl
theorem q169 : (Jvm.Cond.lays "SkittleGentry$State" "SkittleGentry$State" "stays" "I") ∈ lw_all := lw_g (lw_at lw_m1 114 rfl) rfl
theorem q170 : (Jvm.Cond.soleField "SkittleGentry$State" "stays") ∈ lw_all := lw_g (lw_at lw_m1 115 rfl) rfl
theorem q171 : (Jvm.Cond.laysFinal "SkittleGentry$State" "SkittleGentry$State" "this$0" "LSkittleGentry;") ∈ lw_all := lw_g (lw_at lw_m1 116 rfl) rfl
theorem q172 : (Jvm.Cond.soleField "SkittleGentry$State" "this$0") ∈ lw_all := lw_g (lw_at lw_m1 117 rfl) rfl
theorem q173 : (Jvm.Cond.superclass "SkittleGentry$State" "java/lang/Object") ∈ lw_all := lw_g (lw_at lw_m1 118 rfl) rfl
theorem q205 : (Jvm.Cond.instanceMethod ({ cls := "SkittleGentry$State", name := "begin", desc := "()V" } : Jvm.MethodName)) ∈ lw_all := lw_g (lw_at lw_m1 150 rfl) rfl
theorem q206 : (Jvm.Cond.selects "SkittleGentry$State" ({ cls := "SkittleGentry$State", name := "begin", desc := "()V" } : Jvm.MethodName) ({ cls := "SkittleGentry$State", name := "begin", desc := "()V" } : Jvm.MethodName)) ∈ lw_all := lw_g (lw_at lw_m1 151 rfl) rfl
theorem q207 : (Jvm.Cond.code ({ cls := "SkittleGentry$State", name := "begin", desc := "()V" } : Jvm.MethodName) prog_10_method_2_code (2 : Nat) (Option.none : Option Jvm.ClassFile.FieldType)) ∈ lw_all := lw_g (lw_at lw_m1 152 rfl) rfl
theorem q208 : (Jvm.Cond.methodLink "SkittleGentry$State" (38 : Nat) ({ cls := "java/lang/System", name := "arraycopy", desc := "(Ljava/lang/Object;ILjava/lang/Object;II)V" } : Jvm.MethodName)) ∈ lw_all := lw_g (lw_at lw_m1 153 rfl) rfl
theorem q211 : (Jvm.Cond.methodLink "SkittleGentry$State" (49 : Nat) ({ cls := "java/util/Arrays", name := "fill", desc := "([II)V" } : Jvm.MethodName)) ∈ lw_all := lw_g (lw_at lw_m1 156 rfl) rfl
theorem q214 : (Jvm.Cond.fieldLinkNest "SkittleGentry$State" (74 : Nat) "SkittleGentry" "kinds" "[LSkittleGentry$Gentry;" "SkittleGentry") ∈ lw_tbl := lw_at lw_m1 159 rfl
theorem q216 : (Jvm.Cond.fieldLinkNest "SkittleGentry$State" (31 : Nat) "SkittleGentry" "county" "LSkittleGentry$County;" "SkittleGentry") ∈ lw_tbl := lw_at lw_m1 161 rfl
theorem q427 : (Jvm.Cond.instanceMethod ({ cls := "SkittleGentry$State", name := "set", desc := "(LSkittleGentry$State;)V" } : Jvm.MethodName)) ∈ lw_all := lw_g (lw_at lw_m2 132 rfl) rfl
theorem q428 : (Jvm.Cond.selects "SkittleGentry$State" ({ cls := "SkittleGentry$State", name := "set", desc := "(LSkittleGentry$State;)V" } : Jvm.MethodName) ({ cls := "SkittleGentry$State", name := "set", desc := "(LSkittleGentry$State;)V" } : Jvm.MethodName)) ∈ lw_all := lw_g (lw_at lw_m2 133 rfl) rfl
theorem q429 : (Jvm.Cond.code ({ cls := "SkittleGentry$State", name := "set", desc := "(LSkittleGentry$State;)V" } : Jvm.MethodName) prog_10_method_3_code (2 : Nat) (Option.none : Option Jvm.ClassFile.FieldType)) ∈ lw_all := lw_g (lw_at lw_m2 134 rfl) rfl
theorem q431 : (Jvm.Cond.instanceMethod ({ cls := "SkittleGentry$State", name := "rollBall", desc := "(I)I" } : Jvm.MethodName)) ∈ lw_all := lw_g (lw_at lw_m2 136 rfl) rfl
theorem q432 : (Jvm.Cond.selects "SkittleGentry$State" ({ cls := "SkittleGentry$State", name := "rollBall", desc := "(I)I" } : Jvm.MethodName) ({ cls := "SkittleGentry$State", name := "rollBall", desc := "(I)I" } : Jvm.MethodName)) ∈ lw_all := lw_g (lw_at lw_m2 137 rfl) rfl
theorem q433 : (Jvm.Cond.code ({ cls := "SkittleGentry$State", name := "rollBall", desc := "(I)I" } : Jvm.MethodName) prog_10_method_11_code (2 : Nat) (Option.some Jvm.ClassFile.FieldType.int)) ∈ lw_all := lw_g (lw_at lw_m2 138 rfl) rfl
theorem q434 : (Jvm.Cond.methodLink "SkittleGentry$State" (135 : Nat) ({ cls := "SkittleGentry$State", name := "roll", desc := "(III)I" } : Jvm.MethodName)) ∈ lw_all := lw_g (lw_at lw_m2 139 rfl) rfl
theorem q435 : (Jvm.Cond.instanceMethod ({ cls := "SkittleGentry$State", name := "roll", desc := "(III)I" } : Jvm.MethodName)) ∈ lw_all := lw_g (lw_at lw_m2 140 rfl) rfl
theorem q436 : (Jvm.Cond.selects "SkittleGentry$State" ({ cls := "SkittleGentry$State", name := "roll", desc := "(III)I" } : Jvm.MethodName) ({ cls := "SkittleGentry$State", name := "roll", desc := "(III)I" } : Jvm.MethodName)) ∈ lw_all := lw_g (lw_at lw_m2 141 rfl) rfl
theorem q437 : (Jvm.Cond.code ({ cls := "SkittleGentry$State", name := "roll", desc := "(III)I" } : Jvm.MethodName) prog_10_method_10_code (9 : Nat) (Option.some Jvm.ClassFile.FieldType.int)) ∈ lw_all := lw_g (lw_at lw_m2 142 rfl) rfl
theorem q438 : (Jvm.Cond.methodLink "SkittleGentry$State" (122 : Nat) ({ cls := "SkittleGentry$State", name := "standingAt", desc := "(II)I" } : Jvm.MethodName)) ∈ lw_all := lw_g (lw_at lw_m2 143 rfl) rfl
theorem q439 : (Jvm.Cond.privateMethod ({ cls := "SkittleGentry$State", name := "standingAt", desc := "(II)I" } : Jvm.MethodName)) ∈ lw_tbl := lw_at lw_m2 144 rfl
theorem q440 : (Jvm.Cond.instanceMethod ({ cls := "SkittleGentry$State", name := "standingAt", desc := "(II)I" } : Jvm.MethodName)) ∈ lw_all := lw_g (lw_at lw_m2 145 rfl) rfl
theorem q441 : (Jvm.Cond.code ({ cls := "SkittleGentry$State", name := "standingAt", desc := "(II)I" } : Jvm.MethodName) prog_10_method_7_code (5 : Nat) (Option.some Jvm.ClassFile.FieldType.int)) ∈ lw_all := lw_g (lw_at lw_m2 146 rfl) rfl
theorem q442 : (Jvm.Cond.methodLinkNest "SkittleGentry$State" (97 : Nat) ({ cls := "SkittleGentry", name := "plateAt", desc := "(II)I" } : Jvm.MethodName) "SkittleGentry") ∈ lw_tbl := lw_at lw_m2 147 rfl
theorem q451 : (Jvm.Cond.methodLink "SkittleGentry$State" (100 : Nat) ({ cls := "SkittleGentry$State", name := "onPlate", desc := "(I)I" } : Jvm.MethodName)) ∈ lw_all := lw_g (lw_at lw_m2 156 rfl) rfl
theorem q452 : (Jvm.Cond.instanceMethod ({ cls := "SkittleGentry$State", name := "onPlate", desc := "(I)I" } : Jvm.MethodName)) ∈ lw_all := lw_g (lw_at lw_m2 157 rfl) rfl
theorem q453 : (Jvm.Cond.selects "SkittleGentry$State" ({ cls := "SkittleGentry$State", name := "onPlate", desc := "(I)I" } : Jvm.MethodName) ({ cls := "SkittleGentry$State", name := "onPlate", desc := "(I)I" } : Jvm.MethodName)) ∈ lw_all := lw_g (lw_at lw_m2 158 rfl) rfl
theorem q454 : (Jvm.Cond.code ({ cls := "SkittleGentry$State", name := "onPlate", desc := "(I)I" } : Jvm.MethodName) prog_10_method_5_code (4 : Nat) (Option.some Jvm.ClassFile.FieldType.int)) ∈ lw_all := lw_g (lw_at lw_m2 159 rfl) rfl
theorem q455 : (Jvm.Cond.methodLinkNest "SkittleGentry$State" (103 : Nat) ({ cls := "SkittleGentry", name := "has", desc := "(II)Z" } : Jvm.MethodName) "SkittleGentry") ∈ lw_tbl := lw_at lw_m2 160 rfl
theorem q458 : (Jvm.Cond.methodLink "SkittleGentry$State" (125 : Nat) ({ cls := "SkittleGentry$State", name := "hit", desc := "(III)Z" } : Jvm.MethodName)) ∈ lw_all := lw_g (lw_at lw_m2 163 rfl) rfl
theorem q459 : (Jvm.Cond.privateMethod ({ cls := "SkittleGentry$State", name := "hit", desc := "(III)Z" } : Jvm.MethodName)) ∈ lw_tbl := lw_at lw_m2 164 rfl
theorem q460 : (Jvm.Cond.instanceMethod ({ cls := "SkittleGentry$State", name := "hit", desc := "(III)Z" } : Jvm.MethodName)) ∈ lw_all := lw_g (lw_at lw_m2 165 rfl) rfl
theorem q461 : (Jvm.Cond.code ({ cls := "SkittleGentry$State", name := "hit", desc := "(III)Z" } : Jvm.MethodName) prog_10_method_8_code (5 : Nat) (Option.some Jvm.ClassFile.FieldType.boolean)) ∈ lw_all := lw_g (lw_at lw_m2 166 rfl) rfl
theorem q462 : (Jvm.Cond.methodLink "SkittleGentry$State" (107 : Nat) ({ cls := "SkittleGentry$State", name := "bears", desc := "(I)I" } : Jvm.MethodName)) ∈ lw_all := lw_g (lw_at lw_m2 167 rfl) rfl
theorem q463 : (Jvm.Cond.instanceMethod ({ cls := "SkittleGentry$State", name := "bears", desc := "(I)I" } : Jvm.MethodName)) ∈ lw_all := lw_g (lw_at lw_m2 168 rfl) rfl
theorem q464 : (Jvm.Cond.selects "SkittleGentry$State" ({ cls := "SkittleGentry$State", name := "bears", desc := "(I)I" } : Jvm.MethodName) ({ cls := "SkittleGentry$State", name := "bears", desc := "(I)I" } : Jvm.MethodName)) ∈ lw_all := lw_g (lw_at lw_m2 169 rfl) rfl
theorem q465 : (Jvm.Cond.code ({ cls := "SkittleGentry$State", name := "bears", desc := "(I)I" } : Jvm.MethodName) prog_10_method_6_code (3 : Nat) (Option.some Jvm.ClassFile.FieldType.int)) ∈ lw_all := lw_g (lw_at lw_m2 170 rfl) rfl
theorem q466 : (Jvm.Cond.methodLinkNest "SkittleGentry$State" (81 : Nat) ({ cls := "SkittleGentry", name := "rowOf", desc := "(I)I" } : Jvm.MethodName) "SkittleGentry") ∈ lw_tbl := lw_at lw_m2 171 rfl
theorem q467 : (Jvm.Cond.methodLink "SkittleGentry$State" (85 : Nat) ({ cls := "SkittleGentry$Gentry", name := "bears", desc := "(III)I" } : Jvm.MethodName)) ∈ lw_all := lw_g (lw_at lw_m2 172 rfl) rfl
theorem q484 : (Jvm.Cond.methodLink "SkittleGentry$State" (91 : Nat) ({ cls := "java/lang/Math", name := "max", desc := "(II)I" } : Jvm.MethodName)) ∈ lw_all := lw_g (lw_at lw_m2 189 rfl) rfl
theorem q487 : (Jvm.Cond.methodLink "SkittleGentry$State" (109 : Nat) ({ cls := "SkittleGentry$State", name := "strike", desc := "(III)V" } : Jvm.MethodName)) ∈ lw_all := lw_g (lw_at lw_m2 192 rfl) rfl
theorem q488 : (Jvm.Cond.privateMethod ({ cls := "SkittleGentry$State", name := "strike", desc := "(III)V" } : Jvm.MethodName)) ∈ lw_tbl := lw_at lw_m2 193 rfl
theorem q489 : (Jvm.Cond.instanceMethod ({ cls := "SkittleGentry$State", name := "strike", desc := "(III)V" } : Jvm.MethodName)) ∈ lw_all := lw_g (lw_at lw_m2 194 rfl) rfl
theorem q490 : (Jvm.Cond.code ({ cls := "SkittleGentry$State", name := "strike", desc := "(III)V" } : Jvm.MethodName) prog_10_method_9_code (6 : Nat) (Option.none : Option Jvm.ClassFile.FieldType)) ∈ lw_all := lw_g (lw_at lw_m2 195 rfl) rfl
theorem q491 : (Jvm.Cond.methodLinkNest "SkittleGentry$State" (119 : Nat) ({ cls := "SkittleGentry", name := "columnOf", desc := "(I)I" } : Jvm.MethodName) "SkittleGentry") ∈ lw_tbl := lw_at lw_m2 196 rfl
theorem q492 : (Jvm.Cond.methodLink "SkittleGentry$State" (113 : Nat) ({ cls := "java/lang/Math", name := "min", desc := "(II)I" } : Jvm.MethodName)) ∈ lw_all := lw_g (lw_at lw_m2 197 rfl) rfl
theorem q553 : (Jvm.Cond.instanceMethod ({ cls := "SkittleGentry$State", name := "throwBall", desc := "(III)I" } : Jvm.MethodName)) ∈ lw_all := lw_g (lw_at lw_m3 18 rfl) rfl
theorem q554 : (Jvm.Cond.selects "SkittleGentry$State" ({ cls := "SkittleGentry$State", name := "throwBall", desc := "(III)I" } : Jvm.MethodName) ({ cls := "SkittleGentry$State", name := "throwBall", desc := "(III)I" } : Jvm.MethodName)) ∈ lw_all := lw_g (lw_at lw_m3 19 rfl) rfl
theorem q555 : (Jvm.Cond.code ({ cls := "SkittleGentry$State", name := "throwBall", desc := "(III)I" } : Jvm.MethodName) prog_10_method_12_code (6 : Nat) (Option.some Jvm.ClassFile.FieldType.int)) ∈ lw_all := lw_g (lw_at lw_m3 20 rfl) rfl
theorem q561 : (Jvm.Cond.instanceMethod ({ cls := "SkittleGentry$State", name := "setUp", desc := "()I" } : Jvm.MethodName)) ∈ lw_all := lw_g (lw_at lw_m3 26 rfl) rfl
theorem q562 : (Jvm.Cond.selects "SkittleGentry$State" ({ cls := "SkittleGentry$State", name := "setUp", desc := "()I" } : Jvm.MethodName) ({ cls := "SkittleGentry$State", name := "setUp", desc := "()I" } : Jvm.MethodName)) ∈ lw_all := lw_g (lw_at lw_m3 27 rfl) rfl
theorem q563 : (Jvm.Cond.code ({ cls := "SkittleGentry$State", name := "setUp", desc := "()I" } : Jvm.MethodName) prog_10_method_13_code (2 : Nat) (Option.some Jvm.ClassFile.FieldType.int)) ∈ lw_all := lw_g (lw_at lw_m3 28 rfl) rfl
theorem q564 : (Jvm.Cond.methodLink "SkittleGentry$State" (138 : Nat) ({ cls := "java/lang/Integer", name := "bitCount", desc := "(I)I" } : Jvm.MethodName)) ∈ lw_all := lw_g (lw_at lw_m3 29 rfl) rfl
theorem q574 : (Jvm.Cond.instanceMethod ({ cls := "SkittleGentry$State", name := "change", desc := "(II)V" } : Jvm.MethodName)) ∈ lw_all := lw_g (lw_at lw_m3 39 rfl) rfl
theorem q575 : (Jvm.Cond.selects "SkittleGentry$State" ({ cls := "SkittleGentry$State", name := "change", desc := "(II)V" } : Jvm.MethodName) ({ cls := "SkittleGentry$State", name := "change", desc := "(II)V" } : Jvm.MethodName)) ∈ lw_all := lw_g (lw_at lw_m3 40 rfl) rfl
theorem q576 : (Jvm.Cond.code ({ cls := "SkittleGentry$State", name := "change", desc := "(II)V" } : Jvm.MethodName) prog_10_method_14_code (5 : Nat) (Option.none : Option Jvm.ClassFile.FieldType)) ∈ lw_all := lw_g (lw_at lw_m3 41 rfl) rfl
theorem q590 : (Jvm.Cond.instanceMethod ({ cls := "SkittleGentry$State", name := "byDraws", desc := "()V" } : Jvm.MethodName)) ∈ lw_all := lw_g (lw_at lw_m3 55 rfl) rfl
theorem q591 : (Jvm.Cond.selects "SkittleGentry$State" ({ cls := "SkittleGentry$State", name := "byDraws", desc := "()V" } : Jvm.MethodName) ({ cls := "SkittleGentry$State", name := "byDraws", desc := "()V" } : Jvm.MethodName)) ∈ lw_all := lw_g (lw_at lw_m3 56 rfl) rfl
theorem q592 : (Jvm.Cond.code ({ cls := "SkittleGentry$State", name := "byDraws", desc := "()V" } : Jvm.MethodName) prog_10_method_15_code (5 : Nat) (Option.none : Option Jvm.ClassFile.FieldType)) ∈ lw_all := lw_g (lw_at lw_m3 57 rfl) rfl
theorem q593 : (Jvm.Cond.methodLink "SkittleGentry$State" (143 : Nat) ({ cls := "SkittleGentry$State", name := "draw", desc := "(I)I" } : Jvm.MethodName)) ∈ lw_all := lw_g (lw_at lw_m3 58 rfl) rfl
theorem q594 : (Jvm.Cond.instanceMethod ({ cls := "SkittleGentry$State", name := "draw", desc := "(I)I" } : Jvm.MethodName)) ∈ lw_all := lw_g (lw_at lw_m3 59 rfl) rfl
theorem q595 : (Jvm.Cond.selects "SkittleGentry$State" ({ cls := "SkittleGentry$State", name := "draw", desc := "(I)I" } : Jvm.MethodName) ({ cls := "SkittleGentry$State", name := "draw", desc := "(I)I" } : Jvm.MethodName)) ∈ lw_all := lw_g (lw_at lw_m3 60 rfl) rfl
theorem q596 : (Jvm.Cond.code ({ cls := "SkittleGentry$State", name := "draw", desc := "(I)I" } : Jvm.MethodName) prog_10_method_4_code (2 : Nat) (Option.some Jvm.ClassFile.FieldType.int)) ∈ lw_all := lw_g (lw_at lw_m3 61 rfl) rfl
theorem q597 : (Jvm.Cond.constantLong "SkittleGentry$State" (67 : Nat) (1103515245 : Int64)) ∈ lw_all := lw_g (lw_at lw_m3 62 rfl) rfl
theorem q598 : (Jvm.Cond.constantLong "SkittleGentry$State" (69 : Nat) (12345 : Int64)) ∈ lw_all := lw_g (lw_at lw_m3 63 rfl) rfl
theorem q599 : (Jvm.Cond.constantLong "SkittleGentry$State" (71 : Nat) (2147483648 : Int64)) ∈ lw_all := lw_g (lw_at lw_m3 64 rfl) rfl
theorem q600 : (Jvm.Cond.constant "SkittleGentry$State" (73 : Nat) (65536 : Int32)) ∈ lw_all := lw_g (lw_at lw_m3 65 rfl) rfl
theorem q601 : (Jvm.Cond.methodLink "SkittleGentry$State" (146 : Nat) ({ cls := "SkittleGentry$State", name := "throwBall", desc := "(III)I" } : Jvm.MethodName)) ∈ lw_all := lw_g (lw_at lw_m3 66 rfl) rfl
theorem q602 : (Jvm.Cond.methodLink "SkittleGentry$State" (149 : Nat) ({ cls := "SkittleGentry$State", name := "setUp", desc := "()I" } : Jvm.MethodName)) ∈ lw_all := lw_g (lw_at lw_m3 67 rfl) rfl
theorem q603 : (Jvm.Cond.methodLink "SkittleGentry$State" (153 : Nat) ({ cls := "SkittleGentry$State", name := "change", desc := "(II)V" } : Jvm.MethodName)) ∈ lw_all := lw_g (lw_at lw_m3 68 rfl) rfl
theorem in_X2 : ∀ w ∈ wsX20, w ∈ lw_all := lw_in wsX20 [147, 149, 151, 153, 155, 157, 159, 161, 163, 165, 167, 169, 171] (by decide +kernel) (by decide +kernel)

/-! the law's own entry -/
set_option maxRecDepth 100000
abbrev cL_law : ByteArray := code
def dkwL_law_35 : List UInt8 := [172]
abbrev dktL_law_35 : List UInt8 := dkwL_law_35 ++ []
def dkwL_law_34 : List UInt8 := [182, 0, 127, 44, 42, 29, 4, 96, 46, 182, 0, 130, 159, 0, 5, 3, 172, 132, 3, 5, 167, 252, 129, 4]
abbrev dktL_law_34 : List UInt8 := dkwL_law_34 ++ dktL_law_35
def dkwL_law_33 : List UInt8 := [182, 0, 123, 44, 42, 29, 4, 96, 46, 182, 0, 126, 159, 0, 28, 3, 172, 43, 42, 29, 4, 96, 46]
abbrev dktL_law_33 : List UInt8 := dkwL_law_33 ++ dktL_law_34
def dkwL_law_32 : List UInt8 := [182, 0, 119, 44, 42, 29, 4, 96, 46, 182, 0, 122, 159, 0, 51, 3, 172, 43, 42, 29, 4, 96, 46]
abbrev dktL_law_32 : List UInt8 := dkwL_law_32 ++ dktL_law_33
def dkwL_law_31 : List UInt8 := [159, 0, 87, 3, 172, 43, 182, 0, 115, 44, 182, 0, 118, 159, 0, 74, 3, 172, 43, 42, 29, 4, 96, 46]
abbrev dktL_law_31 : List UInt8 := dkwL_law_31 ++ dktL_law_32
def dkwL_law_30 : List UInt8 := [153, 0, 7, 4, 167, 0, 4, 3, 182, 0, 110, 159, 0, 100, 3, 172, 43, 182, 0, 111, 44, 182, 0, 114]
abbrev dktL_law_30 : List UInt8 := dkwL_law_30 ++ dktL_law_31
def dkwL_law_29 : List UInt8 := [46, 153, 0, 7, 4, 167, 0, 4, 3, 182, 0, 106, 44, 42, 29, 4, 96, 46, 42, 29, 5, 96, 46]
abbrev dktL_law_29 : List UInt8 := dkwL_law_29 ++ dktL_law_30
def dkwL_law_28 : List UInt8 := [46, 42, 29, 5, 96, 46, 182, 0, 105, 159, 0, 149, 3, 172, 43, 42, 29, 4, 96, 46, 42, 29, 5, 96]
abbrev dktL_law_28 : List UInt8 := dkwL_law_28 ++ dktL_law_29
def dkwL_law_27 : List UInt8 := [159, 0, 182, 3, 172, 43, 42, 29, 4, 96, 46, 42, 29, 5, 96, 46, 182, 0, 102, 44, 42, 29, 4, 96]
abbrev dktL_law_27 : List UInt8 := dkwL_law_27 ++ dktL_law_28
def dkwL_law_26 : List UInt8 := [159, 0, 205, 3, 172, 43, 42, 29, 4, 96, 46, 182, 0, 98, 44, 42, 29, 4, 96, 46, 182, 0, 101]
abbrev dktL_law_26 : List UInt8 := dkwL_law_26 ++ dktL_law_27
def dkwL_law_25 : List UInt8 := [159, 0, 228, 3, 172, 43, 42, 29, 4, 96, 46, 182, 0, 94, 44, 42, 29, 4, 96, 46, 182, 0, 97]
abbrev dktL_law_25 : List UInt8 := dkwL_law_25 ++ dktL_law_26
def dkwL_law_24 : List UInt8 := [29, 4, 96, 46, 42, 29, 5, 96, 46, 42, 29, 6, 96, 46, 42, 29, 7, 96, 46, 182, 0, 93]
abbrev dktL_law_24 : List UInt8 := dkwL_law_24 ++ dktL_law_25
def dkwL_law_23 : List UInt8 := [29, 4, 96, 46, 42, 29, 5, 96, 46, 42, 29, 6, 96, 46, 42, 29, 7, 96, 46, 182, 0, 90, 44, 42]
abbrev dktL_law_23 : List UInt8 := dkwL_law_23 ++ dktL_law_24
def dkwL_law_22 : List UInt8 := [42, 29, 4, 96, 46, 182, 0, 86, 44, 42, 29, 4, 96, 46, 182, 0, 89, 159, 1, 25, 3, 172, 43, 42]
abbrev dktL_law_22 : List UInt8 := dkwL_law_22 ++ dktL_law_23
def dkwL_law_21 : List UInt8 := [46, 182, 0, 82, 44, 42, 29, 4, 96, 46, 42, 29, 5, 96, 46, 182, 0, 85, 159, 1, 48, 3, 172, 43]
abbrev dktL_law_21 : List UInt8 := dkwL_law_21 ++ dktL_law_22
def dkwL_law_20 : List UInt8 := [46, 42, 29, 5, 96, 46, 182, 0, 81, 159, 1, 81, 3, 172, 43, 42, 29, 4, 96, 46, 42, 29, 5, 96]
abbrev dktL_law_20 : List UInt8 := dkwL_law_20 ++ dktL_law_21
def dkwL_law_19 : List UInt8 := [159, 1, 114, 3, 172, 43, 42, 29, 4, 96, 46, 42, 29, 5, 96, 46, 182, 0, 78, 44, 42, 29, 4, 96]
abbrev dktL_law_19 : List UInt8 := dkwL_law_19 ++ dktL_law_20
def dkwL_law_18 : List UInt8 := [29, 4, 96, 46, 42, 29, 5, 96, 46, 42, 29, 6, 96, 46, 42, 29, 7, 96, 46, 182, 0, 77]
abbrev dktL_law_18 : List UInt8 := dkwL_law_18 ++ dktL_law_19
def dkwL_law_17 : List UInt8 := [29, 4, 96, 46, 42, 29, 5, 96, 46, 42, 29, 6, 96, 46, 42, 29, 7, 96, 46, 182, 0, 73, 44, 42]
abbrev dktL_law_17 : List UInt8 := dkwL_law_17 ++ dktL_law_18
def dkwL_law_16 : List UInt8 := [46, 182, 0, 68, 159, 1, 180, 3, 172, 43, 182, 0, 69, 44, 182, 0, 72, 159, 1, 167, 3, 172, 43, 42]
abbrev dktL_law_16 : List UInt8 := dkwL_law_16 ++ dktL_law_17
def dkwL_law_15 : List UInt8 := [96, 46, 182, 0, 64, 159, 1, 203, 3, 172, 43, 42, 29, 4, 96, 46, 182, 0, 65, 44, 42, 29, 4, 96]
abbrev dktL_law_15 : List UInt8 := dkwL_law_15 ++ dktL_law_16
def dkwL_law_14 : List UInt8 := [5, 96, 46, 182, 0, 60, 159, 1, 226, 3, 172, 43, 42, 29, 4, 96, 46, 182, 0, 61, 44, 42, 29, 4]
abbrev dktL_law_14 : List UInt8 := dkwL_law_14 ++ dktL_law_15
def dkwL_law_13 : List UInt8 := [3, 172, 43, 42, 29, 4, 96, 46, 42, 29, 5, 96, 46, 182, 0, 57, 44, 42, 29, 4, 96, 46, 42, 29]
abbrev dktL_law_13 : List UInt8 := dkwL_law_13 ++ dktL_law_14
def dkwL_law_12 : List UInt8 := [29, 5, 96, 46, 182, 0, 53, 44, 42, 29, 4, 96, 46, 42, 29, 5, 96, 46, 182, 0, 56, 159, 2, 3]
abbrev dktL_law_12 : List UInt8 := dkwL_law_12 ++ dktL_law_13
def dkwL_law_11 : List UInt8 := [182, 0, 49, 44, 42, 29, 4, 96, 46, 182, 0, 52, 159, 2, 36, 3, 172, 43, 42, 29, 4, 96, 46, 42]
abbrev dktL_law_11 : List UInt8 := dkwL_law_11 ++ dktL_law_12
def dkwL_law_10 : List UInt8 := [159, 2, 72, 3, 172, 43, 182, 0, 45, 44, 182, 0, 48, 159, 2, 59, 3, 172, 43, 42, 29, 4, 96, 46]
abbrev dktL_law_10 : List UInt8 := dkwL_law_10 ++ dktL_law_11
def dkwL_law_9 : List UInt8 := [182, 0, 40, 44, 42, 29, 4, 96, 46, 42, 29, 5, 96, 46, 42, 29, 6, 96, 46, 182, 0, 44]
abbrev dktL_law_9 : List UInt8 := dkwL_law_9 ++ dktL_law_10
def dkwL_law_8 : List UInt8 := [182, 0, 39, 159, 2, 115, 3, 172, 43, 42, 29, 4, 96, 46, 42, 29, 5, 96, 46, 42, 29, 6, 96, 46]
abbrev dktL_law_8 : List UInt8 := dkwL_law_8 ++ dktL_law_9
def dkwL_law_7 : List UInt8 := [46, 182, 0, 35, 159, 2, 138, 3, 172, 43, 42, 29, 4, 96, 46, 182, 0, 36, 44, 42, 29, 4, 96, 46]
abbrev dktL_law_7 : List UInt8 := dkwL_law_7 ++ dktL_law_8
def dkwL_law_6 : List UInt8 := [43, 42, 29, 4, 96, 46, 42, 29, 5, 96, 46, 182, 0, 31, 44, 42, 29, 4, 96, 46, 42, 29, 5, 96]
abbrev dktL_law_6 : List UInt8 := dkwL_law_6 ++ dktL_law_7
def dkwL_law_5 : List UInt8 := [172, 43, 42, 29, 4, 96, 46, 182, 0, 27, 44, 42, 29, 4, 96, 46, 182, 0, 30, 159, 2, 171, 3, 172]
abbrev dktL_law_5 : List UInt8 := dkwL_law_5 ++ dktL_law_6
def dkwL_law_4 : List UInt8 := [182, 0, 18, 44, 182, 0, 22, 159, 2, 207, 3, 172, 43, 182, 0, 23, 44, 182, 0, 26, 159, 2, 194, 3]
abbrev dktL_law_4 : List UInt8 := dkwL_law_4 ++ dktL_law_5
def dkwL_law_3 : List UInt8 := [43, 42, 29, 4, 96, 46, 182, 0, 13, 44, 42, 29, 4, 96, 46, 182, 0, 17, 159, 2, 220, 3, 172, 43]
abbrev dktL_law_3 : List UInt8 := dkwL_law_3 ++ dktL_law_4
def dkwL_law_2 : List UInt8 := [170, 0, 0, 0, 0, 0, 3, 110, 0, 0, 0, 0, 0, 0, 0, 27, 0, 0, 0, 128, 0, 0, 0, 151, 0, 0, 0, 164, 0, 0, 0, 177, 0, 0, 0, 200, 0, 0, 0, 233, 0, 0, 1, 0, 0, 0, 1, 43, 0, 0, 1, 56, 0, 0, 1, 79, 0, 0, 1, 112, 0, 0, 1, 145, 0, 0, 1, 168, 0, 0, 1, 191, 0, 0, 1, 204, 0, 0, 2, 1, 0, 0, 2, 34, 0, 0, 2, 67, 0, 0, 2, 90, 0, 0, 2, 143, 0, 0, 2, 166, 0, 0, 2, 189, 0, 0, 2, 222, 0, 0, 3, 15, 0, 0, 3, 28, 0, 0, 3, 41, 0, 0, 3, 64, 0, 0, 3, 87]
abbrev dktL_law_2 : List UInt8 := dkwL_law_2 ++ dktL_law_3
def dkwL_law_1 : List UInt8 := [163, 3, 125, 42, 29, 46, 16, 31, 126]
abbrev dktL_law_1 : List UInt8 := dkwL_law_1 ++ dktL_law_2
def dkwL_law_0 : List UInt8 := [187, 0, 7, 89, 183, 0, 9, 76, 187, 0, 10, 89, 183, 0, 12, 77, 3, 62, 29, 42, 190, 8, 100]
abbrev dktL_law_0 : List UInt8 := dkwL_law_0 ++ dktL_law_1
theorem dksL_law_0 : cL_law.data.toList.drop 0 = dktL_law_0 := by decide +kernel
theorem dksL_law_1 : cL_law.data.toList.drop 23 = dktL_law_1 := dk_seg dksL_law_0 23 rfl rfl
theorem dksL_law_2 : cL_law.data.toList.drop 32 = dktL_law_2 := dk_seg dksL_law_1 9 rfl rfl
theorem dksL_law_3 : cL_law.data.toList.drop 160 = dktL_law_3 := dk_seg dksL_law_2 128 rfl rfl
theorem dksL_law_4 : cL_law.data.toList.drop 184 = dktL_law_4 := dk_seg dksL_law_3 24 rfl rfl
theorem dksL_law_5 : cL_law.data.toList.drop 208 = dktL_law_5 := dk_seg dksL_law_4 24 rfl rfl
theorem dksL_law_6 : cL_law.data.toList.drop 232 = dktL_law_6 := dk_seg dksL_law_5 24 rfl rfl
theorem dksL_law_7 : cL_law.data.toList.drop 256 = dktL_law_7 := dk_seg dksL_law_6 24 rfl rfl
theorem dksL_law_8 : cL_law.data.toList.drop 280 = dktL_law_8 := dk_seg dksL_law_7 24 rfl rfl
theorem dksL_law_9 : cL_law.data.toList.drop 304 = dktL_law_9 := dk_seg dksL_law_8 24 rfl rfl
theorem dksL_law_10 : cL_law.data.toList.drop 326 = dktL_law_10 := dk_seg dksL_law_9 22 rfl rfl
theorem dksL_law_11 : cL_law.data.toList.drop 350 = dktL_law_11 := dk_seg dksL_law_10 24 rfl rfl
theorem dksL_law_12 : cL_law.data.toList.drop 374 = dktL_law_12 := dk_seg dksL_law_11 24 rfl rfl
theorem dksL_law_13 : cL_law.data.toList.drop 398 = dktL_law_13 := dk_seg dksL_law_12 24 rfl rfl
theorem dksL_law_14 : cL_law.data.toList.drop 422 = dktL_law_14 := dk_seg dksL_law_13 24 rfl rfl
theorem dksL_law_15 : cL_law.data.toList.drop 446 = dktL_law_15 := dk_seg dksL_law_14 24 rfl rfl
theorem dksL_law_16 : cL_law.data.toList.drop 470 = dktL_law_16 := dk_seg dksL_law_15 24 rfl rfl
theorem dksL_law_17 : cL_law.data.toList.drop 494 = dktL_law_17 := dk_seg dksL_law_16 24 rfl rfl
theorem dksL_law_18 : cL_law.data.toList.drop 518 = dktL_law_18 := dk_seg dksL_law_17 24 rfl rfl
theorem dksL_law_19 : cL_law.data.toList.drop 540 = dktL_law_19 := dk_seg dksL_law_18 22 rfl rfl
theorem dksL_law_20 : cL_law.data.toList.drop 564 = dktL_law_20 := dk_seg dksL_law_19 24 rfl rfl
theorem dksL_law_21 : cL_law.data.toList.drop 588 = dktL_law_21 := dk_seg dksL_law_20 24 rfl rfl
theorem dksL_law_22 : cL_law.data.toList.drop 612 = dktL_law_22 := dk_seg dksL_law_21 24 rfl rfl
theorem dksL_law_23 : cL_law.data.toList.drop 636 = dktL_law_23 := dk_seg dksL_law_22 24 rfl rfl
theorem dksL_law_24 : cL_law.data.toList.drop 660 = dktL_law_24 := dk_seg dksL_law_23 24 rfl rfl
theorem dksL_law_25 : cL_law.data.toList.drop 682 = dktL_law_25 := dk_seg dksL_law_24 22 rfl rfl
theorem dksL_law_26 : cL_law.data.toList.drop 705 = dktL_law_26 := dk_seg dksL_law_25 23 rfl rfl
theorem dksL_law_27 : cL_law.data.toList.drop 728 = dktL_law_27 := dk_seg dksL_law_26 23 rfl rfl
theorem dksL_law_28 : cL_law.data.toList.drop 752 = dktL_law_28 := dk_seg dksL_law_27 24 rfl rfl
theorem dksL_law_29 : cL_law.data.toList.drop 776 = dktL_law_29 := dk_seg dksL_law_28 24 rfl rfl
theorem dksL_law_30 : cL_law.data.toList.drop 799 = dktL_law_30 := dk_seg dksL_law_29 23 rfl rfl
theorem dksL_law_31 : cL_law.data.toList.drop 823 = dktL_law_31 := dk_seg dksL_law_30 24 rfl rfl
theorem dksL_law_32 : cL_law.data.toList.drop 847 = dktL_law_32 := dk_seg dksL_law_31 24 rfl rfl
theorem dksL_law_33 : cL_law.data.toList.drop 870 = dktL_law_33 := dk_seg dksL_law_32 23 rfl rfl
theorem dksL_law_34 : cL_law.data.toList.drop 893 = dktL_law_34 := dk_seg dksL_law_33 23 rfl rfl
theorem dksL_law_35 : cL_law.data.toList.drop 917 = dktL_law_35 := dk_seg dksL_law_34 24 rfl rfl
theorem dL_law_0 : decode cL_law 0 = .ok (.new 7, 3) := dk_187 0 7 (dk_at dksL_law_0 0 rfl rfl)
theorem dL_law_3 : decode cL_law 3 = .ok (.dup, 1) := dk_89 (dk_at dksL_law_0 3 rfl rfl)
theorem dL_law_4 : decode cL_law 4 = .ok (.invokespecial 9, 3) := dk_183 0 9 (dk_at dksL_law_0 4 rfl rfl)
theorem dL_law_7 : decode cL_law 7 = .ok (.astore_n 1, 1) := dk_76 (dk_at dksL_law_0 7 rfl rfl)
theorem dL_law_8 : decode cL_law 8 = .ok (.new 10, 3) := dk_187 0 10 (dk_at dksL_law_0 8 rfl rfl)
theorem dL_law_11 : decode cL_law 11 = .ok (.dup, 1) := dk_89 (dk_at dksL_law_0 11 rfl rfl)
theorem dL_law_12 : decode cL_law 12 = .ok (.invokespecial 12, 3) := dk_183 0 12 (dk_at dksL_law_0 12 rfl rfl)
theorem dL_law_15 : decode cL_law 15 = .ok (.astore_n 2, 1) := dk_77 (dk_at dksL_law_0 15 rfl rfl)
theorem dL_law_16 : decode cL_law 16 = .ok (.iconst 0, 1) := dk_3 (dk_at dksL_law_0 16 rfl rfl)
theorem dL_law_17 : decode cL_law 17 = .ok (.istore_n 3, 1) := dk_62 (dk_at dksL_law_0 17 rfl rfl)
theorem dL_law_18 : decode cL_law 18 = .ok (.iload_n 3, 1) := dk_29 (dk_at dksL_law_0 18 rfl rfl)
theorem dL_law_19 : decode cL_law 19 = .ok (.aload_n 0, 1) := dk_42 (dk_at dksL_law_0 19 rfl rfl)
theorem dL_law_20 : decode cL_law 20 = .ok (.arraylength, 1) := dk_190 (dk_at dksL_law_0 20 rfl rfl)
theorem dL_law_21 : decode cL_law 21 = .ok (.iconst 5, 1) := dk_8 (dk_at dksL_law_0 21 rfl rfl)
theorem dL_law_22 : decode cL_law 22 = .ok (.isub, 1) := dk_100 (dk_at dksL_law_0 22 rfl rfl)
theorem dL_law_23 : decode cL_law 23 = .ok (.if_icmp .gt 893, 3) := dk_163 3 125 (dk_at dksL_law_1 0 rfl rfl)
theorem dL_law_26 : decode cL_law 26 = .ok (.aload_n 0, 1) := dk_42 (dk_at dksL_law_1 3 rfl rfl)
theorem dL_law_27 : decode cL_law 27 = .ok (.iload_n 3, 1) := dk_29 (dk_at dksL_law_1 4 rfl rfl)
theorem dL_law_28 : decode cL_law 28 = .ok (.iaload, 1) := dk_46 (dk_at dksL_law_1 5 rfl rfl)
theorem dL_law_29 : decode cL_law 29 = .ok (.bipush 31, 2) := dk_16 31 (dk_at dksL_law_1 6 rfl rfl)
theorem dL_law_31 : decode cL_law 31 = .ok (.iand, 1) := dk_126 (dk_at dksL_law_1 8 rfl rfl)
theorem dL_law_32 : decode cL_law 32 = .ok (.tableswitch 878 0 27 #[128, 151, 164, 177, 200, 233, 256, 299, 312, 335, 368, 401, 424, 447, 460, 513, 546, 579, 602, 655, 678, 701, 734, 783, 796, 809, 832, 855], 128) := by decide +kernel
theorem dL_law_160 : decode cL_law 160 = .ok (.aload_n 1, 1) := dk_43 (dk_at dksL_law_3 0 rfl rfl)
theorem dL_law_161 : decode cL_law 161 = .ok (.aload_n 0, 1) := dk_42 (dk_at dksL_law_3 1 rfl rfl)
theorem dL_law_162 : decode cL_law 162 = .ok (.iload_n 3, 1) := dk_29 (dk_at dksL_law_3 2 rfl rfl)
theorem dL_law_163 : decode cL_law 163 = .ok (.iconst 1, 1) := dk_4 (dk_at dksL_law_3 3 rfl rfl)
theorem dL_law_164 : decode cL_law 164 = .ok (.iadd, 1) := dk_96 (dk_at dksL_law_3 4 rfl rfl)
theorem dL_law_165 : decode cL_law 165 = .ok (.iaload, 1) := dk_46 (dk_at dksL_law_3 5 rfl rfl)
theorem dL_law_166 : decode cL_law 166 = .ok (.invokevirtual 13, 3) := dk_182 0 13 (dk_at dksL_law_3 6 rfl rfl)
theorem dL_law_169 : decode cL_law 169 = .ok (.aload_n 2, 1) := dk_44 (dk_at dksL_law_3 9 rfl rfl)
theorem dL_law_170 : decode cL_law 170 = .ok (.aload_n 0, 1) := dk_42 (dk_at dksL_law_3 10 rfl rfl)
theorem dL_law_171 : decode cL_law 171 = .ok (.iload_n 3, 1) := dk_29 (dk_at dksL_law_3 11 rfl rfl)
theorem dL_law_172 : decode cL_law 172 = .ok (.iconst 1, 1) := dk_4 (dk_at dksL_law_3 12 rfl rfl)
theorem dL_law_173 : decode cL_law 173 = .ok (.iadd, 1) := dk_96 (dk_at dksL_law_3 13 rfl rfl)
theorem dL_law_174 : decode cL_law 174 = .ok (.iaload, 1) := dk_46 (dk_at dksL_law_3 14 rfl rfl)
theorem dL_law_175 : decode cL_law 175 = .ok (.invokevirtual 17, 3) := dk_182 0 17 (dk_at dksL_law_3 15 rfl rfl)
theorem dL_law_178 : decode cL_law 178 = .ok (.if_icmp .eq 732, 3) := dk_159 2 220 (dk_at dksL_law_3 18 rfl rfl)
theorem dL_law_181 : decode cL_law 181 = .ok (.iconst 0, 1) := dk_3 (dk_at dksL_law_3 21 rfl rfl)
theorem dL_law_182 : decode cL_law 182 = .ok (.ireturn, 1) := dk_172 (dk_at dksL_law_3 22 rfl rfl)
theorem dL_law_183 : decode cL_law 183 = .ok (.aload_n 1, 1) := dk_43 (dk_at dksL_law_3 23 rfl rfl)
theorem dL_law_184 : decode cL_law 184 = .ok (.invokevirtual 18, 3) := dk_182 0 18 (dk_at dksL_law_4 0 rfl rfl)
theorem dL_law_187 : decode cL_law 187 = .ok (.aload_n 2, 1) := dk_44 (dk_at dksL_law_4 3 rfl rfl)
theorem dL_law_188 : decode cL_law 188 = .ok (.invokevirtual 22, 3) := dk_182 0 22 (dk_at dksL_law_4 4 rfl rfl)
theorem dL_law_191 : decode cL_law 191 = .ok (.if_icmp .eq 719, 3) := dk_159 2 207 (dk_at dksL_law_4 7 rfl rfl)
theorem dL_law_194 : decode cL_law 194 = .ok (.iconst 0, 1) := dk_3 (dk_at dksL_law_4 10 rfl rfl)
theorem dL_law_195 : decode cL_law 195 = .ok (.ireturn, 1) := dk_172 (dk_at dksL_law_4 11 rfl rfl)
theorem dL_law_196 : decode cL_law 196 = .ok (.aload_n 1, 1) := dk_43 (dk_at dksL_law_4 12 rfl rfl)
theorem dL_law_197 : decode cL_law 197 = .ok (.invokevirtual 23, 3) := dk_182 0 23 (dk_at dksL_law_4 13 rfl rfl)
theorem dL_law_200 : decode cL_law 200 = .ok (.aload_n 2, 1) := dk_44 (dk_at dksL_law_4 16 rfl rfl)
theorem dL_law_201 : decode cL_law 201 = .ok (.invokevirtual 26, 3) := dk_182 0 26 (dk_at dksL_law_4 17 rfl rfl)
theorem dL_law_204 : decode cL_law 204 = .ok (.if_icmp .eq 706, 3) := dk_159 2 194 (dk_at dksL_law_4 20 rfl rfl)
theorem dL_law_207 : decode cL_law 207 = .ok (.iconst 0, 1) := dk_3 (dk_at dksL_law_4 23 rfl rfl)
theorem dL_law_208 : decode cL_law 208 = .ok (.ireturn, 1) := dk_172 (dk_at dksL_law_5 0 rfl rfl)
theorem dL_law_209 : decode cL_law 209 = .ok (.aload_n 1, 1) := dk_43 (dk_at dksL_law_5 1 rfl rfl)
theorem dL_law_210 : decode cL_law 210 = .ok (.aload_n 0, 1) := dk_42 (dk_at dksL_law_5 2 rfl rfl)
theorem dL_law_211 : decode cL_law 211 = .ok (.iload_n 3, 1) := dk_29 (dk_at dksL_law_5 3 rfl rfl)
theorem dL_law_212 : decode cL_law 212 = .ok (.iconst 1, 1) := dk_4 (dk_at dksL_law_5 4 rfl rfl)
theorem dL_law_213 : decode cL_law 213 = .ok (.iadd, 1) := dk_96 (dk_at dksL_law_5 5 rfl rfl)
theorem dL_law_214 : decode cL_law 214 = .ok (.iaload, 1) := dk_46 (dk_at dksL_law_5 6 rfl rfl)
theorem dL_law_215 : decode cL_law 215 = .ok (.invokevirtual 27, 3) := dk_182 0 27 (dk_at dksL_law_5 7 rfl rfl)
theorem dL_law_218 : decode cL_law 218 = .ok (.aload_n 2, 1) := dk_44 (dk_at dksL_law_5 10 rfl rfl)
theorem dL_law_219 : decode cL_law 219 = .ok (.aload_n 0, 1) := dk_42 (dk_at dksL_law_5 11 rfl rfl)
theorem dL_law_220 : decode cL_law 220 = .ok (.iload_n 3, 1) := dk_29 (dk_at dksL_law_5 12 rfl rfl)
theorem dL_law_221 : decode cL_law 221 = .ok (.iconst 1, 1) := dk_4 (dk_at dksL_law_5 13 rfl rfl)
theorem dL_law_222 : decode cL_law 222 = .ok (.iadd, 1) := dk_96 (dk_at dksL_law_5 14 rfl rfl)
theorem dL_law_223 : decode cL_law 223 = .ok (.iaload, 1) := dk_46 (dk_at dksL_law_5 15 rfl rfl)
theorem dL_law_224 : decode cL_law 224 = .ok (.invokevirtual 30, 3) := dk_182 0 30 (dk_at dksL_law_5 16 rfl rfl)
theorem dL_law_227 : decode cL_law 227 = .ok (.if_icmp .eq 683, 3) := dk_159 2 171 (dk_at dksL_law_5 19 rfl rfl)
theorem dL_law_230 : decode cL_law 230 = .ok (.iconst 0, 1) := dk_3 (dk_at dksL_law_5 22 rfl rfl)
theorem dL_law_231 : decode cL_law 231 = .ok (.ireturn, 1) := dk_172 (dk_at dksL_law_5 23 rfl rfl)
theorem dL_law_232 : decode cL_law 232 = .ok (.aload_n 1, 1) := dk_43 (dk_at dksL_law_6 0 rfl rfl)
theorem dL_law_233 : decode cL_law 233 = .ok (.aload_n 0, 1) := dk_42 (dk_at dksL_law_6 1 rfl rfl)
theorem dL_law_234 : decode cL_law 234 = .ok (.iload_n 3, 1) := dk_29 (dk_at dksL_law_6 2 rfl rfl)
theorem dL_law_235 : decode cL_law 235 = .ok (.iconst 1, 1) := dk_4 (dk_at dksL_law_6 3 rfl rfl)
theorem dL_law_236 : decode cL_law 236 = .ok (.iadd, 1) := dk_96 (dk_at dksL_law_6 4 rfl rfl)
theorem dL_law_237 : decode cL_law 237 = .ok (.iaload, 1) := dk_46 (dk_at dksL_law_6 5 rfl rfl)
theorem dL_law_238 : decode cL_law 238 = .ok (.aload_n 0, 1) := dk_42 (dk_at dksL_law_6 6 rfl rfl)
theorem dL_law_239 : decode cL_law 239 = .ok (.iload_n 3, 1) := dk_29 (dk_at dksL_law_6 7 rfl rfl)
theorem dL_law_240 : decode cL_law 240 = .ok (.iconst 2, 1) := dk_5 (dk_at dksL_law_6 8 rfl rfl)
theorem dL_law_241 : decode cL_law 241 = .ok (.iadd, 1) := dk_96 (dk_at dksL_law_6 9 rfl rfl)
theorem dL_law_242 : decode cL_law 242 = .ok (.iaload, 1) := dk_46 (dk_at dksL_law_6 10 rfl rfl)
theorem dL_law_243 : decode cL_law 243 = .ok (.invokevirtual 31, 3) := dk_182 0 31 (dk_at dksL_law_6 11 rfl rfl)
theorem dL_law_246 : decode cL_law 246 = .ok (.aload_n 2, 1) := dk_44 (dk_at dksL_law_6 14 rfl rfl)
theorem dL_law_247 : decode cL_law 247 = .ok (.aload_n 0, 1) := dk_42 (dk_at dksL_law_6 15 rfl rfl)
theorem dL_law_248 : decode cL_law 248 = .ok (.iload_n 3, 1) := dk_29 (dk_at dksL_law_6 16 rfl rfl)
theorem dL_law_249 : decode cL_law 249 = .ok (.iconst 1, 1) := dk_4 (dk_at dksL_law_6 17 rfl rfl)
theorem dL_law_250 : decode cL_law 250 = .ok (.iadd, 1) := dk_96 (dk_at dksL_law_6 18 rfl rfl)
theorem dL_law_251 : decode cL_law 251 = .ok (.iaload, 1) := dk_46 (dk_at dksL_law_6 19 rfl rfl)
theorem dL_law_252 : decode cL_law 252 = .ok (.aload_n 0, 1) := dk_42 (dk_at dksL_law_6 20 rfl rfl)
theorem dL_law_253 : decode cL_law 253 = .ok (.iload_n 3, 1) := dk_29 (dk_at dksL_law_6 21 rfl rfl)
theorem dL_law_254 : decode cL_law 254 = .ok (.iconst 2, 1) := dk_5 (dk_at dksL_law_6 22 rfl rfl)
theorem dL_law_255 : decode cL_law 255 = .ok (.iadd, 1) := dk_96 (dk_at dksL_law_6 23 rfl rfl)
theorem dL_law_256 : decode cL_law 256 = .ok (.iaload, 1) := dk_46 (dk_at dksL_law_7 0 rfl rfl)
theorem dL_law_257 : decode cL_law 257 = .ok (.invokevirtual 35, 3) := dk_182 0 35 (dk_at dksL_law_7 1 rfl rfl)
theorem dL_law_260 : decode cL_law 260 = .ok (.if_icmp .eq 650, 3) := dk_159 2 138 (dk_at dksL_law_7 4 rfl rfl)
theorem dL_law_263 : decode cL_law 263 = .ok (.iconst 0, 1) := dk_3 (dk_at dksL_law_7 7 rfl rfl)
theorem dL_law_264 : decode cL_law 264 = .ok (.ireturn, 1) := dk_172 (dk_at dksL_law_7 8 rfl rfl)
theorem dL_law_265 : decode cL_law 265 = .ok (.aload_n 1, 1) := dk_43 (dk_at dksL_law_7 9 rfl rfl)
theorem dL_law_266 : decode cL_law 266 = .ok (.aload_n 0, 1) := dk_42 (dk_at dksL_law_7 10 rfl rfl)
theorem dL_law_267 : decode cL_law 267 = .ok (.iload_n 3, 1) := dk_29 (dk_at dksL_law_7 11 rfl rfl)
theorem dL_law_268 : decode cL_law 268 = .ok (.iconst 1, 1) := dk_4 (dk_at dksL_law_7 12 rfl rfl)
theorem dL_law_269 : decode cL_law 269 = .ok (.iadd, 1) := dk_96 (dk_at dksL_law_7 13 rfl rfl)
theorem dL_law_270 : decode cL_law 270 = .ok (.iaload, 1) := dk_46 (dk_at dksL_law_7 14 rfl rfl)
theorem dL_law_271 : decode cL_law 271 = .ok (.invokevirtual 36, 3) := dk_182 0 36 (dk_at dksL_law_7 15 rfl rfl)
theorem dL_law_274 : decode cL_law 274 = .ok (.aload_n 2, 1) := dk_44 (dk_at dksL_law_7 18 rfl rfl)
theorem dL_law_275 : decode cL_law 275 = .ok (.aload_n 0, 1) := dk_42 (dk_at dksL_law_7 19 rfl rfl)
theorem dL_law_276 : decode cL_law 276 = .ok (.iload_n 3, 1) := dk_29 (dk_at dksL_law_7 20 rfl rfl)
theorem dL_law_277 : decode cL_law 277 = .ok (.iconst 1, 1) := dk_4 (dk_at dksL_law_7 21 rfl rfl)
theorem dL_law_278 : decode cL_law 278 = .ok (.iadd, 1) := dk_96 (dk_at dksL_law_7 22 rfl rfl)
theorem dL_law_279 : decode cL_law 279 = .ok (.iaload, 1) := dk_46 (dk_at dksL_law_7 23 rfl rfl)
theorem dL_law_280 : decode cL_law 280 = .ok (.invokevirtual 39, 3) := dk_182 0 39 (dk_at dksL_law_8 0 rfl rfl)
theorem dL_law_283 : decode cL_law 283 = .ok (.if_icmp .eq 627, 3) := dk_159 2 115 (dk_at dksL_law_8 3 rfl rfl)
theorem dL_law_286 : decode cL_law 286 = .ok (.iconst 0, 1) := dk_3 (dk_at dksL_law_8 6 rfl rfl)
theorem dL_law_287 : decode cL_law 287 = .ok (.ireturn, 1) := dk_172 (dk_at dksL_law_8 7 rfl rfl)
theorem dL_law_288 : decode cL_law 288 = .ok (.aload_n 1, 1) := dk_43 (dk_at dksL_law_8 8 rfl rfl)
theorem dL_law_289 : decode cL_law 289 = .ok (.aload_n 0, 1) := dk_42 (dk_at dksL_law_8 9 rfl rfl)
theorem dL_law_290 : decode cL_law 290 = .ok (.iload_n 3, 1) := dk_29 (dk_at dksL_law_8 10 rfl rfl)
theorem dL_law_291 : decode cL_law 291 = .ok (.iconst 1, 1) := dk_4 (dk_at dksL_law_8 11 rfl rfl)
theorem dL_law_292 : decode cL_law 292 = .ok (.iadd, 1) := dk_96 (dk_at dksL_law_8 12 rfl rfl)
theorem dL_law_293 : decode cL_law 293 = .ok (.iaload, 1) := dk_46 (dk_at dksL_law_8 13 rfl rfl)
theorem dL_law_294 : decode cL_law 294 = .ok (.aload_n 0, 1) := dk_42 (dk_at dksL_law_8 14 rfl rfl)
theorem dL_law_295 : decode cL_law 295 = .ok (.iload_n 3, 1) := dk_29 (dk_at dksL_law_8 15 rfl rfl)
theorem dL_law_296 : decode cL_law 296 = .ok (.iconst 2, 1) := dk_5 (dk_at dksL_law_8 16 rfl rfl)
theorem dL_law_297 : decode cL_law 297 = .ok (.iadd, 1) := dk_96 (dk_at dksL_law_8 17 rfl rfl)
theorem dL_law_298 : decode cL_law 298 = .ok (.iaload, 1) := dk_46 (dk_at dksL_law_8 18 rfl rfl)
theorem dL_law_299 : decode cL_law 299 = .ok (.aload_n 0, 1) := dk_42 (dk_at dksL_law_8 19 rfl rfl)
theorem dL_law_300 : decode cL_law 300 = .ok (.iload_n 3, 1) := dk_29 (dk_at dksL_law_8 20 rfl rfl)
theorem dL_law_301 : decode cL_law 301 = .ok (.iconst 3, 1) := dk_6 (dk_at dksL_law_8 21 rfl rfl)
theorem dL_law_302 : decode cL_law 302 = .ok (.iadd, 1) := dk_96 (dk_at dksL_law_8 22 rfl rfl)
theorem dL_law_303 : decode cL_law 303 = .ok (.iaload, 1) := dk_46 (dk_at dksL_law_8 23 rfl rfl)
theorem dL_law_304 : decode cL_law 304 = .ok (.invokevirtual 40, 3) := dk_182 0 40 (dk_at dksL_law_9 0 rfl rfl)
theorem dL_law_307 : decode cL_law 307 = .ok (.aload_n 2, 1) := dk_44 (dk_at dksL_law_9 3 rfl rfl)
theorem dL_law_308 : decode cL_law 308 = .ok (.aload_n 0, 1) := dk_42 (dk_at dksL_law_9 4 rfl rfl)
theorem dL_law_309 : decode cL_law 309 = .ok (.iload_n 3, 1) := dk_29 (dk_at dksL_law_9 5 rfl rfl)
theorem dL_law_310 : decode cL_law 310 = .ok (.iconst 1, 1) := dk_4 (dk_at dksL_law_9 6 rfl rfl)
theorem dL_law_311 : decode cL_law 311 = .ok (.iadd, 1) := dk_96 (dk_at dksL_law_9 7 rfl rfl)
theorem dL_law_312 : decode cL_law 312 = .ok (.iaload, 1) := dk_46 (dk_at dksL_law_9 8 rfl rfl)
theorem dL_law_313 : decode cL_law 313 = .ok (.aload_n 0, 1) := dk_42 (dk_at dksL_law_9 9 rfl rfl)
theorem dL_law_314 : decode cL_law 314 = .ok (.iload_n 3, 1) := dk_29 (dk_at dksL_law_9 10 rfl rfl)
theorem dL_law_315 : decode cL_law 315 = .ok (.iconst 2, 1) := dk_5 (dk_at dksL_law_9 11 rfl rfl)
theorem dL_law_316 : decode cL_law 316 = .ok (.iadd, 1) := dk_96 (dk_at dksL_law_9 12 rfl rfl)
theorem dL_law_317 : decode cL_law 317 = .ok (.iaload, 1) := dk_46 (dk_at dksL_law_9 13 rfl rfl)
theorem dL_law_318 : decode cL_law 318 = .ok (.aload_n 0, 1) := dk_42 (dk_at dksL_law_9 14 rfl rfl)
theorem dL_law_319 : decode cL_law 319 = .ok (.iload_n 3, 1) := dk_29 (dk_at dksL_law_9 15 rfl rfl)
theorem dL_law_320 : decode cL_law 320 = .ok (.iconst 3, 1) := dk_6 (dk_at dksL_law_9 16 rfl rfl)
theorem dL_law_321 : decode cL_law 321 = .ok (.iadd, 1) := dk_96 (dk_at dksL_law_9 17 rfl rfl)
theorem dL_law_322 : decode cL_law 322 = .ok (.iaload, 1) := dk_46 (dk_at dksL_law_9 18 rfl rfl)
theorem dL_law_323 : decode cL_law 323 = .ok (.invokevirtual 44, 3) := dk_182 0 44 (dk_at dksL_law_9 19 rfl rfl)
theorem dL_law_326 : decode cL_law 326 = .ok (.if_icmp .eq 584, 3) := dk_159 2 72 (dk_at dksL_law_10 0 rfl rfl)
theorem dL_law_329 : decode cL_law 329 = .ok (.iconst 0, 1) := dk_3 (dk_at dksL_law_10 3 rfl rfl)
theorem dL_law_330 : decode cL_law 330 = .ok (.ireturn, 1) := dk_172 (dk_at dksL_law_10 4 rfl rfl)
theorem dL_law_331 : decode cL_law 331 = .ok (.aload_n 1, 1) := dk_43 (dk_at dksL_law_10 5 rfl rfl)
theorem dL_law_332 : decode cL_law 332 = .ok (.invokevirtual 45, 3) := dk_182 0 45 (dk_at dksL_law_10 6 rfl rfl)
theorem dL_law_335 : decode cL_law 335 = .ok (.aload_n 2, 1) := dk_44 (dk_at dksL_law_10 9 rfl rfl)
theorem dL_law_336 : decode cL_law 336 = .ok (.invokevirtual 48, 3) := dk_182 0 48 (dk_at dksL_law_10 10 rfl rfl)
theorem dL_law_339 : decode cL_law 339 = .ok (.if_icmp .eq 571, 3) := dk_159 2 59 (dk_at dksL_law_10 13 rfl rfl)
theorem dL_law_342 : decode cL_law 342 = .ok (.iconst 0, 1) := dk_3 (dk_at dksL_law_10 16 rfl rfl)
theorem dL_law_343 : decode cL_law 343 = .ok (.ireturn, 1) := dk_172 (dk_at dksL_law_10 17 rfl rfl)
theorem dL_law_344 : decode cL_law 344 = .ok (.aload_n 1, 1) := dk_43 (dk_at dksL_law_10 18 rfl rfl)
theorem dL_law_345 : decode cL_law 345 = .ok (.aload_n 0, 1) := dk_42 (dk_at dksL_law_10 19 rfl rfl)
theorem dL_law_346 : decode cL_law 346 = .ok (.iload_n 3, 1) := dk_29 (dk_at dksL_law_10 20 rfl rfl)
theorem dL_law_347 : decode cL_law 347 = .ok (.iconst 1, 1) := dk_4 (dk_at dksL_law_10 21 rfl rfl)
theorem dL_law_348 : decode cL_law 348 = .ok (.iadd, 1) := dk_96 (dk_at dksL_law_10 22 rfl rfl)
theorem dL_law_349 : decode cL_law 349 = .ok (.iaload, 1) := dk_46 (dk_at dksL_law_10 23 rfl rfl)
theorem dL_law_350 : decode cL_law 350 = .ok (.invokevirtual 49, 3) := dk_182 0 49 (dk_at dksL_law_11 0 rfl rfl)
theorem dL_law_353 : decode cL_law 353 = .ok (.aload_n 2, 1) := dk_44 (dk_at dksL_law_11 3 rfl rfl)
theorem dL_law_354 : decode cL_law 354 = .ok (.aload_n 0, 1) := dk_42 (dk_at dksL_law_11 4 rfl rfl)
theorem dL_law_355 : decode cL_law 355 = .ok (.iload_n 3, 1) := dk_29 (dk_at dksL_law_11 5 rfl rfl)
theorem dL_law_356 : decode cL_law 356 = .ok (.iconst 1, 1) := dk_4 (dk_at dksL_law_11 6 rfl rfl)
theorem dL_law_357 : decode cL_law 357 = .ok (.iadd, 1) := dk_96 (dk_at dksL_law_11 7 rfl rfl)
theorem dL_law_358 : decode cL_law 358 = .ok (.iaload, 1) := dk_46 (dk_at dksL_law_11 8 rfl rfl)
theorem dL_law_359 : decode cL_law 359 = .ok (.invokevirtual 52, 3) := dk_182 0 52 (dk_at dksL_law_11 9 rfl rfl)
theorem dL_law_362 : decode cL_law 362 = .ok (.if_icmp .eq 548, 3) := dk_159 2 36 (dk_at dksL_law_11 12 rfl rfl)
theorem dL_law_365 : decode cL_law 365 = .ok (.iconst 0, 1) := dk_3 (dk_at dksL_law_11 15 rfl rfl)
theorem dL_law_366 : decode cL_law 366 = .ok (.ireturn, 1) := dk_172 (dk_at dksL_law_11 16 rfl rfl)
theorem dL_law_367 : decode cL_law 367 = .ok (.aload_n 1, 1) := dk_43 (dk_at dksL_law_11 17 rfl rfl)
theorem dL_law_368 : decode cL_law 368 = .ok (.aload_n 0, 1) := dk_42 (dk_at dksL_law_11 18 rfl rfl)
theorem dL_law_369 : decode cL_law 369 = .ok (.iload_n 3, 1) := dk_29 (dk_at dksL_law_11 19 rfl rfl)
theorem dL_law_370 : decode cL_law 370 = .ok (.iconst 1, 1) := dk_4 (dk_at dksL_law_11 20 rfl rfl)
theorem dL_law_371 : decode cL_law 371 = .ok (.iadd, 1) := dk_96 (dk_at dksL_law_11 21 rfl rfl)
theorem dL_law_372 : decode cL_law 372 = .ok (.iaload, 1) := dk_46 (dk_at dksL_law_11 22 rfl rfl)
theorem dL_law_373 : decode cL_law 373 = .ok (.aload_n 0, 1) := dk_42 (dk_at dksL_law_11 23 rfl rfl)
theorem dL_law_374 : decode cL_law 374 = .ok (.iload_n 3, 1) := dk_29 (dk_at dksL_law_12 0 rfl rfl)
theorem dL_law_375 : decode cL_law 375 = .ok (.iconst 2, 1) := dk_5 (dk_at dksL_law_12 1 rfl rfl)
theorem dL_law_376 : decode cL_law 376 = .ok (.iadd, 1) := dk_96 (dk_at dksL_law_12 2 rfl rfl)
theorem dL_law_377 : decode cL_law 377 = .ok (.iaload, 1) := dk_46 (dk_at dksL_law_12 3 rfl rfl)
theorem dL_law_378 : decode cL_law 378 = .ok (.invokevirtual 53, 3) := dk_182 0 53 (dk_at dksL_law_12 4 rfl rfl)
theorem dL_law_381 : decode cL_law 381 = .ok (.aload_n 2, 1) := dk_44 (dk_at dksL_law_12 7 rfl rfl)
theorem dL_law_382 : decode cL_law 382 = .ok (.aload_n 0, 1) := dk_42 (dk_at dksL_law_12 8 rfl rfl)
theorem dL_law_383 : decode cL_law 383 = .ok (.iload_n 3, 1) := dk_29 (dk_at dksL_law_12 9 rfl rfl)
theorem dL_law_384 : decode cL_law 384 = .ok (.iconst 1, 1) := dk_4 (dk_at dksL_law_12 10 rfl rfl)
theorem dL_law_385 : decode cL_law 385 = .ok (.iadd, 1) := dk_96 (dk_at dksL_law_12 11 rfl rfl)
theorem dL_law_386 : decode cL_law 386 = .ok (.iaload, 1) := dk_46 (dk_at dksL_law_12 12 rfl rfl)
theorem dL_law_387 : decode cL_law 387 = .ok (.aload_n 0, 1) := dk_42 (dk_at dksL_law_12 13 rfl rfl)
theorem dL_law_388 : decode cL_law 388 = .ok (.iload_n 3, 1) := dk_29 (dk_at dksL_law_12 14 rfl rfl)
theorem dL_law_389 : decode cL_law 389 = .ok (.iconst 2, 1) := dk_5 (dk_at dksL_law_12 15 rfl rfl)
theorem dL_law_390 : decode cL_law 390 = .ok (.iadd, 1) := dk_96 (dk_at dksL_law_12 16 rfl rfl)
theorem dL_law_391 : decode cL_law 391 = .ok (.iaload, 1) := dk_46 (dk_at dksL_law_12 17 rfl rfl)
theorem dL_law_392 : decode cL_law 392 = .ok (.invokevirtual 56, 3) := dk_182 0 56 (dk_at dksL_law_12 18 rfl rfl)
theorem dL_law_395 : decode cL_law 395 = .ok (.if_icmp .eq 515, 3) := dk_159 2 3 (dk_at dksL_law_12 21 rfl rfl)
theorem dL_law_398 : decode cL_law 398 = .ok (.iconst 0, 1) := dk_3 (dk_at dksL_law_13 0 rfl rfl)
theorem dL_law_399 : decode cL_law 399 = .ok (.ireturn, 1) := dk_172 (dk_at dksL_law_13 1 rfl rfl)
theorem dL_law_400 : decode cL_law 400 = .ok (.aload_n 1, 1) := dk_43 (dk_at dksL_law_13 2 rfl rfl)
theorem dL_law_401 : decode cL_law 401 = .ok (.aload_n 0, 1) := dk_42 (dk_at dksL_law_13 3 rfl rfl)
theorem dL_law_402 : decode cL_law 402 = .ok (.iload_n 3, 1) := dk_29 (dk_at dksL_law_13 4 rfl rfl)
theorem dL_law_403 : decode cL_law 403 = .ok (.iconst 1, 1) := dk_4 (dk_at dksL_law_13 5 rfl rfl)
theorem dL_law_404 : decode cL_law 404 = .ok (.iadd, 1) := dk_96 (dk_at dksL_law_13 6 rfl rfl)
theorem dL_law_405 : decode cL_law 405 = .ok (.iaload, 1) := dk_46 (dk_at dksL_law_13 7 rfl rfl)
theorem dL_law_406 : decode cL_law 406 = .ok (.aload_n 0, 1) := dk_42 (dk_at dksL_law_13 8 rfl rfl)
theorem dL_law_407 : decode cL_law 407 = .ok (.iload_n 3, 1) := dk_29 (dk_at dksL_law_13 9 rfl rfl)
theorem dL_law_408 : decode cL_law 408 = .ok (.iconst 2, 1) := dk_5 (dk_at dksL_law_13 10 rfl rfl)
theorem dL_law_409 : decode cL_law 409 = .ok (.iadd, 1) := dk_96 (dk_at dksL_law_13 11 rfl rfl)
theorem dL_law_410 : decode cL_law 410 = .ok (.iaload, 1) := dk_46 (dk_at dksL_law_13 12 rfl rfl)
theorem dL_law_411 : decode cL_law 411 = .ok (.invokevirtual 57, 3) := dk_182 0 57 (dk_at dksL_law_13 13 rfl rfl)
theorem dL_law_414 : decode cL_law 414 = .ok (.aload_n 2, 1) := dk_44 (dk_at dksL_law_13 16 rfl rfl)
theorem dL_law_415 : decode cL_law 415 = .ok (.aload_n 0, 1) := dk_42 (dk_at dksL_law_13 17 rfl rfl)
theorem dL_law_416 : decode cL_law 416 = .ok (.iload_n 3, 1) := dk_29 (dk_at dksL_law_13 18 rfl rfl)
theorem dL_law_417 : decode cL_law 417 = .ok (.iconst 1, 1) := dk_4 (dk_at dksL_law_13 19 rfl rfl)
theorem dL_law_418 : decode cL_law 418 = .ok (.iadd, 1) := dk_96 (dk_at dksL_law_13 20 rfl rfl)
theorem dL_law_419 : decode cL_law 419 = .ok (.iaload, 1) := dk_46 (dk_at dksL_law_13 21 rfl rfl)
theorem dL_law_420 : decode cL_law 420 = .ok (.aload_n 0, 1) := dk_42 (dk_at dksL_law_13 22 rfl rfl)
theorem dL_law_421 : decode cL_law 421 = .ok (.iload_n 3, 1) := dk_29 (dk_at dksL_law_13 23 rfl rfl)
theorem dL_law_422 : decode cL_law 422 = .ok (.iconst 2, 1) := dk_5 (dk_at dksL_law_14 0 rfl rfl)
theorem dL_law_423 : decode cL_law 423 = .ok (.iadd, 1) := dk_96 (dk_at dksL_law_14 1 rfl rfl)
theorem dL_law_424 : decode cL_law 424 = .ok (.iaload, 1) := dk_46 (dk_at dksL_law_14 2 rfl rfl)
theorem dL_law_425 : decode cL_law 425 = .ok (.invokevirtual 60, 3) := dk_182 0 60 (dk_at dksL_law_14 3 rfl rfl)
theorem dL_law_428 : decode cL_law 428 = .ok (.if_icmp .eq 482, 3) := dk_159 1 226 (dk_at dksL_law_14 6 rfl rfl)
theorem dL_law_431 : decode cL_law 431 = .ok (.iconst 0, 1) := dk_3 (dk_at dksL_law_14 9 rfl rfl)
theorem dL_law_432 : decode cL_law 432 = .ok (.ireturn, 1) := dk_172 (dk_at dksL_law_14 10 rfl rfl)
theorem dL_law_433 : decode cL_law 433 = .ok (.aload_n 1, 1) := dk_43 (dk_at dksL_law_14 11 rfl rfl)
theorem dL_law_434 : decode cL_law 434 = .ok (.aload_n 0, 1) := dk_42 (dk_at dksL_law_14 12 rfl rfl)
theorem dL_law_435 : decode cL_law 435 = .ok (.iload_n 3, 1) := dk_29 (dk_at dksL_law_14 13 rfl rfl)
theorem dL_law_436 : decode cL_law 436 = .ok (.iconst 1, 1) := dk_4 (dk_at dksL_law_14 14 rfl rfl)
theorem dL_law_437 : decode cL_law 437 = .ok (.iadd, 1) := dk_96 (dk_at dksL_law_14 15 rfl rfl)
theorem dL_law_438 : decode cL_law 438 = .ok (.iaload, 1) := dk_46 (dk_at dksL_law_14 16 rfl rfl)
theorem dL_law_439 : decode cL_law 439 = .ok (.invokevirtual 61, 3) := dk_182 0 61 (dk_at dksL_law_14 17 rfl rfl)
theorem dL_law_442 : decode cL_law 442 = .ok (.aload_n 2, 1) := dk_44 (dk_at dksL_law_14 20 rfl rfl)
theorem dL_law_443 : decode cL_law 443 = .ok (.aload_n 0, 1) := dk_42 (dk_at dksL_law_14 21 rfl rfl)
theorem dL_law_444 : decode cL_law 444 = .ok (.iload_n 3, 1) := dk_29 (dk_at dksL_law_14 22 rfl rfl)
theorem dL_law_445 : decode cL_law 445 = .ok (.iconst 1, 1) := dk_4 (dk_at dksL_law_14 23 rfl rfl)
theorem dL_law_446 : decode cL_law 446 = .ok (.iadd, 1) := dk_96 (dk_at dksL_law_15 0 rfl rfl)
theorem dL_law_447 : decode cL_law 447 = .ok (.iaload, 1) := dk_46 (dk_at dksL_law_15 1 rfl rfl)
theorem dL_law_448 : decode cL_law 448 = .ok (.invokevirtual 64, 3) := dk_182 0 64 (dk_at dksL_law_15 2 rfl rfl)
theorem dL_law_451 : decode cL_law 451 = .ok (.if_icmp .eq 459, 3) := dk_159 1 203 (dk_at dksL_law_15 5 rfl rfl)
theorem dL_law_454 : decode cL_law 454 = .ok (.iconst 0, 1) := dk_3 (dk_at dksL_law_15 8 rfl rfl)
theorem dL_law_455 : decode cL_law 455 = .ok (.ireturn, 1) := dk_172 (dk_at dksL_law_15 9 rfl rfl)
theorem dL_law_456 : decode cL_law 456 = .ok (.aload_n 1, 1) := dk_43 (dk_at dksL_law_15 10 rfl rfl)
theorem dL_law_457 : decode cL_law 457 = .ok (.aload_n 0, 1) := dk_42 (dk_at dksL_law_15 11 rfl rfl)
theorem dL_law_458 : decode cL_law 458 = .ok (.iload_n 3, 1) := dk_29 (dk_at dksL_law_15 12 rfl rfl)
theorem dL_law_459 : decode cL_law 459 = .ok (.iconst 1, 1) := dk_4 (dk_at dksL_law_15 13 rfl rfl)
theorem dL_law_460 : decode cL_law 460 = .ok (.iadd, 1) := dk_96 (dk_at dksL_law_15 14 rfl rfl)
theorem dL_law_461 : decode cL_law 461 = .ok (.iaload, 1) := dk_46 (dk_at dksL_law_15 15 rfl rfl)
theorem dL_law_462 : decode cL_law 462 = .ok (.invokevirtual 65, 3) := dk_182 0 65 (dk_at dksL_law_15 16 rfl rfl)
theorem dL_law_465 : decode cL_law 465 = .ok (.aload_n 2, 1) := dk_44 (dk_at dksL_law_15 19 rfl rfl)
theorem dL_law_466 : decode cL_law 466 = .ok (.aload_n 0, 1) := dk_42 (dk_at dksL_law_15 20 rfl rfl)
theorem dL_law_467 : decode cL_law 467 = .ok (.iload_n 3, 1) := dk_29 (dk_at dksL_law_15 21 rfl rfl)
theorem dL_law_468 : decode cL_law 468 = .ok (.iconst 1, 1) := dk_4 (dk_at dksL_law_15 22 rfl rfl)
theorem dL_law_469 : decode cL_law 469 = .ok (.iadd, 1) := dk_96 (dk_at dksL_law_15 23 rfl rfl)
theorem dL_law_470 : decode cL_law 470 = .ok (.iaload, 1) := dk_46 (dk_at dksL_law_16 0 rfl rfl)
theorem dL_law_471 : decode cL_law 471 = .ok (.invokevirtual 68, 3) := dk_182 0 68 (dk_at dksL_law_16 1 rfl rfl)
theorem dL_law_474 : decode cL_law 474 = .ok (.if_icmp .eq 436, 3) := dk_159 1 180 (dk_at dksL_law_16 4 rfl rfl)
theorem dL_law_477 : decode cL_law 477 = .ok (.iconst 0, 1) := dk_3 (dk_at dksL_law_16 7 rfl rfl)
theorem dL_law_478 : decode cL_law 478 = .ok (.ireturn, 1) := dk_172 (dk_at dksL_law_16 8 rfl rfl)
theorem dL_law_479 : decode cL_law 479 = .ok (.aload_n 1, 1) := dk_43 (dk_at dksL_law_16 9 rfl rfl)
theorem dL_law_480 : decode cL_law 480 = .ok (.invokevirtual 69, 3) := dk_182 0 69 (dk_at dksL_law_16 10 rfl rfl)
theorem dL_law_483 : decode cL_law 483 = .ok (.aload_n 2, 1) := dk_44 (dk_at dksL_law_16 13 rfl rfl)
theorem dL_law_484 : decode cL_law 484 = .ok (.invokevirtual 72, 3) := dk_182 0 72 (dk_at dksL_law_16 14 rfl rfl)
theorem dL_law_487 : decode cL_law 487 = .ok (.if_icmp .eq 423, 3) := dk_159 1 167 (dk_at dksL_law_16 17 rfl rfl)
theorem dL_law_490 : decode cL_law 490 = .ok (.iconst 0, 1) := dk_3 (dk_at dksL_law_16 20 rfl rfl)
theorem dL_law_491 : decode cL_law 491 = .ok (.ireturn, 1) := dk_172 (dk_at dksL_law_16 21 rfl rfl)
theorem dL_law_492 : decode cL_law 492 = .ok (.aload_n 1, 1) := dk_43 (dk_at dksL_law_16 22 rfl rfl)
theorem dL_law_493 : decode cL_law 493 = .ok (.aload_n 0, 1) := dk_42 (dk_at dksL_law_16 23 rfl rfl)
theorem dL_law_494 : decode cL_law 494 = .ok (.iload_n 3, 1) := dk_29 (dk_at dksL_law_17 0 rfl rfl)
theorem dL_law_495 : decode cL_law 495 = .ok (.iconst 1, 1) := dk_4 (dk_at dksL_law_17 1 rfl rfl)
theorem dL_law_496 : decode cL_law 496 = .ok (.iadd, 1) := dk_96 (dk_at dksL_law_17 2 rfl rfl)
theorem dL_law_497 : decode cL_law 497 = .ok (.iaload, 1) := dk_46 (dk_at dksL_law_17 3 rfl rfl)
theorem dL_law_498 : decode cL_law 498 = .ok (.aload_n 0, 1) := dk_42 (dk_at dksL_law_17 4 rfl rfl)
theorem dL_law_499 : decode cL_law 499 = .ok (.iload_n 3, 1) := dk_29 (dk_at dksL_law_17 5 rfl rfl)
theorem dL_law_500 : decode cL_law 500 = .ok (.iconst 2, 1) := dk_5 (dk_at dksL_law_17 6 rfl rfl)
theorem dL_law_501 : decode cL_law 501 = .ok (.iadd, 1) := dk_96 (dk_at dksL_law_17 7 rfl rfl)
theorem dL_law_502 : decode cL_law 502 = .ok (.iaload, 1) := dk_46 (dk_at dksL_law_17 8 rfl rfl)
theorem dL_law_503 : decode cL_law 503 = .ok (.aload_n 0, 1) := dk_42 (dk_at dksL_law_17 9 rfl rfl)
theorem dL_law_504 : decode cL_law 504 = .ok (.iload_n 3, 1) := dk_29 (dk_at dksL_law_17 10 rfl rfl)
theorem dL_law_505 : decode cL_law 505 = .ok (.iconst 3, 1) := dk_6 (dk_at dksL_law_17 11 rfl rfl)
theorem dL_law_506 : decode cL_law 506 = .ok (.iadd, 1) := dk_96 (dk_at dksL_law_17 12 rfl rfl)
theorem dL_law_507 : decode cL_law 507 = .ok (.iaload, 1) := dk_46 (dk_at dksL_law_17 13 rfl rfl)
theorem dL_law_508 : decode cL_law 508 = .ok (.aload_n 0, 1) := dk_42 (dk_at dksL_law_17 14 rfl rfl)
theorem dL_law_509 : decode cL_law 509 = .ok (.iload_n 3, 1) := dk_29 (dk_at dksL_law_17 15 rfl rfl)
theorem dL_law_510 : decode cL_law 510 = .ok (.iconst 4, 1) := dk_7 (dk_at dksL_law_17 16 rfl rfl)
theorem dL_law_511 : decode cL_law 511 = .ok (.iadd, 1) := dk_96 (dk_at dksL_law_17 17 rfl rfl)
theorem dL_law_512 : decode cL_law 512 = .ok (.iaload, 1) := dk_46 (dk_at dksL_law_17 18 rfl rfl)
theorem dL_law_513 : decode cL_law 513 = .ok (.invokevirtual 73, 3) := dk_182 0 73 (dk_at dksL_law_17 19 rfl rfl)
theorem dL_law_516 : decode cL_law 516 = .ok (.aload_n 2, 1) := dk_44 (dk_at dksL_law_17 22 rfl rfl)
theorem dL_law_517 : decode cL_law 517 = .ok (.aload_n 0, 1) := dk_42 (dk_at dksL_law_17 23 rfl rfl)
theorem dL_law_518 : decode cL_law 518 = .ok (.iload_n 3, 1) := dk_29 (dk_at dksL_law_18 0 rfl rfl)
theorem dL_law_519 : decode cL_law 519 = .ok (.iconst 1, 1) := dk_4 (dk_at dksL_law_18 1 rfl rfl)
theorem dL_law_520 : decode cL_law 520 = .ok (.iadd, 1) := dk_96 (dk_at dksL_law_18 2 rfl rfl)
theorem dL_law_521 : decode cL_law 521 = .ok (.iaload, 1) := dk_46 (dk_at dksL_law_18 3 rfl rfl)
theorem dL_law_522 : decode cL_law 522 = .ok (.aload_n 0, 1) := dk_42 (dk_at dksL_law_18 4 rfl rfl)
theorem dL_law_523 : decode cL_law 523 = .ok (.iload_n 3, 1) := dk_29 (dk_at dksL_law_18 5 rfl rfl)
theorem dL_law_524 : decode cL_law 524 = .ok (.iconst 2, 1) := dk_5 (dk_at dksL_law_18 6 rfl rfl)
theorem dL_law_525 : decode cL_law 525 = .ok (.iadd, 1) := dk_96 (dk_at dksL_law_18 7 rfl rfl)
theorem dL_law_526 : decode cL_law 526 = .ok (.iaload, 1) := dk_46 (dk_at dksL_law_18 8 rfl rfl)
theorem dL_law_527 : decode cL_law 527 = .ok (.aload_n 0, 1) := dk_42 (dk_at dksL_law_18 9 rfl rfl)
theorem dL_law_528 : decode cL_law 528 = .ok (.iload_n 3, 1) := dk_29 (dk_at dksL_law_18 10 rfl rfl)
theorem dL_law_529 : decode cL_law 529 = .ok (.iconst 3, 1) := dk_6 (dk_at dksL_law_18 11 rfl rfl)
theorem dL_law_530 : decode cL_law 530 = .ok (.iadd, 1) := dk_96 (dk_at dksL_law_18 12 rfl rfl)
theorem dL_law_531 : decode cL_law 531 = .ok (.iaload, 1) := dk_46 (dk_at dksL_law_18 13 rfl rfl)
theorem dL_law_532 : decode cL_law 532 = .ok (.aload_n 0, 1) := dk_42 (dk_at dksL_law_18 14 rfl rfl)
theorem dL_law_533 : decode cL_law 533 = .ok (.iload_n 3, 1) := dk_29 (dk_at dksL_law_18 15 rfl rfl)
theorem dL_law_534 : decode cL_law 534 = .ok (.iconst 4, 1) := dk_7 (dk_at dksL_law_18 16 rfl rfl)
theorem dL_law_535 : decode cL_law 535 = .ok (.iadd, 1) := dk_96 (dk_at dksL_law_18 17 rfl rfl)
theorem dL_law_536 : decode cL_law 536 = .ok (.iaload, 1) := dk_46 (dk_at dksL_law_18 18 rfl rfl)
theorem dL_law_537 : decode cL_law 537 = .ok (.invokevirtual 77, 3) := dk_182 0 77 (dk_at dksL_law_18 19 rfl rfl)
theorem dL_law_540 : decode cL_law 540 = .ok (.if_icmp .eq 370, 3) := dk_159 1 114 (dk_at dksL_law_19 0 rfl rfl)
theorem dL_law_543 : decode cL_law 543 = .ok (.iconst 0, 1) := dk_3 (dk_at dksL_law_19 3 rfl rfl)
theorem dL_law_544 : decode cL_law 544 = .ok (.ireturn, 1) := dk_172 (dk_at dksL_law_19 4 rfl rfl)
theorem dL_law_545 : decode cL_law 545 = .ok (.aload_n 1, 1) := dk_43 (dk_at dksL_law_19 5 rfl rfl)
theorem dL_law_546 : decode cL_law 546 = .ok (.aload_n 0, 1) := dk_42 (dk_at dksL_law_19 6 rfl rfl)
theorem dL_law_547 : decode cL_law 547 = .ok (.iload_n 3, 1) := dk_29 (dk_at dksL_law_19 7 rfl rfl)
theorem dL_law_548 : decode cL_law 548 = .ok (.iconst 1, 1) := dk_4 (dk_at dksL_law_19 8 rfl rfl)
theorem dL_law_549 : decode cL_law 549 = .ok (.iadd, 1) := dk_96 (dk_at dksL_law_19 9 rfl rfl)
theorem dL_law_550 : decode cL_law 550 = .ok (.iaload, 1) := dk_46 (dk_at dksL_law_19 10 rfl rfl)
theorem dL_law_551 : decode cL_law 551 = .ok (.aload_n 0, 1) := dk_42 (dk_at dksL_law_19 11 rfl rfl)
theorem dL_law_552 : decode cL_law 552 = .ok (.iload_n 3, 1) := dk_29 (dk_at dksL_law_19 12 rfl rfl)
theorem dL_law_553 : decode cL_law 553 = .ok (.iconst 2, 1) := dk_5 (dk_at dksL_law_19 13 rfl rfl)
theorem dL_law_554 : decode cL_law 554 = .ok (.iadd, 1) := dk_96 (dk_at dksL_law_19 14 rfl rfl)
theorem dL_law_555 : decode cL_law 555 = .ok (.iaload, 1) := dk_46 (dk_at dksL_law_19 15 rfl rfl)
theorem dL_law_556 : decode cL_law 556 = .ok (.invokevirtual 78, 3) := dk_182 0 78 (dk_at dksL_law_19 16 rfl rfl)
theorem dL_law_559 : decode cL_law 559 = .ok (.aload_n 2, 1) := dk_44 (dk_at dksL_law_19 19 rfl rfl)
theorem dL_law_560 : decode cL_law 560 = .ok (.aload_n 0, 1) := dk_42 (dk_at dksL_law_19 20 rfl rfl)
theorem dL_law_561 : decode cL_law 561 = .ok (.iload_n 3, 1) := dk_29 (dk_at dksL_law_19 21 rfl rfl)
theorem dL_law_562 : decode cL_law 562 = .ok (.iconst 1, 1) := dk_4 (dk_at dksL_law_19 22 rfl rfl)
theorem dL_law_563 : decode cL_law 563 = .ok (.iadd, 1) := dk_96 (dk_at dksL_law_19 23 rfl rfl)
theorem dL_law_564 : decode cL_law 564 = .ok (.iaload, 1) := dk_46 (dk_at dksL_law_20 0 rfl rfl)
theorem dL_law_565 : decode cL_law 565 = .ok (.aload_n 0, 1) := dk_42 (dk_at dksL_law_20 1 rfl rfl)
theorem dL_law_566 : decode cL_law 566 = .ok (.iload_n 3, 1) := dk_29 (dk_at dksL_law_20 2 rfl rfl)
theorem dL_law_567 : decode cL_law 567 = .ok (.iconst 2, 1) := dk_5 (dk_at dksL_law_20 3 rfl rfl)
theorem dL_law_568 : decode cL_law 568 = .ok (.iadd, 1) := dk_96 (dk_at dksL_law_20 4 rfl rfl)
theorem dL_law_569 : decode cL_law 569 = .ok (.iaload, 1) := dk_46 (dk_at dksL_law_20 5 rfl rfl)
theorem dL_law_570 : decode cL_law 570 = .ok (.invokevirtual 81, 3) := dk_182 0 81 (dk_at dksL_law_20 6 rfl rfl)
theorem dL_law_573 : decode cL_law 573 = .ok (.if_icmp .eq 337, 3) := dk_159 1 81 (dk_at dksL_law_20 9 rfl rfl)
theorem dL_law_576 : decode cL_law 576 = .ok (.iconst 0, 1) := dk_3 (dk_at dksL_law_20 12 rfl rfl)
theorem dL_law_577 : decode cL_law 577 = .ok (.ireturn, 1) := dk_172 (dk_at dksL_law_20 13 rfl rfl)
theorem dL_law_578 : decode cL_law 578 = .ok (.aload_n 1, 1) := dk_43 (dk_at dksL_law_20 14 rfl rfl)
theorem dL_law_579 : decode cL_law 579 = .ok (.aload_n 0, 1) := dk_42 (dk_at dksL_law_20 15 rfl rfl)
theorem dL_law_580 : decode cL_law 580 = .ok (.iload_n 3, 1) := dk_29 (dk_at dksL_law_20 16 rfl rfl)
theorem dL_law_581 : decode cL_law 581 = .ok (.iconst 1, 1) := dk_4 (dk_at dksL_law_20 17 rfl rfl)
theorem dL_law_582 : decode cL_law 582 = .ok (.iadd, 1) := dk_96 (dk_at dksL_law_20 18 rfl rfl)
theorem dL_law_583 : decode cL_law 583 = .ok (.iaload, 1) := dk_46 (dk_at dksL_law_20 19 rfl rfl)
theorem dL_law_584 : decode cL_law 584 = .ok (.aload_n 0, 1) := dk_42 (dk_at dksL_law_20 20 rfl rfl)
theorem dL_law_585 : decode cL_law 585 = .ok (.iload_n 3, 1) := dk_29 (dk_at dksL_law_20 21 rfl rfl)
theorem dL_law_586 : decode cL_law 586 = .ok (.iconst 2, 1) := dk_5 (dk_at dksL_law_20 22 rfl rfl)
theorem dL_law_587 : decode cL_law 587 = .ok (.iadd, 1) := dk_96 (dk_at dksL_law_20 23 rfl rfl)
theorem dL_law_588 : decode cL_law 588 = .ok (.iaload, 1) := dk_46 (dk_at dksL_law_21 0 rfl rfl)
theorem dL_law_589 : decode cL_law 589 = .ok (.invokevirtual 82, 3) := dk_182 0 82 (dk_at dksL_law_21 1 rfl rfl)
theorem dL_law_592 : decode cL_law 592 = .ok (.aload_n 2, 1) := dk_44 (dk_at dksL_law_21 4 rfl rfl)
theorem dL_law_593 : decode cL_law 593 = .ok (.aload_n 0, 1) := dk_42 (dk_at dksL_law_21 5 rfl rfl)
theorem dL_law_594 : decode cL_law 594 = .ok (.iload_n 3, 1) := dk_29 (dk_at dksL_law_21 6 rfl rfl)
theorem dL_law_595 : decode cL_law 595 = .ok (.iconst 1, 1) := dk_4 (dk_at dksL_law_21 7 rfl rfl)
theorem dL_law_596 : decode cL_law 596 = .ok (.iadd, 1) := dk_96 (dk_at dksL_law_21 8 rfl rfl)
theorem dL_law_597 : decode cL_law 597 = .ok (.iaload, 1) := dk_46 (dk_at dksL_law_21 9 rfl rfl)
theorem dL_law_598 : decode cL_law 598 = .ok (.aload_n 0, 1) := dk_42 (dk_at dksL_law_21 10 rfl rfl)
theorem dL_law_599 : decode cL_law 599 = .ok (.iload_n 3, 1) := dk_29 (dk_at dksL_law_21 11 rfl rfl)
theorem dL_law_600 : decode cL_law 600 = .ok (.iconst 2, 1) := dk_5 (dk_at dksL_law_21 12 rfl rfl)
theorem dL_law_601 : decode cL_law 601 = .ok (.iadd, 1) := dk_96 (dk_at dksL_law_21 13 rfl rfl)
theorem dL_law_602 : decode cL_law 602 = .ok (.iaload, 1) := dk_46 (dk_at dksL_law_21 14 rfl rfl)
theorem dL_law_603 : decode cL_law 603 = .ok (.invokevirtual 85, 3) := dk_182 0 85 (dk_at dksL_law_21 15 rfl rfl)
theorem dL_law_606 : decode cL_law 606 = .ok (.if_icmp .eq 304, 3) := dk_159 1 48 (dk_at dksL_law_21 18 rfl rfl)
theorem dL_law_609 : decode cL_law 609 = .ok (.iconst 0, 1) := dk_3 (dk_at dksL_law_21 21 rfl rfl)
theorem dL_law_610 : decode cL_law 610 = .ok (.ireturn, 1) := dk_172 (dk_at dksL_law_21 22 rfl rfl)
theorem dL_law_611 : decode cL_law 611 = .ok (.aload_n 1, 1) := dk_43 (dk_at dksL_law_21 23 rfl rfl)
theorem dL_law_612 : decode cL_law 612 = .ok (.aload_n 0, 1) := dk_42 (dk_at dksL_law_22 0 rfl rfl)
theorem dL_law_613 : decode cL_law 613 = .ok (.iload_n 3, 1) := dk_29 (dk_at dksL_law_22 1 rfl rfl)
theorem dL_law_614 : decode cL_law 614 = .ok (.iconst 1, 1) := dk_4 (dk_at dksL_law_22 2 rfl rfl)
theorem dL_law_615 : decode cL_law 615 = .ok (.iadd, 1) := dk_96 (dk_at dksL_law_22 3 rfl rfl)
theorem dL_law_616 : decode cL_law 616 = .ok (.iaload, 1) := dk_46 (dk_at dksL_law_22 4 rfl rfl)
theorem dL_law_617 : decode cL_law 617 = .ok (.invokevirtual 86, 3) := dk_182 0 86 (dk_at dksL_law_22 5 rfl rfl)
theorem dL_law_620 : decode cL_law 620 = .ok (.aload_n 2, 1) := dk_44 (dk_at dksL_law_22 8 rfl rfl)
theorem dL_law_621 : decode cL_law 621 = .ok (.aload_n 0, 1) := dk_42 (dk_at dksL_law_22 9 rfl rfl)
theorem dL_law_622 : decode cL_law 622 = .ok (.iload_n 3, 1) := dk_29 (dk_at dksL_law_22 10 rfl rfl)
theorem dL_law_623 : decode cL_law 623 = .ok (.iconst 1, 1) := dk_4 (dk_at dksL_law_22 11 rfl rfl)
theorem dL_law_624 : decode cL_law 624 = .ok (.iadd, 1) := dk_96 (dk_at dksL_law_22 12 rfl rfl)
theorem dL_law_625 : decode cL_law 625 = .ok (.iaload, 1) := dk_46 (dk_at dksL_law_22 13 rfl rfl)
theorem dL_law_626 : decode cL_law 626 = .ok (.invokevirtual 89, 3) := dk_182 0 89 (dk_at dksL_law_22 14 rfl rfl)
theorem dL_law_629 : decode cL_law 629 = .ok (.if_icmp .eq 281, 3) := dk_159 1 25 (dk_at dksL_law_22 17 rfl rfl)
theorem dL_law_632 : decode cL_law 632 = .ok (.iconst 0, 1) := dk_3 (dk_at dksL_law_22 20 rfl rfl)
theorem dL_law_633 : decode cL_law 633 = .ok (.ireturn, 1) := dk_172 (dk_at dksL_law_22 21 rfl rfl)
theorem dL_law_634 : decode cL_law 634 = .ok (.aload_n 1, 1) := dk_43 (dk_at dksL_law_22 22 rfl rfl)
theorem dL_law_635 : decode cL_law 635 = .ok (.aload_n 0, 1) := dk_42 (dk_at dksL_law_22 23 rfl rfl)
theorem dL_law_636 : decode cL_law 636 = .ok (.iload_n 3, 1) := dk_29 (dk_at dksL_law_23 0 rfl rfl)
theorem dL_law_637 : decode cL_law 637 = .ok (.iconst 1, 1) := dk_4 (dk_at dksL_law_23 1 rfl rfl)
theorem dL_law_638 : decode cL_law 638 = .ok (.iadd, 1) := dk_96 (dk_at dksL_law_23 2 rfl rfl)
theorem dL_law_639 : decode cL_law 639 = .ok (.iaload, 1) := dk_46 (dk_at dksL_law_23 3 rfl rfl)
theorem dL_law_640 : decode cL_law 640 = .ok (.aload_n 0, 1) := dk_42 (dk_at dksL_law_23 4 rfl rfl)
theorem dL_law_641 : decode cL_law 641 = .ok (.iload_n 3, 1) := dk_29 (dk_at dksL_law_23 5 rfl rfl)
theorem dL_law_642 : decode cL_law 642 = .ok (.iconst 2, 1) := dk_5 (dk_at dksL_law_23 6 rfl rfl)
theorem dL_law_643 : decode cL_law 643 = .ok (.iadd, 1) := dk_96 (dk_at dksL_law_23 7 rfl rfl)
theorem dL_law_644 : decode cL_law 644 = .ok (.iaload, 1) := dk_46 (dk_at dksL_law_23 8 rfl rfl)
theorem dL_law_645 : decode cL_law 645 = .ok (.aload_n 0, 1) := dk_42 (dk_at dksL_law_23 9 rfl rfl)
theorem dL_law_646 : decode cL_law 646 = .ok (.iload_n 3, 1) := dk_29 (dk_at dksL_law_23 10 rfl rfl)
theorem dL_law_647 : decode cL_law 647 = .ok (.iconst 3, 1) := dk_6 (dk_at dksL_law_23 11 rfl rfl)
theorem dL_law_648 : decode cL_law 648 = .ok (.iadd, 1) := dk_96 (dk_at dksL_law_23 12 rfl rfl)
theorem dL_law_649 : decode cL_law 649 = .ok (.iaload, 1) := dk_46 (dk_at dksL_law_23 13 rfl rfl)
theorem dL_law_650 : decode cL_law 650 = .ok (.aload_n 0, 1) := dk_42 (dk_at dksL_law_23 14 rfl rfl)
theorem dL_law_651 : decode cL_law 651 = .ok (.iload_n 3, 1) := dk_29 (dk_at dksL_law_23 15 rfl rfl)
theorem dL_law_652 : decode cL_law 652 = .ok (.iconst 4, 1) := dk_7 (dk_at dksL_law_23 16 rfl rfl)
theorem dL_law_653 : decode cL_law 653 = .ok (.iadd, 1) := dk_96 (dk_at dksL_law_23 17 rfl rfl)
theorem dL_law_654 : decode cL_law 654 = .ok (.iaload, 1) := dk_46 (dk_at dksL_law_23 18 rfl rfl)
theorem dL_law_655 : decode cL_law 655 = .ok (.invokevirtual 90, 3) := dk_182 0 90 (dk_at dksL_law_23 19 rfl rfl)
theorem dL_law_658 : decode cL_law 658 = .ok (.aload_n 2, 1) := dk_44 (dk_at dksL_law_23 22 rfl rfl)
theorem dL_law_659 : decode cL_law 659 = .ok (.aload_n 0, 1) := dk_42 (dk_at dksL_law_23 23 rfl rfl)
theorem dL_law_660 : decode cL_law 660 = .ok (.iload_n 3, 1) := dk_29 (dk_at dksL_law_24 0 rfl rfl)
theorem dL_law_661 : decode cL_law 661 = .ok (.iconst 1, 1) := dk_4 (dk_at dksL_law_24 1 rfl rfl)
theorem dL_law_662 : decode cL_law 662 = .ok (.iadd, 1) := dk_96 (dk_at dksL_law_24 2 rfl rfl)
theorem dL_law_663 : decode cL_law 663 = .ok (.iaload, 1) := dk_46 (dk_at dksL_law_24 3 rfl rfl)
theorem dL_law_664 : decode cL_law 664 = .ok (.aload_n 0, 1) := dk_42 (dk_at dksL_law_24 4 rfl rfl)
theorem dL_law_665 : decode cL_law 665 = .ok (.iload_n 3, 1) := dk_29 (dk_at dksL_law_24 5 rfl rfl)
theorem dL_law_666 : decode cL_law 666 = .ok (.iconst 2, 1) := dk_5 (dk_at dksL_law_24 6 rfl rfl)
theorem dL_law_667 : decode cL_law 667 = .ok (.iadd, 1) := dk_96 (dk_at dksL_law_24 7 rfl rfl)
theorem dL_law_668 : decode cL_law 668 = .ok (.iaload, 1) := dk_46 (dk_at dksL_law_24 8 rfl rfl)
theorem dL_law_669 : decode cL_law 669 = .ok (.aload_n 0, 1) := dk_42 (dk_at dksL_law_24 9 rfl rfl)
theorem dL_law_670 : decode cL_law 670 = .ok (.iload_n 3, 1) := dk_29 (dk_at dksL_law_24 10 rfl rfl)
theorem dL_law_671 : decode cL_law 671 = .ok (.iconst 3, 1) := dk_6 (dk_at dksL_law_24 11 rfl rfl)
theorem dL_law_672 : decode cL_law 672 = .ok (.iadd, 1) := dk_96 (dk_at dksL_law_24 12 rfl rfl)
theorem dL_law_673 : decode cL_law 673 = .ok (.iaload, 1) := dk_46 (dk_at dksL_law_24 13 rfl rfl)
theorem dL_law_674 : decode cL_law 674 = .ok (.aload_n 0, 1) := dk_42 (dk_at dksL_law_24 14 rfl rfl)
theorem dL_law_675 : decode cL_law 675 = .ok (.iload_n 3, 1) := dk_29 (dk_at dksL_law_24 15 rfl rfl)
theorem dL_law_676 : decode cL_law 676 = .ok (.iconst 4, 1) := dk_7 (dk_at dksL_law_24 16 rfl rfl)
theorem dL_law_677 : decode cL_law 677 = .ok (.iadd, 1) := dk_96 (dk_at dksL_law_24 17 rfl rfl)
theorem dL_law_678 : decode cL_law 678 = .ok (.iaload, 1) := dk_46 (dk_at dksL_law_24 18 rfl rfl)
theorem dL_law_679 : decode cL_law 679 = .ok (.invokevirtual 93, 3) := dk_182 0 93 (dk_at dksL_law_24 19 rfl rfl)
theorem dL_law_682 : decode cL_law 682 = .ok (.if_icmp .eq 228, 3) := dk_159 0 228 (dk_at dksL_law_25 0 rfl rfl)
theorem dL_law_685 : decode cL_law 685 = .ok (.iconst 0, 1) := dk_3 (dk_at dksL_law_25 3 rfl rfl)
theorem dL_law_686 : decode cL_law 686 = .ok (.ireturn, 1) := dk_172 (dk_at dksL_law_25 4 rfl rfl)
theorem dL_law_687 : decode cL_law 687 = .ok (.aload_n 1, 1) := dk_43 (dk_at dksL_law_25 5 rfl rfl)
theorem dL_law_688 : decode cL_law 688 = .ok (.aload_n 0, 1) := dk_42 (dk_at dksL_law_25 6 rfl rfl)
theorem dL_law_689 : decode cL_law 689 = .ok (.iload_n 3, 1) := dk_29 (dk_at dksL_law_25 7 rfl rfl)
theorem dL_law_690 : decode cL_law 690 = .ok (.iconst 1, 1) := dk_4 (dk_at dksL_law_25 8 rfl rfl)
theorem dL_law_691 : decode cL_law 691 = .ok (.iadd, 1) := dk_96 (dk_at dksL_law_25 9 rfl rfl)
theorem dL_law_692 : decode cL_law 692 = .ok (.iaload, 1) := dk_46 (dk_at dksL_law_25 10 rfl rfl)
theorem dL_law_693 : decode cL_law 693 = .ok (.invokevirtual 94, 3) := dk_182 0 94 (dk_at dksL_law_25 11 rfl rfl)
theorem dL_law_696 : decode cL_law 696 = .ok (.aload_n 2, 1) := dk_44 (dk_at dksL_law_25 14 rfl rfl)
theorem dL_law_697 : decode cL_law 697 = .ok (.aload_n 0, 1) := dk_42 (dk_at dksL_law_25 15 rfl rfl)
theorem dL_law_698 : decode cL_law 698 = .ok (.iload_n 3, 1) := dk_29 (dk_at dksL_law_25 16 rfl rfl)
theorem dL_law_699 : decode cL_law 699 = .ok (.iconst 1, 1) := dk_4 (dk_at dksL_law_25 17 rfl rfl)
theorem dL_law_700 : decode cL_law 700 = .ok (.iadd, 1) := dk_96 (dk_at dksL_law_25 18 rfl rfl)
theorem dL_law_701 : decode cL_law 701 = .ok (.iaload, 1) := dk_46 (dk_at dksL_law_25 19 rfl rfl)
theorem dL_law_702 : decode cL_law 702 = .ok (.invokevirtual 97, 3) := dk_182 0 97 (dk_at dksL_law_25 20 rfl rfl)
theorem dL_law_705 : decode cL_law 705 = .ok (.if_icmp .eq 205, 3) := dk_159 0 205 (dk_at dksL_law_26 0 rfl rfl)
theorem dL_law_708 : decode cL_law 708 = .ok (.iconst 0, 1) := dk_3 (dk_at dksL_law_26 3 rfl rfl)
theorem dL_law_709 : decode cL_law 709 = .ok (.ireturn, 1) := dk_172 (dk_at dksL_law_26 4 rfl rfl)
theorem dL_law_710 : decode cL_law 710 = .ok (.aload_n 1, 1) := dk_43 (dk_at dksL_law_26 5 rfl rfl)
theorem dL_law_711 : decode cL_law 711 = .ok (.aload_n 0, 1) := dk_42 (dk_at dksL_law_26 6 rfl rfl)
theorem dL_law_712 : decode cL_law 712 = .ok (.iload_n 3, 1) := dk_29 (dk_at dksL_law_26 7 rfl rfl)
theorem dL_law_713 : decode cL_law 713 = .ok (.iconst 1, 1) := dk_4 (dk_at dksL_law_26 8 rfl rfl)
theorem dL_law_714 : decode cL_law 714 = .ok (.iadd, 1) := dk_96 (dk_at dksL_law_26 9 rfl rfl)
theorem dL_law_715 : decode cL_law 715 = .ok (.iaload, 1) := dk_46 (dk_at dksL_law_26 10 rfl rfl)
theorem dL_law_716 : decode cL_law 716 = .ok (.invokevirtual 98, 3) := dk_182 0 98 (dk_at dksL_law_26 11 rfl rfl)
theorem dL_law_719 : decode cL_law 719 = .ok (.aload_n 2, 1) := dk_44 (dk_at dksL_law_26 14 rfl rfl)
theorem dL_law_720 : decode cL_law 720 = .ok (.aload_n 0, 1) := dk_42 (dk_at dksL_law_26 15 rfl rfl)
theorem dL_law_721 : decode cL_law 721 = .ok (.iload_n 3, 1) := dk_29 (dk_at dksL_law_26 16 rfl rfl)
theorem dL_law_722 : decode cL_law 722 = .ok (.iconst 1, 1) := dk_4 (dk_at dksL_law_26 17 rfl rfl)
theorem dL_law_723 : decode cL_law 723 = .ok (.iadd, 1) := dk_96 (dk_at dksL_law_26 18 rfl rfl)
theorem dL_law_724 : decode cL_law 724 = .ok (.iaload, 1) := dk_46 (dk_at dksL_law_26 19 rfl rfl)
theorem dL_law_725 : decode cL_law 725 = .ok (.invokevirtual 101, 3) := dk_182 0 101 (dk_at dksL_law_26 20 rfl rfl)
theorem dL_law_728 : decode cL_law 728 = .ok (.if_icmp .eq 182, 3) := dk_159 0 182 (dk_at dksL_law_27 0 rfl rfl)
theorem dL_law_731 : decode cL_law 731 = .ok (.iconst 0, 1) := dk_3 (dk_at dksL_law_27 3 rfl rfl)
theorem dL_law_732 : decode cL_law 732 = .ok (.ireturn, 1) := dk_172 (dk_at dksL_law_27 4 rfl rfl)
theorem dL_law_733 : decode cL_law 733 = .ok (.aload_n 1, 1) := dk_43 (dk_at dksL_law_27 5 rfl rfl)
theorem dL_law_734 : decode cL_law 734 = .ok (.aload_n 0, 1) := dk_42 (dk_at dksL_law_27 6 rfl rfl)
theorem dL_law_735 : decode cL_law 735 = .ok (.iload_n 3, 1) := dk_29 (dk_at dksL_law_27 7 rfl rfl)
theorem dL_law_736 : decode cL_law 736 = .ok (.iconst 1, 1) := dk_4 (dk_at dksL_law_27 8 rfl rfl)
theorem dL_law_737 : decode cL_law 737 = .ok (.iadd, 1) := dk_96 (dk_at dksL_law_27 9 rfl rfl)
theorem dL_law_738 : decode cL_law 738 = .ok (.iaload, 1) := dk_46 (dk_at dksL_law_27 10 rfl rfl)
theorem dL_law_739 : decode cL_law 739 = .ok (.aload_n 0, 1) := dk_42 (dk_at dksL_law_27 11 rfl rfl)
theorem dL_law_740 : decode cL_law 740 = .ok (.iload_n 3, 1) := dk_29 (dk_at dksL_law_27 12 rfl rfl)
theorem dL_law_741 : decode cL_law 741 = .ok (.iconst 2, 1) := dk_5 (dk_at dksL_law_27 13 rfl rfl)
theorem dL_law_742 : decode cL_law 742 = .ok (.iadd, 1) := dk_96 (dk_at dksL_law_27 14 rfl rfl)
theorem dL_law_743 : decode cL_law 743 = .ok (.iaload, 1) := dk_46 (dk_at dksL_law_27 15 rfl rfl)
theorem dL_law_744 : decode cL_law 744 = .ok (.invokevirtual 102, 3) := dk_182 0 102 (dk_at dksL_law_27 16 rfl rfl)
theorem dL_law_747 : decode cL_law 747 = .ok (.aload_n 2, 1) := dk_44 (dk_at dksL_law_27 19 rfl rfl)
theorem dL_law_748 : decode cL_law 748 = .ok (.aload_n 0, 1) := dk_42 (dk_at dksL_law_27 20 rfl rfl)
theorem dL_law_749 : decode cL_law 749 = .ok (.iload_n 3, 1) := dk_29 (dk_at dksL_law_27 21 rfl rfl)
theorem dL_law_750 : decode cL_law 750 = .ok (.iconst 1, 1) := dk_4 (dk_at dksL_law_27 22 rfl rfl)
theorem dL_law_751 : decode cL_law 751 = .ok (.iadd, 1) := dk_96 (dk_at dksL_law_27 23 rfl rfl)
theorem dL_law_752 : decode cL_law 752 = .ok (.iaload, 1) := dk_46 (dk_at dksL_law_28 0 rfl rfl)
theorem dL_law_753 : decode cL_law 753 = .ok (.aload_n 0, 1) := dk_42 (dk_at dksL_law_28 1 rfl rfl)
theorem dL_law_754 : decode cL_law 754 = .ok (.iload_n 3, 1) := dk_29 (dk_at dksL_law_28 2 rfl rfl)
theorem dL_law_755 : decode cL_law 755 = .ok (.iconst 2, 1) := dk_5 (dk_at dksL_law_28 3 rfl rfl)
theorem dL_law_756 : decode cL_law 756 = .ok (.iadd, 1) := dk_96 (dk_at dksL_law_28 4 rfl rfl)
theorem dL_law_757 : decode cL_law 757 = .ok (.iaload, 1) := dk_46 (dk_at dksL_law_28 5 rfl rfl)
theorem dL_law_758 : decode cL_law 758 = .ok (.invokevirtual 105, 3) := dk_182 0 105 (dk_at dksL_law_28 6 rfl rfl)
theorem dL_law_761 : decode cL_law 761 = .ok (.if_icmp .eq 149, 3) := dk_159 0 149 (dk_at dksL_law_28 9 rfl rfl)
theorem dL_law_764 : decode cL_law 764 = .ok (.iconst 0, 1) := dk_3 (dk_at dksL_law_28 12 rfl rfl)
theorem dL_law_765 : decode cL_law 765 = .ok (.ireturn, 1) := dk_172 (dk_at dksL_law_28 13 rfl rfl)
theorem dL_law_766 : decode cL_law 766 = .ok (.aload_n 1, 1) := dk_43 (dk_at dksL_law_28 14 rfl rfl)
theorem dL_law_767 : decode cL_law 767 = .ok (.aload_n 0, 1) := dk_42 (dk_at dksL_law_28 15 rfl rfl)
theorem dL_law_768 : decode cL_law 768 = .ok (.iload_n 3, 1) := dk_29 (dk_at dksL_law_28 16 rfl rfl)
theorem dL_law_769 : decode cL_law 769 = .ok (.iconst 1, 1) := dk_4 (dk_at dksL_law_28 17 rfl rfl)
theorem dL_law_770 : decode cL_law 770 = .ok (.iadd, 1) := dk_96 (dk_at dksL_law_28 18 rfl rfl)
theorem dL_law_771 : decode cL_law 771 = .ok (.iaload, 1) := dk_46 (dk_at dksL_law_28 19 rfl rfl)
theorem dL_law_772 : decode cL_law 772 = .ok (.aload_n 0, 1) := dk_42 (dk_at dksL_law_28 20 rfl rfl)
theorem dL_law_773 : decode cL_law 773 = .ok (.iload_n 3, 1) := dk_29 (dk_at dksL_law_28 21 rfl rfl)
theorem dL_law_774 : decode cL_law 774 = .ok (.iconst 2, 1) := dk_5 (dk_at dksL_law_28 22 rfl rfl)
theorem dL_law_775 : decode cL_law 775 = .ok (.iadd, 1) := dk_96 (dk_at dksL_law_28 23 rfl rfl)
theorem dL_law_776 : decode cL_law 776 = .ok (.iaload, 1) := dk_46 (dk_at dksL_law_29 0 rfl rfl)
theorem dL_law_777 : decode cL_law 777 = .ok (.ifCond .eq 7, 3) := dk_153 0 7 (dk_at dksL_law_29 1 rfl rfl)
theorem dL_law_780 : decode cL_law 780 = .ok (.iconst 1, 1) := dk_4 (dk_at dksL_law_29 4 rfl rfl)
theorem dL_law_781 : decode cL_law 781 = .ok (.goto 4, 3) := dk_167 0 4 (dk_at dksL_law_29 5 rfl rfl)
theorem dL_law_784 : decode cL_law 784 = .ok (.iconst 0, 1) := dk_3 (dk_at dksL_law_29 8 rfl rfl)
theorem dL_law_785 : decode cL_law 785 = .ok (.invokevirtual 106, 3) := dk_182 0 106 (dk_at dksL_law_29 9 rfl rfl)
theorem dL_law_788 : decode cL_law 788 = .ok (.aload_n 2, 1) := dk_44 (dk_at dksL_law_29 12 rfl rfl)
theorem dL_law_789 : decode cL_law 789 = .ok (.aload_n 0, 1) := dk_42 (dk_at dksL_law_29 13 rfl rfl)
theorem dL_law_790 : decode cL_law 790 = .ok (.iload_n 3, 1) := dk_29 (dk_at dksL_law_29 14 rfl rfl)
theorem dL_law_791 : decode cL_law 791 = .ok (.iconst 1, 1) := dk_4 (dk_at dksL_law_29 15 rfl rfl)
theorem dL_law_792 : decode cL_law 792 = .ok (.iadd, 1) := dk_96 (dk_at dksL_law_29 16 rfl rfl)
theorem dL_law_793 : decode cL_law 793 = .ok (.iaload, 1) := dk_46 (dk_at dksL_law_29 17 rfl rfl)
theorem dL_law_794 : decode cL_law 794 = .ok (.aload_n 0, 1) := dk_42 (dk_at dksL_law_29 18 rfl rfl)
theorem dL_law_795 : decode cL_law 795 = .ok (.iload_n 3, 1) := dk_29 (dk_at dksL_law_29 19 rfl rfl)
theorem dL_law_796 : decode cL_law 796 = .ok (.iconst 2, 1) := dk_5 (dk_at dksL_law_29 20 rfl rfl)
theorem dL_law_797 : decode cL_law 797 = .ok (.iadd, 1) := dk_96 (dk_at dksL_law_29 21 rfl rfl)
theorem dL_law_798 : decode cL_law 798 = .ok (.iaload, 1) := dk_46 (dk_at dksL_law_29 22 rfl rfl)
theorem dL_law_799 : decode cL_law 799 = .ok (.ifCond .eq 7, 3) := dk_153 0 7 (dk_at dksL_law_30 0 rfl rfl)
theorem dL_law_802 : decode cL_law 802 = .ok (.iconst 1, 1) := dk_4 (dk_at dksL_law_30 3 rfl rfl)
theorem dL_law_803 : decode cL_law 803 = .ok (.goto 4, 3) := dk_167 0 4 (dk_at dksL_law_30 4 rfl rfl)
theorem dL_law_806 : decode cL_law 806 = .ok (.iconst 0, 1) := dk_3 (dk_at dksL_law_30 7 rfl rfl)
theorem dL_law_807 : decode cL_law 807 = .ok (.invokevirtual 110, 3) := dk_182 0 110 (dk_at dksL_law_30 8 rfl rfl)
theorem dL_law_810 : decode cL_law 810 = .ok (.if_icmp .eq 100, 3) := dk_159 0 100 (dk_at dksL_law_30 11 rfl rfl)
theorem dL_law_813 : decode cL_law 813 = .ok (.iconst 0, 1) := dk_3 (dk_at dksL_law_30 14 rfl rfl)
theorem dL_law_814 : decode cL_law 814 = .ok (.ireturn, 1) := dk_172 (dk_at dksL_law_30 15 rfl rfl)
theorem dL_law_815 : decode cL_law 815 = .ok (.aload_n 1, 1) := dk_43 (dk_at dksL_law_30 16 rfl rfl)
theorem dL_law_816 : decode cL_law 816 = .ok (.invokevirtual 111, 3) := dk_182 0 111 (dk_at dksL_law_30 17 rfl rfl)
theorem dL_law_819 : decode cL_law 819 = .ok (.aload_n 2, 1) := dk_44 (dk_at dksL_law_30 20 rfl rfl)
theorem dL_law_820 : decode cL_law 820 = .ok (.invokevirtual 114, 3) := dk_182 0 114 (dk_at dksL_law_30 21 rfl rfl)
theorem dL_law_823 : decode cL_law 823 = .ok (.if_icmp .eq 87, 3) := dk_159 0 87 (dk_at dksL_law_31 0 rfl rfl)
theorem dL_law_826 : decode cL_law 826 = .ok (.iconst 0, 1) := dk_3 (dk_at dksL_law_31 3 rfl rfl)
theorem dL_law_827 : decode cL_law 827 = .ok (.ireturn, 1) := dk_172 (dk_at dksL_law_31 4 rfl rfl)
theorem dL_law_828 : decode cL_law 828 = .ok (.aload_n 1, 1) := dk_43 (dk_at dksL_law_31 5 rfl rfl)
theorem dL_law_829 : decode cL_law 829 = .ok (.invokevirtual 115, 3) := dk_182 0 115 (dk_at dksL_law_31 6 rfl rfl)
theorem dL_law_832 : decode cL_law 832 = .ok (.aload_n 2, 1) := dk_44 (dk_at dksL_law_31 9 rfl rfl)
theorem dL_law_833 : decode cL_law 833 = .ok (.invokevirtual 118, 3) := dk_182 0 118 (dk_at dksL_law_31 10 rfl rfl)
theorem dL_law_836 : decode cL_law 836 = .ok (.if_icmp .eq 74, 3) := dk_159 0 74 (dk_at dksL_law_31 13 rfl rfl)
theorem dL_law_839 : decode cL_law 839 = .ok (.iconst 0, 1) := dk_3 (dk_at dksL_law_31 16 rfl rfl)
theorem dL_law_840 : decode cL_law 840 = .ok (.ireturn, 1) := dk_172 (dk_at dksL_law_31 17 rfl rfl)
theorem dL_law_841 : decode cL_law 841 = .ok (.aload_n 1, 1) := dk_43 (dk_at dksL_law_31 18 rfl rfl)
theorem dL_law_842 : decode cL_law 842 = .ok (.aload_n 0, 1) := dk_42 (dk_at dksL_law_31 19 rfl rfl)
theorem dL_law_843 : decode cL_law 843 = .ok (.iload_n 3, 1) := dk_29 (dk_at dksL_law_31 20 rfl rfl)
theorem dL_law_844 : decode cL_law 844 = .ok (.iconst 1, 1) := dk_4 (dk_at dksL_law_31 21 rfl rfl)
theorem dL_law_845 : decode cL_law 845 = .ok (.iadd, 1) := dk_96 (dk_at dksL_law_31 22 rfl rfl)
theorem dL_law_846 : decode cL_law 846 = .ok (.iaload, 1) := dk_46 (dk_at dksL_law_31 23 rfl rfl)
theorem dL_law_847 : decode cL_law 847 = .ok (.invokevirtual 119, 3) := dk_182 0 119 (dk_at dksL_law_32 0 rfl rfl)
theorem dL_law_850 : decode cL_law 850 = .ok (.aload_n 2, 1) := dk_44 (dk_at dksL_law_32 3 rfl rfl)
theorem dL_law_851 : decode cL_law 851 = .ok (.aload_n 0, 1) := dk_42 (dk_at dksL_law_32 4 rfl rfl)
theorem dL_law_852 : decode cL_law 852 = .ok (.iload_n 3, 1) := dk_29 (dk_at dksL_law_32 5 rfl rfl)
theorem dL_law_853 : decode cL_law 853 = .ok (.iconst 1, 1) := dk_4 (dk_at dksL_law_32 6 rfl rfl)
theorem dL_law_854 : decode cL_law 854 = .ok (.iadd, 1) := dk_96 (dk_at dksL_law_32 7 rfl rfl)
theorem dL_law_855 : decode cL_law 855 = .ok (.iaload, 1) := dk_46 (dk_at dksL_law_32 8 rfl rfl)
theorem dL_law_856 : decode cL_law 856 = .ok (.invokevirtual 122, 3) := dk_182 0 122 (dk_at dksL_law_32 9 rfl rfl)
theorem dL_law_859 : decode cL_law 859 = .ok (.if_icmp .eq 51, 3) := dk_159 0 51 (dk_at dksL_law_32 12 rfl rfl)
theorem dL_law_862 : decode cL_law 862 = .ok (.iconst 0, 1) := dk_3 (dk_at dksL_law_32 15 rfl rfl)
theorem dL_law_863 : decode cL_law 863 = .ok (.ireturn, 1) := dk_172 (dk_at dksL_law_32 16 rfl rfl)
theorem dL_law_864 : decode cL_law 864 = .ok (.aload_n 1, 1) := dk_43 (dk_at dksL_law_32 17 rfl rfl)
theorem dL_law_865 : decode cL_law 865 = .ok (.aload_n 0, 1) := dk_42 (dk_at dksL_law_32 18 rfl rfl)
theorem dL_law_866 : decode cL_law 866 = .ok (.iload_n 3, 1) := dk_29 (dk_at dksL_law_32 19 rfl rfl)
theorem dL_law_867 : decode cL_law 867 = .ok (.iconst 1, 1) := dk_4 (dk_at dksL_law_32 20 rfl rfl)
theorem dL_law_868 : decode cL_law 868 = .ok (.iadd, 1) := dk_96 (dk_at dksL_law_32 21 rfl rfl)
theorem dL_law_869 : decode cL_law 869 = .ok (.iaload, 1) := dk_46 (dk_at dksL_law_32 22 rfl rfl)
theorem dL_law_870 : decode cL_law 870 = .ok (.invokevirtual 123, 3) := dk_182 0 123 (dk_at dksL_law_33 0 rfl rfl)
theorem dL_law_873 : decode cL_law 873 = .ok (.aload_n 2, 1) := dk_44 (dk_at dksL_law_33 3 rfl rfl)
theorem dL_law_874 : decode cL_law 874 = .ok (.aload_n 0, 1) := dk_42 (dk_at dksL_law_33 4 rfl rfl)
theorem dL_law_875 : decode cL_law 875 = .ok (.iload_n 3, 1) := dk_29 (dk_at dksL_law_33 5 rfl rfl)
theorem dL_law_876 : decode cL_law 876 = .ok (.iconst 1, 1) := dk_4 (dk_at dksL_law_33 6 rfl rfl)
theorem dL_law_877 : decode cL_law 877 = .ok (.iadd, 1) := dk_96 (dk_at dksL_law_33 7 rfl rfl)
theorem dL_law_878 : decode cL_law 878 = .ok (.iaload, 1) := dk_46 (dk_at dksL_law_33 8 rfl rfl)
theorem dL_law_879 : decode cL_law 879 = .ok (.invokevirtual 126, 3) := dk_182 0 126 (dk_at dksL_law_33 9 rfl rfl)
theorem dL_law_882 : decode cL_law 882 = .ok (.if_icmp .eq 28, 3) := dk_159 0 28 (dk_at dksL_law_33 12 rfl rfl)
theorem dL_law_885 : decode cL_law 885 = .ok (.iconst 0, 1) := dk_3 (dk_at dksL_law_33 15 rfl rfl)
theorem dL_law_886 : decode cL_law 886 = .ok (.ireturn, 1) := dk_172 (dk_at dksL_law_33 16 rfl rfl)
theorem dL_law_887 : decode cL_law 887 = .ok (.aload_n 1, 1) := dk_43 (dk_at dksL_law_33 17 rfl rfl)
theorem dL_law_888 : decode cL_law 888 = .ok (.aload_n 0, 1) := dk_42 (dk_at dksL_law_33 18 rfl rfl)
theorem dL_law_889 : decode cL_law 889 = .ok (.iload_n 3, 1) := dk_29 (dk_at dksL_law_33 19 rfl rfl)
theorem dL_law_890 : decode cL_law 890 = .ok (.iconst 1, 1) := dk_4 (dk_at dksL_law_33 20 rfl rfl)
theorem dL_law_891 : decode cL_law 891 = .ok (.iadd, 1) := dk_96 (dk_at dksL_law_33 21 rfl rfl)
theorem dL_law_892 : decode cL_law 892 = .ok (.iaload, 1) := dk_46 (dk_at dksL_law_33 22 rfl rfl)
theorem dL_law_893 : decode cL_law 893 = .ok (.invokevirtual 127, 3) := dk_182 0 127 (dk_at dksL_law_34 0 rfl rfl)
theorem dL_law_896 : decode cL_law 896 = .ok (.aload_n 2, 1) := dk_44 (dk_at dksL_law_34 3 rfl rfl)
theorem dL_law_897 : decode cL_law 897 = .ok (.aload_n 0, 1) := dk_42 (dk_at dksL_law_34 4 rfl rfl)
theorem dL_law_898 : decode cL_law 898 = .ok (.iload_n 3, 1) := dk_29 (dk_at dksL_law_34 5 rfl rfl)
theorem dL_law_899 : decode cL_law 899 = .ok (.iconst 1, 1) := dk_4 (dk_at dksL_law_34 6 rfl rfl)
theorem dL_law_900 : decode cL_law 900 = .ok (.iadd, 1) := dk_96 (dk_at dksL_law_34 7 rfl rfl)
theorem dL_law_901 : decode cL_law 901 = .ok (.iaload, 1) := dk_46 (dk_at dksL_law_34 8 rfl rfl)
theorem dL_law_902 : decode cL_law 902 = .ok (.invokevirtual 130, 3) := dk_182 0 130 (dk_at dksL_law_34 9 rfl rfl)
theorem dL_law_905 : decode cL_law 905 = .ok (.if_icmp .eq 5, 3) := dk_159 0 5 (dk_at dksL_law_34 12 rfl rfl)
theorem dL_law_908 : decode cL_law 908 = .ok (.iconst 0, 1) := dk_3 (dk_at dksL_law_34 15 rfl rfl)
theorem dL_law_909 : decode cL_law 909 = .ok (.ireturn, 1) := dk_172 (dk_at dksL_law_34 16 rfl rfl)
theorem dL_law_910 : decode cL_law 910 = .ok (.iinc 3 5, 3) := dk_132 3 5 (dk_at dksL_law_34 17 rfl rfl)
theorem dL_law_913 : decode cL_law 913 = .ok (.goto (-895), 3) := dk_167 252 129 (dk_at dksL_law_34 20 rfl rfl)
theorem dL_law_916 : decode cL_law 916 = .ok (.iconst 1, 1) := dk_4 (dk_at dksL_law_34 23 rfl rfl)
theorem dL_law_917 : decode cL_law 917 = .ok (.ireturn, 1) := dk_172 (dk_at dksL_law_35 0 rfl rfl)
