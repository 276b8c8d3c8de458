/-! SkittleGentry -/
set_option maxRecDepth 100000
def RX0 : String := "SkittleGentry"
def TX0 : u_T := fun k => match k with
  | 0 => ("SkittleGentry", "kinds", "[LSkittleGentry$Gentry;", true)
  | 1 => ("SkittleGentry", "county", "LSkittleGentry$County;", false)
  | 2 => ("SkittleGentry", "now", "LSkittleGentry$State;", true)
  | 3 => ("SkittleGentry", "tried", "LSkittleGentry$State;", true)
  | 4 => ("SkittleGentry", "undone", "[LSkittleGentry$State;", true)
  | 5 => ("SkittleGentry", "known", "I", false)
  | 6 => ("SkittleGentry", "bookOf", "[I", true)
  | 7 => ("SkittleGentry", "bookStands", "[Z", true)
  | 8 => ("SkittleGentry", "written", "I", false)
  | 9 => ("SkittleGentry", "text", "[B", true)
  | 10 => ("SkittleGentry", "size", "I", false)
  | 11 => ("SkittleGentry", "fault", "I", false)
  | 12 => ("SkittleGentry", "fells", "[I", true)
  | 13 => ("SkittleGentry", "need", "[I", true)
  | _ => ("SkittleGentry", "images", "[LSkittleGentry$State;", true)
def tyX0 : Nat → FieldType := fun k => match k with
  | 0 => .array (.object "SkittleGentry$Gentry")
  | 1 => .object "SkittleGentry$County"
  | 2 => .object "SkittleGentry$State"
  | 3 => .object "SkittleGentry$State"
  | 4 => .array (.object "SkittleGentry$State")
  | 5 => .int
  | 6 => .array .int
  | 7 => .array .boolean
  | 8 => .int
  | 9 => .array .byte
  | 10 => .int
  | 11 => .int
  | 12 => .array .int
  | 13 => .array .int
  | _ => .array (.object "SkittleGentry$State")
abbrev wsX00 : List Cond := u_ws RX0 TX0 15
set_option maxRecDepth 100000 in
theorem nmX0 : ∀ a, a < 15 → ∀ b, b < 15 → a ≠ b → (TX0 a).2.1 ≠ (TX0 b).2.1 := by decide +kernel
set_option maxRecDepth 100000 in
theorem tyX0_ok : ∀ k, k < 15 → parseFieldDescriptor (TX0 k).2.2.1 = some (tyX0 k) := by decide +kernel
abbrev cX0_init : ByteArray := prog_1_method_7_code
def yX0_init : MethodName := ⟨RX0, "<init>", "()V"⟩
def dkwX0_init_9 : List UInt8 := [180, 0, 45, 27, 187, 0, 33, 89, 42, 183, 0, 35, 83, 132, 1, 1, 167, 255, 233, 177]
abbrev dktX0_init_9 : List UInt8 := dkwX0_init_9 ++ []
def dkwX0_init_8 : List UInt8 := [187, 0, 33, 89, 42, 183, 0, 35, 83, 132, 1, 1, 167, 255, 230, 3, 60, 27, 16, 16, 162, 0, 23, 42]
abbrev dktX0_init_8 : List UInt8 := dkwX0_init_8 ++ dktX0_init_9
def dkwX0_init_7 : List UInt8 := [180, 0, 38, 182, 0, 84, 3, 60, 27, 42, 180, 0, 71, 190, 162, 0, 23, 42, 180, 0, 71, 27]
abbrev dktX0_init_7 : List UInt8 := dkwX0_init_7 ++ dktX0_init_8
def dkwX0_init_6 : List UInt8 := [187, 0, 78, 89, 183, 0, 80, 83, 42, 180, 0, 22, 6, 187, 0, 81, 89, 183, 0, 83, 83, 42]
abbrev dktX0_init_6 : List UInt8 := dkwX0_init_6 ++ dktX0_init_7
def dkwX0_init_5 : List UInt8 := [89, 183, 0, 74, 83, 42, 180, 0, 22, 4, 187, 0, 75, 89, 183, 0, 77, 83, 42, 180, 0, 22, 5]
abbrev dktX0_init_5 : List UInt8 := dkwX0_init_5 ++ dktX0_init_6
def dkwX0_init_4 : List UInt8 := [17, 2, 0, 188, 10, 181, 0, 68, 42, 5, 189, 0, 33, 181, 0, 71, 42, 180, 0, 22, 3, 187, 0, 20]
abbrev dktX0_init_4 : List UInt8 := dkwX0_init_4 ++ dktX0_init_5
def dkwX0_init_3 : List UInt8 := [42, 17, 0, 240, 188, 8, 181, 0, 57, 42, 2, 181, 0, 61, 42, 17, 16, 204, 188, 10, 181, 0, 65, 42]
abbrev dktX0_init_3 : List UInt8 := dkwX0_init_3 ++ dktX0_init_4
def dkwX0_init_2 : List UInt8 := [16, 16, 189, 0, 33, 181, 0, 45, 42, 16, 15, 188, 10, 181, 0, 49, 42, 16, 15, 188, 4, 181, 0, 53]
abbrev dktX0_init_2 : List UInt8 := dkwX0_init_2 ++ dktX0_init_3
def dkwX0_init_1 : List UInt8 := [187, 0, 33, 89, 42, 183, 0, 35, 181, 0, 38, 42, 187, 0, 33, 89, 42, 183, 0, 35, 181, 0, 42, 42]
abbrev dktX0_init_1 : List UInt8 := dkwX0_init_1 ++ dktX0_init_2
def dkwX0_init_0 : List UInt8 := [42, 183, 0, 14, 42, 7, 189, 0, 20, 181, 0, 22, 42, 187, 0, 26, 89, 183, 0, 28, 181, 0, 29, 42]
abbrev dktX0_init_0 : List UInt8 := dkwX0_init_0 ++ dktX0_init_1
theorem dksX0_init_0 : cX0_init.data.toList.drop 0 = dktX0_init_0 := by decide +kernel
theorem dksX0_init_1 : cX0_init.data.toList.drop 24 = dktX0_init_1 := dk_seg dksX0_init_0 24 rfl rfl
theorem dksX0_init_2 : cX0_init.data.toList.drop 48 = dktX0_init_2 := dk_seg dksX0_init_1 24 rfl rfl
theorem dksX0_init_3 : cX0_init.data.toList.drop 72 = dktX0_init_3 := dk_seg dksX0_init_2 24 rfl rfl
theorem dksX0_init_4 : cX0_init.data.toList.drop 96 = dktX0_init_4 := dk_seg dksX0_init_3 24 rfl rfl
theorem dksX0_init_5 : cX0_init.data.toList.drop 120 = dktX0_init_5 := dk_seg dksX0_init_4 24 rfl rfl
theorem dksX0_init_6 : cX0_init.data.toList.drop 143 = dktX0_init_6 := dk_seg dksX0_init_5 23 rfl rfl
theorem dksX0_init_7 : cX0_init.data.toList.drop 165 = dktX0_init_7 := dk_seg dksX0_init_6 22 rfl rfl
theorem dksX0_init_8 : cX0_init.data.toList.drop 187 = dktX0_init_8 := dk_seg dksX0_init_7 22 rfl rfl
theorem dksX0_init_9 : cX0_init.data.toList.drop 211 = dktX0_init_9 := dk_seg dksX0_init_8 24 rfl rfl
theorem dX0_init_0 : decode cX0_init 0 = .ok (.aload_n 0, 1) := dk_42 (dk_at dksX0_init_0 0 rfl rfl)
theorem dX0_init_1 : decode cX0_init 1 = .ok (.invokespecial 14, 3) := dk_183 0 14 (dk_at dksX0_init_0 1 rfl rfl)
theorem dX0_init_4 : decode cX0_init 4 = .ok (.aload_n 0, 1) := dk_42 (dk_at dksX0_init_0 4 rfl rfl)
theorem dX0_init_5 : decode cX0_init 5 = .ok (.iconst 4, 1) := dk_7 (dk_at dksX0_init_0 5 rfl rfl)
theorem dX0_init_6 : decode cX0_init 6 = .ok (.anewarray 20, 3) := dk_189 0 20 (dk_at dksX0_init_0 6 rfl rfl)
theorem dX0_init_9 : decode cX0_init 9 = .ok (.putfield 22, 3) := dk_181 0 22 (dk_at dksX0_init_0 9 rfl rfl)
theorem dX0_init_12 : decode cX0_init 12 = .ok (.aload_n 0, 1) := dk_42 (dk_at dksX0_init_0 12 rfl rfl)
theorem dX0_init_13 : decode cX0_init 13 = .ok (.new 26, 3) := dk_187 0 26 (dk_at dksX0_init_0 13 rfl rfl)
theorem dX0_init_16 : decode cX0_init 16 = .ok (.dup, 1) := dk_89 (dk_at dksX0_init_0 16 rfl rfl)
theorem dX0_init_17 : decode cX0_init 17 = .ok (.invokespecial 28, 3) := dk_183 0 28 (dk_at dksX0_init_0 17 rfl rfl)
theorem dX0_init_20 : decode cX0_init 20 = .ok (.putfield 29, 3) := dk_181 0 29 (dk_at dksX0_init_0 20 rfl rfl)
theorem dX0_init_23 : decode cX0_init 23 = .ok (.aload_n 0, 1) := dk_42 (dk_at dksX0_init_0 23 rfl rfl)
theorem dX0_init_24 : decode cX0_init 24 = .ok (.new 33, 3) := dk_187 0 33 (dk_at dksX0_init_1 0 rfl rfl)
theorem dX0_init_27 : decode cX0_init 27 = .ok (.dup, 1) := dk_89 (dk_at dksX0_init_1 3 rfl rfl)
theorem dX0_init_28 : decode cX0_init 28 = .ok (.aload_n 0, 1) := dk_42 (dk_at dksX0_init_1 4 rfl rfl)
theorem dX0_init_29 : decode cX0_init 29 = .ok (.invokespecial 35, 3) := dk_183 0 35 (dk_at dksX0_init_1 5 rfl rfl)
theorem dX0_init_32 : decode cX0_init 32 = .ok (.putfield 38, 3) := dk_181 0 38 (dk_at dksX0_init_1 8 rfl rfl)
theorem dX0_init_35 : decode cX0_init 35 = .ok (.aload_n 0, 1) := dk_42 (dk_at dksX0_init_1 11 rfl rfl)
theorem dX0_init_36 : decode cX0_init 36 = .ok (.new 33, 3) := dk_187 0 33 (dk_at dksX0_init_1 12 rfl rfl)
theorem dX0_init_39 : decode cX0_init 39 = .ok (.dup, 1) := dk_89 (dk_at dksX0_init_1 15 rfl rfl)
theorem dX0_init_40 : decode cX0_init 40 = .ok (.aload_n 0, 1) := dk_42 (dk_at dksX0_init_1 16 rfl rfl)
theorem dX0_init_41 : decode cX0_init 41 = .ok (.invokespecial 35, 3) := dk_183 0 35 (dk_at dksX0_init_1 17 rfl rfl)
theorem dX0_init_44 : decode cX0_init 44 = .ok (.putfield 42, 3) := dk_181 0 42 (dk_at dksX0_init_1 20 rfl rfl)
theorem dX0_init_47 : decode cX0_init 47 = .ok (.aload_n 0, 1) := dk_42 (dk_at dksX0_init_1 23 rfl rfl)
theorem dX0_init_48 : decode cX0_init 48 = .ok (.bipush 16, 2) := dk_16 16 (dk_at dksX0_init_2 0 rfl rfl)
theorem dX0_init_50 : decode cX0_init 50 = .ok (.anewarray 33, 3) := dk_189 0 33 (dk_at dksX0_init_2 2 rfl rfl)
theorem dX0_init_53 : decode cX0_init 53 = .ok (.putfield 45, 3) := dk_181 0 45 (dk_at dksX0_init_2 5 rfl rfl)
theorem dX0_init_56 : decode cX0_init 56 = .ok (.aload_n 0, 1) := dk_42 (dk_at dksX0_init_2 8 rfl rfl)
theorem dX0_init_57 : decode cX0_init 57 = .ok (.bipush 15, 2) := dk_16 15 (dk_at dksX0_init_2 9 rfl rfl)
theorem dX0_init_59 : decode cX0_init 59 = .ok (.newarray .int, 2) := dk_188_10 (dk_at dksX0_init_2 11 rfl rfl)
theorem dX0_init_61 : decode cX0_init 61 = .ok (.putfield 49, 3) := dk_181 0 49 (dk_at dksX0_init_2 13 rfl rfl)
theorem dX0_init_64 : decode cX0_init 64 = .ok (.aload_n 0, 1) := dk_42 (dk_at dksX0_init_2 16 rfl rfl)
theorem dX0_init_65 : decode cX0_init 65 = .ok (.bipush 15, 2) := dk_16 15 (dk_at dksX0_init_2 17 rfl rfl)
theorem dX0_init_67 : decode cX0_init 67 = .ok (.newarray .boolean, 2) := dk_188_4 (dk_at dksX0_init_2 19 rfl rfl)
theorem dX0_init_69 : decode cX0_init 69 = .ok (.putfield 53, 3) := dk_181 0 53 (dk_at dksX0_init_2 21 rfl rfl)
theorem dX0_init_72 : decode cX0_init 72 = .ok (.aload_n 0, 1) := dk_42 (dk_at dksX0_init_3 0 rfl rfl)
theorem dX0_init_73 : decode cX0_init 73 = .ok (.sipush 240, 3) := dk_17 0 240 (dk_at dksX0_init_3 1 rfl rfl)
theorem dX0_init_76 : decode cX0_init 76 = .ok (.newarray .byte, 2) := dk_188_8 (dk_at dksX0_init_3 4 rfl rfl)
theorem dX0_init_78 : decode cX0_init 78 = .ok (.putfield 57, 3) := dk_181 0 57 (dk_at dksX0_init_3 6 rfl rfl)
theorem dX0_init_81 : decode cX0_init 81 = .ok (.aload_n 0, 1) := dk_42 (dk_at dksX0_init_3 9 rfl rfl)
theorem dX0_init_82 : decode cX0_init 82 = .ok (.iconst (-1), 1) := dk_2 (dk_at dksX0_init_3 10 rfl rfl)
theorem dX0_init_83 : decode cX0_init 83 = .ok (.putfield 61, 3) := dk_181 0 61 (dk_at dksX0_init_3 11 rfl rfl)
theorem dX0_init_86 : decode cX0_init 86 = .ok (.aload_n 0, 1) := dk_42 (dk_at dksX0_init_3 14 rfl rfl)
theorem dX0_init_87 : decode cX0_init 87 = .ok (.sipush 4300, 3) := dk_17 16 204 (dk_at dksX0_init_3 15 rfl rfl)
theorem dX0_init_90 : decode cX0_init 90 = .ok (.newarray .int, 2) := dk_188_10 (dk_at dksX0_init_3 18 rfl rfl)
theorem dX0_init_92 : decode cX0_init 92 = .ok (.putfield 65, 3) := dk_181 0 65 (dk_at dksX0_init_3 20 rfl rfl)
theorem dX0_init_95 : decode cX0_init 95 = .ok (.aload_n 0, 1) := dk_42 (dk_at dksX0_init_3 23 rfl rfl)
theorem dX0_init_96 : decode cX0_init 96 = .ok (.sipush 512, 3) := dk_17 2 0 (dk_at dksX0_init_4 0 rfl rfl)
theorem dX0_init_99 : decode cX0_init 99 = .ok (.newarray .int, 2) := dk_188_10 (dk_at dksX0_init_4 3 rfl rfl)
theorem dX0_init_101 : decode cX0_init 101 = .ok (.putfield 68, 3) := dk_181 0 68 (dk_at dksX0_init_4 5 rfl rfl)
theorem dX0_init_104 : decode cX0_init 104 = .ok (.aload_n 0, 1) := dk_42 (dk_at dksX0_init_4 8 rfl rfl)
theorem dX0_init_105 : decode cX0_init 105 = .ok (.iconst 2, 1) := dk_5 (dk_at dksX0_init_4 9 rfl rfl)
theorem dX0_init_106 : decode cX0_init 106 = .ok (.anewarray 33, 3) := dk_189 0 33 (dk_at dksX0_init_4 10 rfl rfl)
theorem dX0_init_109 : decode cX0_init 109 = .ok (.putfield 71, 3) := dk_181 0 71 (dk_at dksX0_init_4 13 rfl rfl)
theorem dX0_init_112 : decode cX0_init 112 = .ok (.aload_n 0, 1) := dk_42 (dk_at dksX0_init_4 16 rfl rfl)
theorem dX0_init_113 : decode cX0_init 113 = .ok (.getfield 22, 3) := dk_180 0 22 (dk_at dksX0_init_4 17 rfl rfl)
theorem dX0_init_116 : decode cX0_init 116 = .ok (.iconst 0, 1) := dk_3 (dk_at dksX0_init_4 20 rfl rfl)
theorem dX0_init_117 : decode cX0_init 117 = .ok (.new 20, 3) := dk_187 0 20 (dk_at dksX0_init_4 21 rfl rfl)
theorem dX0_init_120 : decode cX0_init 120 = .ok (.dup, 1) := dk_89 (dk_at dksX0_init_5 0 rfl rfl)
theorem dX0_init_121 : decode cX0_init 121 = .ok (.invokespecial 74, 3) := dk_183 0 74 (dk_at dksX0_init_5 1 rfl rfl)
theorem dX0_init_124 : decode cX0_init 124 = .ok (.aastore, 1) := dk_83 (dk_at dksX0_init_5 4 rfl rfl)
theorem dX0_init_125 : decode cX0_init 125 = .ok (.aload_n 0, 1) := dk_42 (dk_at dksX0_init_5 5 rfl rfl)
theorem dX0_init_126 : decode cX0_init 126 = .ok (.getfield 22, 3) := dk_180 0 22 (dk_at dksX0_init_5 6 rfl rfl)
theorem dX0_init_129 : decode cX0_init 129 = .ok (.iconst 1, 1) := dk_4 (dk_at dksX0_init_5 9 rfl rfl)
theorem dX0_init_130 : decode cX0_init 130 = .ok (.new 75, 3) := dk_187 0 75 (dk_at dksX0_init_5 10 rfl rfl)
theorem dX0_init_133 : decode cX0_init 133 = .ok (.dup, 1) := dk_89 (dk_at dksX0_init_5 13 rfl rfl)
theorem dX0_init_134 : decode cX0_init 134 = .ok (.invokespecial 77, 3) := dk_183 0 77 (dk_at dksX0_init_5 14 rfl rfl)
theorem dX0_init_137 : decode cX0_init 137 = .ok (.aastore, 1) := dk_83 (dk_at dksX0_init_5 17 rfl rfl)
theorem dX0_init_138 : decode cX0_init 138 = .ok (.aload_n 0, 1) := dk_42 (dk_at dksX0_init_5 18 rfl rfl)
theorem dX0_init_139 : decode cX0_init 139 = .ok (.getfield 22, 3) := dk_180 0 22 (dk_at dksX0_init_5 19 rfl rfl)
theorem dX0_init_142 : decode cX0_init 142 = .ok (.iconst 2, 1) := dk_5 (dk_at dksX0_init_5 22 rfl rfl)
theorem dX0_init_143 : decode cX0_init 143 = .ok (.new 78, 3) := dk_187 0 78 (dk_at dksX0_init_6 0 rfl rfl)
theorem dX0_init_146 : decode cX0_init 146 = .ok (.dup, 1) := dk_89 (dk_at dksX0_init_6 3 rfl rfl)
theorem dX0_init_147 : decode cX0_init 147 = .ok (.invokespecial 80, 3) := dk_183 0 80 (dk_at dksX0_init_6 4 rfl rfl)
theorem dX0_init_150 : decode cX0_init 150 = .ok (.aastore, 1) := dk_83 (dk_at dksX0_init_6 7 rfl rfl)
theorem dX0_init_151 : decode cX0_init 151 = .ok (.aload_n 0, 1) := dk_42 (dk_at dksX0_init_6 8 rfl rfl)
theorem dX0_init_152 : decode cX0_init 152 = .ok (.getfield 22, 3) := dk_180 0 22 (dk_at dksX0_init_6 9 rfl rfl)
theorem dX0_init_155 : decode cX0_init 155 = .ok (.iconst 3, 1) := dk_6 (dk_at dksX0_init_6 12 rfl rfl)
theorem dX0_init_156 : decode cX0_init 156 = .ok (.new 81, 3) := dk_187 0 81 (dk_at dksX0_init_6 13 rfl rfl)
theorem dX0_init_159 : decode cX0_init 159 = .ok (.dup, 1) := dk_89 (dk_at dksX0_init_6 16 rfl rfl)
theorem dX0_init_160 : decode cX0_init 160 = .ok (.invokespecial 83, 3) := dk_183 0 83 (dk_at dksX0_init_6 17 rfl rfl)
theorem dX0_init_163 : decode cX0_init 163 = .ok (.aastore, 1) := dk_83 (dk_at dksX0_init_6 20 rfl rfl)
theorem dX0_init_164 : decode cX0_init 164 = .ok (.aload_n 0, 1) := dk_42 (dk_at dksX0_init_6 21 rfl rfl)
theorem dX0_init_165 : decode cX0_init 165 = .ok (.getfield 38, 3) := dk_180 0 38 (dk_at dksX0_init_7 0 rfl rfl)
theorem dX0_init_168 : decode cX0_init 168 = .ok (.invokevirtual 84, 3) := dk_182 0 84 (dk_at dksX0_init_7 3 rfl rfl)
theorem dX0_init_171 : decode cX0_init 171 = .ok (.iconst 0, 1) := dk_3 (dk_at dksX0_init_7 6 rfl rfl)
theorem dX0_init_172 : decode cX0_init 172 = .ok (.istore_n 1, 1) := dk_60 (dk_at dksX0_init_7 7 rfl rfl)
theorem dX0_init_173 : decode cX0_init 173 = .ok (.iload_n 1, 1) := dk_27 (dk_at dksX0_init_7 8 rfl rfl)
theorem dX0_init_174 : decode cX0_init 174 = .ok (.aload_n 0, 1) := dk_42 (dk_at dksX0_init_7 9 rfl rfl)
theorem dX0_init_175 : decode cX0_init 175 = .ok (.getfield 71, 3) := dk_180 0 71 (dk_at dksX0_init_7 10 rfl rfl)
theorem dX0_init_178 : decode cX0_init 178 = .ok (.arraylength, 1) := dk_190 (dk_at dksX0_init_7 13 rfl rfl)
theorem dX0_init_179 : decode cX0_init 179 = .ok (.if_icmp .ge 23, 3) := dk_162 0 23 (dk_at dksX0_init_7 14 rfl rfl)
theorem dX0_init_182 : decode cX0_init 182 = .ok (.aload_n 0, 1) := dk_42 (dk_at dksX0_init_7 17 rfl rfl)
theorem dX0_init_183 : decode cX0_init 183 = .ok (.getfield 71, 3) := dk_180 0 71 (dk_at dksX0_init_7 18 rfl rfl)
theorem dX0_init_186 : decode cX0_init 186 = .ok (.iload_n 1, 1) := dk_27 (dk_at dksX0_init_7 21 rfl rfl)
theorem dX0_init_187 : decode cX0_init 187 = .ok (.new 33, 3) := dk_187 0 33 (dk_at dksX0_init_8 0 rfl rfl)
theorem dX0_init_190 : decode cX0_init 190 = .ok (.dup, 1) := dk_89 (dk_at dksX0_init_8 3 rfl rfl)
theorem dX0_init_191 : decode cX0_init 191 = .ok (.aload_n 0, 1) := dk_42 (dk_at dksX0_init_8 4 rfl rfl)
theorem dX0_init_192 : decode cX0_init 192 = .ok (.invokespecial 35, 3) := dk_183 0 35 (dk_at dksX0_init_8 5 rfl rfl)
theorem dX0_init_195 : decode cX0_init 195 = .ok (.aastore, 1) := dk_83 (dk_at dksX0_init_8 8 rfl rfl)
theorem dX0_init_196 : decode cX0_init 196 = .ok (.iinc 1 1, 3) := dk_132 1 1 (dk_at dksX0_init_8 9 rfl rfl)
theorem dX0_init_199 : decode cX0_init 199 = .ok (.goto (-26), 3) := dk_167 255 230 (dk_at dksX0_init_8 12 rfl rfl)
theorem dX0_init_202 : decode cX0_init 202 = .ok (.iconst 0, 1) := dk_3 (dk_at dksX0_init_8 15 rfl rfl)
theorem dX0_init_203 : decode cX0_init 203 = .ok (.istore_n 1, 1) := dk_60 (dk_at dksX0_init_8 16 rfl rfl)
theorem dX0_init_204 : decode cX0_init 204 = .ok (.iload_n 1, 1) := dk_27 (dk_at dksX0_init_8 17 rfl rfl)
theorem dX0_init_205 : decode cX0_init 205 = .ok (.bipush 16, 2) := dk_16 16 (dk_at dksX0_init_8 18 rfl rfl)
theorem dX0_init_207 : decode cX0_init 207 = .ok (.if_icmp .ge 23, 3) := dk_162 0 23 (dk_at dksX0_init_8 20 rfl rfl)
theorem dX0_init_210 : decode cX0_init 210 = .ok (.aload_n 0, 1) := dk_42 (dk_at dksX0_init_8 23 rfl rfl)
theorem dX0_init_211 : decode cX0_init 211 = .ok (.getfield 45, 3) := dk_180 0 45 (dk_at dksX0_init_9 0 rfl rfl)
theorem dX0_init_214 : decode cX0_init 214 = .ok (.iload_n 1, 1) := dk_27 (dk_at dksX0_init_9 3 rfl rfl)
theorem dX0_init_215 : decode cX0_init 215 = .ok (.new 33, 3) := dk_187 0 33 (dk_at dksX0_init_9 4 rfl rfl)
theorem dX0_init_218 : decode cX0_init 218 = .ok (.dup, 1) := dk_89 (dk_at dksX0_init_9 7 rfl rfl)
theorem dX0_init_219 : decode cX0_init 219 = .ok (.aload_n 0, 1) := dk_42 (dk_at dksX0_init_9 8 rfl rfl)
theorem dX0_init_220 : decode cX0_init 220 = .ok (.invokespecial 35, 3) := dk_183 0 35 (dk_at dksX0_init_9 9 rfl rfl)
theorem dX0_init_223 : decode cX0_init 223 = .ok (.aastore, 1) := dk_83 (dk_at dksX0_init_9 12 rfl rfl)
theorem dX0_init_224 : decode cX0_init 224 = .ok (.iinc 1 1, 3) := dk_132 1 1 (dk_at dksX0_init_9 13 rfl rfl)
theorem dX0_init_227 : decode cX0_init 227 = .ok (.goto (-23), 3) := dk_167 255 233 (dk_at dksX0_init_9 16 rfl rfl)
theorem dX0_init_230 : decode cX0_init 230 = .ok (.return_, 1) := dk_177 (dk_at dksX0_init_9 19 rfl rfl)
abbrev cX0_feed : ByteArray := prog_1_method_8_code
def yX0_feed : MethodName := ⟨RX0, "feed", "(I)I"⟩
def dkwX0_feed_2 : List UInt8 := [42, 180, 0, 88, 172]
abbrev dktX0_feed_2 : List UInt8 := dkwX0_feed_2 ++ []
def dkwX0_feed_1 : List UInt8 := [18, 91, 172, 42, 180, 0, 57, 42, 180, 0, 88, 27, 145, 84, 42, 89, 180, 0, 88, 4, 96, 181, 0, 88]
abbrev dktX0_feed_1 : List UInt8 := dkwX0_feed_1 ++ dktX0_feed_2
def dkwX0_feed_0 : List UInt8 := [27, 3, 17, 0, 255, 184, 0, 10, 154, 0, 6, 18, 87, 172, 42, 180, 0, 88, 17, 0, 240, 160, 0, 6]
abbrev dktX0_feed_0 : List UInt8 := dkwX0_feed_0 ++ dktX0_feed_1
theorem dksX0_feed_0 : cX0_feed.data.toList.drop 0 = dktX0_feed_0 := by decide +kernel
theorem dksX0_feed_1 : cX0_feed.data.toList.drop 24 = dktX0_feed_1 := dk_seg dksX0_feed_0 24 rfl rfl
theorem dksX0_feed_2 : cX0_feed.data.toList.drop 48 = dktX0_feed_2 := dk_seg dksX0_feed_1 24 rfl rfl
theorem dX0_feed_0 : decode cX0_feed 0 = .ok (.iload_n 1, 1) := dk_27 (dk_at dksX0_feed_0 0 rfl rfl)
theorem dX0_feed_1 : decode cX0_feed 1 = .ok (.iconst 0, 1) := dk_3 (dk_at dksX0_feed_0 1 rfl rfl)
theorem dX0_feed_2 : decode cX0_feed 2 = .ok (.sipush 255, 3) := dk_17 0 255 (dk_at dksX0_feed_0 2 rfl rfl)
theorem dX0_feed_5 : decode cX0_feed 5 = .ok (.invokestatic 10, 3) := dk_184 0 10 (dk_at dksX0_feed_0 5 rfl rfl)
theorem dX0_feed_8 : decode cX0_feed 8 = .ok (.ifCond .ne 6, 3) := dk_154 0 6 (dk_at dksX0_feed_0 8 rfl rfl)
theorem dX0_feed_11 : decode cX0_feed 11 = .ok (.ldc 87, 2) := dk_18 87 (dk_at dksX0_feed_0 11 rfl rfl)
theorem dX0_feed_13 : decode cX0_feed 13 = .ok (.ireturn, 1) := dk_172 (dk_at dksX0_feed_0 13 rfl rfl)
theorem dX0_feed_14 : decode cX0_feed 14 = .ok (.aload_n 0, 1) := dk_42 (dk_at dksX0_feed_0 14 rfl rfl)
theorem dX0_feed_15 : decode cX0_feed 15 = .ok (.getfield 88, 3) := dk_180 0 88 (dk_at dksX0_feed_0 15 rfl rfl)
theorem dX0_feed_18 : decode cX0_feed 18 = .ok (.sipush 240, 3) := dk_17 0 240 (dk_at dksX0_feed_0 18 rfl rfl)
theorem dX0_feed_21 : decode cX0_feed 21 = .ok (.if_icmp .ne 6, 3) := dk_160 0 6 (dk_at dksX0_feed_0 21 rfl rfl)
theorem dX0_feed_24 : decode cX0_feed 24 = .ok (.ldc 91, 2) := dk_18 91 (dk_at dksX0_feed_1 0 rfl rfl)
theorem dX0_feed_26 : decode cX0_feed 26 = .ok (.ireturn, 1) := dk_172 (dk_at dksX0_feed_1 2 rfl rfl)
theorem dX0_feed_27 : decode cX0_feed 27 = .ok (.aload_n 0, 1) := dk_42 (dk_at dksX0_feed_1 3 rfl rfl)
theorem dX0_feed_28 : decode cX0_feed 28 = .ok (.getfield 57, 3) := dk_180 0 57 (dk_at dksX0_feed_1 4 rfl rfl)
theorem dX0_feed_31 : decode cX0_feed 31 = .ok (.aload_n 0, 1) := dk_42 (dk_at dksX0_feed_1 7 rfl rfl)
theorem dX0_feed_32 : decode cX0_feed 32 = .ok (.getfield 88, 3) := dk_180 0 88 (dk_at dksX0_feed_1 8 rfl rfl)
theorem dX0_feed_35 : decode cX0_feed 35 = .ok (.iload_n 1, 1) := dk_27 (dk_at dksX0_feed_1 11 rfl rfl)
theorem dX0_feed_36 : decode cX0_feed 36 = .ok (.i2b, 1) := dk_145 (dk_at dksX0_feed_1 12 rfl rfl)
theorem dX0_feed_37 : decode cX0_feed 37 = .ok (.bastore, 1) := dk_84 (dk_at dksX0_feed_1 13 rfl rfl)
theorem dX0_feed_38 : decode cX0_feed 38 = .ok (.aload_n 0, 1) := dk_42 (dk_at dksX0_feed_1 14 rfl rfl)
theorem dX0_feed_39 : decode cX0_feed 39 = .ok (.dup, 1) := dk_89 (dk_at dksX0_feed_1 15 rfl rfl)
theorem dX0_feed_40 : decode cX0_feed 40 = .ok (.getfield 88, 3) := dk_180 0 88 (dk_at dksX0_feed_1 16 rfl rfl)
theorem dX0_feed_43 : decode cX0_feed 43 = .ok (.iconst 1, 1) := dk_4 (dk_at dksX0_feed_1 19 rfl rfl)
theorem dX0_feed_44 : decode cX0_feed 44 = .ok (.iadd, 1) := dk_96 (dk_at dksX0_feed_1 20 rfl rfl)
theorem dX0_feed_45 : decode cX0_feed 45 = .ok (.putfield 88, 3) := dk_181 0 88 (dk_at dksX0_feed_1 21 rfl rfl)
theorem dX0_feed_48 : decode cX0_feed 48 = .ok (.aload_n 0, 1) := dk_42 (dk_at dksX0_feed_2 0 rfl rfl)
theorem dX0_feed_49 : decode cX0_feed 49 = .ok (.getfield 88, 3) := dk_180 0 88 (dk_at dksX0_feed_2 1 rfl rfl)
theorem dX0_feed_52 : decode cX0_feed 52 = .ok (.ireturn, 1) := dk_172 (dk_at dksX0_feed_2 4 rfl rfl)
abbrev cX0_isIn : ByteArray := prog_1_method_1_code
def yX0_isIn : MethodName := ⟨RX0, "isIn", "(III)Z"⟩
def dkwX0_isIn_0 : List UInt8 := [26, 27, 161, 0, 12, 26, 28, 163, 0, 7, 4, 167, 0, 4, 3, 172]
abbrev dktX0_isIn_0 : List UInt8 := dkwX0_isIn_0 ++ []
theorem dksX0_isIn_0 : cX0_isIn.data.toList.drop 0 = dktX0_isIn_0 := by decide +kernel
theorem dX0_isIn_0 : decode cX0_isIn 0 = .ok (.iload_n 0, 1) := dk_26 (dk_at dksX0_isIn_0 0 rfl rfl)
theorem dX0_isIn_1 : decode cX0_isIn 1 = .ok (.iload_n 1, 1) := dk_27 (dk_at dksX0_isIn_0 1 rfl rfl)
theorem dX0_isIn_2 : decode cX0_isIn 2 = .ok (.if_icmp .lt 12, 3) := dk_161 0 12 (dk_at dksX0_isIn_0 2 rfl rfl)
theorem dX0_isIn_5 : decode cX0_isIn 5 = .ok (.iload_n 0, 1) := dk_26 (dk_at dksX0_isIn_0 5 rfl rfl)
theorem dX0_isIn_6 : decode cX0_isIn 6 = .ok (.iload_n 2, 1) := dk_28 (dk_at dksX0_isIn_0 6 rfl rfl)
theorem dX0_isIn_7 : decode cX0_isIn 7 = .ok (.if_icmp .gt 7, 3) := dk_163 0 7 (dk_at dksX0_isIn_0 7 rfl rfl)
theorem dX0_isIn_10 : decode cX0_isIn 10 = .ok (.iconst 1, 1) := dk_4 (dk_at dksX0_isIn_0 10 rfl rfl)
theorem dX0_isIn_11 : decode cX0_isIn 11 = .ok (.goto 4, 3) := dk_167 0 4 (dk_at dksX0_isIn_0 11 rfl rfl)
theorem dX0_isIn_14 : decode cX0_isIn 14 = .ok (.iconst 0, 1) := dk_3 (dk_at dksX0_isIn_0 14 rfl rfl)
theorem dX0_isIn_15 : decode cX0_isIn 15 = .ok (.ireturn, 1) := dk_172 (dk_at dksX0_isIn_0 15 rfl rfl)
abbrev cX0_county : ByteArray := prog_1_method_9_code
def yX0_county : MethodName := ⟨RX0, "county", "()I"⟩
def dkwX0_county_4 : List UInt8 := [180, 0, 71, 4, 50, 3, 181, 0, 115, 42, 180, 0, 29, 180, 0, 119, 172]
abbrev dktX0_county_4 : List UInt8 := dkwX0_county_4 ++ []
def dkwX0_county_3 : List UInt8 := [182, 0, 84, 42, 3, 181, 0, 109, 42, 3, 181, 0, 112, 42, 180, 0, 71, 3, 50, 3, 181, 0, 115, 42]
abbrev dktX0_county_3 : List UInt8 := dkwX0_county_3 ++ dktX0_county_4
def dkwX0_county_2 : List UInt8 := [180, 0, 106, 100, 61, 42, 3, 181, 0, 88, 28, 172, 78, 42, 3, 181, 0, 88, 45, 191, 42, 180, 0, 38]
abbrev dktX0_county_2 : List UInt8 := dkwX0_county_2 ++ dktX0_county_3
def dkwX0_county_1 : List UInt8 := [181, 0, 29, 42, 3, 181, 0, 88, 167, 0, 35, 76, 42, 43, 180, 0, 103, 181, 0, 61, 16, 246, 43]
abbrev dktX0_county_1 : List UInt8 := dkwX0_county_1 ++ dktX0_county_2
def dkwX0_county_0 : List UInt8 := [42, 2, 181, 0, 61, 42, 187, 0, 92, 89, 42, 180, 0, 57, 42, 180, 0, 88, 183, 0, 94, 182, 0, 97]
abbrev dktX0_county_0 : List UInt8 := dkwX0_county_0 ++ dktX0_county_1
theorem dksX0_county_0 : cX0_county.data.toList.drop 0 = dktX0_county_0 := by decide +kernel
theorem dksX0_county_1 : cX0_county.data.toList.drop 24 = dktX0_county_1 := dk_seg dksX0_county_0 24 rfl rfl
theorem dksX0_county_2 : cX0_county.data.toList.drop 47 = dktX0_county_2 := dk_seg dksX0_county_1 23 rfl rfl
theorem dksX0_county_3 : cX0_county.data.toList.drop 71 = dktX0_county_3 := dk_seg dksX0_county_2 24 rfl rfl
theorem dksX0_county_4 : cX0_county.data.toList.drop 95 = dktX0_county_4 := dk_seg dksX0_county_3 24 rfl rfl
theorem dX0_county_0 : decode cX0_county 0 = .ok (.aload_n 0, 1) := dk_42 (dk_at dksX0_county_0 0 rfl rfl)
theorem dX0_county_1 : decode cX0_county 1 = .ok (.iconst (-1), 1) := dk_2 (dk_at dksX0_county_0 1 rfl rfl)
theorem dX0_county_2 : decode cX0_county 2 = .ok (.putfield 61, 3) := dk_181 0 61 (dk_at dksX0_county_0 2 rfl rfl)
theorem dX0_county_5 : decode cX0_county 5 = .ok (.aload_n 0, 1) := dk_42 (dk_at dksX0_county_0 5 rfl rfl)
theorem dX0_county_6 : decode cX0_county 6 = .ok (.new 92, 3) := dk_187 0 92 (dk_at dksX0_county_0 6 rfl rfl)
theorem dX0_county_9 : decode cX0_county 9 = .ok (.dup, 1) := dk_89 (dk_at dksX0_county_0 9 rfl rfl)
theorem dX0_county_10 : decode cX0_county 10 = .ok (.aload_n 0, 1) := dk_42 (dk_at dksX0_county_0 10 rfl rfl)
theorem dX0_county_11 : decode cX0_county 11 = .ok (.getfield 57, 3) := dk_180 0 57 (dk_at dksX0_county_0 11 rfl rfl)
theorem dX0_county_14 : decode cX0_county 14 = .ok (.aload_n 0, 1) := dk_42 (dk_at dksX0_county_0 14 rfl rfl)
theorem dX0_county_15 : decode cX0_county 15 = .ok (.getfield 88, 3) := dk_180 0 88 (dk_at dksX0_county_0 15 rfl rfl)
theorem dX0_county_18 : decode cX0_county 18 = .ok (.invokespecial 94, 3) := dk_183 0 94 (dk_at dksX0_county_0 18 rfl rfl)
theorem dX0_county_21 : decode cX0_county 21 = .ok (.invokevirtual 97, 3) := dk_182 0 97 (dk_at dksX0_county_0 21 rfl rfl)
theorem dX0_county_24 : decode cX0_county 24 = .ok (.putfield 29, 3) := dk_181 0 29 (dk_at dksX0_county_1 0 rfl rfl)
theorem dX0_county_27 : decode cX0_county 27 = .ok (.aload_n 0, 1) := dk_42 (dk_at dksX0_county_1 3 rfl rfl)
theorem dX0_county_28 : decode cX0_county 28 = .ok (.iconst 0, 1) := dk_3 (dk_at dksX0_county_1 4 rfl rfl)
theorem dX0_county_29 : decode cX0_county 29 = .ok (.putfield 88, 3) := dk_181 0 88 (dk_at dksX0_county_1 5 rfl rfl)
theorem dX0_county_32 : decode cX0_county 32 = .ok (.goto 35, 3) := dk_167 0 35 (dk_at dksX0_county_1 8 rfl rfl)
theorem dX0_county_35 : decode cX0_county 35 = .ok (.astore_n 1, 1) := dk_76 (dk_at dksX0_county_1 11 rfl rfl)
theorem dX0_county_36 : decode cX0_county 36 = .ok (.aload_n 0, 1) := dk_42 (dk_at dksX0_county_1 12 rfl rfl)
theorem dX0_county_37 : decode cX0_county 37 = .ok (.aload_n 1, 1) := dk_43 (dk_at dksX0_county_1 13 rfl rfl)
theorem dX0_county_38 : decode cX0_county 38 = .ok (.getfield 103, 3) := dk_180 0 103 (dk_at dksX0_county_1 14 rfl rfl)
theorem dX0_county_41 : decode cX0_county 41 = .ok (.putfield 61, 3) := dk_181 0 61 (dk_at dksX0_county_1 17 rfl rfl)
theorem dX0_county_44 : decode cX0_county 44 = .ok (.bipush (-10), 2) := dk_16 246 (dk_at dksX0_county_1 20 rfl rfl)
theorem dX0_county_46 : decode cX0_county 46 = .ok (.aload_n 1, 1) := dk_43 (dk_at dksX0_county_1 22 rfl rfl)
theorem dX0_county_47 : decode cX0_county 47 = .ok (.getfield 106, 3) := dk_180 0 106 (dk_at dksX0_county_2 0 rfl rfl)
theorem dX0_county_50 : decode cX0_county 50 = .ok (.isub, 1) := dk_100 (dk_at dksX0_county_2 3 rfl rfl)
theorem dX0_county_51 : decode cX0_county 51 = .ok (.istore_n 2, 1) := dk_61 (dk_at dksX0_county_2 4 rfl rfl)
theorem dX0_county_52 : decode cX0_county 52 = .ok (.aload_n 0, 1) := dk_42 (dk_at dksX0_county_2 5 rfl rfl)
theorem dX0_county_53 : decode cX0_county 53 = .ok (.iconst 0, 1) := dk_3 (dk_at dksX0_county_2 6 rfl rfl)
theorem dX0_county_54 : decode cX0_county 54 = .ok (.putfield 88, 3) := dk_181 0 88 (dk_at dksX0_county_2 7 rfl rfl)
theorem dX0_county_57 : decode cX0_county 57 = .ok (.iload_n 2, 1) := dk_28 (dk_at dksX0_county_2 10 rfl rfl)
theorem dX0_county_58 : decode cX0_county 58 = .ok (.ireturn, 1) := dk_172 (dk_at dksX0_county_2 11 rfl rfl)
theorem dX0_county_59 : decode cX0_county 59 = .ok (.astore_n 3, 1) := dk_78 (dk_at dksX0_county_2 12 rfl rfl)
theorem dX0_county_60 : decode cX0_county 60 = .ok (.aload_n 0, 1) := dk_42 (dk_at dksX0_county_2 13 rfl rfl)
theorem dX0_county_61 : decode cX0_county 61 = .ok (.iconst 0, 1) := dk_3 (dk_at dksX0_county_2 14 rfl rfl)
theorem dX0_county_62 : decode cX0_county 62 = .ok (.putfield 88, 3) := dk_181 0 88 (dk_at dksX0_county_2 15 rfl rfl)
theorem dX0_county_65 : decode cX0_county 65 = .ok (.aload_n 3, 1) := dk_45 (dk_at dksX0_county_2 18 rfl rfl)
theorem dX0_county_66 : decode cX0_county 66 = .ok (.athrow, 1) := dk_191 (dk_at dksX0_county_2 19 rfl rfl)
theorem dX0_county_67 : decode cX0_county 67 = .ok (.aload_n 0, 1) := dk_42 (dk_at dksX0_county_2 20 rfl rfl)
theorem dX0_county_68 : decode cX0_county 68 = .ok (.getfield 38, 3) := dk_180 0 38 (dk_at dksX0_county_2 21 rfl rfl)
theorem dX0_county_71 : decode cX0_county 71 = .ok (.invokevirtual 84, 3) := dk_182 0 84 (dk_at dksX0_county_3 0 rfl rfl)
theorem dX0_county_74 : decode cX0_county 74 = .ok (.aload_n 0, 1) := dk_42 (dk_at dksX0_county_3 3 rfl rfl)
theorem dX0_county_75 : decode cX0_county 75 = .ok (.iconst 0, 1) := dk_3 (dk_at dksX0_county_3 4 rfl rfl)
theorem dX0_county_76 : decode cX0_county 76 = .ok (.putfield 109, 3) := dk_181 0 109 (dk_at dksX0_county_3 5 rfl rfl)
theorem dX0_county_79 : decode cX0_county 79 = .ok (.aload_n 0, 1) := dk_42 (dk_at dksX0_county_3 8 rfl rfl)
theorem dX0_county_80 : decode cX0_county 80 = .ok (.iconst 0, 1) := dk_3 (dk_at dksX0_county_3 9 rfl rfl)
theorem dX0_county_81 : decode cX0_county 81 = .ok (.putfield 112, 3) := dk_181 0 112 (dk_at dksX0_county_3 10 rfl rfl)
theorem dX0_county_84 : decode cX0_county 84 = .ok (.aload_n 0, 1) := dk_42 (dk_at dksX0_county_3 13 rfl rfl)
theorem dX0_county_85 : decode cX0_county 85 = .ok (.getfield 71, 3) := dk_180 0 71 (dk_at dksX0_county_3 14 rfl rfl)
theorem dX0_county_88 : decode cX0_county 88 = .ok (.iconst 0, 1) := dk_3 (dk_at dksX0_county_3 17 rfl rfl)
theorem dX0_county_89 : decode cX0_county 89 = .ok (.aaload, 1) := dk_50 (dk_at dksX0_county_3 18 rfl rfl)
theorem dX0_county_90 : decode cX0_county 90 = .ok (.iconst 0, 1) := dk_3 (dk_at dksX0_county_3 19 rfl rfl)
theorem dX0_county_91 : decode cX0_county 91 = .ok (.putfield 115, 3) := dk_181 0 115 (dk_at dksX0_county_3 20 rfl rfl)
theorem dX0_county_94 : decode cX0_county 94 = .ok (.aload_n 0, 1) := dk_42 (dk_at dksX0_county_3 23 rfl rfl)
theorem dX0_county_95 : decode cX0_county 95 = .ok (.getfield 71, 3) := dk_180 0 71 (dk_at dksX0_county_4 0 rfl rfl)
theorem dX0_county_98 : decode cX0_county 98 = .ok (.iconst 1, 1) := dk_4 (dk_at dksX0_county_4 3 rfl rfl)
theorem dX0_county_99 : decode cX0_county 99 = .ok (.aaload, 1) := dk_50 (dk_at dksX0_county_4 4 rfl rfl)
theorem dX0_county_100 : decode cX0_county 100 = .ok (.iconst 0, 1) := dk_3 (dk_at dksX0_county_4 5 rfl rfl)
theorem dX0_county_101 : decode cX0_county 101 = .ok (.putfield 115, 3) := dk_181 0 115 (dk_at dksX0_county_4 6 rfl rfl)
theorem dX0_county_104 : decode cX0_county 104 = .ok (.aload_n 0, 1) := dk_42 (dk_at dksX0_county_4 9 rfl rfl)
theorem dX0_county_105 : decode cX0_county 105 = .ok (.getfield 29, 3) := dk_180 0 29 (dk_at dksX0_county_4 10 rfl rfl)
theorem dX0_county_108 : decode cX0_county 108 = .ok (.getfield 119, 3) := dk_180 0 119 (dk_at dksX0_county_4 13 rfl rfl)
theorem dX0_county_111 : decode cX0_county 111 = .ok (.ireturn, 1) := dk_172 (dk_at dksX0_county_4 16 rfl rfl)
abbrev cX0_fault : ByteArray := prog_1_method_10_code
def yX0_fault : MethodName := ⟨RX0, "fault", "()I"⟩
theorem dX0_fault_0 : decode cX0_fault 0 = .ok (.aload_n 0, 1) := by decide +kernel
theorem dX0_fault_1 : decode cX0_fault 1 = .ok (.getfield 61, 3) := by decide +kernel
theorem dX0_fault_4 : decode cX0_fault 4 = .ok (.ireturn, 1) := by decide +kernel
abbrev cX0_told : ByteArray := prog_1_method_21_code
def yX0_told : MethodName := ⟨RX0, "told", "(I)I"⟩
def dkwX0_told_4 : List UInt8 := [182, 0, 190, 172, 42, 180, 0, 112, 172, 42, 180, 0, 109, 172, 18, 87, 172]
abbrev dktX0_told_4 : List UInt8 := dkwX0_told_4 ++ []
def dkwX0_told_3 : List UInt8 := [180, 0, 38, 180, 0, 152, 172, 42, 180, 0, 38, 180, 0, 184, 172, 42, 180, 0, 38, 180, 0, 187, 172, 42]
abbrev dktX0_told_3 : List UInt8 := dkwX0_told_3 ++ dktX0_told_4
def dkwX0_told_2 : List UInt8 := [42, 180, 0, 29, 180, 0, 122, 172, 42, 180, 0, 29, 180, 0, 119, 172, 42, 180, 0, 88, 172, 42]
abbrev dktX0_told_2 : List UInt8 := dkwX0_told_2 ++ dktX0_told_3
def dkwX0_told_1 : List UInt8 := [170, 0, 0, 0, 0, 130, 0, 0, 0, 0, 0, 0, 0, 13, 0, 0, 0, 70, 0, 0, 0, 78, 0, 0, 0, 86, 0, 0, 0, 91, 0, 0, 0, 99, 0, 0, 0, 107, 0, 0, 0, 130, 0, 0, 0, 130, 0, 0, 0, 130, 0, 0, 0, 130, 0, 0, 0, 130, 0, 0, 0, 115, 0, 0, 0, 120, 0, 0, 0, 125]
abbrev dktX0_told_1 : List UInt8 := dkwX0_told_1 ++ dktX0_told_2
def dkwX0_told_0 : List UInt8 := [27, 16, 6, 16, 10, 184, 0, 10, 153, 0, 9, 42, 27, 182, 0, 181, 172, 27]
abbrev dktX0_told_0 : List UInt8 := dkwX0_told_0 ++ dktX0_told_1
theorem dksX0_told_0 : cX0_told.data.toList.drop 0 = dktX0_told_0 := by decide +kernel
theorem dksX0_told_1 : cX0_told.data.toList.drop 18 = dktX0_told_1 := dk_seg dksX0_told_0 18 rfl rfl
theorem dksX0_told_2 : cX0_told.data.toList.drop 88 = dktX0_told_2 := dk_seg dksX0_told_1 70 rfl rfl
theorem dksX0_told_3 : cX0_told.data.toList.drop 110 = dktX0_told_3 := dk_seg dksX0_told_2 22 rfl rfl
theorem dksX0_told_4 : cX0_told.data.toList.drop 134 = dktX0_told_4 := dk_seg dksX0_told_3 24 rfl rfl
theorem dX0_told_0 : decode cX0_told 0 = .ok (.iload_n 1, 1) := dk_27 (dk_at dksX0_told_0 0 rfl rfl)
theorem dX0_told_1 : decode cX0_told 1 = .ok (.bipush 6, 2) := dk_16 6 (dk_at dksX0_told_0 1 rfl rfl)
theorem dX0_told_3 : decode cX0_told 3 = .ok (.bipush 10, 2) := dk_16 10 (dk_at dksX0_told_0 3 rfl rfl)
theorem dX0_told_5 : decode cX0_told 5 = .ok (.invokestatic 10, 3) := dk_184 0 10 (dk_at dksX0_told_0 5 rfl rfl)
theorem dX0_told_8 : decode cX0_told 8 = .ok (.ifCond .eq 9, 3) := dk_153 0 9 (dk_at dksX0_told_0 8 rfl rfl)
theorem dX0_told_11 : decode cX0_told 11 = .ok (.aload_n 0, 1) := dk_42 (dk_at dksX0_told_0 11 rfl rfl)
theorem dX0_told_12 : decode cX0_told 12 = .ok (.iload_n 1, 1) := dk_27 (dk_at dksX0_told_0 12 rfl rfl)
theorem dX0_told_13 : decode cX0_told 13 = .ok (.invokevirtual 181, 3) := dk_182 0 181 (dk_at dksX0_told_0 13 rfl rfl)
theorem dX0_told_16 : decode cX0_told 16 = .ok (.ireturn, 1) := dk_172 (dk_at dksX0_told_0 16 rfl rfl)
theorem dX0_told_17 : decode cX0_told 17 = .ok (.iload_n 1, 1) := dk_27 (dk_at dksX0_told_0 17 rfl rfl)
theorem dX0_told_18 : decode cX0_told 18 = .ok (.tableswitch 130 0 13 #[70, 78, 86, 91, 99, 107, 130, 130, 130, 130, 130, 115, 120, 125], 70) := by decide +kernel
theorem dX0_told_88 : decode cX0_told 88 = .ok (.aload_n 0, 1) := dk_42 (dk_at dksX0_told_2 0 rfl rfl)
theorem dX0_told_89 : decode cX0_told 89 = .ok (.getfield 29, 3) := dk_180 0 29 (dk_at dksX0_told_2 1 rfl rfl)
theorem dX0_told_92 : decode cX0_told 92 = .ok (.getfield 122, 3) := dk_180 0 122 (dk_at dksX0_told_2 4 rfl rfl)
theorem dX0_told_95 : decode cX0_told 95 = .ok (.ireturn, 1) := dk_172 (dk_at dksX0_told_2 7 rfl rfl)
theorem dX0_told_96 : decode cX0_told 96 = .ok (.aload_n 0, 1) := dk_42 (dk_at dksX0_told_2 8 rfl rfl)
theorem dX0_told_97 : decode cX0_told 97 = .ok (.getfield 29, 3) := dk_180 0 29 (dk_at dksX0_told_2 9 rfl rfl)
theorem dX0_told_100 : decode cX0_told 100 = .ok (.getfield 119, 3) := dk_180 0 119 (dk_at dksX0_told_2 12 rfl rfl)
theorem dX0_told_103 : decode cX0_told 103 = .ok (.ireturn, 1) := dk_172 (dk_at dksX0_told_2 15 rfl rfl)
theorem dX0_told_104 : decode cX0_told 104 = .ok (.aload_n 0, 1) := dk_42 (dk_at dksX0_told_2 16 rfl rfl)
theorem dX0_told_105 : decode cX0_told 105 = .ok (.getfield 88, 3) := dk_180 0 88 (dk_at dksX0_told_2 17 rfl rfl)
theorem dX0_told_108 : decode cX0_told 108 = .ok (.ireturn, 1) := dk_172 (dk_at dksX0_told_2 20 rfl rfl)
theorem dX0_told_109 : decode cX0_told 109 = .ok (.aload_n 0, 1) := dk_42 (dk_at dksX0_told_2 21 rfl rfl)
theorem dX0_told_110 : decode cX0_told 110 = .ok (.getfield 38, 3) := dk_180 0 38 (dk_at dksX0_told_3 0 rfl rfl)
theorem dX0_told_113 : decode cX0_told 113 = .ok (.getfield 152, 3) := dk_180 0 152 (dk_at dksX0_told_3 3 rfl rfl)
theorem dX0_told_116 : decode cX0_told 116 = .ok (.ireturn, 1) := dk_172 (dk_at dksX0_told_3 6 rfl rfl)
theorem dX0_told_117 : decode cX0_told 117 = .ok (.aload_n 0, 1) := dk_42 (dk_at dksX0_told_3 7 rfl rfl)
theorem dX0_told_118 : decode cX0_told 118 = .ok (.getfield 38, 3) := dk_180 0 38 (dk_at dksX0_told_3 8 rfl rfl)
theorem dX0_told_121 : decode cX0_told 121 = .ok (.getfield 184, 3) := dk_180 0 184 (dk_at dksX0_told_3 11 rfl rfl)
theorem dX0_told_124 : decode cX0_told 124 = .ok (.ireturn, 1) := dk_172 (dk_at dksX0_told_3 14 rfl rfl)
theorem dX0_told_125 : decode cX0_told 125 = .ok (.aload_n 0, 1) := dk_42 (dk_at dksX0_told_3 15 rfl rfl)
theorem dX0_told_126 : decode cX0_told 126 = .ok (.getfield 38, 3) := dk_180 0 38 (dk_at dksX0_told_3 16 rfl rfl)
theorem dX0_told_129 : decode cX0_told 129 = .ok (.getfield 187, 3) := dk_180 0 187 (dk_at dksX0_told_3 19 rfl rfl)
theorem dX0_told_132 : decode cX0_told 132 = .ok (.ireturn, 1) := dk_172 (dk_at dksX0_told_3 22 rfl rfl)
theorem dX0_told_133 : decode cX0_told 133 = .ok (.aload_n 0, 1) := dk_42 (dk_at dksX0_told_3 23 rfl rfl)
theorem dX0_told_134 : decode cX0_told 134 = .ok (.invokevirtual 190, 3) := dk_182 0 190 (dk_at dksX0_told_4 0 rfl rfl)
theorem dX0_told_137 : decode cX0_told 137 = .ok (.ireturn, 1) := dk_172 (dk_at dksX0_told_4 3 rfl rfl)
theorem dX0_told_138 : decode cX0_told 138 = .ok (.aload_n 0, 1) := dk_42 (dk_at dksX0_told_4 4 rfl rfl)
theorem dX0_told_139 : decode cX0_told 139 = .ok (.getfield 112, 3) := dk_180 0 112 (dk_at dksX0_told_4 5 rfl rfl)
theorem dX0_told_142 : decode cX0_told 142 = .ok (.ireturn, 1) := dk_172 (dk_at dksX0_told_4 8 rfl rfl)
theorem dX0_told_143 : decode cX0_told 143 = .ok (.aload_n 0, 1) := dk_42 (dk_at dksX0_told_4 9 rfl rfl)
theorem dX0_told_144 : decode cX0_told 144 = .ok (.getfield 109, 3) := dk_180 0 109 (dk_at dksX0_told_4 10 rfl rfl)
theorem dX0_told_147 : decode cX0_told 147 = .ok (.ireturn, 1) := dk_172 (dk_at dksX0_told_4 13 rfl rfl)
theorem dX0_told_148 : decode cX0_told 148 = .ok (.ldc 87, 2) := dk_18 87 (dk_at dksX0_told_4 14 rfl rfl)
theorem dX0_told_150 : decode cX0_told 150 = .ok (.ireturn, 1) := dk_172 (dk_at dksX0_told_4 16 rfl rfl)
abbrev cX0_toldOfBalls : ByteArray := prog_1_method_19_code
def yX0_toldOfBalls : MethodName := ⟨RX0, "toldOfBalls", "(I)I"⟩
def dkwX0_toldOfBalls_4 : List UInt8 := [182, 0, 155, 172, 42, 2, 182, 0, 155, 172]
abbrev dktX0_toldOfBalls_4 : List UInt8 := dkwX0_toldOfBalls_4 ++ []
def dkwX0_toldOfBalls_3 : List UInt8 := [28, 172, 42, 180, 0, 65, 28, 46, 184, 0, 142, 172, 28, 2, 160, 0, 7, 2, 167, 0, 8, 42, 28]
abbrev dktX0_toldOfBalls_3 : List UInt8 := dkwX0_toldOfBalls_3 ++ dktX0_toldOfBalls_4
def dkwX0_toldOfBalls_2 : List UInt8 := [170, 0, 0, 0, 0, 0, 0, 59, 0, 0, 0, 6, 0, 0, 0, 9, 0, 0, 0, 32, 0, 0, 0, 34, 0, 0, 0, 32, 0, 0, 0, 44]
abbrev dktX0_toldOfBalls_2 : List UInt8 := dkwX0_toldOfBalls_2 ++ dktX0_toldOfBalls_3
def dkwX0_toldOfBalls_1 : List UInt8 := [182, 0, 172, 61, 27]
abbrev dktX0_toldOfBalls_1 : List UInt8 := dkwX0_toldOfBalls_1 ++ dktX0_toldOfBalls_2
def dkwX0_toldOfBalls_0 : List UInt8 := [42, 182, 0, 164, 154, 0, 5, 2, 172, 27, 16, 8, 162, 0, 10, 42, 182, 0, 168, 167, 0, 7, 42]
abbrev dktX0_toldOfBalls_0 : List UInt8 := dkwX0_toldOfBalls_0 ++ dktX0_toldOfBalls_1
theorem dksX0_toldOfBalls_0 : cX0_toldOfBalls.data.toList.drop 0 = dktX0_toldOfBalls_0 := by decide +kernel
theorem dksX0_toldOfBalls_1 : cX0_toldOfBalls.data.toList.drop 23 = dktX0_toldOfBalls_1 := dk_seg dksX0_toldOfBalls_0 23 rfl rfl
theorem dksX0_toldOfBalls_2 : cX0_toldOfBalls.data.toList.drop 28 = dktX0_toldOfBalls_2 := dk_seg dksX0_toldOfBalls_1 5 rfl rfl
theorem dksX0_toldOfBalls_3 : cX0_toldOfBalls.data.toList.drop 60 = dktX0_toldOfBalls_3 := dk_seg dksX0_toldOfBalls_2 32 rfl rfl
theorem dksX0_toldOfBalls_4 : cX0_toldOfBalls.data.toList.drop 83 = dktX0_toldOfBalls_4 := dk_seg dksX0_toldOfBalls_3 23 rfl rfl
theorem dX0_toldOfBalls_0 : decode cX0_toldOfBalls 0 = .ok (.aload_n 0, 1) := dk_42 (dk_at dksX0_toldOfBalls_0 0 rfl rfl)
theorem dX0_toldOfBalls_1 : decode cX0_toldOfBalls 1 = .ok (.invokevirtual 164, 3) := dk_182 0 164 (dk_at dksX0_toldOfBalls_0 1 rfl rfl)
theorem dX0_toldOfBalls_4 : decode cX0_toldOfBalls 4 = .ok (.ifCond .ne 5, 3) := dk_154 0 5 (dk_at dksX0_toldOfBalls_0 4 rfl rfl)
theorem dX0_toldOfBalls_7 : decode cX0_toldOfBalls 7 = .ok (.iconst (-1), 1) := dk_2 (dk_at dksX0_toldOfBalls_0 7 rfl rfl)
theorem dX0_toldOfBalls_8 : decode cX0_toldOfBalls 8 = .ok (.ireturn, 1) := dk_172 (dk_at dksX0_toldOfBalls_0 8 rfl rfl)
theorem dX0_toldOfBalls_9 : decode cX0_toldOfBalls 9 = .ok (.iload_n 1, 1) := dk_27 (dk_at dksX0_toldOfBalls_0 9 rfl rfl)
theorem dX0_toldOfBalls_10 : decode cX0_toldOfBalls 10 = .ok (.bipush 8, 2) := dk_16 8 (dk_at dksX0_toldOfBalls_0 10 rfl rfl)
theorem dX0_toldOfBalls_12 : decode cX0_toldOfBalls 12 = .ok (.if_icmp .ge 10, 3) := dk_162 0 10 (dk_at dksX0_toldOfBalls_0 12 rfl rfl)
theorem dX0_toldOfBalls_15 : decode cX0_toldOfBalls 15 = .ok (.aload_n 0, 1) := dk_42 (dk_at dksX0_toldOfBalls_0 15 rfl rfl)
theorem dX0_toldOfBalls_16 : decode cX0_toldOfBalls 16 = .ok (.invokevirtual 168, 3) := dk_182 0 168 (dk_at dksX0_toldOfBalls_0 16 rfl rfl)
theorem dX0_toldOfBalls_19 : decode cX0_toldOfBalls 19 = .ok (.goto 7, 3) := dk_167 0 7 (dk_at dksX0_toldOfBalls_0 19 rfl rfl)
theorem dX0_toldOfBalls_22 : decode cX0_toldOfBalls 22 = .ok (.aload_n 0, 1) := dk_42 (dk_at dksX0_toldOfBalls_0 22 rfl rfl)
theorem dX0_toldOfBalls_23 : decode cX0_toldOfBalls 23 = .ok (.invokevirtual 172, 3) := dk_182 0 172 (dk_at dksX0_toldOfBalls_1 0 rfl rfl)
theorem dX0_toldOfBalls_26 : decode cX0_toldOfBalls 26 = .ok (.istore_n 2, 1) := dk_61 (dk_at dksX0_toldOfBalls_1 3 rfl rfl)
theorem dX0_toldOfBalls_27 : decode cX0_toldOfBalls 27 = .ok (.iload_n 1, 1) := dk_27 (dk_at dksX0_toldOfBalls_1 4 rfl rfl)
theorem dX0_toldOfBalls_28 : decode cX0_toldOfBalls 28 = .ok (.tableswitch 59 6 9 #[32, 34, 32, 44], 32) := by decide +kernel
theorem dX0_toldOfBalls_60 : decode cX0_toldOfBalls 60 = .ok (.iload_n 2, 1) := dk_28 (dk_at dksX0_toldOfBalls_3 0 rfl rfl)
theorem dX0_toldOfBalls_61 : decode cX0_toldOfBalls 61 = .ok (.ireturn, 1) := dk_172 (dk_at dksX0_toldOfBalls_3 1 rfl rfl)
theorem dX0_toldOfBalls_62 : decode cX0_toldOfBalls 62 = .ok (.aload_n 0, 1) := dk_42 (dk_at dksX0_toldOfBalls_3 2 rfl rfl)
theorem dX0_toldOfBalls_63 : decode cX0_toldOfBalls 63 = .ok (.getfield 65, 3) := dk_180 0 65 (dk_at dksX0_toldOfBalls_3 3 rfl rfl)
theorem dX0_toldOfBalls_66 : decode cX0_toldOfBalls 66 = .ok (.iload_n 2, 1) := dk_28 (dk_at dksX0_toldOfBalls_3 6 rfl rfl)
theorem dX0_toldOfBalls_67 : decode cX0_toldOfBalls 67 = .ok (.iaload, 1) := dk_46 (dk_at dksX0_toldOfBalls_3 7 rfl rfl)
theorem dX0_toldOfBalls_68 : decode cX0_toldOfBalls 68 = .ok (.invokestatic 142, 3) := dk_184 0 142 (dk_at dksX0_toldOfBalls_3 8 rfl rfl)
theorem dX0_toldOfBalls_71 : decode cX0_toldOfBalls 71 = .ok (.ireturn, 1) := dk_172 (dk_at dksX0_toldOfBalls_3 11 rfl rfl)
theorem dX0_toldOfBalls_72 : decode cX0_toldOfBalls 72 = .ok (.iload_n 2, 1) := dk_28 (dk_at dksX0_toldOfBalls_3 12 rfl rfl)
theorem dX0_toldOfBalls_73 : decode cX0_toldOfBalls 73 = .ok (.iconst (-1), 1) := dk_2 (dk_at dksX0_toldOfBalls_3 13 rfl rfl)
theorem dX0_toldOfBalls_74 : decode cX0_toldOfBalls 74 = .ok (.if_icmp .ne 7, 3) := dk_160 0 7 (dk_at dksX0_toldOfBalls_3 14 rfl rfl)
theorem dX0_toldOfBalls_77 : decode cX0_toldOfBalls 77 = .ok (.iconst (-1), 1) := dk_2 (dk_at dksX0_toldOfBalls_3 17 rfl rfl)
theorem dX0_toldOfBalls_78 : decode cX0_toldOfBalls 78 = .ok (.goto 8, 3) := dk_167 0 8 (dk_at dksX0_toldOfBalls_3 18 rfl rfl)
theorem dX0_toldOfBalls_81 : decode cX0_toldOfBalls 81 = .ok (.aload_n 0, 1) := dk_42 (dk_at dksX0_toldOfBalls_3 21 rfl rfl)
theorem dX0_toldOfBalls_82 : decode cX0_toldOfBalls 82 = .ok (.iload_n 2, 1) := dk_28 (dk_at dksX0_toldOfBalls_3 22 rfl rfl)
theorem dX0_toldOfBalls_83 : decode cX0_toldOfBalls 83 = .ok (.invokevirtual 155, 3) := dk_182 0 155 (dk_at dksX0_toldOfBalls_4 0 rfl rfl)
theorem dX0_toldOfBalls_86 : decode cX0_toldOfBalls 86 = .ok (.ireturn, 1) := dk_172 (dk_at dksX0_toldOfBalls_4 3 rfl rfl)
theorem dX0_toldOfBalls_87 : decode cX0_toldOfBalls 87 = .ok (.aload_n 0, 1) := dk_42 (dk_at dksX0_toldOfBalls_4 4 rfl rfl)
theorem dX0_toldOfBalls_88 : decode cX0_toldOfBalls 88 = .ok (.iconst (-1), 1) := dk_2 (dk_at dksX0_toldOfBalls_4 5 rfl rfl)
theorem dX0_toldOfBalls_89 : decode cX0_toldOfBalls 89 = .ok (.invokevirtual 155, 3) := dk_182 0 155 (dk_at dksX0_toldOfBalls_4 6 rfl rfl)
theorem dX0_toldOfBalls_92 : decode cX0_toldOfBalls 92 = .ok (.ireturn, 1) := dk_172 (dk_at dksX0_toldOfBalls_4 9 rfl rfl)
abbrev cX0_isCounty : ByteArray := prog_1_method_11_code
def yX0_isCounty : MethodName := ⟨RX0, "isCounty", "()Z"⟩
def dkwX0_isCounty_0 : List UInt8 := [42, 180, 0, 29, 180, 0, 122, 2, 159, 0, 7, 4, 167, 0, 4, 3, 172]
abbrev dktX0_isCounty_0 : List UInt8 := dkwX0_isCounty_0 ++ []
theorem dksX0_isCounty_0 : cX0_isCounty.data.toList.drop 0 = dktX0_isCounty_0 := by decide +kernel
theorem dX0_isCounty_0 : decode cX0_isCounty 0 = .ok (.aload_n 0, 1) := dk_42 (dk_at dksX0_isCounty_0 0 rfl rfl)
theorem dX0_isCounty_1 : decode cX0_isCounty 1 = .ok (.getfield 29, 3) := dk_180 0 29 (dk_at dksX0_isCounty_0 1 rfl rfl)
theorem dX0_isCounty_4 : decode cX0_isCounty 4 = .ok (.getfield 122, 3) := dk_180 0 122 (dk_at dksX0_isCounty_0 4 rfl rfl)
theorem dX0_isCounty_7 : decode cX0_isCounty 7 = .ok (.iconst (-1), 1) := dk_2 (dk_at dksX0_isCounty_0 7 rfl rfl)
theorem dX0_isCounty_8 : decode cX0_isCounty 8 = .ok (.if_icmp .eq 7, 3) := dk_159 0 7 (dk_at dksX0_isCounty_0 8 rfl rfl)
theorem dX0_isCounty_11 : decode cX0_isCounty 11 = .ok (.iconst 1, 1) := dk_4 (dk_at dksX0_isCounty_0 11 rfl rfl)
theorem dX0_isCounty_12 : decode cX0_isCounty 12 = .ok (.goto 4, 3) := dk_167 0 4 (dk_at dksX0_isCounty_0 12 rfl rfl)
theorem dX0_isCounty_15 : decode cX0_isCounty 15 = .ok (.iconst 0, 1) := dk_3 (dk_at dksX0_isCounty_0 15 rfl rfl)
theorem dX0_isCounty_16 : decode cX0_isCounty 16 = .ok (.ireturn, 1) := dk_172 (dk_at dksX0_isCounty_0 16 rfl rfl)
abbrev cX0_worst : ByteArray := prog_1_method_16_code
def yX0_worst : MethodName := ⟨RX0, "worst", "()I"⟩
def dkwX0_worst_2 : List UInt8 := [4, 167, 0, 4, 3, 62, 29, 153, 0, 7, 28, 167, 0, 4, 27, 60, 132, 2, 1, 167, 255, 197, 27, 172]
abbrev dktX0_worst_2 : List UInt8 := dkwX0_worst_2 ++ []
def dkwX0_worst_1 : List UInt8 := [159, 0, 24, 42, 180, 0, 65, 28, 46, 184, 0, 142, 42, 180, 0, 65, 27, 46, 184, 0, 142, 164, 0, 7]
abbrev dktX0_worst_1 : List UInt8 := dkwX0_worst_1 ++ dktX0_worst_2
def dkwX0_worst_0 : List UInt8 := [42, 182, 0, 139, 2, 60, 3, 61, 28, 17, 16, 204, 162, 0, 58, 28, 184, 0, 132, 153, 0, 33, 27, 2]
abbrev dktX0_worst_0 : List UInt8 := dkwX0_worst_0 ++ dktX0_worst_1
theorem dksX0_worst_0 : cX0_worst.data.toList.drop 0 = dktX0_worst_0 := by decide +kernel
theorem dksX0_worst_1 : cX0_worst.data.toList.drop 24 = dktX0_worst_1 := dk_seg dksX0_worst_0 24 rfl rfl
theorem dksX0_worst_2 : cX0_worst.data.toList.drop 48 = dktX0_worst_2 := dk_seg dksX0_worst_1 24 rfl rfl
theorem dX0_worst_0 : decode cX0_worst 0 = .ok (.aload_n 0, 1) := dk_42 (dk_at dksX0_worst_0 0 rfl rfl)
theorem dX0_worst_1 : decode cX0_worst 1 = .ok (.invokevirtual 139, 3) := dk_182 0 139 (dk_at dksX0_worst_0 1 rfl rfl)
theorem dX0_worst_4 : decode cX0_worst 4 = .ok (.iconst (-1), 1) := dk_2 (dk_at dksX0_worst_0 4 rfl rfl)
theorem dX0_worst_5 : decode cX0_worst 5 = .ok (.istore_n 1, 1) := dk_60 (dk_at dksX0_worst_0 5 rfl rfl)
theorem dX0_worst_6 : decode cX0_worst 6 = .ok (.iconst 0, 1) := dk_3 (dk_at dksX0_worst_0 6 rfl rfl)
theorem dX0_worst_7 : decode cX0_worst 7 = .ok (.istore_n 2, 1) := dk_61 (dk_at dksX0_worst_0 7 rfl rfl)
theorem dX0_worst_8 : decode cX0_worst 8 = .ok (.iload_n 2, 1) := dk_28 (dk_at dksX0_worst_0 8 rfl rfl)
theorem dX0_worst_9 : decode cX0_worst 9 = .ok (.sipush 4300, 3) := dk_17 16 204 (dk_at dksX0_worst_0 9 rfl rfl)
theorem dX0_worst_12 : decode cX0_worst 12 = .ok (.if_icmp .ge 58, 3) := dk_162 0 58 (dk_at dksX0_worst_0 12 rfl rfl)
theorem dX0_worst_15 : decode cX0_worst 15 = .ok (.iload_n 2, 1) := dk_28 (dk_at dksX0_worst_0 15 rfl rfl)
theorem dX0_worst_16 : decode cX0_worst 16 = .ok (.invokestatic 132, 3) := dk_184 0 132 (dk_at dksX0_worst_0 16 rfl rfl)
theorem dX0_worst_19 : decode cX0_worst 19 = .ok (.ifCond .eq 33, 3) := dk_153 0 33 (dk_at dksX0_worst_0 19 rfl rfl)
theorem dX0_worst_22 : decode cX0_worst 22 = .ok (.iload_n 1, 1) := dk_27 (dk_at dksX0_worst_0 22 rfl rfl)
theorem dX0_worst_23 : decode cX0_worst 23 = .ok (.iconst (-1), 1) := dk_2 (dk_at dksX0_worst_0 23 rfl rfl)
theorem dX0_worst_24 : decode cX0_worst 24 = .ok (.if_icmp .eq 24, 3) := dk_159 0 24 (dk_at dksX0_worst_1 0 rfl rfl)
theorem dX0_worst_27 : decode cX0_worst 27 = .ok (.aload_n 0, 1) := dk_42 (dk_at dksX0_worst_1 3 rfl rfl)
theorem dX0_worst_28 : decode cX0_worst 28 = .ok (.getfield 65, 3) := dk_180 0 65 (dk_at dksX0_worst_1 4 rfl rfl)
theorem dX0_worst_31 : decode cX0_worst 31 = .ok (.iload_n 2, 1) := dk_28 (dk_at dksX0_worst_1 7 rfl rfl)
theorem dX0_worst_32 : decode cX0_worst 32 = .ok (.iaload, 1) := dk_46 (dk_at dksX0_worst_1 8 rfl rfl)
theorem dX0_worst_33 : decode cX0_worst 33 = .ok (.invokestatic 142, 3) := dk_184 0 142 (dk_at dksX0_worst_1 9 rfl rfl)
theorem dX0_worst_36 : decode cX0_worst 36 = .ok (.aload_n 0, 1) := dk_42 (dk_at dksX0_worst_1 12 rfl rfl)
theorem dX0_worst_37 : decode cX0_worst 37 = .ok (.getfield 65, 3) := dk_180 0 65 (dk_at dksX0_worst_1 13 rfl rfl)
theorem dX0_worst_40 : decode cX0_worst 40 = .ok (.iload_n 1, 1) := dk_27 (dk_at dksX0_worst_1 16 rfl rfl)
theorem dX0_worst_41 : decode cX0_worst 41 = .ok (.iaload, 1) := dk_46 (dk_at dksX0_worst_1 17 rfl rfl)
theorem dX0_worst_42 : decode cX0_worst 42 = .ok (.invokestatic 142, 3) := dk_184 0 142 (dk_at dksX0_worst_1 18 rfl rfl)
theorem dX0_worst_45 : decode cX0_worst 45 = .ok (.if_icmp .le 7, 3) := dk_164 0 7 (dk_at dksX0_worst_1 21 rfl rfl)
theorem dX0_worst_48 : decode cX0_worst 48 = .ok (.iconst 1, 1) := dk_4 (dk_at dksX0_worst_2 0 rfl rfl)
theorem dX0_worst_49 : decode cX0_worst 49 = .ok (.goto 4, 3) := dk_167 0 4 (dk_at dksX0_worst_2 1 rfl rfl)
theorem dX0_worst_52 : decode cX0_worst 52 = .ok (.iconst 0, 1) := dk_3 (dk_at dksX0_worst_2 4 rfl rfl)
theorem dX0_worst_53 : decode cX0_worst 53 = .ok (.istore_n 3, 1) := dk_62 (dk_at dksX0_worst_2 5 rfl rfl)
theorem dX0_worst_54 : decode cX0_worst 54 = .ok (.iload_n 3, 1) := dk_29 (dk_at dksX0_worst_2 6 rfl rfl)
theorem dX0_worst_55 : decode cX0_worst 55 = .ok (.ifCond .eq 7, 3) := dk_153 0 7 (dk_at dksX0_worst_2 7 rfl rfl)
theorem dX0_worst_58 : decode cX0_worst 58 = .ok (.iload_n 2, 1) := dk_28 (dk_at dksX0_worst_2 10 rfl rfl)
theorem dX0_worst_59 : decode cX0_worst 59 = .ok (.goto 4, 3) := dk_167 0 4 (dk_at dksX0_worst_2 11 rfl rfl)
theorem dX0_worst_62 : decode cX0_worst 62 = .ok (.iload_n 1, 1) := dk_27 (dk_at dksX0_worst_2 14 rfl rfl)
theorem dX0_worst_63 : decode cX0_worst 63 = .ok (.istore_n 1, 1) := dk_60 (dk_at dksX0_worst_2 15 rfl rfl)
theorem dX0_worst_64 : decode cX0_worst 64 = .ok (.iinc 2 1, 3) := dk_132 2 1 (dk_at dksX0_worst_2 16 rfl rfl)
theorem dX0_worst_67 : decode cX0_worst 67 = .ok (.goto (-59), 3) := dk_167 255 197 (dk_at dksX0_worst_2 19 rfl rfl)
theorem dX0_worst_70 : decode cX0_worst 70 = .ok (.iload_n 1, 1) := dk_27 (dk_at dksX0_worst_2 22 rfl rfl)
theorem dX0_worst_71 : decode cX0_worst 71 = .ok (.ireturn, 1) := dk_172 (dk_at dksX0_worst_2 23 rfl rfl)
abbrev cX0_layFells : ByteArray := prog_1_method_15_code
def yX0_layFells : MethodName := ⟨RX0, "layFells", "()V"⟩
def dkwX0_layFells_1 : List UInt8 := [182, 0, 136, 167, 0, 4, 2, 79, 132, 1, 1, 167, 255, 224, 177]
abbrev dktX0_layFells_1 : List UInt8 := dkwX0_layFells_1 ++ []
def dkwX0_layFells_0 : List UInt8 := [3, 60, 27, 17, 16, 204, 162, 0, 31, 42, 180, 0, 65, 27, 27, 184, 0, 132, 153, 0, 11, 42, 27]
abbrev dktX0_layFells_0 : List UInt8 := dkwX0_layFells_0 ++ dktX0_layFells_1
theorem dksX0_layFells_0 : cX0_layFells.data.toList.drop 0 = dktX0_layFells_0 := by decide +kernel
theorem dksX0_layFells_1 : cX0_layFells.data.toList.drop 23 = dktX0_layFells_1 := dk_seg dksX0_layFells_0 23 rfl rfl
theorem dX0_layFells_0 : decode cX0_layFells 0 = .ok (.iconst 0, 1) := dk_3 (dk_at dksX0_layFells_0 0 rfl rfl)
theorem dX0_layFells_1 : decode cX0_layFells 1 = .ok (.istore_n 1, 1) := dk_60 (dk_at dksX0_layFells_0 1 rfl rfl)
theorem dX0_layFells_2 : decode cX0_layFells 2 = .ok (.iload_n 1, 1) := dk_27 (dk_at dksX0_layFells_0 2 rfl rfl)
theorem dX0_layFells_3 : decode cX0_layFells 3 = .ok (.sipush 4300, 3) := dk_17 16 204 (dk_at dksX0_layFells_0 3 rfl rfl)
theorem dX0_layFells_6 : decode cX0_layFells 6 = .ok (.if_icmp .ge 31, 3) := dk_162 0 31 (dk_at dksX0_layFells_0 6 rfl rfl)
theorem dX0_layFells_9 : decode cX0_layFells 9 = .ok (.aload_n 0, 1) := dk_42 (dk_at dksX0_layFells_0 9 rfl rfl)
theorem dX0_layFells_10 : decode cX0_layFells 10 = .ok (.getfield 65, 3) := dk_180 0 65 (dk_at dksX0_layFells_0 10 rfl rfl)
theorem dX0_layFells_13 : decode cX0_layFells 13 = .ok (.iload_n 1, 1) := dk_27 (dk_at dksX0_layFells_0 13 rfl rfl)
theorem dX0_layFells_14 : decode cX0_layFells 14 = .ok (.iload_n 1, 1) := dk_27 (dk_at dksX0_layFells_0 14 rfl rfl)
theorem dX0_layFells_15 : decode cX0_layFells 15 = .ok (.invokestatic 132, 3) := dk_184 0 132 (dk_at dksX0_layFells_0 15 rfl rfl)
theorem dX0_layFells_18 : decode cX0_layFells 18 = .ok (.ifCond .eq 11, 3) := dk_153 0 11 (dk_at dksX0_layFells_0 18 rfl rfl)
theorem dX0_layFells_21 : decode cX0_layFells 21 = .ok (.aload_n 0, 1) := dk_42 (dk_at dksX0_layFells_0 21 rfl rfl)
theorem dX0_layFells_22 : decode cX0_layFells 22 = .ok (.iload_n 1, 1) := dk_27 (dk_at dksX0_layFells_0 22 rfl rfl)
theorem dX0_layFells_23 : decode cX0_layFells 23 = .ok (.invokevirtual 136, 3) := dk_182 0 136 (dk_at dksX0_layFells_1 0 rfl rfl)
theorem dX0_layFells_26 : decode cX0_layFells 26 = .ok (.goto 4, 3) := dk_167 0 4 (dk_at dksX0_layFells_1 3 rfl rfl)
theorem dX0_layFells_29 : decode cX0_layFells 29 = .ok (.iconst (-1), 1) := dk_2 (dk_at dksX0_layFells_1 6 rfl rfl)
theorem dX0_layFells_30 : decode cX0_layFells 30 = .ok (.iastore, 1) := dk_79 (dk_at dksX0_layFells_1 7 rfl rfl)
theorem dX0_layFells_31 : decode cX0_layFells 31 = .ok (.iinc 1 1, 3) := dk_132 1 1 (dk_at dksX0_layFells_1 8 rfl rfl)
theorem dX0_layFells_34 : decode cX0_layFells 34 = .ok (.goto (-32), 3) := dk_167 255 224 (dk_at dksX0_layFells_1 11 rfl rfl)
theorem dX0_layFells_37 : decode cX0_layFells 37 = .ok (.return_, 1) := dk_177 (dk_at dksX0_layFells_1 14 rfl rfl)
abbrev cX0_isBall : ByteArray := prog_1_method_6_code
def yX0_isBall : MethodName := ⟨RX0, "isBall", "(I)Z"⟩
def dkwX0_isBall_1 : List UInt8 := [112, 4, 16, 40, 184, 0, 10, 153, 0, 7, 4, 167, 0, 4, 3, 172]
abbrev dktX0_isBall_1 : List UInt8 := dkwX0_isBall_1 ++ []
def dkwX0_isBall_0 : List UInt8 := [26, 17, 3, 232, 108, 8, 162, 0, 32, 26, 17, 3, 232, 112, 16, 100, 108, 6, 162, 0, 20, 26, 16, 100]
abbrev dktX0_isBall_0 : List UInt8 := dkwX0_isBall_0 ++ dktX0_isBall_1
theorem dksX0_isBall_0 : cX0_isBall.data.toList.drop 0 = dktX0_isBall_0 := by decide +kernel
theorem dksX0_isBall_1 : cX0_isBall.data.toList.drop 24 = dktX0_isBall_1 := dk_seg dksX0_isBall_0 24 rfl rfl
theorem dX0_isBall_0 : decode cX0_isBall 0 = .ok (.iload_n 0, 1) := dk_26 (dk_at dksX0_isBall_0 0 rfl rfl)
theorem dX0_isBall_1 : decode cX0_isBall 1 = .ok (.sipush 1000, 3) := dk_17 3 232 (dk_at dksX0_isBall_0 1 rfl rfl)
theorem dX0_isBall_4 : decode cX0_isBall 4 = .ok (.idiv, 1) := dk_108 (dk_at dksX0_isBall_0 4 rfl rfl)
theorem dX0_isBall_5 : decode cX0_isBall 5 = .ok (.iconst 5, 1) := dk_8 (dk_at dksX0_isBall_0 5 rfl rfl)
theorem dX0_isBall_6 : decode cX0_isBall 6 = .ok (.if_icmp .ge 32, 3) := dk_162 0 32 (dk_at dksX0_isBall_0 6 rfl rfl)
theorem dX0_isBall_9 : decode cX0_isBall 9 = .ok (.iload_n 0, 1) := dk_26 (dk_at dksX0_isBall_0 9 rfl rfl)
theorem dX0_isBall_10 : decode cX0_isBall 10 = .ok (.sipush 1000, 3) := dk_17 3 232 (dk_at dksX0_isBall_0 10 rfl rfl)
theorem dX0_isBall_13 : decode cX0_isBall 13 = .ok (.irem, 1) := dk_112 (dk_at dksX0_isBall_0 13 rfl rfl)
theorem dX0_isBall_14 : decode cX0_isBall 14 = .ok (.bipush 100, 2) := dk_16 100 (dk_at dksX0_isBall_0 14 rfl rfl)
theorem dX0_isBall_16 : decode cX0_isBall 16 = .ok (.idiv, 1) := dk_108 (dk_at dksX0_isBall_0 16 rfl rfl)
theorem dX0_isBall_17 : decode cX0_isBall 17 = .ok (.iconst 3, 1) := dk_6 (dk_at dksX0_isBall_0 17 rfl rfl)
theorem dX0_isBall_18 : decode cX0_isBall 18 = .ok (.if_icmp .ge 20, 3) := dk_162 0 20 (dk_at dksX0_isBall_0 18 rfl rfl)
theorem dX0_isBall_21 : decode cX0_isBall 21 = .ok (.iload_n 0, 1) := dk_26 (dk_at dksX0_isBall_0 21 rfl rfl)
theorem dX0_isBall_22 : decode cX0_isBall 22 = .ok (.bipush 100, 2) := dk_16 100 (dk_at dksX0_isBall_0 22 rfl rfl)
theorem dX0_isBall_24 : decode cX0_isBall 24 = .ok (.irem, 1) := dk_112 (dk_at dksX0_isBall_1 0 rfl rfl)
theorem dX0_isBall_25 : decode cX0_isBall 25 = .ok (.iconst 1, 1) := dk_4 (dk_at dksX0_isBall_1 1 rfl rfl)
theorem dX0_isBall_26 : decode cX0_isBall 26 = .ok (.bipush 40, 2) := dk_16 40 (dk_at dksX0_isBall_1 2 rfl rfl)
theorem dX0_isBall_28 : decode cX0_isBall 28 = .ok (.invokestatic 10, 3) := dk_184 0 10 (dk_at dksX0_isBall_1 4 rfl rfl)
theorem dX0_isBall_31 : decode cX0_isBall 31 = .ok (.ifCond .eq 7, 3) := dk_153 0 7 (dk_at dksX0_isBall_1 7 rfl rfl)
theorem dX0_isBall_34 : decode cX0_isBall 34 = .ok (.iconst 1, 1) := dk_4 (dk_at dksX0_isBall_1 10 rfl rfl)
theorem dX0_isBall_35 : decode cX0_isBall 35 = .ok (.goto 4, 3) := dk_167 0 4 (dk_at dksX0_isBall_1 11 rfl rfl)
theorem dX0_isBall_38 : decode cX0_isBall 38 = .ok (.iconst 0, 1) := dk_3 (dk_at dksX0_isBall_1 14 rfl rfl)
theorem dX0_isBall_39 : decode cX0_isBall 39 = .ok (.ireturn, 1) := dk_172 (dk_at dksX0_isBall_1 15 rfl rfl)
abbrev cX0_fellsBy : ByteArray := prog_1_method_14_code
def yX0_fellsBy : MethodName := ⟨RX0, "fellsBy", "(I)I"⟩
def dkwX0_fellsBy_0 : List UInt8 := [42, 180, 0, 42, 42, 180, 0, 38, 182, 0, 125, 42, 180, 0, 42, 27, 182, 0, 129, 172]
abbrev dktX0_fellsBy_0 : List UInt8 := dkwX0_fellsBy_0 ++ []
theorem dksX0_fellsBy_0 : cX0_fellsBy.data.toList.drop 0 = dktX0_fellsBy_0 := by decide +kernel
theorem dX0_fellsBy_0 : decode cX0_fellsBy 0 = .ok (.aload_n 0, 1) := dk_42 (dk_at dksX0_fellsBy_0 0 rfl rfl)
theorem dX0_fellsBy_1 : decode cX0_fellsBy 1 = .ok (.getfield 42, 3) := dk_180 0 42 (dk_at dksX0_fellsBy_0 1 rfl rfl)
theorem dX0_fellsBy_4 : decode cX0_fellsBy 4 = .ok (.aload_n 0, 1) := dk_42 (dk_at dksX0_fellsBy_0 4 rfl rfl)
theorem dX0_fellsBy_5 : decode cX0_fellsBy 5 = .ok (.getfield 38, 3) := dk_180 0 38 (dk_at dksX0_fellsBy_0 5 rfl rfl)
theorem dX0_fellsBy_8 : decode cX0_fellsBy 8 = .ok (.invokevirtual 125, 3) := dk_182 0 125 (dk_at dksX0_fellsBy_0 8 rfl rfl)
theorem dX0_fellsBy_11 : decode cX0_fellsBy 11 = .ok (.aload_n 0, 1) := dk_42 (dk_at dksX0_fellsBy_0 11 rfl rfl)
theorem dX0_fellsBy_12 : decode cX0_fellsBy 12 = .ok (.getfield 42, 3) := dk_180 0 42 (dk_at dksX0_fellsBy_0 12 rfl rfl)
theorem dX0_fellsBy_15 : decode cX0_fellsBy 15 = .ok (.iload_n 1, 1) := dk_27 (dk_at dksX0_fellsBy_0 15 rfl rfl)
theorem dX0_fellsBy_16 : decode cX0_fellsBy 16 = .ok (.invokevirtual 129, 3) := dk_182 0 129 (dk_at dksX0_fellsBy_0 16 rfl rfl)
theorem dX0_fellsBy_19 : decode cX0_fellsBy 19 = .ok (.ireturn, 1) := dk_172 (dk_at dksX0_fellsBy_0 19 rfl rfl)
abbrev cX0_plateAt : ByteArray := prog_1_method_5_code
def yX0_plateAt : MethodName := ⟨RX0, "plateAt", "(II)I"⟩
def dkwX0_plateAt_1 : List UInt8 := [28, 172, 132, 2, 1, 167, 255, 229, 2, 172]
abbrev dktX0_plateAt_1 : List UInt8 := dkwX0_plateAt_1 ++ []
def dkwX0_plateAt_0 : List UInt8 := [3, 61, 28, 16, 9, 162, 0, 27, 28, 184, 0, 3, 26, 160, 0, 13, 28, 184, 0, 7, 27, 160, 0, 5]
abbrev dktX0_plateAt_0 : List UInt8 := dkwX0_plateAt_0 ++ dktX0_plateAt_1
theorem dksX0_plateAt_0 : cX0_plateAt.data.toList.drop 0 = dktX0_plateAt_0 := by decide +kernel
theorem dksX0_plateAt_1 : cX0_plateAt.data.toList.drop 24 = dktX0_plateAt_1 := dk_seg dksX0_plateAt_0 24 rfl rfl
theorem dX0_plateAt_0 : decode cX0_plateAt 0 = .ok (.iconst 0, 1) := dk_3 (dk_at dksX0_plateAt_0 0 rfl rfl)
theorem dX0_plateAt_1 : decode cX0_plateAt 1 = .ok (.istore_n 2, 1) := dk_61 (dk_at dksX0_plateAt_0 1 rfl rfl)
theorem dX0_plateAt_2 : decode cX0_plateAt 2 = .ok (.iload_n 2, 1) := dk_28 (dk_at dksX0_plateAt_0 2 rfl rfl)
theorem dX0_plateAt_3 : decode cX0_plateAt 3 = .ok (.bipush 9, 2) := dk_16 9 (dk_at dksX0_plateAt_0 3 rfl rfl)
theorem dX0_plateAt_5 : decode cX0_plateAt 5 = .ok (.if_icmp .ge 27, 3) := dk_162 0 27 (dk_at dksX0_plateAt_0 5 rfl rfl)
theorem dX0_plateAt_8 : decode cX0_plateAt 8 = .ok (.iload_n 2, 1) := dk_28 (dk_at dksX0_plateAt_0 8 rfl rfl)
theorem dX0_plateAt_9 : decode cX0_plateAt 9 = .ok (.invokestatic 3, 3) := dk_184 0 3 (dk_at dksX0_plateAt_0 9 rfl rfl)
theorem dX0_plateAt_12 : decode cX0_plateAt 12 = .ok (.iload_n 0, 1) := dk_26 (dk_at dksX0_plateAt_0 12 rfl rfl)
theorem dX0_plateAt_13 : decode cX0_plateAt 13 = .ok (.if_icmp .ne 13, 3) := dk_160 0 13 (dk_at dksX0_plateAt_0 13 rfl rfl)
theorem dX0_plateAt_16 : decode cX0_plateAt 16 = .ok (.iload_n 2, 1) := dk_28 (dk_at dksX0_plateAt_0 16 rfl rfl)
theorem dX0_plateAt_17 : decode cX0_plateAt 17 = .ok (.invokestatic 7, 3) := dk_184 0 7 (dk_at dksX0_plateAt_0 17 rfl rfl)
theorem dX0_plateAt_20 : decode cX0_plateAt 20 = .ok (.iload_n 1, 1) := dk_27 (dk_at dksX0_plateAt_0 20 rfl rfl)
theorem dX0_plateAt_21 : decode cX0_plateAt 21 = .ok (.if_icmp .ne 5, 3) := dk_160 0 5 (dk_at dksX0_plateAt_0 21 rfl rfl)
theorem dX0_plateAt_24 : decode cX0_plateAt 24 = .ok (.iload_n 2, 1) := dk_28 (dk_at dksX0_plateAt_1 0 rfl rfl)
theorem dX0_plateAt_25 : decode cX0_plateAt 25 = .ok (.ireturn, 1) := dk_172 (dk_at dksX0_plateAt_1 1 rfl rfl)
theorem dX0_plateAt_26 : decode cX0_plateAt 26 = .ok (.iinc 2 1, 3) := dk_132 2 1 (dk_at dksX0_plateAt_1 2 rfl rfl)
theorem dX0_plateAt_29 : decode cX0_plateAt 29 = .ok (.goto (-27), 3) := dk_167 255 229 (dk_at dksX0_plateAt_1 5 rfl rfl)
theorem dX0_plateAt_32 : decode cX0_plateAt 32 = .ok (.iconst (-1), 1) := dk_2 (dk_at dksX0_plateAt_1 8 rfl rfl)
theorem dX0_plateAt_33 : decode cX0_plateAt 33 = .ok (.ireturn, 1) := dk_172 (dk_at dksX0_plateAt_1 9 rfl rfl)
abbrev cX0_rowOf : ByteArray := prog_1_method_3_code
def yX0_rowOf : MethodName := ⟨RX0, "rowOf", "(I)I"⟩
def dkwX0_rowOf_1 : List UInt8 := [167, 0, 14, 26, 16, 8, 162, 0, 7, 6, 167, 0, 4, 7, 172]
abbrev dktX0_rowOf_1 : List UInt8 := dkwX0_rowOf_1 ++ []
def dkwX0_rowOf_0 : List UInt8 := [26, 154, 0, 7, 3, 167, 0, 33, 26, 6, 162, 0, 7, 4, 167, 0, 24, 26, 16, 6, 162, 0, 7, 5]
abbrev dktX0_rowOf_0 : List UInt8 := dkwX0_rowOf_0 ++ dktX0_rowOf_1
theorem dksX0_rowOf_0 : cX0_rowOf.data.toList.drop 0 = dktX0_rowOf_0 := by decide +kernel
theorem dksX0_rowOf_1 : cX0_rowOf.data.toList.drop 24 = dktX0_rowOf_1 := dk_seg dksX0_rowOf_0 24 rfl rfl
theorem dX0_rowOf_0 : decode cX0_rowOf 0 = .ok (.iload_n 0, 1) := dk_26 (dk_at dksX0_rowOf_0 0 rfl rfl)
theorem dX0_rowOf_1 : decode cX0_rowOf 1 = .ok (.ifCond .ne 7, 3) := dk_154 0 7 (dk_at dksX0_rowOf_0 1 rfl rfl)
theorem dX0_rowOf_4 : decode cX0_rowOf 4 = .ok (.iconst 0, 1) := dk_3 (dk_at dksX0_rowOf_0 4 rfl rfl)
theorem dX0_rowOf_5 : decode cX0_rowOf 5 = .ok (.goto 33, 3) := dk_167 0 33 (dk_at dksX0_rowOf_0 5 rfl rfl)
theorem dX0_rowOf_8 : decode cX0_rowOf 8 = .ok (.iload_n 0, 1) := dk_26 (dk_at dksX0_rowOf_0 8 rfl rfl)
theorem dX0_rowOf_9 : decode cX0_rowOf 9 = .ok (.iconst 3, 1) := dk_6 (dk_at dksX0_rowOf_0 9 rfl rfl)
theorem dX0_rowOf_10 : decode cX0_rowOf 10 = .ok (.if_icmp .ge 7, 3) := dk_162 0 7 (dk_at dksX0_rowOf_0 10 rfl rfl)
theorem dX0_rowOf_13 : decode cX0_rowOf 13 = .ok (.iconst 1, 1) := dk_4 (dk_at dksX0_rowOf_0 13 rfl rfl)
theorem dX0_rowOf_14 : decode cX0_rowOf 14 = .ok (.goto 24, 3) := dk_167 0 24 (dk_at dksX0_rowOf_0 14 rfl rfl)
theorem dX0_rowOf_17 : decode cX0_rowOf 17 = .ok (.iload_n 0, 1) := dk_26 (dk_at dksX0_rowOf_0 17 rfl rfl)
theorem dX0_rowOf_18 : decode cX0_rowOf 18 = .ok (.bipush 6, 2) := dk_16 6 (dk_at dksX0_rowOf_0 18 rfl rfl)
theorem dX0_rowOf_20 : decode cX0_rowOf 20 = .ok (.if_icmp .ge 7, 3) := dk_162 0 7 (dk_at dksX0_rowOf_0 20 rfl rfl)
theorem dX0_rowOf_23 : decode cX0_rowOf 23 = .ok (.iconst 2, 1) := dk_5 (dk_at dksX0_rowOf_0 23 rfl rfl)
theorem dX0_rowOf_24 : decode cX0_rowOf 24 = .ok (.goto 14, 3) := dk_167 0 14 (dk_at dksX0_rowOf_1 0 rfl rfl)
theorem dX0_rowOf_27 : decode cX0_rowOf 27 = .ok (.iload_n 0, 1) := dk_26 (dk_at dksX0_rowOf_1 3 rfl rfl)
theorem dX0_rowOf_28 : decode cX0_rowOf 28 = .ok (.bipush 8, 2) := dk_16 8 (dk_at dksX0_rowOf_1 4 rfl rfl)
theorem dX0_rowOf_30 : decode cX0_rowOf 30 = .ok (.if_icmp .ge 7, 3) := dk_162 0 7 (dk_at dksX0_rowOf_1 6 rfl rfl)
theorem dX0_rowOf_33 : decode cX0_rowOf 33 = .ok (.iconst 3, 1) := dk_6 (dk_at dksX0_rowOf_1 9 rfl rfl)
theorem dX0_rowOf_34 : decode cX0_rowOf 34 = .ok (.goto 4, 3) := dk_167 0 4 (dk_at dksX0_rowOf_1 10 rfl rfl)
theorem dX0_rowOf_37 : decode cX0_rowOf 37 = .ok (.iconst 4, 1) := dk_7 (dk_at dksX0_rowOf_1 13 rfl rfl)
theorem dX0_rowOf_38 : decode cX0_rowOf 38 = .ok (.ireturn, 1) := dk_172 (dk_at dksX0_rowOf_1 14 rfl rfl)
abbrev cX0_columnOf : ByteArray := prog_1_method_4_code
def yX0_columnOf : MethodName := ⟨RX0, "columnOf", "(I)I"⟩
def dkwX0_columnOf_2 : List UInt8 := [3, 172, 4, 172, 6, 172, 7, 172, 5, 172]
abbrev dktX0_columnOf_2 : List UInt8 := dkwX0_columnOf_2 ++ []
def dkwX0_columnOf_1 : List UInt8 := [170, 0, 0, 0, 0, 0, 51, 0, 0, 0, 1, 0, 0, 0, 7, 0, 0, 0, 45, 0, 0, 0, 47, 0, 0, 0, 43, 0, 0, 0, 51, 0, 0, 0, 49, 0, 0, 0, 45, 0, 0, 0, 47]
abbrev dktX0_columnOf_1 : List UInt8 := dkwX0_columnOf_1 ++ dktX0_columnOf_2
def dkwX0_columnOf_0 : List UInt8 := [26]
abbrev dktX0_columnOf_0 : List UInt8 := dkwX0_columnOf_0 ++ dktX0_columnOf_1
theorem dksX0_columnOf_0 : cX0_columnOf.data.toList.drop 0 = dktX0_columnOf_0 := by decide +kernel
theorem dksX0_columnOf_1 : cX0_columnOf.data.toList.drop 1 = dktX0_columnOf_1 := dk_seg dksX0_columnOf_0 1 rfl rfl
theorem dksX0_columnOf_2 : cX0_columnOf.data.toList.drop 44 = dktX0_columnOf_2 := dk_seg dksX0_columnOf_1 43 rfl rfl
theorem dX0_columnOf_0 : decode cX0_columnOf 0 = .ok (.iload_n 0, 1) := dk_26 (dk_at dksX0_columnOf_0 0 rfl rfl)
theorem dX0_columnOf_1 : decode cX0_columnOf 1 = .ok (.tableswitch 51 1 7 #[45, 47, 43, 51, 49, 45, 47], 43) := by decide +kernel
theorem dX0_columnOf_44 : decode cX0_columnOf 44 = .ok (.iconst 0, 1) := dk_3 (dk_at dksX0_columnOf_2 0 rfl rfl)
theorem dX0_columnOf_45 : decode cX0_columnOf 45 = .ok (.ireturn, 1) := dk_172 (dk_at dksX0_columnOf_2 1 rfl rfl)
theorem dX0_columnOf_46 : decode cX0_columnOf 46 = .ok (.iconst 1, 1) := dk_4 (dk_at dksX0_columnOf_2 2 rfl rfl)
theorem dX0_columnOf_47 : decode cX0_columnOf 47 = .ok (.ireturn, 1) := dk_172 (dk_at dksX0_columnOf_2 3 rfl rfl)
theorem dX0_columnOf_48 : decode cX0_columnOf 48 = .ok (.iconst 3, 1) := dk_6 (dk_at dksX0_columnOf_2 4 rfl rfl)
theorem dX0_columnOf_49 : decode cX0_columnOf 49 = .ok (.ireturn, 1) := dk_172 (dk_at dksX0_columnOf_2 5 rfl rfl)
theorem dX0_columnOf_50 : decode cX0_columnOf 50 = .ok (.iconst 4, 1) := dk_7 (dk_at dksX0_columnOf_2 6 rfl rfl)
theorem dX0_columnOf_51 : decode cX0_columnOf 51 = .ok (.ireturn, 1) := dk_172 (dk_at dksX0_columnOf_2 7 rfl rfl)
theorem dX0_columnOf_52 : decode cX0_columnOf 52 = .ok (.iconst 2, 1) := dk_5 (dk_at dksX0_columnOf_2 8 rfl rfl)
theorem dX0_columnOf_53 : decode cX0_columnOf 53 = .ok (.ireturn, 1) := dk_172 (dk_at dksX0_columnOf_2 9 rfl rfl)
abbrev cX0_has : ByteArray := prog_1_method_2_code
def yX0_has : MethodName := ⟨RX0, "has", "(II)Z"⟩
def dkwX0_has_0 : List UInt8 := [26, 27, 122, 4, 126, 4, 160, 0, 7, 4, 167, 0, 4, 3, 172]
abbrev dktX0_has_0 : List UInt8 := dkwX0_has_0 ++ []
theorem dksX0_has_0 : cX0_has.data.toList.drop 0 = dktX0_has_0 := by decide +kernel
theorem dX0_has_0 : decode cX0_has 0 = .ok (.iload_n 0, 1) := dk_26 (dk_at dksX0_has_0 0 rfl rfl)
theorem dX0_has_1 : decode cX0_has 1 = .ok (.iload_n 1, 1) := dk_27 (dk_at dksX0_has_0 1 rfl rfl)
theorem dX0_has_2 : decode cX0_has 2 = .ok (.ishr, 1) := dk_122 (dk_at dksX0_has_0 2 rfl rfl)
theorem dX0_has_3 : decode cX0_has 3 = .ok (.iconst 1, 1) := dk_4 (dk_at dksX0_has_0 3 rfl rfl)
theorem dX0_has_4 : decode cX0_has 4 = .ok (.iand, 1) := dk_126 (dk_at dksX0_has_0 4 rfl rfl)
theorem dX0_has_5 : decode cX0_has 5 = .ok (.iconst 1, 1) := dk_4 (dk_at dksX0_has_0 5 rfl rfl)
theorem dX0_has_6 : decode cX0_has 6 = .ok (.if_icmp .ne 7, 3) := dk_160 0 7 (dk_at dksX0_has_0 6 rfl rfl)
theorem dX0_has_9 : decode cX0_has 9 = .ok (.iconst 1, 1) := dk_4 (dk_at dksX0_has_0 9 rfl rfl)
theorem dX0_has_10 : decode cX0_has 10 = .ok (.goto 4, 3) := dk_167 0 4 (dk_at dksX0_has_0 10 rfl rfl)
theorem dX0_has_13 : decode cX0_has 13 = .ok (.iconst 0, 1) := dk_3 (dk_at dksX0_has_0 13 rfl rfl)
theorem dX0_has_14 : decode cX0_has 14 = .ok (.ireturn, 1) := dk_172 (dk_at dksX0_has_0 14 rfl rfl)
abbrev cX0_safest : ByteArray := prog_1_method_18_code
def yX0_safest : MethodName := ⟨RX0, "safest", "()I"⟩
def dkwX0_safest_3 : List UInt8 := [167, 255, 197, 27, 172]
abbrev dktX0_safest_3 : List UInt8 := dkwX0_safest_3 ++ []
def dkwX0_safest_2 : List UInt8 := [54, 4, 21, 4, 28, 162, 0, 7, 29, 167, 0, 4, 27, 60, 28, 21, 4, 184, 0, 158, 61, 132, 3, 1]
abbrev dktX0_safest_2 : List UInt8 := dkwX0_safest_2 ++ dktX0_safest_3
def dkwX0_safest_1 : List UInt8 := [180, 0, 38, 180, 0, 152, 29, 184, 0, 147, 153, 0, 11, 42, 29, 182, 0, 155, 167, 0, 5, 18, 151]
abbrev dktX0_safest_1 : List UInt8 := dkwX0_safest_1 ++ dktX0_safest_2
def dkwX0_safest_0 : List UInt8 := [42, 182, 0, 139, 2, 60, 18, 151, 61, 3, 62, 29, 42, 180, 0, 29, 180, 0, 119, 162, 0, 54, 42]
abbrev dktX0_safest_0 : List UInt8 := dkwX0_safest_0 ++ dktX0_safest_1
theorem dksX0_safest_0 : cX0_safest.data.toList.drop 0 = dktX0_safest_0 := by decide +kernel
theorem dksX0_safest_1 : cX0_safest.data.toList.drop 23 = dktX0_safest_1 := dk_seg dksX0_safest_0 23 rfl rfl
theorem dksX0_safest_2 : cX0_safest.data.toList.drop 46 = dktX0_safest_2 := dk_seg dksX0_safest_1 23 rfl rfl
theorem dksX0_safest_3 : cX0_safest.data.toList.drop 70 = dktX0_safest_3 := dk_seg dksX0_safest_2 24 rfl rfl
theorem dX0_safest_0 : decode cX0_safest 0 = .ok (.aload_n 0, 1) := dk_42 (dk_at dksX0_safest_0 0 rfl rfl)
theorem dX0_safest_1 : decode cX0_safest 1 = .ok (.invokevirtual 139, 3) := dk_182 0 139 (dk_at dksX0_safest_0 1 rfl rfl)
theorem dX0_safest_4 : decode cX0_safest 4 = .ok (.iconst (-1), 1) := dk_2 (dk_at dksX0_safest_0 4 rfl rfl)
theorem dX0_safest_5 : decode cX0_safest 5 = .ok (.istore_n 1, 1) := dk_60 (dk_at dksX0_safest_0 5 rfl rfl)
theorem dX0_safest_6 : decode cX0_safest 6 = .ok (.ldc 151, 2) := dk_18 151 (dk_at dksX0_safest_0 6 rfl rfl)
theorem dX0_safest_8 : decode cX0_safest 8 = .ok (.istore_n 2, 1) := dk_61 (dk_at dksX0_safest_0 8 rfl rfl)
theorem dX0_safest_9 : decode cX0_safest 9 = .ok (.iconst 0, 1) := dk_3 (dk_at dksX0_safest_0 9 rfl rfl)
theorem dX0_safest_10 : decode cX0_safest 10 = .ok (.istore_n 3, 1) := dk_62 (dk_at dksX0_safest_0 10 rfl rfl)
theorem dX0_safest_11 : decode cX0_safest 11 = .ok (.iload_n 3, 1) := dk_29 (dk_at dksX0_safest_0 11 rfl rfl)
theorem dX0_safest_12 : decode cX0_safest 12 = .ok (.aload_n 0, 1) := dk_42 (dk_at dksX0_safest_0 12 rfl rfl)
theorem dX0_safest_13 : decode cX0_safest 13 = .ok (.getfield 29, 3) := dk_180 0 29 (dk_at dksX0_safest_0 13 rfl rfl)
theorem dX0_safest_16 : decode cX0_safest 16 = .ok (.getfield 119, 3) := dk_180 0 119 (dk_at dksX0_safest_0 16 rfl rfl)
theorem dX0_safest_19 : decode cX0_safest 19 = .ok (.if_icmp .ge 54, 3) := dk_162 0 54 (dk_at dksX0_safest_0 19 rfl rfl)
theorem dX0_safest_22 : decode cX0_safest 22 = .ok (.aload_n 0, 1) := dk_42 (dk_at dksX0_safest_0 22 rfl rfl)
theorem dX0_safest_23 : decode cX0_safest 23 = .ok (.getfield 38, 3) := dk_180 0 38 (dk_at dksX0_safest_1 0 rfl rfl)
theorem dX0_safest_26 : decode cX0_safest 26 = .ok (.getfield 152, 3) := dk_180 0 152 (dk_at dksX0_safest_1 3 rfl rfl)
theorem dX0_safest_29 : decode cX0_safest 29 = .ok (.iload_n 3, 1) := dk_29 (dk_at dksX0_safest_1 6 rfl rfl)
theorem dX0_safest_30 : decode cX0_safest 30 = .ok (.invokestatic 147, 3) := dk_184 0 147 (dk_at dksX0_safest_1 7 rfl rfl)
theorem dX0_safest_33 : decode cX0_safest 33 = .ok (.ifCond .eq 11, 3) := dk_153 0 11 (dk_at dksX0_safest_1 10 rfl rfl)
theorem dX0_safest_36 : decode cX0_safest 36 = .ok (.aload_n 0, 1) := dk_42 (dk_at dksX0_safest_1 13 rfl rfl)
theorem dX0_safest_37 : decode cX0_safest 37 = .ok (.iload_n 3, 1) := dk_29 (dk_at dksX0_safest_1 14 rfl rfl)
theorem dX0_safest_38 : decode cX0_safest 38 = .ok (.invokevirtual 155, 3) := dk_182 0 155 (dk_at dksX0_safest_1 15 rfl rfl)
theorem dX0_safest_41 : decode cX0_safest 41 = .ok (.goto 5, 3) := dk_167 0 5 (dk_at dksX0_safest_1 18 rfl rfl)
theorem dX0_safest_44 : decode cX0_safest 44 = .ok (.ldc 151, 2) := dk_18 151 (dk_at dksX0_safest_1 21 rfl rfl)
theorem dX0_safest_46 : decode cX0_safest 46 = .ok (.istore 4, 2) := dk_54 4 (dk_at dksX0_safest_2 0 rfl rfl)
theorem dX0_safest_48 : decode cX0_safest 48 = .ok (.iload 4, 2) := dk_21 4 (dk_at dksX0_safest_2 2 rfl rfl)
theorem dX0_safest_50 : decode cX0_safest 50 = .ok (.iload_n 2, 1) := dk_28 (dk_at dksX0_safest_2 4 rfl rfl)
theorem dX0_safest_51 : decode cX0_safest 51 = .ok (.if_icmp .ge 7, 3) := dk_162 0 7 (dk_at dksX0_safest_2 5 rfl rfl)
theorem dX0_safest_54 : decode cX0_safest 54 = .ok (.iload_n 3, 1) := dk_29 (dk_at dksX0_safest_2 8 rfl rfl)
theorem dX0_safest_55 : decode cX0_safest 55 = .ok (.goto 4, 3) := dk_167 0 4 (dk_at dksX0_safest_2 9 rfl rfl)
theorem dX0_safest_58 : decode cX0_safest 58 = .ok (.iload_n 1, 1) := dk_27 (dk_at dksX0_safest_2 12 rfl rfl)
theorem dX0_safest_59 : decode cX0_safest 59 = .ok (.istore_n 1, 1) := dk_60 (dk_at dksX0_safest_2 13 rfl rfl)
theorem dX0_safest_60 : decode cX0_safest 60 = .ok (.iload_n 2, 1) := dk_28 (dk_at dksX0_safest_2 14 rfl rfl)
theorem dX0_safest_61 : decode cX0_safest 61 = .ok (.iload 4, 2) := dk_21 4 (dk_at dksX0_safest_2 15 rfl rfl)
theorem dX0_safest_63 : decode cX0_safest 63 = .ok (.invokestatic 158, 3) := dk_184 0 158 (dk_at dksX0_safest_2 17 rfl rfl)
theorem dX0_safest_66 : decode cX0_safest 66 = .ok (.istore_n 2, 1) := dk_61 (dk_at dksX0_safest_2 20 rfl rfl)
theorem dX0_safest_67 : decode cX0_safest 67 = .ok (.iinc 3 1, 3) := dk_132 3 1 (dk_at dksX0_safest_2 21 rfl rfl)
theorem dX0_safest_70 : decode cX0_safest 70 = .ok (.goto (-59), 3) := dk_167 255 197 (dk_at dksX0_safest_3 0 rfl rfl)
theorem dX0_safest_73 : decode cX0_safest 73 = .ok (.iload_n 1, 1) := dk_27 (dk_at dksX0_safest_3 3 rfl rfl)
theorem dX0_safest_74 : decode cX0_safest 74 = .ok (.ireturn, 1) := dk_172 (dk_at dksX0_safest_3 4 rfl rfl)
abbrev cX0_ballsThatFell : ByteArray := prog_1_method_17_code
def yX0_ballsThatFell : MethodName := ⟨RX0, "ballsThatFell", "(I)I"⟩
def dkwX0_ballsThatFell_3 : List UInt8 := [167, 255, 189, 28, 172]
abbrev dktX0_ballsThatFell_3 : List UInt8 := dkwX0_ballsThatFell_3 ++ []
def dkwX0_ballsThatFell_2 : List UInt8 := [4, 167, 0, 4, 3, 54, 4, 28, 21, 4, 153, 0, 7, 4, 167, 0, 4, 3, 96, 61, 132, 3, 1]
abbrev dktX0_ballsThatFell_2 : List UInt8 := dkwX0_ballsThatFell_2 ++ dktX0_ballsThatFell_3
def dkwX0_ballsThatFell_1 : List UInt8 := [180, 0, 65, 29, 46, 154, 0, 23, 167, 0, 16, 42, 180, 0, 65, 29, 46, 27, 184, 0, 147, 153, 0, 7]
abbrev dktX0_ballsThatFell_1 : List UInt8 := dkwX0_ballsThatFell_1 ++ dktX0_ballsThatFell_2
def dkwX0_ballsThatFell_0 : List UInt8 := [3, 61, 3, 62, 29, 17, 16, 204, 162, 0, 66, 29, 184, 0, 132, 153, 0, 37, 27, 2, 160, 0, 15, 42]
abbrev dktX0_ballsThatFell_0 : List UInt8 := dkwX0_ballsThatFell_0 ++ dktX0_ballsThatFell_1
theorem dksX0_ballsThatFell_0 : cX0_ballsThatFell.data.toList.drop 0 = dktX0_ballsThatFell_0 := by decide +kernel
theorem dksX0_ballsThatFell_1 : cX0_ballsThatFell.data.toList.drop 24 = dktX0_ballsThatFell_1 := dk_seg dksX0_ballsThatFell_0 24 rfl rfl
theorem dksX0_ballsThatFell_2 : cX0_ballsThatFell.data.toList.drop 48 = dktX0_ballsThatFell_2 := dk_seg dksX0_ballsThatFell_1 24 rfl rfl
theorem dksX0_ballsThatFell_3 : cX0_ballsThatFell.data.toList.drop 71 = dktX0_ballsThatFell_3 := dk_seg dksX0_ballsThatFell_2 23 rfl rfl
theorem dX0_ballsThatFell_0 : decode cX0_ballsThatFell 0 = .ok (.iconst 0, 1) := dk_3 (dk_at dksX0_ballsThatFell_0 0 rfl rfl)
theorem dX0_ballsThatFell_1 : decode cX0_ballsThatFell 1 = .ok (.istore_n 2, 1) := dk_61 (dk_at dksX0_ballsThatFell_0 1 rfl rfl)
theorem dX0_ballsThatFell_2 : decode cX0_ballsThatFell 2 = .ok (.iconst 0, 1) := dk_3 (dk_at dksX0_ballsThatFell_0 2 rfl rfl)
theorem dX0_ballsThatFell_3 : decode cX0_ballsThatFell 3 = .ok (.istore_n 3, 1) := dk_62 (dk_at dksX0_ballsThatFell_0 3 rfl rfl)
theorem dX0_ballsThatFell_4 : decode cX0_ballsThatFell 4 = .ok (.iload_n 3, 1) := dk_29 (dk_at dksX0_ballsThatFell_0 4 rfl rfl)
theorem dX0_ballsThatFell_5 : decode cX0_ballsThatFell 5 = .ok (.sipush 4300, 3) := dk_17 16 204 (dk_at dksX0_ballsThatFell_0 5 rfl rfl)
theorem dX0_ballsThatFell_8 : decode cX0_ballsThatFell 8 = .ok (.if_icmp .ge 66, 3) := dk_162 0 66 (dk_at dksX0_ballsThatFell_0 8 rfl rfl)
theorem dX0_ballsThatFell_11 : decode cX0_ballsThatFell 11 = .ok (.iload_n 3, 1) := dk_29 (dk_at dksX0_ballsThatFell_0 11 rfl rfl)
theorem dX0_ballsThatFell_12 : decode cX0_ballsThatFell 12 = .ok (.invokestatic 132, 3) := dk_184 0 132 (dk_at dksX0_ballsThatFell_0 12 rfl rfl)
theorem dX0_ballsThatFell_15 : decode cX0_ballsThatFell 15 = .ok (.ifCond .eq 37, 3) := dk_153 0 37 (dk_at dksX0_ballsThatFell_0 15 rfl rfl)
theorem dX0_ballsThatFell_18 : decode cX0_ballsThatFell 18 = .ok (.iload_n 1, 1) := dk_27 (dk_at dksX0_ballsThatFell_0 18 rfl rfl)
theorem dX0_ballsThatFell_19 : decode cX0_ballsThatFell 19 = .ok (.iconst (-1), 1) := dk_2 (dk_at dksX0_ballsThatFell_0 19 rfl rfl)
theorem dX0_ballsThatFell_20 : decode cX0_ballsThatFell 20 = .ok (.if_icmp .ne 15, 3) := dk_160 0 15 (dk_at dksX0_ballsThatFell_0 20 rfl rfl)
theorem dX0_ballsThatFell_23 : decode cX0_ballsThatFell 23 = .ok (.aload_n 0, 1) := dk_42 (dk_at dksX0_ballsThatFell_0 23 rfl rfl)
theorem dX0_ballsThatFell_24 : decode cX0_ballsThatFell 24 = .ok (.getfield 65, 3) := dk_180 0 65 (dk_at dksX0_ballsThatFell_1 0 rfl rfl)
theorem dX0_ballsThatFell_27 : decode cX0_ballsThatFell 27 = .ok (.iload_n 3, 1) := dk_29 (dk_at dksX0_ballsThatFell_1 3 rfl rfl)
theorem dX0_ballsThatFell_28 : decode cX0_ballsThatFell 28 = .ok (.iaload, 1) := dk_46 (dk_at dksX0_ballsThatFell_1 4 rfl rfl)
theorem dX0_ballsThatFell_29 : decode cX0_ballsThatFell 29 = .ok (.ifCond .ne 23, 3) := dk_154 0 23 (dk_at dksX0_ballsThatFell_1 5 rfl rfl)
theorem dX0_ballsThatFell_32 : decode cX0_ballsThatFell 32 = .ok (.goto 16, 3) := dk_167 0 16 (dk_at dksX0_ballsThatFell_1 8 rfl rfl)
theorem dX0_ballsThatFell_35 : decode cX0_ballsThatFell 35 = .ok (.aload_n 0, 1) := dk_42 (dk_at dksX0_ballsThatFell_1 11 rfl rfl)
theorem dX0_ballsThatFell_36 : decode cX0_ballsThatFell 36 = .ok (.getfield 65, 3) := dk_180 0 65 (dk_at dksX0_ballsThatFell_1 12 rfl rfl)
theorem dX0_ballsThatFell_39 : decode cX0_ballsThatFell 39 = .ok (.iload_n 3, 1) := dk_29 (dk_at dksX0_ballsThatFell_1 15 rfl rfl)
theorem dX0_ballsThatFell_40 : decode cX0_ballsThatFell 40 = .ok (.iaload, 1) := dk_46 (dk_at dksX0_ballsThatFell_1 16 rfl rfl)
theorem dX0_ballsThatFell_41 : decode cX0_ballsThatFell 41 = .ok (.iload_n 1, 1) := dk_27 (dk_at dksX0_ballsThatFell_1 17 rfl rfl)
theorem dX0_ballsThatFell_42 : decode cX0_ballsThatFell 42 = .ok (.invokestatic 147, 3) := dk_184 0 147 (dk_at dksX0_ballsThatFell_1 18 rfl rfl)
theorem dX0_ballsThatFell_45 : decode cX0_ballsThatFell 45 = .ok (.ifCond .eq 7, 3) := dk_153 0 7 (dk_at dksX0_ballsThatFell_1 21 rfl rfl)
theorem dX0_ballsThatFell_48 : decode cX0_ballsThatFell 48 = .ok (.iconst 1, 1) := dk_4 (dk_at dksX0_ballsThatFell_2 0 rfl rfl)
theorem dX0_ballsThatFell_49 : decode cX0_ballsThatFell 49 = .ok (.goto 4, 3) := dk_167 0 4 (dk_at dksX0_ballsThatFell_2 1 rfl rfl)
theorem dX0_ballsThatFell_52 : decode cX0_ballsThatFell 52 = .ok (.iconst 0, 1) := dk_3 (dk_at dksX0_ballsThatFell_2 4 rfl rfl)
theorem dX0_ballsThatFell_53 : decode cX0_ballsThatFell 53 = .ok (.istore 4, 2) := dk_54 4 (dk_at dksX0_ballsThatFell_2 5 rfl rfl)
theorem dX0_ballsThatFell_55 : decode cX0_ballsThatFell 55 = .ok (.iload_n 2, 1) := dk_28 (dk_at dksX0_ballsThatFell_2 7 rfl rfl)
theorem dX0_ballsThatFell_56 : decode cX0_ballsThatFell 56 = .ok (.iload 4, 2) := dk_21 4 (dk_at dksX0_ballsThatFell_2 8 rfl rfl)
theorem dX0_ballsThatFell_58 : decode cX0_ballsThatFell 58 = .ok (.ifCond .eq 7, 3) := dk_153 0 7 (dk_at dksX0_ballsThatFell_2 10 rfl rfl)
theorem dX0_ballsThatFell_61 : decode cX0_ballsThatFell 61 = .ok (.iconst 1, 1) := dk_4 (dk_at dksX0_ballsThatFell_2 13 rfl rfl)
theorem dX0_ballsThatFell_62 : decode cX0_ballsThatFell 62 = .ok (.goto 4, 3) := dk_167 0 4 (dk_at dksX0_ballsThatFell_2 14 rfl rfl)
theorem dX0_ballsThatFell_65 : decode cX0_ballsThatFell 65 = .ok (.iconst 0, 1) := dk_3 (dk_at dksX0_ballsThatFell_2 17 rfl rfl)
theorem dX0_ballsThatFell_66 : decode cX0_ballsThatFell 66 = .ok (.iadd, 1) := dk_96 (dk_at dksX0_ballsThatFell_2 18 rfl rfl)
theorem dX0_ballsThatFell_67 : decode cX0_ballsThatFell 67 = .ok (.istore_n 2, 1) := dk_61 (dk_at dksX0_ballsThatFell_2 19 rfl rfl)
theorem dX0_ballsThatFell_68 : decode cX0_ballsThatFell 68 = .ok (.iinc 3 1, 3) := dk_132 3 1 (dk_at dksX0_ballsThatFell_2 20 rfl rfl)
theorem dX0_ballsThatFell_71 : decode cX0_ballsThatFell 71 = .ok (.goto (-67), 3) := dk_167 255 189 (dk_at dksX0_ballsThatFell_3 0 rfl rfl)
theorem dX0_ballsThatFell_74 : decode cX0_ballsThatFell 74 = .ok (.iload_n 2, 1) := dk_28 (dk_at dksX0_ballsThatFell_3 3 rfl rfl)
theorem dX0_ballsThatFell_75 : decode cX0_ballsThatFell 75 = .ok (.ireturn, 1) := dk_172 (dk_at dksX0_ballsThatFell_3 4 rfl rfl)
abbrev cX0_talk : ByteArray := prog_1_method_20_code
def yX0_talk : MethodName := ⟨RX0, "talk", "()I"⟩
def dkwX0_talk_7 : List UInt8 := [172]
abbrev dktX0_talk_7 : List UInt8 := dkwX0_talk_7 ++ []
def dkwX0_talk_6 : List UInt8 := [4, 160, 0, 7, 4, 167, 0, 4, 3, 96, 60, 132, 3, 1, 167, 255, 122, 132, 2, 1, 167, 255, 101, 27]
abbrev dktX0_talk_6 : List UInt8 := dkwX0_talk_6 ++ dktX0_talk_7
def dkwX0_talk_5 : List UInt8 := [154, 0, 7, 4, 167, 0, 4, 3, 54, 6, 27, 21, 6, 153, 0, 19, 21, 4, 4, 160, 0, 13, 21, 5]
abbrev dktX0_talk_5 : List UInt8 := dkwX0_talk_5 ++ dktX0_talk_6
def dkwX0_talk_4 : List UInt8 := [180, 0, 38, 180, 0, 152, 28, 184, 0, 147, 154, 0, 21, 42, 180, 0, 38, 180, 0, 152, 29, 184, 0, 147]
abbrev dktX0_talk_4 : List UInt8 := dkwX0_talk_4 ++ dktX0_talk_5
def dkwX0_talk_3 : List UInt8 := [184, 0, 7, 42, 180, 0, 38, 180, 0, 175, 29, 46, 184, 0, 7, 100, 184, 0, 178, 54, 5, 42]
abbrev dktX0_talk_3 : List UInt8 := dkwX0_talk_3 ++ dktX0_talk_4
def dkwX0_talk_2 : List UInt8 := [180, 0, 175, 29, 46, 184, 0, 3, 100, 184, 0, 178, 54, 4, 42, 180, 0, 38, 180, 0, 175, 28, 46]
abbrev dktX0_talk_2 : List UInt8 := dkwX0_talk_2 ++ dktX0_talk_3
def dkwX0_talk_1 : List UInt8 := [180, 0, 119, 162, 0, 129, 42, 180, 0, 38, 180, 0, 175, 28, 46, 184, 0, 3, 42, 180, 0, 38]
abbrev dktX0_talk_1 : List UInt8 := dkwX0_talk_1 ++ dktX0_talk_2
def dkwX0_talk_0 : List UInt8 := [3, 60, 3, 61, 28, 42, 180, 0, 29, 180, 0, 119, 162, 0, 150, 28, 4, 96, 62, 29, 42, 180, 0, 29]
abbrev dktX0_talk_0 : List UInt8 := dkwX0_talk_0 ++ dktX0_talk_1
theorem dksX0_talk_0 : cX0_talk.data.toList.drop 0 = dktX0_talk_0 := by decide +kernel
theorem dksX0_talk_1 : cX0_talk.data.toList.drop 24 = dktX0_talk_1 := dk_seg dksX0_talk_0 24 rfl rfl
theorem dksX0_talk_2 : cX0_talk.data.toList.drop 46 = dktX0_talk_2 := dk_seg dksX0_talk_1 22 rfl rfl
theorem dksX0_talk_3 : cX0_talk.data.toList.drop 69 = dktX0_talk_3 := dk_seg dksX0_talk_2 23 rfl rfl
theorem dksX0_talk_4 : cX0_talk.data.toList.drop 91 = dktX0_talk_4 := dk_seg dksX0_talk_3 22 rfl rfl
theorem dksX0_talk_5 : cX0_talk.data.toList.drop 115 = dktX0_talk_5 := dk_seg dksX0_talk_4 24 rfl rfl
theorem dksX0_talk_6 : cX0_talk.data.toList.drop 139 = dktX0_talk_6 := dk_seg dksX0_talk_5 24 rfl rfl
theorem dksX0_talk_7 : cX0_talk.data.toList.drop 163 = dktX0_talk_7 := dk_seg dksX0_talk_6 24 rfl rfl
theorem dX0_talk_0 : decode cX0_talk 0 = .ok (.iconst 0, 1) := dk_3 (dk_at dksX0_talk_0 0 rfl rfl)
theorem dX0_talk_1 : decode cX0_talk 1 = .ok (.istore_n 1, 1) := dk_60 (dk_at dksX0_talk_0 1 rfl rfl)
theorem dX0_talk_2 : decode cX0_talk 2 = .ok (.iconst 0, 1) := dk_3 (dk_at dksX0_talk_0 2 rfl rfl)
theorem dX0_talk_3 : decode cX0_talk 3 = .ok (.istore_n 2, 1) := dk_61 (dk_at dksX0_talk_0 3 rfl rfl)
theorem dX0_talk_4 : decode cX0_talk 4 = .ok (.iload_n 2, 1) := dk_28 (dk_at dksX0_talk_0 4 rfl rfl)
theorem dX0_talk_5 : decode cX0_talk 5 = .ok (.aload_n 0, 1) := dk_42 (dk_at dksX0_talk_0 5 rfl rfl)
theorem dX0_talk_6 : decode cX0_talk 6 = .ok (.getfield 29, 3) := dk_180 0 29 (dk_at dksX0_talk_0 6 rfl rfl)
theorem dX0_talk_9 : decode cX0_talk 9 = .ok (.getfield 119, 3) := dk_180 0 119 (dk_at dksX0_talk_0 9 rfl rfl)
theorem dX0_talk_12 : decode cX0_talk 12 = .ok (.if_icmp .ge 150, 3) := dk_162 0 150 (dk_at dksX0_talk_0 12 rfl rfl)
theorem dX0_talk_15 : decode cX0_talk 15 = .ok (.iload_n 2, 1) := dk_28 (dk_at dksX0_talk_0 15 rfl rfl)
theorem dX0_talk_16 : decode cX0_talk 16 = .ok (.iconst 1, 1) := dk_4 (dk_at dksX0_talk_0 16 rfl rfl)
theorem dX0_talk_17 : decode cX0_talk 17 = .ok (.iadd, 1) := dk_96 (dk_at dksX0_talk_0 17 rfl rfl)
theorem dX0_talk_18 : decode cX0_talk 18 = .ok (.istore_n 3, 1) := dk_62 (dk_at dksX0_talk_0 18 rfl rfl)
theorem dX0_talk_19 : decode cX0_talk 19 = .ok (.iload_n 3, 1) := dk_29 (dk_at dksX0_talk_0 19 rfl rfl)
theorem dX0_talk_20 : decode cX0_talk 20 = .ok (.aload_n 0, 1) := dk_42 (dk_at dksX0_talk_0 20 rfl rfl)
theorem dX0_talk_21 : decode cX0_talk 21 = .ok (.getfield 29, 3) := dk_180 0 29 (dk_at dksX0_talk_0 21 rfl rfl)
theorem dX0_talk_24 : decode cX0_talk 24 = .ok (.getfield 119, 3) := dk_180 0 119 (dk_at dksX0_talk_1 0 rfl rfl)
theorem dX0_talk_27 : decode cX0_talk 27 = .ok (.if_icmp .ge 129, 3) := dk_162 0 129 (dk_at dksX0_talk_1 3 rfl rfl)
theorem dX0_talk_30 : decode cX0_talk 30 = .ok (.aload_n 0, 1) := dk_42 (dk_at dksX0_talk_1 6 rfl rfl)
theorem dX0_talk_31 : decode cX0_talk 31 = .ok (.getfield 38, 3) := dk_180 0 38 (dk_at dksX0_talk_1 7 rfl rfl)
theorem dX0_talk_34 : decode cX0_talk 34 = .ok (.getfield 175, 3) := dk_180 0 175 (dk_at dksX0_talk_1 10 rfl rfl)
theorem dX0_talk_37 : decode cX0_talk 37 = .ok (.iload_n 2, 1) := dk_28 (dk_at dksX0_talk_1 13 rfl rfl)
theorem dX0_talk_38 : decode cX0_talk 38 = .ok (.iaload, 1) := dk_46 (dk_at dksX0_talk_1 14 rfl rfl)
theorem dX0_talk_39 : decode cX0_talk 39 = .ok (.invokestatic 3, 3) := dk_184 0 3 (dk_at dksX0_talk_1 15 rfl rfl)
theorem dX0_talk_42 : decode cX0_talk 42 = .ok (.aload_n 0, 1) := dk_42 (dk_at dksX0_talk_1 18 rfl rfl)
theorem dX0_talk_43 : decode cX0_talk 43 = .ok (.getfield 38, 3) := dk_180 0 38 (dk_at dksX0_talk_1 19 rfl rfl)
theorem dX0_talk_46 : decode cX0_talk 46 = .ok (.getfield 175, 3) := dk_180 0 175 (dk_at dksX0_talk_2 0 rfl rfl)
theorem dX0_talk_49 : decode cX0_talk 49 = .ok (.iload_n 3, 1) := dk_29 (dk_at dksX0_talk_2 3 rfl rfl)
theorem dX0_talk_50 : decode cX0_talk 50 = .ok (.iaload, 1) := dk_46 (dk_at dksX0_talk_2 4 rfl rfl)
theorem dX0_talk_51 : decode cX0_talk 51 = .ok (.invokestatic 3, 3) := dk_184 0 3 (dk_at dksX0_talk_2 5 rfl rfl)
theorem dX0_talk_54 : decode cX0_talk 54 = .ok (.isub, 1) := dk_100 (dk_at dksX0_talk_2 8 rfl rfl)
theorem dX0_talk_55 : decode cX0_talk 55 = .ok (.invokestatic 178, 3) := dk_184 0 178 (dk_at dksX0_talk_2 9 rfl rfl)
theorem dX0_talk_58 : decode cX0_talk 58 = .ok (.istore 4, 2) := dk_54 4 (dk_at dksX0_talk_2 12 rfl rfl)
theorem dX0_talk_60 : decode cX0_talk 60 = .ok (.aload_n 0, 1) := dk_42 (dk_at dksX0_talk_2 14 rfl rfl)
theorem dX0_talk_61 : decode cX0_talk 61 = .ok (.getfield 38, 3) := dk_180 0 38 (dk_at dksX0_talk_2 15 rfl rfl)
theorem dX0_talk_64 : decode cX0_talk 64 = .ok (.getfield 175, 3) := dk_180 0 175 (dk_at dksX0_talk_2 18 rfl rfl)
theorem dX0_talk_67 : decode cX0_talk 67 = .ok (.iload_n 2, 1) := dk_28 (dk_at dksX0_talk_2 21 rfl rfl)
theorem dX0_talk_68 : decode cX0_talk 68 = .ok (.iaload, 1) := dk_46 (dk_at dksX0_talk_2 22 rfl rfl)
theorem dX0_talk_69 : decode cX0_talk 69 = .ok (.invokestatic 7, 3) := dk_184 0 7 (dk_at dksX0_talk_3 0 rfl rfl)
theorem dX0_talk_72 : decode cX0_talk 72 = .ok (.aload_n 0, 1) := dk_42 (dk_at dksX0_talk_3 3 rfl rfl)
theorem dX0_talk_73 : decode cX0_talk 73 = .ok (.getfield 38, 3) := dk_180 0 38 (dk_at dksX0_talk_3 4 rfl rfl)
theorem dX0_talk_76 : decode cX0_talk 76 = .ok (.getfield 175, 3) := dk_180 0 175 (dk_at dksX0_talk_3 7 rfl rfl)
theorem dX0_talk_79 : decode cX0_talk 79 = .ok (.iload_n 3, 1) := dk_29 (dk_at dksX0_talk_3 10 rfl rfl)
theorem dX0_talk_80 : decode cX0_talk 80 = .ok (.iaload, 1) := dk_46 (dk_at dksX0_talk_3 11 rfl rfl)
theorem dX0_talk_81 : decode cX0_talk 81 = .ok (.invokestatic 7, 3) := dk_184 0 7 (dk_at dksX0_talk_3 12 rfl rfl)
theorem dX0_talk_84 : decode cX0_talk 84 = .ok (.isub, 1) := dk_100 (dk_at dksX0_talk_3 15 rfl rfl)
theorem dX0_talk_85 : decode cX0_talk 85 = .ok (.invokestatic 178, 3) := dk_184 0 178 (dk_at dksX0_talk_3 16 rfl rfl)
theorem dX0_talk_88 : decode cX0_talk 88 = .ok (.istore 5, 2) := dk_54 5 (dk_at dksX0_talk_3 19 rfl rfl)
theorem dX0_talk_90 : decode cX0_talk 90 = .ok (.aload_n 0, 1) := dk_42 (dk_at dksX0_talk_3 21 rfl rfl)
theorem dX0_talk_91 : decode cX0_talk 91 = .ok (.getfield 38, 3) := dk_180 0 38 (dk_at dksX0_talk_4 0 rfl rfl)
theorem dX0_talk_94 : decode cX0_talk 94 = .ok (.getfield 152, 3) := dk_180 0 152 (dk_at dksX0_talk_4 3 rfl rfl)
theorem dX0_talk_97 : decode cX0_talk 97 = .ok (.iload_n 2, 1) := dk_28 (dk_at dksX0_talk_4 6 rfl rfl)
theorem dX0_talk_98 : decode cX0_talk 98 = .ok (.invokestatic 147, 3) := dk_184 0 147 (dk_at dksX0_talk_4 7 rfl rfl)
theorem dX0_talk_101 : decode cX0_talk 101 = .ok (.ifCond .ne 21, 3) := dk_154 0 21 (dk_at dksX0_talk_4 10 rfl rfl)
theorem dX0_talk_104 : decode cX0_talk 104 = .ok (.aload_n 0, 1) := dk_42 (dk_at dksX0_talk_4 13 rfl rfl)
theorem dX0_talk_105 : decode cX0_talk 105 = .ok (.getfield 38, 3) := dk_180 0 38 (dk_at dksX0_talk_4 14 rfl rfl)
theorem dX0_talk_108 : decode cX0_talk 108 = .ok (.getfield 152, 3) := dk_180 0 152 (dk_at dksX0_talk_4 17 rfl rfl)
theorem dX0_talk_111 : decode cX0_talk 111 = .ok (.iload_n 3, 1) := dk_29 (dk_at dksX0_talk_4 20 rfl rfl)
theorem dX0_talk_112 : decode cX0_talk 112 = .ok (.invokestatic 147, 3) := dk_184 0 147 (dk_at dksX0_talk_4 21 rfl rfl)
theorem dX0_talk_115 : decode cX0_talk 115 = .ok (.ifCond .ne 7, 3) := dk_154 0 7 (dk_at dksX0_talk_5 0 rfl rfl)
theorem dX0_talk_118 : decode cX0_talk 118 = .ok (.iconst 1, 1) := dk_4 (dk_at dksX0_talk_5 3 rfl rfl)
theorem dX0_talk_119 : decode cX0_talk 119 = .ok (.goto 4, 3) := dk_167 0 4 (dk_at dksX0_talk_5 4 rfl rfl)
theorem dX0_talk_122 : decode cX0_talk 122 = .ok (.iconst 0, 1) := dk_3 (dk_at dksX0_talk_5 7 rfl rfl)
theorem dX0_talk_123 : decode cX0_talk 123 = .ok (.istore 6, 2) := dk_54 6 (dk_at dksX0_talk_5 8 rfl rfl)
theorem dX0_talk_125 : decode cX0_talk 125 = .ok (.iload_n 1, 1) := dk_27 (dk_at dksX0_talk_5 10 rfl rfl)
theorem dX0_talk_126 : decode cX0_talk 126 = .ok (.iload 6, 2) := dk_21 6 (dk_at dksX0_talk_5 11 rfl rfl)
theorem dX0_talk_128 : decode cX0_talk 128 = .ok (.ifCond .eq 19, 3) := dk_153 0 19 (dk_at dksX0_talk_5 13 rfl rfl)
theorem dX0_talk_131 : decode cX0_talk 131 = .ok (.iload 4, 2) := dk_21 4 (dk_at dksX0_talk_5 16 rfl rfl)
theorem dX0_talk_133 : decode cX0_talk 133 = .ok (.iconst 1, 1) := dk_4 (dk_at dksX0_talk_5 18 rfl rfl)
theorem dX0_talk_134 : decode cX0_talk 134 = .ok (.if_icmp .ne 13, 3) := dk_160 0 13 (dk_at dksX0_talk_5 19 rfl rfl)
theorem dX0_talk_137 : decode cX0_talk 137 = .ok (.iload 5, 2) := dk_21 5 (dk_at dksX0_talk_5 22 rfl rfl)
theorem dX0_talk_139 : decode cX0_talk 139 = .ok (.iconst 1, 1) := dk_4 (dk_at dksX0_talk_6 0 rfl rfl)
theorem dX0_talk_140 : decode cX0_talk 140 = .ok (.if_icmp .ne 7, 3) := dk_160 0 7 (dk_at dksX0_talk_6 1 rfl rfl)
theorem dX0_talk_143 : decode cX0_talk 143 = .ok (.iconst 1, 1) := dk_4 (dk_at dksX0_talk_6 4 rfl rfl)
theorem dX0_talk_144 : decode cX0_talk 144 = .ok (.goto 4, 3) := dk_167 0 4 (dk_at dksX0_talk_6 5 rfl rfl)
theorem dX0_talk_147 : decode cX0_talk 147 = .ok (.iconst 0, 1) := dk_3 (dk_at dksX0_talk_6 8 rfl rfl)
theorem dX0_talk_148 : decode cX0_talk 148 = .ok (.iadd, 1) := dk_96 (dk_at dksX0_talk_6 9 rfl rfl)
theorem dX0_talk_149 : decode cX0_talk 149 = .ok (.istore_n 1, 1) := dk_60 (dk_at dksX0_talk_6 10 rfl rfl)
theorem dX0_talk_150 : decode cX0_talk 150 = .ok (.iinc 3 1, 3) := dk_132 3 1 (dk_at dksX0_talk_6 11 rfl rfl)
theorem dX0_talk_153 : decode cX0_talk 153 = .ok (.goto (-134), 3) := dk_167 255 122 (dk_at dksX0_talk_6 14 rfl rfl)
theorem dX0_talk_156 : decode cX0_talk 156 = .ok (.iinc 2 1, 3) := dk_132 2 1 (dk_at dksX0_talk_6 17 rfl rfl)
theorem dX0_talk_159 : decode cX0_talk 159 = .ok (.goto (-155), 3) := dk_167 255 101 (dk_at dksX0_talk_6 20 rfl rfl)
theorem dX0_talk_162 : decode cX0_talk 162 = .ok (.iload_n 1, 1) := dk_27 (dk_at dksX0_talk_6 23 rfl rfl)
theorem dX0_talk_163 : decode cX0_talk 163 = .ok (.ireturn, 1) := dk_172 (dk_at dksX0_talk_7 0 rfl rfl)
abbrev cX0_skittle : ByteArray := prog_1_method_23_code
def yX0_skittle : MethodName := ⟨RX0, "skittle", "(II)I"⟩
def dkwX0_skittle_5 : List UInt8 := [42, 27, 182, 0, 212, 172, 42, 180, 0, 38, 27, 182, 0, 215, 172, 18, 87, 172]
abbrev dktX0_skittle_5 : List UInt8 := dkwX0_skittle_5 ++ []
def dkwX0_skittle_4 : List UInt8 := [122, 4, 126, 172, 42, 180, 0, 38, 180, 0, 209, 27, 46, 172, 42, 180, 0, 38, 180, 0, 193, 27, 46, 172]
abbrev dktX0_skittle_4 : List UInt8 := dkwX0_skittle_4 ++ dktX0_skittle_5
def dkwX0_skittle_3 : List UInt8 := [180, 0, 206, 27, 46, 172, 42, 180, 0, 38, 180, 0, 175, 27, 46, 172, 42, 180, 0, 38, 180, 0, 152, 27]
abbrev dktX0_skittle_3 : List UInt8 := dkwX0_skittle_3 ++ dktX0_skittle_4
def dkwX0_skittle_2 : List UInt8 := [42, 180, 0, 38, 180, 0, 200, 27, 46, 172, 42, 180, 0, 29, 180, 0, 203, 27, 46, 172, 42, 180, 0, 38]
abbrev dktX0_skittle_2 : List UInt8 := dkwX0_skittle_2 ++ dktX0_skittle_3
def dkwX0_skittle_1 : List UInt8 := [170, 0, 0, 0, 0, 0, 0, 139, 0, 0, 0, 0, 0, 0, 0, 8, 0, 0, 0, 52, 0, 0, 0, 62, 0, 0, 0, 72, 0, 0, 0, 82, 0, 0, 0, 92, 0, 0, 0, 104, 0, 0, 0, 114, 0, 0, 0, 124, 0, 0, 0, 130]
abbrev dktX0_skittle_1 : List UInt8 := dkwX0_skittle_1 ++ dktX0_skittle_2
def dkwX0_skittle_0 : List UInt8 := [42, 27, 182, 0, 196, 154, 0, 6, 18, 199, 172, 28]
abbrev dktX0_skittle_0 : List UInt8 := dkwX0_skittle_0 ++ dktX0_skittle_1
theorem dksX0_skittle_0 : cX0_skittle.data.toList.drop 0 = dktX0_skittle_0 := by decide +kernel
theorem dksX0_skittle_1 : cX0_skittle.data.toList.drop 12 = dktX0_skittle_1 := dk_seg dksX0_skittle_0 12 rfl rfl
theorem dksX0_skittle_2 : cX0_skittle.data.toList.drop 64 = dktX0_skittle_2 := dk_seg dksX0_skittle_1 52 rfl rfl
theorem dksX0_skittle_3 : cX0_skittle.data.toList.drop 88 = dktX0_skittle_3 := dk_seg dksX0_skittle_2 24 rfl rfl
theorem dksX0_skittle_4 : cX0_skittle.data.toList.drop 112 = dktX0_skittle_4 := dk_seg dksX0_skittle_3 24 rfl rfl
theorem dksX0_skittle_5 : cX0_skittle.data.toList.drop 136 = dktX0_skittle_5 := dk_seg dksX0_skittle_4 24 rfl rfl
theorem dX0_skittle_0 : decode cX0_skittle 0 = .ok (.aload_n 0, 1) := dk_42 (dk_at dksX0_skittle_0 0 rfl rfl)
theorem dX0_skittle_1 : decode cX0_skittle 1 = .ok (.iload_n 1, 1) := dk_27 (dk_at dksX0_skittle_0 1 rfl rfl)
theorem dX0_skittle_2 : decode cX0_skittle 2 = .ok (.invokevirtual 196, 3) := dk_182 0 196 (dk_at dksX0_skittle_0 2 rfl rfl)
theorem dX0_skittle_5 : decode cX0_skittle 5 = .ok (.ifCond .ne 6, 3) := dk_154 0 6 (dk_at dksX0_skittle_0 5 rfl rfl)
theorem dX0_skittle_8 : decode cX0_skittle 8 = .ok (.ldc 199, 2) := dk_18 199 (dk_at dksX0_skittle_0 8 rfl rfl)
theorem dX0_skittle_10 : decode cX0_skittle 10 = .ok (.ireturn, 1) := dk_172 (dk_at dksX0_skittle_0 10 rfl rfl)
theorem dX0_skittle_11 : decode cX0_skittle 11 = .ok (.iload_n 2, 1) := dk_28 (dk_at dksX0_skittle_0 11 rfl rfl)
theorem dX0_skittle_12 : decode cX0_skittle 12 = .ok (.tableswitch 139 0 8 #[52, 62, 72, 82, 92, 104, 114, 124, 130], 52) := by decide +kernel
theorem dX0_skittle_64 : decode cX0_skittle 64 = .ok (.aload_n 0, 1) := dk_42 (dk_at dksX0_skittle_2 0 rfl rfl)
theorem dX0_skittle_65 : decode cX0_skittle 65 = .ok (.getfield 38, 3) := dk_180 0 38 (dk_at dksX0_skittle_2 1 rfl rfl)
theorem dX0_skittle_68 : decode cX0_skittle 68 = .ok (.getfield 200, 3) := dk_180 0 200 (dk_at dksX0_skittle_2 4 rfl rfl)
theorem dX0_skittle_71 : decode cX0_skittle 71 = .ok (.iload_n 1, 1) := dk_27 (dk_at dksX0_skittle_2 7 rfl rfl)
theorem dX0_skittle_72 : decode cX0_skittle 72 = .ok (.iaload, 1) := dk_46 (dk_at dksX0_skittle_2 8 rfl rfl)
theorem dX0_skittle_73 : decode cX0_skittle 73 = .ok (.ireturn, 1) := dk_172 (dk_at dksX0_skittle_2 9 rfl rfl)
theorem dX0_skittle_74 : decode cX0_skittle 74 = .ok (.aload_n 0, 1) := dk_42 (dk_at dksX0_skittle_2 10 rfl rfl)
theorem dX0_skittle_75 : decode cX0_skittle 75 = .ok (.getfield 29, 3) := dk_180 0 29 (dk_at dksX0_skittle_2 11 rfl rfl)
theorem dX0_skittle_78 : decode cX0_skittle 78 = .ok (.getfield 203, 3) := dk_180 0 203 (dk_at dksX0_skittle_2 14 rfl rfl)
theorem dX0_skittle_81 : decode cX0_skittle 81 = .ok (.iload_n 1, 1) := dk_27 (dk_at dksX0_skittle_2 17 rfl rfl)
theorem dX0_skittle_82 : decode cX0_skittle 82 = .ok (.iaload, 1) := dk_46 (dk_at dksX0_skittle_2 18 rfl rfl)
theorem dX0_skittle_83 : decode cX0_skittle 83 = .ok (.ireturn, 1) := dk_172 (dk_at dksX0_skittle_2 19 rfl rfl)
theorem dX0_skittle_84 : decode cX0_skittle 84 = .ok (.aload_n 0, 1) := dk_42 (dk_at dksX0_skittle_2 20 rfl rfl)
theorem dX0_skittle_85 : decode cX0_skittle 85 = .ok (.getfield 38, 3) := dk_180 0 38 (dk_at dksX0_skittle_2 21 rfl rfl)
theorem dX0_skittle_88 : decode cX0_skittle 88 = .ok (.getfield 206, 3) := dk_180 0 206 (dk_at dksX0_skittle_3 0 rfl rfl)
theorem dX0_skittle_91 : decode cX0_skittle 91 = .ok (.iload_n 1, 1) := dk_27 (dk_at dksX0_skittle_3 3 rfl rfl)
theorem dX0_skittle_92 : decode cX0_skittle 92 = .ok (.iaload, 1) := dk_46 (dk_at dksX0_skittle_3 4 rfl rfl)
theorem dX0_skittle_93 : decode cX0_skittle 93 = .ok (.ireturn, 1) := dk_172 (dk_at dksX0_skittle_3 5 rfl rfl)
theorem dX0_skittle_94 : decode cX0_skittle 94 = .ok (.aload_n 0, 1) := dk_42 (dk_at dksX0_skittle_3 6 rfl rfl)
theorem dX0_skittle_95 : decode cX0_skittle 95 = .ok (.getfield 38, 3) := dk_180 0 38 (dk_at dksX0_skittle_3 7 rfl rfl)
theorem dX0_skittle_98 : decode cX0_skittle 98 = .ok (.getfield 175, 3) := dk_180 0 175 (dk_at dksX0_skittle_3 10 rfl rfl)
theorem dX0_skittle_101 : decode cX0_skittle 101 = .ok (.iload_n 1, 1) := dk_27 (dk_at dksX0_skittle_3 13 rfl rfl)
theorem dX0_skittle_102 : decode cX0_skittle 102 = .ok (.iaload, 1) := dk_46 (dk_at dksX0_skittle_3 14 rfl rfl)
theorem dX0_skittle_103 : decode cX0_skittle 103 = .ok (.ireturn, 1) := dk_172 (dk_at dksX0_skittle_3 15 rfl rfl)
theorem dX0_skittle_104 : decode cX0_skittle 104 = .ok (.aload_n 0, 1) := dk_42 (dk_at dksX0_skittle_3 16 rfl rfl)
theorem dX0_skittle_105 : decode cX0_skittle 105 = .ok (.getfield 38, 3) := dk_180 0 38 (dk_at dksX0_skittle_3 17 rfl rfl)
theorem dX0_skittle_108 : decode cX0_skittle 108 = .ok (.getfield 152, 3) := dk_180 0 152 (dk_at dksX0_skittle_3 20 rfl rfl)
theorem dX0_skittle_111 : decode cX0_skittle 111 = .ok (.iload_n 1, 1) := dk_27 (dk_at dksX0_skittle_3 23 rfl rfl)
theorem dX0_skittle_112 : decode cX0_skittle 112 = .ok (.ishr, 1) := dk_122 (dk_at dksX0_skittle_4 0 rfl rfl)
theorem dX0_skittle_113 : decode cX0_skittle 113 = .ok (.iconst 1, 1) := dk_4 (dk_at dksX0_skittle_4 1 rfl rfl)
theorem dX0_skittle_114 : decode cX0_skittle 114 = .ok (.iand, 1) := dk_126 (dk_at dksX0_skittle_4 2 rfl rfl)
theorem dX0_skittle_115 : decode cX0_skittle 115 = .ok (.ireturn, 1) := dk_172 (dk_at dksX0_skittle_4 3 rfl rfl)
theorem dX0_skittle_116 : decode cX0_skittle 116 = .ok (.aload_n 0, 1) := dk_42 (dk_at dksX0_skittle_4 4 rfl rfl)
theorem dX0_skittle_117 : decode cX0_skittle 117 = .ok (.getfield 38, 3) := dk_180 0 38 (dk_at dksX0_skittle_4 5 rfl rfl)
theorem dX0_skittle_120 : decode cX0_skittle 120 = .ok (.getfield 209, 3) := dk_180 0 209 (dk_at dksX0_skittle_4 8 rfl rfl)
theorem dX0_skittle_123 : decode cX0_skittle 123 = .ok (.iload_n 1, 1) := dk_27 (dk_at dksX0_skittle_4 11 rfl rfl)
theorem dX0_skittle_124 : decode cX0_skittle 124 = .ok (.iaload, 1) := dk_46 (dk_at dksX0_skittle_4 12 rfl rfl)
theorem dX0_skittle_125 : decode cX0_skittle 125 = .ok (.ireturn, 1) := dk_172 (dk_at dksX0_skittle_4 13 rfl rfl)
theorem dX0_skittle_126 : decode cX0_skittle 126 = .ok (.aload_n 0, 1) := dk_42 (dk_at dksX0_skittle_4 14 rfl rfl)
theorem dX0_skittle_127 : decode cX0_skittle 127 = .ok (.getfield 38, 3) := dk_180 0 38 (dk_at dksX0_skittle_4 15 rfl rfl)
theorem dX0_skittle_130 : decode cX0_skittle 130 = .ok (.getfield 193, 3) := dk_180 0 193 (dk_at dksX0_skittle_4 18 rfl rfl)
theorem dX0_skittle_133 : decode cX0_skittle 133 = .ok (.iload_n 1, 1) := dk_27 (dk_at dksX0_skittle_4 21 rfl rfl)
theorem dX0_skittle_134 : decode cX0_skittle 134 = .ok (.iaload, 1) := dk_46 (dk_at dksX0_skittle_4 22 rfl rfl)
theorem dX0_skittle_135 : decode cX0_skittle 135 = .ok (.ireturn, 1) := dk_172 (dk_at dksX0_skittle_4 23 rfl rfl)
theorem dX0_skittle_136 : decode cX0_skittle 136 = .ok (.aload_n 0, 1) := dk_42 (dk_at dksX0_skittle_5 0 rfl rfl)
theorem dX0_skittle_137 : decode cX0_skittle 137 = .ok (.iload_n 1, 1) := dk_27 (dk_at dksX0_skittle_5 1 rfl rfl)
theorem dX0_skittle_138 : decode cX0_skittle 138 = .ok (.invokevirtual 212, 3) := dk_182 0 212 (dk_at dksX0_skittle_5 2 rfl rfl)
theorem dX0_skittle_141 : decode cX0_skittle 141 = .ok (.ireturn, 1) := dk_172 (dk_at dksX0_skittle_5 5 rfl rfl)
theorem dX0_skittle_142 : decode cX0_skittle 142 = .ok (.aload_n 0, 1) := dk_42 (dk_at dksX0_skittle_5 6 rfl rfl)
theorem dX0_skittle_143 : decode cX0_skittle 143 = .ok (.getfield 38, 3) := dk_180 0 38 (dk_at dksX0_skittle_5 7 rfl rfl)
theorem dX0_skittle_146 : decode cX0_skittle 146 = .ok (.iload_n 1, 1) := dk_27 (dk_at dksX0_skittle_5 10 rfl rfl)
theorem dX0_skittle_147 : decode cX0_skittle 147 = .ok (.invokevirtual 215, 3) := dk_182 0 215 (dk_at dksX0_skittle_5 11 rfl rfl)
theorem dX0_skittle_150 : decode cX0_skittle 150 = .ok (.ireturn, 1) := dk_172 (dk_at dksX0_skittle_5 14 rfl rfl)
theorem dX0_skittle_151 : decode cX0_skittle 151 = .ok (.ldc 87, 2) := dk_18 87 (dk_at dksX0_skittle_5 15 rfl rfl)
theorem dX0_skittle_153 : decode cX0_skittle 153 = .ok (.ireturn, 1) := dk_172 (dk_at dksX0_skittle_5 17 rfl rfl)
abbrev cX0_isSkittle : ByteArray := prog_1_method_12_code
def yX0_isSkittle : MethodName := ⟨RX0, "isSkittle", "(I)Z"⟩
def dkwX0_isSkittle_0 : List UInt8 := [27, 3, 42, 180, 0, 29, 180, 0, 119, 4, 100, 184, 0, 10, 172]
abbrev dktX0_isSkittle_0 : List UInt8 := dkwX0_isSkittle_0 ++ []
theorem dksX0_isSkittle_0 : cX0_isSkittle.data.toList.drop 0 = dktX0_isSkittle_0 := by decide +kernel
theorem dX0_isSkittle_0 : decode cX0_isSkittle 0 = .ok (.iload_n 1, 1) := dk_27 (dk_at dksX0_isSkittle_0 0 rfl rfl)
theorem dX0_isSkittle_1 : decode cX0_isSkittle 1 = .ok (.iconst 0, 1) := dk_3 (dk_at dksX0_isSkittle_0 1 rfl rfl)
theorem dX0_isSkittle_2 : decode cX0_isSkittle 2 = .ok (.aload_n 0, 1) := dk_42 (dk_at dksX0_isSkittle_0 2 rfl rfl)
theorem dX0_isSkittle_3 : decode cX0_isSkittle 3 = .ok (.getfield 29, 3) := dk_180 0 29 (dk_at dksX0_isSkittle_0 3 rfl rfl)
theorem dX0_isSkittle_6 : decode cX0_isSkittle 6 = .ok (.getfield 119, 3) := dk_180 0 119 (dk_at dksX0_isSkittle_0 6 rfl rfl)
theorem dX0_isSkittle_9 : decode cX0_isSkittle 9 = .ok (.iconst 1, 1) := dk_4 (dk_at dksX0_isSkittle_0 9 rfl rfl)
theorem dX0_isSkittle_10 : decode cX0_isSkittle 10 = .ok (.isub, 1) := dk_100 (dk_at dksX0_isSkittle_0 10 rfl rfl)
theorem dX0_isSkittle_11 : decode cX0_isSkittle 11 = .ok (.invokestatic 10, 3) := dk_184 0 10 (dk_at dksX0_isSkittle_0 11 rfl rfl)
theorem dX0_isSkittle_14 : decode cX0_isSkittle 14 = .ok (.ireturn, 1) := dk_172 (dk_at dksX0_isSkittle_0 14 rfl rfl)
abbrev cX0_firstOf : ByteArray := prog_1_method_22_code
def yX0_firstOf : MethodName := ⟨RX0, "firstOf", "(I)I"⟩
def dkwX0_firstOf_1 : List UInt8 := [180, 0, 38, 180, 0, 193, 28, 46, 61, 132, 3, 1, 167, 255, 224, 28, 172]
abbrev dktX0_firstOf_1 : List UInt8 := dkwX0_firstOf_1 ++ []
def dkwX0_firstOf_0 : List UInt8 := [27, 61, 3, 62, 29, 16, 9, 162, 0, 32, 42, 180, 0, 38, 180, 0, 193, 28, 46, 2, 159, 0, 19, 42]
abbrev dktX0_firstOf_0 : List UInt8 := dkwX0_firstOf_0 ++ dktX0_firstOf_1
theorem dksX0_firstOf_0 : cX0_firstOf.data.toList.drop 0 = dktX0_firstOf_0 := by decide +kernel
theorem dksX0_firstOf_1 : cX0_firstOf.data.toList.drop 24 = dktX0_firstOf_1 := dk_seg dksX0_firstOf_0 24 rfl rfl
theorem dX0_firstOf_0 : decode cX0_firstOf 0 = .ok (.iload_n 1, 1) := dk_27 (dk_at dksX0_firstOf_0 0 rfl rfl)
theorem dX0_firstOf_1 : decode cX0_firstOf 1 = .ok (.istore_n 2, 1) := dk_61 (dk_at dksX0_firstOf_0 1 rfl rfl)
theorem dX0_firstOf_2 : decode cX0_firstOf 2 = .ok (.iconst 0, 1) := dk_3 (dk_at dksX0_firstOf_0 2 rfl rfl)
theorem dX0_firstOf_3 : decode cX0_firstOf 3 = .ok (.istore_n 3, 1) := dk_62 (dk_at dksX0_firstOf_0 3 rfl rfl)
theorem dX0_firstOf_4 : decode cX0_firstOf 4 = .ok (.iload_n 3, 1) := dk_29 (dk_at dksX0_firstOf_0 4 rfl rfl)
theorem dX0_firstOf_5 : decode cX0_firstOf 5 = .ok (.bipush 9, 2) := dk_16 9 (dk_at dksX0_firstOf_0 5 rfl rfl)
theorem dX0_firstOf_7 : decode cX0_firstOf 7 = .ok (.if_icmp .ge 32, 3) := dk_162 0 32 (dk_at dksX0_firstOf_0 7 rfl rfl)
theorem dX0_firstOf_10 : decode cX0_firstOf 10 = .ok (.aload_n 0, 1) := dk_42 (dk_at dksX0_firstOf_0 10 rfl rfl)
theorem dX0_firstOf_11 : decode cX0_firstOf 11 = .ok (.getfield 38, 3) := dk_180 0 38 (dk_at dksX0_firstOf_0 11 rfl rfl)
theorem dX0_firstOf_14 : decode cX0_firstOf 14 = .ok (.getfield 193, 3) := dk_180 0 193 (dk_at dksX0_firstOf_0 14 rfl rfl)
theorem dX0_firstOf_17 : decode cX0_firstOf 17 = .ok (.iload_n 2, 1) := dk_28 (dk_at dksX0_firstOf_0 17 rfl rfl)
theorem dX0_firstOf_18 : decode cX0_firstOf 18 = .ok (.iaload, 1) := dk_46 (dk_at dksX0_firstOf_0 18 rfl rfl)
theorem dX0_firstOf_19 : decode cX0_firstOf 19 = .ok (.iconst (-1), 1) := dk_2 (dk_at dksX0_firstOf_0 19 rfl rfl)
theorem dX0_firstOf_20 : decode cX0_firstOf 20 = .ok (.if_icmp .eq 19, 3) := dk_159 0 19 (dk_at dksX0_firstOf_0 20 rfl rfl)
theorem dX0_firstOf_23 : decode cX0_firstOf 23 = .ok (.aload_n 0, 1) := dk_42 (dk_at dksX0_firstOf_0 23 rfl rfl)
theorem dX0_firstOf_24 : decode cX0_firstOf 24 = .ok (.getfield 38, 3) := dk_180 0 38 (dk_at dksX0_firstOf_1 0 rfl rfl)
theorem dX0_firstOf_27 : decode cX0_firstOf 27 = .ok (.getfield 193, 3) := dk_180 0 193 (dk_at dksX0_firstOf_1 3 rfl rfl)
theorem dX0_firstOf_30 : decode cX0_firstOf 30 = .ok (.iload_n 2, 1) := dk_28 (dk_at dksX0_firstOf_1 6 rfl rfl)
theorem dX0_firstOf_31 : decode cX0_firstOf 31 = .ok (.iaload, 1) := dk_46 (dk_at dksX0_firstOf_1 7 rfl rfl)
theorem dX0_firstOf_32 : decode cX0_firstOf 32 = .ok (.istore_n 2, 1) := dk_61 (dk_at dksX0_firstOf_1 8 rfl rfl)
theorem dX0_firstOf_33 : decode cX0_firstOf 33 = .ok (.iinc 3 1, 3) := dk_132 3 1 (dk_at dksX0_firstOf_1 9 rfl rfl)
theorem dX0_firstOf_36 : decode cX0_firstOf 36 = .ok (.goto (-32), 3) := dk_167 255 224 (dk_at dksX0_firstOf_1 12 rfl rfl)
theorem dX0_firstOf_39 : decode cX0_firstOf 39 = .ok (.iload_n 2, 1) := dk_28 (dk_at dksX0_firstOf_1 15 rfl rfl)
theorem dX0_firstOf_40 : decode cX0_firstOf 40 = .ok (.ireturn, 1) := dk_172 (dk_at dksX0_firstOf_1 16 rfl rfl)
abbrev cX0_plate : ByteArray := prog_1_method_25_code
def yX0_plate : MethodName := ⟨RX0, "plate", "(I)I"⟩
def dkwX0_plate_0 : List UInt8 := [27, 184, 0, 218, 153, 0, 14, 42, 180, 0, 38, 27, 182, 0, 221, 167, 0, 5, 18, 199, 172]
abbrev dktX0_plate_0 : List UInt8 := dkwX0_plate_0 ++ []
theorem dksX0_plate_0 : cX0_plate.data.toList.drop 0 = dktX0_plate_0 := by decide +kernel
theorem dX0_plate_0 : decode cX0_plate 0 = .ok (.iload_n 1, 1) := dk_27 (dk_at dksX0_plate_0 0 rfl rfl)
theorem dX0_plate_1 : decode cX0_plate 1 = .ok (.invokestatic 218, 3) := dk_184 0 218 (dk_at dksX0_plate_0 1 rfl rfl)
theorem dX0_plate_4 : decode cX0_plate 4 = .ok (.ifCond .eq 14, 3) := dk_153 0 14 (dk_at dksX0_plate_0 4 rfl rfl)
theorem dX0_plate_7 : decode cX0_plate 7 = .ok (.aload_n 0, 1) := dk_42 (dk_at dksX0_plate_0 7 rfl rfl)
theorem dX0_plate_8 : decode cX0_plate 8 = .ok (.getfield 38, 3) := dk_180 0 38 (dk_at dksX0_plate_0 8 rfl rfl)
theorem dX0_plate_11 : decode cX0_plate 11 = .ok (.iload_n 1, 1) := dk_27 (dk_at dksX0_plate_0 11 rfl rfl)
theorem dX0_plate_12 : decode cX0_plate 12 = .ok (.invokevirtual 221, 3) := dk_182 0 221 (dk_at dksX0_plate_0 12 rfl rfl)
theorem dX0_plate_15 : decode cX0_plate 15 = .ok (.goto 5, 3) := dk_167 0 5 (dk_at dksX0_plate_0 15 rfl rfl)
theorem dX0_plate_18 : decode cX0_plate 18 = .ok (.ldc 199, 2) := dk_18 199 (dk_at dksX0_plate_0 18 rfl rfl)
theorem dX0_plate_20 : decode cX0_plate 20 = .ok (.ireturn, 1) := dk_172 (dk_at dksX0_plate_0 20 rfl rfl)
abbrev cX0_isPlate : ByteArray := prog_1_method_24_code
def yX0_isPlate : MethodName := ⟨RX0, "isPlate", "(I)Z"⟩
def dkwX0_isPlate_0 : List UInt8 := [26, 3, 16, 8, 184, 0, 10, 172]
abbrev dktX0_isPlate_0 : List UInt8 := dkwX0_isPlate_0 ++ []
theorem dksX0_isPlate_0 : cX0_isPlate.data.toList.drop 0 = dktX0_isPlate_0 := by decide +kernel
theorem dX0_isPlate_0 : decode cX0_isPlate 0 = .ok (.iload_n 0, 1) := dk_26 (dk_at dksX0_isPlate_0 0 rfl rfl)
theorem dX0_isPlate_1 : decode cX0_isPlate 1 = .ok (.iconst 0, 1) := dk_3 (dk_at dksX0_isPlate_0 1 rfl rfl)
theorem dX0_isPlate_2 : decode cX0_isPlate 2 = .ok (.bipush 8, 2) := dk_16 8 (dk_at dksX0_isPlate_0 2 rfl rfl)
theorem dX0_isPlate_4 : decode cX0_isPlate 4 = .ok (.invokestatic 10, 3) := dk_184 0 10 (dk_at dksX0_isPlate_0 4 rfl rfl)
theorem dX0_isPlate_7 : decode cX0_isPlate 7 = .ok (.ireturn, 1) := dk_172 (dk_at dksX0_isPlate_0 7 rfl rfl)
abbrev cX0_ball : ByteArray := prog_1_method_28_code
def yX0_ball : MethodName := ⟨RX0, "ball", "(III)I"⟩
def dkwX0_ball_1 : List UInt8 := [180, 0, 38, 27, 28, 29, 182, 0, 232, 172]
abbrev dktX0_ball_1 : List UInt8 := dkwX0_ball_1 ++ []
def dkwX0_ball_0 : List UInt8 := [42, 27, 28, 29, 182, 0, 225, 156, 0, 11, 42, 27, 28, 29, 182, 0, 225, 172, 42, 182, 0, 229, 42]
abbrev dktX0_ball_0 : List UInt8 := dkwX0_ball_0 ++ dktX0_ball_1
theorem dksX0_ball_0 : cX0_ball.data.toList.drop 0 = dktX0_ball_0 := by decide +kernel
theorem dksX0_ball_1 : cX0_ball.data.toList.drop 23 = dktX0_ball_1 := dk_seg dksX0_ball_0 23 rfl rfl
theorem dX0_ball_0 : decode cX0_ball 0 = .ok (.aload_n 0, 1) := dk_42 (dk_at dksX0_ball_0 0 rfl rfl)
theorem dX0_ball_1 : decode cX0_ball 1 = .ok (.iload_n 1, 1) := dk_27 (dk_at dksX0_ball_0 1 rfl rfl)
theorem dX0_ball_2 : decode cX0_ball 2 = .ok (.iload_n 2, 1) := dk_28 (dk_at dksX0_ball_0 2 rfl rfl)
theorem dX0_ball_3 : decode cX0_ball 3 = .ok (.iload_n 3, 1) := dk_29 (dk_at dksX0_ball_0 3 rfl rfl)
theorem dX0_ball_4 : decode cX0_ball 4 = .ok (.invokevirtual 225, 3) := dk_182 0 225 (dk_at dksX0_ball_0 4 rfl rfl)
theorem dX0_ball_7 : decode cX0_ball 7 = .ok (.ifCond .ge 11, 3) := dk_156 0 11 (dk_at dksX0_ball_0 7 rfl rfl)
theorem dX0_ball_10 : decode cX0_ball 10 = .ok (.aload_n 0, 1) := dk_42 (dk_at dksX0_ball_0 10 rfl rfl)
theorem dX0_ball_11 : decode cX0_ball 11 = .ok (.iload_n 1, 1) := dk_27 (dk_at dksX0_ball_0 11 rfl rfl)
theorem dX0_ball_12 : decode cX0_ball 12 = .ok (.iload_n 2, 1) := dk_28 (dk_at dksX0_ball_0 12 rfl rfl)
theorem dX0_ball_13 : decode cX0_ball 13 = .ok (.iload_n 3, 1) := dk_29 (dk_at dksX0_ball_0 13 rfl rfl)
theorem dX0_ball_14 : decode cX0_ball 14 = .ok (.invokevirtual 225, 3) := dk_182 0 225 (dk_at dksX0_ball_0 14 rfl rfl)
theorem dX0_ball_17 : decode cX0_ball 17 = .ok (.ireturn, 1) := dk_172 (dk_at dksX0_ball_0 17 rfl rfl)
theorem dX0_ball_18 : decode cX0_ball 18 = .ok (.aload_n 0, 1) := dk_42 (dk_at dksX0_ball_0 18 rfl rfl)
theorem dX0_ball_19 : decode cX0_ball 19 = .ok (.invokevirtual 229, 3) := dk_182 0 229 (dk_at dksX0_ball_0 19 rfl rfl)
theorem dX0_ball_22 : decode cX0_ball 22 = .ok (.aload_n 0, 1) := dk_42 (dk_at dksX0_ball_0 22 rfl rfl)
theorem dX0_ball_23 : decode cX0_ball 23 = .ok (.getfield 38, 3) := dk_180 0 38 (dk_at dksX0_ball_1 0 rfl rfl)
theorem dX0_ball_26 : decode cX0_ball 26 = .ok (.iload_n 1, 1) := dk_27 (dk_at dksX0_ball_1 3 rfl rfl)
theorem dX0_ball_27 : decode cX0_ball 27 = .ok (.iload_n 2, 1) := dk_28 (dk_at dksX0_ball_1 4 rfl rfl)
theorem dX0_ball_28 : decode cX0_ball 28 = .ok (.iload_n 3, 1) := dk_29 (dk_at dksX0_ball_1 5 rfl rfl)
theorem dX0_ball_29 : decode cX0_ball 29 = .ok (.invokevirtual 232, 3) := dk_182 0 232 (dk_at dksX0_ball_1 6 rfl rfl)
theorem dX0_ball_32 : decode cX0_ball 32 = .ok (.ireturn, 1) := dk_172 (dk_at dksX0_ball_1 9 rfl rfl)
abbrev cX0_refusedBall : ByteArray := prog_1_method_27_code
def yX0_refusedBall : MethodName := ⟨RX0, "refusedBall", "(III)I"⟩
def dkwX0_refusedBall_2 : List UInt8 := [182, 0, 164, 154, 0, 8, 18, 224, 167, 0, 4, 3, 172]
abbrev dktX0_refusedBall_2 : List UInt8 := dkwX0_refusedBall_2 ++ []
def dkwX0_refusedBall_1 : List UInt8 := [184, 0, 10, 153, 0, 7, 4, 167, 0, 4, 3, 54, 4, 21, 4, 154, 0, 8, 18, 87, 167, 0, 16, 42]
abbrev dktX0_refusedBall_1 : List UInt8 := dkwX0_refusedBall_1 ++ dktX0_refusedBall_2
def dkwX0_refusedBall_0 : List UInt8 := [27, 3, 7, 184, 0, 10, 153, 0, 26, 28, 3, 5, 184, 0, 10, 153, 0, 17, 29, 4, 16, 40]
abbrev dktX0_refusedBall_0 : List UInt8 := dkwX0_refusedBall_0 ++ dktX0_refusedBall_1
theorem dksX0_refusedBall_0 : cX0_refusedBall.data.toList.drop 0 = dktX0_refusedBall_0 := by decide +kernel
theorem dksX0_refusedBall_1 : cX0_refusedBall.data.toList.drop 22 = dktX0_refusedBall_1 := dk_seg dksX0_refusedBall_0 22 rfl rfl
theorem dksX0_refusedBall_2 : cX0_refusedBall.data.toList.drop 46 = dktX0_refusedBall_2 := dk_seg dksX0_refusedBall_1 24 rfl rfl
theorem dX0_refusedBall_0 : decode cX0_refusedBall 0 = .ok (.iload_n 1, 1) := dk_27 (dk_at dksX0_refusedBall_0 0 rfl rfl)
theorem dX0_refusedBall_1 : decode cX0_refusedBall 1 = .ok (.iconst 0, 1) := dk_3 (dk_at dksX0_refusedBall_0 1 rfl rfl)
theorem dX0_refusedBall_2 : decode cX0_refusedBall 2 = .ok (.iconst 4, 1) := dk_7 (dk_at dksX0_refusedBall_0 2 rfl rfl)
theorem dX0_refusedBall_3 : decode cX0_refusedBall 3 = .ok (.invokestatic 10, 3) := dk_184 0 10 (dk_at dksX0_refusedBall_0 3 rfl rfl)
theorem dX0_refusedBall_6 : decode cX0_refusedBall 6 = .ok (.ifCond .eq 26, 3) := dk_153 0 26 (dk_at dksX0_refusedBall_0 6 rfl rfl)
theorem dX0_refusedBall_9 : decode cX0_refusedBall 9 = .ok (.iload_n 2, 1) := dk_28 (dk_at dksX0_refusedBall_0 9 rfl rfl)
theorem dX0_refusedBall_10 : decode cX0_refusedBall 10 = .ok (.iconst 0, 1) := dk_3 (dk_at dksX0_refusedBall_0 10 rfl rfl)
theorem dX0_refusedBall_11 : decode cX0_refusedBall 11 = .ok (.iconst 2, 1) := dk_5 (dk_at dksX0_refusedBall_0 11 rfl rfl)
theorem dX0_refusedBall_12 : decode cX0_refusedBall 12 = .ok (.invokestatic 10, 3) := dk_184 0 10 (dk_at dksX0_refusedBall_0 12 rfl rfl)
theorem dX0_refusedBall_15 : decode cX0_refusedBall 15 = .ok (.ifCond .eq 17, 3) := dk_153 0 17 (dk_at dksX0_refusedBall_0 15 rfl rfl)
theorem dX0_refusedBall_18 : decode cX0_refusedBall 18 = .ok (.iload_n 3, 1) := dk_29 (dk_at dksX0_refusedBall_0 18 rfl rfl)
theorem dX0_refusedBall_19 : decode cX0_refusedBall 19 = .ok (.iconst 1, 1) := dk_4 (dk_at dksX0_refusedBall_0 19 rfl rfl)
theorem dX0_refusedBall_20 : decode cX0_refusedBall 20 = .ok (.bipush 40, 2) := dk_16 40 (dk_at dksX0_refusedBall_0 20 rfl rfl)
theorem dX0_refusedBall_22 : decode cX0_refusedBall 22 = .ok (.invokestatic 10, 3) := dk_184 0 10 (dk_at dksX0_refusedBall_1 0 rfl rfl)
theorem dX0_refusedBall_25 : decode cX0_refusedBall 25 = .ok (.ifCond .eq 7, 3) := dk_153 0 7 (dk_at dksX0_refusedBall_1 3 rfl rfl)
theorem dX0_refusedBall_28 : decode cX0_refusedBall 28 = .ok (.iconst 1, 1) := dk_4 (dk_at dksX0_refusedBall_1 6 rfl rfl)
theorem dX0_refusedBall_29 : decode cX0_refusedBall 29 = .ok (.goto 4, 3) := dk_167 0 4 (dk_at dksX0_refusedBall_1 7 rfl rfl)
theorem dX0_refusedBall_32 : decode cX0_refusedBall 32 = .ok (.iconst 0, 1) := dk_3 (dk_at dksX0_refusedBall_1 10 rfl rfl)
theorem dX0_refusedBall_33 : decode cX0_refusedBall 33 = .ok (.istore 4, 2) := dk_54 4 (dk_at dksX0_refusedBall_1 11 rfl rfl)
theorem dX0_refusedBall_35 : decode cX0_refusedBall 35 = .ok (.iload 4, 2) := dk_21 4 (dk_at dksX0_refusedBall_1 13 rfl rfl)
theorem dX0_refusedBall_37 : decode cX0_refusedBall 37 = .ok (.ifCond .ne 8, 3) := dk_154 0 8 (dk_at dksX0_refusedBall_1 15 rfl rfl)
theorem dX0_refusedBall_40 : decode cX0_refusedBall 40 = .ok (.ldc 87, 2) := dk_18 87 (dk_at dksX0_refusedBall_1 18 rfl rfl)
theorem dX0_refusedBall_42 : decode cX0_refusedBall 42 = .ok (.goto 16, 3) := dk_167 0 16 (dk_at dksX0_refusedBall_1 20 rfl rfl)
theorem dX0_refusedBall_45 : decode cX0_refusedBall 45 = .ok (.aload_n 0, 1) := dk_42 (dk_at dksX0_refusedBall_1 23 rfl rfl)
theorem dX0_refusedBall_46 : decode cX0_refusedBall 46 = .ok (.invokevirtual 164, 3) := dk_182 0 164 (dk_at dksX0_refusedBall_2 0 rfl rfl)
theorem dX0_refusedBall_49 : decode cX0_refusedBall 49 = .ok (.ifCond .ne 8, 3) := dk_154 0 8 (dk_at dksX0_refusedBall_2 3 rfl rfl)
theorem dX0_refusedBall_52 : decode cX0_refusedBall 52 = .ok (.ldc 224, 2) := dk_18 224 (dk_at dksX0_refusedBall_2 6 rfl rfl)
theorem dX0_refusedBall_54 : decode cX0_refusedBall 54 = .ok (.goto 4, 3) := dk_167 0 4 (dk_at dksX0_refusedBall_2 8 rfl rfl)
theorem dX0_refusedBall_57 : decode cX0_refusedBall 57 = .ok (.iconst 0, 1) := dk_3 (dk_at dksX0_refusedBall_2 11 rfl rfl)
theorem dX0_refusedBall_58 : decode cX0_refusedBall 58 = .ok (.ireturn, 1) := dk_172 (dk_at dksX0_refusedBall_2 12 rfl rfl)
abbrev cX0_remember : ByteArray := prog_1_method_26_code
def yX0_remember : MethodName := ⟨RX0, "remember", "()V"⟩
def dkwX0_remember_3 : List UInt8 := [4, 96, 181, 0, 109, 177]
abbrev dktX0_remember_3 : List UInt8 := dkwX0_remember_3 ++ []
def dkwX0_remember_2 : List UInt8 := [181, 0, 109, 42, 180, 0, 45, 42, 180, 0, 109, 50, 42, 180, 0, 38, 182, 0, 125, 42, 89, 180, 0, 109]
abbrev dktX0_remember_2 : List UInt8 := dkwX0_remember_2 ++ dktX0_remember_3
def dkwX0_remember_1 : List UInt8 := [50, 42, 180, 0, 45, 27, 50, 182, 0, 125, 132, 1, 1, 167, 255, 230, 42, 89, 180, 0, 109, 4, 100]
abbrev dktX0_remember_1 : List UInt8 := dkwX0_remember_1 ++ dktX0_remember_2
def dkwX0_remember_0 : List UInt8 := [42, 180, 0, 109, 16, 16, 160, 0, 44, 4, 60, 27, 16, 16, 162, 0, 26, 42, 180, 0, 45, 27, 4, 100]
abbrev dktX0_remember_0 : List UInt8 := dkwX0_remember_0 ++ dktX0_remember_1
theorem dksX0_remember_0 : cX0_remember.data.toList.drop 0 = dktX0_remember_0 := by decide +kernel
theorem dksX0_remember_1 : cX0_remember.data.toList.drop 24 = dktX0_remember_1 := dk_seg dksX0_remember_0 24 rfl rfl
theorem dksX0_remember_2 : cX0_remember.data.toList.drop 47 = dktX0_remember_2 := dk_seg dksX0_remember_1 23 rfl rfl
theorem dksX0_remember_3 : cX0_remember.data.toList.drop 71 = dktX0_remember_3 := dk_seg dksX0_remember_2 24 rfl rfl
theorem dX0_remember_0 : decode cX0_remember 0 = .ok (.aload_n 0, 1) := dk_42 (dk_at dksX0_remember_0 0 rfl rfl)
theorem dX0_remember_1 : decode cX0_remember 1 = .ok (.getfield 109, 3) := dk_180 0 109 (dk_at dksX0_remember_0 1 rfl rfl)
theorem dX0_remember_4 : decode cX0_remember 4 = .ok (.bipush 16, 2) := dk_16 16 (dk_at dksX0_remember_0 4 rfl rfl)
theorem dX0_remember_6 : decode cX0_remember 6 = .ok (.if_icmp .ne 44, 3) := dk_160 0 44 (dk_at dksX0_remember_0 6 rfl rfl)
theorem dX0_remember_9 : decode cX0_remember 9 = .ok (.iconst 1, 1) := dk_4 (dk_at dksX0_remember_0 9 rfl rfl)
theorem dX0_remember_10 : decode cX0_remember 10 = .ok (.istore_n 1, 1) := dk_60 (dk_at dksX0_remember_0 10 rfl rfl)
theorem dX0_remember_11 : decode cX0_remember 11 = .ok (.iload_n 1, 1) := dk_27 (dk_at dksX0_remember_0 11 rfl rfl)
theorem dX0_remember_12 : decode cX0_remember 12 = .ok (.bipush 16, 2) := dk_16 16 (dk_at dksX0_remember_0 12 rfl rfl)
theorem dX0_remember_14 : decode cX0_remember 14 = .ok (.if_icmp .ge 26, 3) := dk_162 0 26 (dk_at dksX0_remember_0 14 rfl rfl)
theorem dX0_remember_17 : decode cX0_remember 17 = .ok (.aload_n 0, 1) := dk_42 (dk_at dksX0_remember_0 17 rfl rfl)
theorem dX0_remember_18 : decode cX0_remember 18 = .ok (.getfield 45, 3) := dk_180 0 45 (dk_at dksX0_remember_0 18 rfl rfl)
theorem dX0_remember_21 : decode cX0_remember 21 = .ok (.iload_n 1, 1) := dk_27 (dk_at dksX0_remember_0 21 rfl rfl)
theorem dX0_remember_22 : decode cX0_remember 22 = .ok (.iconst 1, 1) := dk_4 (dk_at dksX0_remember_0 22 rfl rfl)
theorem dX0_remember_23 : decode cX0_remember 23 = .ok (.isub, 1) := dk_100 (dk_at dksX0_remember_0 23 rfl rfl)
theorem dX0_remember_24 : decode cX0_remember 24 = .ok (.aaload, 1) := dk_50 (dk_at dksX0_remember_1 0 rfl rfl)
theorem dX0_remember_25 : decode cX0_remember 25 = .ok (.aload_n 0, 1) := dk_42 (dk_at dksX0_remember_1 1 rfl rfl)
theorem dX0_remember_26 : decode cX0_remember 26 = .ok (.getfield 45, 3) := dk_180 0 45 (dk_at dksX0_remember_1 2 rfl rfl)
theorem dX0_remember_29 : decode cX0_remember 29 = .ok (.iload_n 1, 1) := dk_27 (dk_at dksX0_remember_1 5 rfl rfl)
theorem dX0_remember_30 : decode cX0_remember 30 = .ok (.aaload, 1) := dk_50 (dk_at dksX0_remember_1 6 rfl rfl)
theorem dX0_remember_31 : decode cX0_remember 31 = .ok (.invokevirtual 125, 3) := dk_182 0 125 (dk_at dksX0_remember_1 7 rfl rfl)
theorem dX0_remember_34 : decode cX0_remember 34 = .ok (.iinc 1 1, 3) := dk_132 1 1 (dk_at dksX0_remember_1 10 rfl rfl)
theorem dX0_remember_37 : decode cX0_remember 37 = .ok (.goto (-26), 3) := dk_167 255 230 (dk_at dksX0_remember_1 13 rfl rfl)
theorem dX0_remember_40 : decode cX0_remember 40 = .ok (.aload_n 0, 1) := dk_42 (dk_at dksX0_remember_1 16 rfl rfl)
theorem dX0_remember_41 : decode cX0_remember 41 = .ok (.dup, 1) := dk_89 (dk_at dksX0_remember_1 17 rfl rfl)
theorem dX0_remember_42 : decode cX0_remember 42 = .ok (.getfield 109, 3) := dk_180 0 109 (dk_at dksX0_remember_1 18 rfl rfl)
theorem dX0_remember_45 : decode cX0_remember 45 = .ok (.iconst 1, 1) := dk_4 (dk_at dksX0_remember_1 21 rfl rfl)
theorem dX0_remember_46 : decode cX0_remember 46 = .ok (.isub, 1) := dk_100 (dk_at dksX0_remember_1 22 rfl rfl)
theorem dX0_remember_47 : decode cX0_remember 47 = .ok (.putfield 109, 3) := dk_181 0 109 (dk_at dksX0_remember_2 0 rfl rfl)
theorem dX0_remember_50 : decode cX0_remember 50 = .ok (.aload_n 0, 1) := dk_42 (dk_at dksX0_remember_2 3 rfl rfl)
theorem dX0_remember_51 : decode cX0_remember 51 = .ok (.getfield 45, 3) := dk_180 0 45 (dk_at dksX0_remember_2 4 rfl rfl)
theorem dX0_remember_54 : decode cX0_remember 54 = .ok (.aload_n 0, 1) := dk_42 (dk_at dksX0_remember_2 7 rfl rfl)
theorem dX0_remember_55 : decode cX0_remember 55 = .ok (.getfield 109, 3) := dk_180 0 109 (dk_at dksX0_remember_2 8 rfl rfl)
theorem dX0_remember_58 : decode cX0_remember 58 = .ok (.aaload, 1) := dk_50 (dk_at dksX0_remember_2 11 rfl rfl)
theorem dX0_remember_59 : decode cX0_remember 59 = .ok (.aload_n 0, 1) := dk_42 (dk_at dksX0_remember_2 12 rfl rfl)
theorem dX0_remember_60 : decode cX0_remember 60 = .ok (.getfield 38, 3) := dk_180 0 38 (dk_at dksX0_remember_2 13 rfl rfl)
theorem dX0_remember_63 : decode cX0_remember 63 = .ok (.invokevirtual 125, 3) := dk_182 0 125 (dk_at dksX0_remember_2 16 rfl rfl)
theorem dX0_remember_66 : decode cX0_remember 66 = .ok (.aload_n 0, 1) := dk_42 (dk_at dksX0_remember_2 19 rfl rfl)
theorem dX0_remember_67 : decode cX0_remember 67 = .ok (.dup, 1) := dk_89 (dk_at dksX0_remember_2 20 rfl rfl)
theorem dX0_remember_68 : decode cX0_remember 68 = .ok (.getfield 109, 3) := dk_180 0 109 (dk_at dksX0_remember_2 21 rfl rfl)
theorem dX0_remember_71 : decode cX0_remember 71 = .ok (.iconst 1, 1) := dk_4 (dk_at dksX0_remember_3 0 rfl rfl)
theorem dX0_remember_72 : decode cX0_remember 72 = .ok (.iadd, 1) := dk_96 (dk_at dksX0_remember_3 1 rfl rfl)
theorem dX0_remember_73 : decode cX0_remember 73 = .ok (.putfield 109, 3) := dk_181 0 109 (dk_at dksX0_remember_3 2 rfl rfl)
theorem dX0_remember_76 : decode cX0_remember 76 = .ok (.return_, 1) := dk_177 (dk_at dksX0_remember_3 5 rfl rfl)
abbrev cX0_setUp : ByteArray := prog_1_method_29_code
def yX0_setUp : MethodName := ⟨RX0, "setUp", "()I"⟩
def dkwX0_setUp_0 : List UInt8 := [42, 182, 0, 164, 154, 0, 6, 18, 224, 172, 42, 182, 0, 229, 42, 180, 0, 38, 182, 0, 235, 172]
abbrev dktX0_setUp_0 : List UInt8 := dkwX0_setUp_0 ++ []
theorem dksX0_setUp_0 : cX0_setUp.data.toList.drop 0 = dktX0_setUp_0 := by decide +kernel
theorem dX0_setUp_0 : decode cX0_setUp 0 = .ok (.aload_n 0, 1) := dk_42 (dk_at dksX0_setUp_0 0 rfl rfl)
theorem dX0_setUp_1 : decode cX0_setUp 1 = .ok (.invokevirtual 164, 3) := dk_182 0 164 (dk_at dksX0_setUp_0 1 rfl rfl)
theorem dX0_setUp_4 : decode cX0_setUp 4 = .ok (.ifCond .ne 6, 3) := dk_154 0 6 (dk_at dksX0_setUp_0 4 rfl rfl)
theorem dX0_setUp_7 : decode cX0_setUp 7 = .ok (.ldc 224, 2) := dk_18 224 (dk_at dksX0_setUp_0 7 rfl rfl)
theorem dX0_setUp_9 : decode cX0_setUp 9 = .ok (.ireturn, 1) := dk_172 (dk_at dksX0_setUp_0 9 rfl rfl)
theorem dX0_setUp_10 : decode cX0_setUp 10 = .ok (.aload_n 0, 1) := dk_42 (dk_at dksX0_setUp_0 10 rfl rfl)
theorem dX0_setUp_11 : decode cX0_setUp 11 = .ok (.invokevirtual 229, 3) := dk_182 0 229 (dk_at dksX0_setUp_0 11 rfl rfl)
theorem dX0_setUp_14 : decode cX0_setUp 14 = .ok (.aload_n 0, 1) := dk_42 (dk_at dksX0_setUp_0 14 rfl rfl)
theorem dX0_setUp_15 : decode cX0_setUp 15 = .ok (.getfield 38, 3) := dk_180 0 38 (dk_at dksX0_setUp_0 15 rfl rfl)
theorem dX0_setUp_18 : decode cX0_setUp 18 = .ok (.invokevirtual 235, 3) := dk_182 0 235 (dk_at dksX0_setUp_0 18 rfl rfl)
theorem dX0_setUp_21 : decode cX0_setUp 21 = .ok (.ireturn, 1) := dk_172 (dk_at dksX0_setUp_0 21 rfl rfl)
abbrev cX0_lift : ByteArray := prog_1_method_30_code
def yX0_lift : MethodName := ⟨RX0, "lift", "(I)I"⟩
def dkwX0_lift_2 : List UInt8 := [181, 0, 152, 42, 180, 0, 38, 180, 0, 152, 184, 0, 142, 172]
abbrev dktX0_lift_2 : List UInt8 := dkwX0_lift_2 ++ []
def dkwX0_lift_1 : List UInt8 := [153, 0, 6, 18, 224, 172, 42, 182, 0, 229, 42, 180, 0, 38, 89, 180, 0, 152, 4, 27, 120, 128]
abbrev dktX0_lift_1 : List UInt8 := dkwX0_lift_1 ++ dktX0_lift_2
def dkwX0_lift_0 : List UInt8 := [42, 27, 182, 0, 196, 154, 0, 6, 18, 199, 172, 42, 180, 0, 38, 180, 0, 152, 27, 184, 0, 147]
abbrev dktX0_lift_0 : List UInt8 := dkwX0_lift_0 ++ dktX0_lift_1
theorem dksX0_lift_0 : cX0_lift.data.toList.drop 0 = dktX0_lift_0 := by decide +kernel
theorem dksX0_lift_1 : cX0_lift.data.toList.drop 22 = dktX0_lift_1 := dk_seg dksX0_lift_0 22 rfl rfl
theorem dksX0_lift_2 : cX0_lift.data.toList.drop 44 = dktX0_lift_2 := dk_seg dksX0_lift_1 22 rfl rfl
theorem dX0_lift_0 : decode cX0_lift 0 = .ok (.aload_n 0, 1) := dk_42 (dk_at dksX0_lift_0 0 rfl rfl)
theorem dX0_lift_1 : decode cX0_lift 1 = .ok (.iload_n 1, 1) := dk_27 (dk_at dksX0_lift_0 1 rfl rfl)
theorem dX0_lift_2 : decode cX0_lift 2 = .ok (.invokevirtual 196, 3) := dk_182 0 196 (dk_at dksX0_lift_0 2 rfl rfl)
theorem dX0_lift_5 : decode cX0_lift 5 = .ok (.ifCond .ne 6, 3) := dk_154 0 6 (dk_at dksX0_lift_0 5 rfl rfl)
theorem dX0_lift_8 : decode cX0_lift 8 = .ok (.ldc 199, 2) := dk_18 199 (dk_at dksX0_lift_0 8 rfl rfl)
theorem dX0_lift_10 : decode cX0_lift 10 = .ok (.ireturn, 1) := dk_172 (dk_at dksX0_lift_0 10 rfl rfl)
theorem dX0_lift_11 : decode cX0_lift 11 = .ok (.aload_n 0, 1) := dk_42 (dk_at dksX0_lift_0 11 rfl rfl)
theorem dX0_lift_12 : decode cX0_lift 12 = .ok (.getfield 38, 3) := dk_180 0 38 (dk_at dksX0_lift_0 12 rfl rfl)
theorem dX0_lift_15 : decode cX0_lift 15 = .ok (.getfield 152, 3) := dk_180 0 152 (dk_at dksX0_lift_0 15 rfl rfl)
theorem dX0_lift_18 : decode cX0_lift 18 = .ok (.iload_n 1, 1) := dk_27 (dk_at dksX0_lift_0 18 rfl rfl)
theorem dX0_lift_19 : decode cX0_lift 19 = .ok (.invokestatic 147, 3) := dk_184 0 147 (dk_at dksX0_lift_0 19 rfl rfl)
theorem dX0_lift_22 : decode cX0_lift 22 = .ok (.ifCond .eq 6, 3) := dk_153 0 6 (dk_at dksX0_lift_1 0 rfl rfl)
theorem dX0_lift_25 : decode cX0_lift 25 = .ok (.ldc 224, 2) := dk_18 224 (dk_at dksX0_lift_1 3 rfl rfl)
theorem dX0_lift_27 : decode cX0_lift 27 = .ok (.ireturn, 1) := dk_172 (dk_at dksX0_lift_1 5 rfl rfl)
theorem dX0_lift_28 : decode cX0_lift 28 = .ok (.aload_n 0, 1) := dk_42 (dk_at dksX0_lift_1 6 rfl rfl)
theorem dX0_lift_29 : decode cX0_lift 29 = .ok (.invokevirtual 229, 3) := dk_182 0 229 (dk_at dksX0_lift_1 7 rfl rfl)
theorem dX0_lift_32 : decode cX0_lift 32 = .ok (.aload_n 0, 1) := dk_42 (dk_at dksX0_lift_1 10 rfl rfl)
theorem dX0_lift_33 : decode cX0_lift 33 = .ok (.getfield 38, 3) := dk_180 0 38 (dk_at dksX0_lift_1 11 rfl rfl)
theorem dX0_lift_36 : decode cX0_lift 36 = .ok (.dup, 1) := dk_89 (dk_at dksX0_lift_1 14 rfl rfl)
theorem dX0_lift_37 : decode cX0_lift 37 = .ok (.getfield 152, 3) := dk_180 0 152 (dk_at dksX0_lift_1 15 rfl rfl)
theorem dX0_lift_40 : decode cX0_lift 40 = .ok (.iconst 1, 1) := dk_4 (dk_at dksX0_lift_1 18 rfl rfl)
theorem dX0_lift_41 : decode cX0_lift 41 = .ok (.iload_n 1, 1) := dk_27 (dk_at dksX0_lift_1 19 rfl rfl)
theorem dX0_lift_42 : decode cX0_lift 42 = .ok (.ishl, 1) := dk_120 (dk_at dksX0_lift_1 20 rfl rfl)
theorem dX0_lift_43 : decode cX0_lift 43 = .ok (.ior, 1) := dk_128 (dk_at dksX0_lift_1 21 rfl rfl)
theorem dX0_lift_44 : decode cX0_lift 44 = .ok (.putfield 152, 3) := dk_181 0 152 (dk_at dksX0_lift_2 0 rfl rfl)
theorem dX0_lift_47 : decode cX0_lift 47 = .ok (.aload_n 0, 1) := dk_42 (dk_at dksX0_lift_2 3 rfl rfl)
theorem dX0_lift_48 : decode cX0_lift 48 = .ok (.getfield 38, 3) := dk_180 0 38 (dk_at dksX0_lift_2 4 rfl rfl)
theorem dX0_lift_51 : decode cX0_lift 51 = .ok (.getfield 152, 3) := dk_180 0 152 (dk_at dksX0_lift_2 7 rfl rfl)
theorem dX0_lift_54 : decode cX0_lift 54 = .ok (.invokestatic 142, 3) := dk_184 0 142 (dk_at dksX0_lift_2 10 rfl rfl)
theorem dX0_lift_57 : decode cX0_lift 57 = .ok (.ireturn, 1) := dk_172 (dk_at dksX0_lift_2 13 rfl rfl)
abbrev cX0_change : ByteArray := prog_1_method_31_code
def yX0_change : MethodName := ⟨RX0, "change", "(II)I"⟩
def dkwX0_change_1 : List UInt8 := [182, 0, 229, 42, 180, 0, 38, 27, 28, 182, 0, 238, 42, 180, 0, 38, 27, 182, 0, 221, 172]
abbrev dktX0_change_1 : List UInt8 := dkwX0_change_1 ++ []
def dkwX0_change_0 : List UInt8 := [27, 184, 0, 218, 153, 0, 15, 28, 184, 0, 218, 153, 0, 8, 27, 28, 160, 0, 6, 18, 199, 172, 42]
abbrev dktX0_change_0 : List UInt8 := dkwX0_change_0 ++ dktX0_change_1
theorem dksX0_change_0 : cX0_change.data.toList.drop 0 = dktX0_change_0 := by decide +kernel
theorem dksX0_change_1 : cX0_change.data.toList.drop 23 = dktX0_change_1 := dk_seg dksX0_change_0 23 rfl rfl
theorem dX0_change_0 : decode cX0_change 0 = .ok (.iload_n 1, 1) := dk_27 (dk_at dksX0_change_0 0 rfl rfl)
theorem dX0_change_1 : decode cX0_change 1 = .ok (.invokestatic 218, 3) := dk_184 0 218 (dk_at dksX0_change_0 1 rfl rfl)
theorem dX0_change_4 : decode cX0_change 4 = .ok (.ifCond .eq 15, 3) := dk_153 0 15 (dk_at dksX0_change_0 4 rfl rfl)
theorem dX0_change_7 : decode cX0_change 7 = .ok (.iload_n 2, 1) := dk_28 (dk_at dksX0_change_0 7 rfl rfl)
theorem dX0_change_8 : decode cX0_change 8 = .ok (.invokestatic 218, 3) := dk_184 0 218 (dk_at dksX0_change_0 8 rfl rfl)
theorem dX0_change_11 : decode cX0_change 11 = .ok (.ifCond .eq 8, 3) := dk_153 0 8 (dk_at dksX0_change_0 11 rfl rfl)
theorem dX0_change_14 : decode cX0_change 14 = .ok (.iload_n 1, 1) := dk_27 (dk_at dksX0_change_0 14 rfl rfl)
theorem dX0_change_15 : decode cX0_change 15 = .ok (.iload_n 2, 1) := dk_28 (dk_at dksX0_change_0 15 rfl rfl)
theorem dX0_change_16 : decode cX0_change 16 = .ok (.if_icmp .ne 6, 3) := dk_160 0 6 (dk_at dksX0_change_0 16 rfl rfl)
theorem dX0_change_19 : decode cX0_change 19 = .ok (.ldc 199, 2) := dk_18 199 (dk_at dksX0_change_0 19 rfl rfl)
theorem dX0_change_21 : decode cX0_change 21 = .ok (.ireturn, 1) := dk_172 (dk_at dksX0_change_0 21 rfl rfl)
theorem dX0_change_22 : decode cX0_change 22 = .ok (.aload_n 0, 1) := dk_42 (dk_at dksX0_change_0 22 rfl rfl)
theorem dX0_change_23 : decode cX0_change 23 = .ok (.invokevirtual 229, 3) := dk_182 0 229 (dk_at dksX0_change_1 0 rfl rfl)
theorem dX0_change_26 : decode cX0_change 26 = .ok (.aload_n 0, 1) := dk_42 (dk_at dksX0_change_1 3 rfl rfl)
theorem dX0_change_27 : decode cX0_change 27 = .ok (.getfield 38, 3) := dk_180 0 38 (dk_at dksX0_change_1 4 rfl rfl)
theorem dX0_change_30 : decode cX0_change 30 = .ok (.iload_n 1, 1) := dk_27 (dk_at dksX0_change_1 7 rfl rfl)
theorem dX0_change_31 : decode cX0_change 31 = .ok (.iload_n 2, 1) := dk_28 (dk_at dksX0_change_1 8 rfl rfl)
theorem dX0_change_32 : decode cX0_change 32 = .ok (.invokevirtual 238, 3) := dk_182 0 238 (dk_at dksX0_change_1 9 rfl rfl)
theorem dX0_change_35 : decode cX0_change 35 = .ok (.aload_n 0, 1) := dk_42 (dk_at dksX0_change_1 12 rfl rfl)
theorem dX0_change_36 : decode cX0_change 36 = .ok (.getfield 38, 3) := dk_180 0 38 (dk_at dksX0_change_1 13 rfl rfl)
theorem dX0_change_39 : decode cX0_change 39 = .ok (.iload_n 1, 1) := dk_27 (dk_at dksX0_change_1 16 rfl rfl)
theorem dX0_change_40 : decode cX0_change 40 = .ok (.invokevirtual 221, 3) := dk_182 0 221 (dk_at dksX0_change_1 17 rfl rfl)
theorem dX0_change_43 : decode cX0_change 43 = .ok (.ireturn, 1) := dk_172 (dk_at dksX0_change_1 20 rfl rfl)
abbrev cX0_chip : ByteArray := prog_1_method_32_code
def yX0_chip : MethodName := ⟨RX0, "chip", "(II)I"⟩
def dkwX0_chip_2 : List UInt8 := [29, 172]
abbrev dktX0_chip_2 : List UInt8 := dkwX0_chip_2 ++ []
def dkwX0_chip_1 : List UInt8 := [42, 182, 0, 229, 42, 180, 0, 38, 180, 0, 206, 27, 46, 62, 42, 180, 0, 38, 180, 0, 206, 27, 28, 79]
abbrev dktX0_chip_1 : List UInt8 := dkwX0_chip_1 ++ dktX0_chip_2
def dkwX0_chip_0 : List UInt8 := [42, 27, 182, 0, 196, 154, 0, 6, 18, 199, 172, 28, 3, 16, 9, 184, 0, 10, 154, 0, 6, 18, 87, 172]
abbrev dktX0_chip_0 : List UInt8 := dkwX0_chip_0 ++ dktX0_chip_1
theorem dksX0_chip_0 : cX0_chip.data.toList.drop 0 = dktX0_chip_0 := by decide +kernel
theorem dksX0_chip_1 : cX0_chip.data.toList.drop 24 = dktX0_chip_1 := dk_seg dksX0_chip_0 24 rfl rfl
theorem dksX0_chip_2 : cX0_chip.data.toList.drop 48 = dktX0_chip_2 := dk_seg dksX0_chip_1 24 rfl rfl
theorem dX0_chip_0 : decode cX0_chip 0 = .ok (.aload_n 0, 1) := dk_42 (dk_at dksX0_chip_0 0 rfl rfl)
theorem dX0_chip_1 : decode cX0_chip 1 = .ok (.iload_n 1, 1) := dk_27 (dk_at dksX0_chip_0 1 rfl rfl)
theorem dX0_chip_2 : decode cX0_chip 2 = .ok (.invokevirtual 196, 3) := dk_182 0 196 (dk_at dksX0_chip_0 2 rfl rfl)
theorem dX0_chip_5 : decode cX0_chip 5 = .ok (.ifCond .ne 6, 3) := dk_154 0 6 (dk_at dksX0_chip_0 5 rfl rfl)
theorem dX0_chip_8 : decode cX0_chip 8 = .ok (.ldc 199, 2) := dk_18 199 (dk_at dksX0_chip_0 8 rfl rfl)
theorem dX0_chip_10 : decode cX0_chip 10 = .ok (.ireturn, 1) := dk_172 (dk_at dksX0_chip_0 10 rfl rfl)
theorem dX0_chip_11 : decode cX0_chip 11 = .ok (.iload_n 2, 1) := dk_28 (dk_at dksX0_chip_0 11 rfl rfl)
theorem dX0_chip_12 : decode cX0_chip 12 = .ok (.iconst 0, 1) := dk_3 (dk_at dksX0_chip_0 12 rfl rfl)
theorem dX0_chip_13 : decode cX0_chip 13 = .ok (.bipush 9, 2) := dk_16 9 (dk_at dksX0_chip_0 13 rfl rfl)
theorem dX0_chip_15 : decode cX0_chip 15 = .ok (.invokestatic 10, 3) := dk_184 0 10 (dk_at dksX0_chip_0 15 rfl rfl)
theorem dX0_chip_18 : decode cX0_chip 18 = .ok (.ifCond .ne 6, 3) := dk_154 0 6 (dk_at dksX0_chip_0 18 rfl rfl)
theorem dX0_chip_21 : decode cX0_chip 21 = .ok (.ldc 87, 2) := dk_18 87 (dk_at dksX0_chip_0 21 rfl rfl)
theorem dX0_chip_23 : decode cX0_chip 23 = .ok (.ireturn, 1) := dk_172 (dk_at dksX0_chip_0 23 rfl rfl)
theorem dX0_chip_24 : decode cX0_chip 24 = .ok (.aload_n 0, 1) := dk_42 (dk_at dksX0_chip_1 0 rfl rfl)
theorem dX0_chip_25 : decode cX0_chip 25 = .ok (.invokevirtual 229, 3) := dk_182 0 229 (dk_at dksX0_chip_1 1 rfl rfl)
theorem dX0_chip_28 : decode cX0_chip 28 = .ok (.aload_n 0, 1) := dk_42 (dk_at dksX0_chip_1 4 rfl rfl)
theorem dX0_chip_29 : decode cX0_chip 29 = .ok (.getfield 38, 3) := dk_180 0 38 (dk_at dksX0_chip_1 5 rfl rfl)
theorem dX0_chip_32 : decode cX0_chip 32 = .ok (.getfield 206, 3) := dk_180 0 206 (dk_at dksX0_chip_1 8 rfl rfl)
theorem dX0_chip_35 : decode cX0_chip 35 = .ok (.iload_n 1, 1) := dk_27 (dk_at dksX0_chip_1 11 rfl rfl)
theorem dX0_chip_36 : decode cX0_chip 36 = .ok (.iaload, 1) := dk_46 (dk_at dksX0_chip_1 12 rfl rfl)
theorem dX0_chip_37 : decode cX0_chip 37 = .ok (.istore_n 3, 1) := dk_62 (dk_at dksX0_chip_1 13 rfl rfl)
theorem dX0_chip_38 : decode cX0_chip 38 = .ok (.aload_n 0, 1) := dk_42 (dk_at dksX0_chip_1 14 rfl rfl)
theorem dX0_chip_39 : decode cX0_chip 39 = .ok (.getfield 38, 3) := dk_180 0 38 (dk_at dksX0_chip_1 15 rfl rfl)
theorem dX0_chip_42 : decode cX0_chip 42 = .ok (.getfield 206, 3) := dk_180 0 206 (dk_at dksX0_chip_1 18 rfl rfl)
theorem dX0_chip_45 : decode cX0_chip 45 = .ok (.iload_n 1, 1) := dk_27 (dk_at dksX0_chip_1 21 rfl rfl)
theorem dX0_chip_46 : decode cX0_chip 46 = .ok (.iload_n 2, 1) := dk_28 (dk_at dksX0_chip_1 22 rfl rfl)
theorem dX0_chip_47 : decode cX0_chip 47 = .ok (.iastore, 1) := dk_79 (dk_at dksX0_chip_1 23 rfl rfl)
theorem dX0_chip_48 : decode cX0_chip 48 = .ok (.iload_n 3, 1) := dk_29 (dk_at dksX0_chip_2 0 rfl rfl)
theorem dX0_chip_49 : decode cX0_chip 49 = .ok (.ireturn, 1) := dk_172 (dk_at dksX0_chip_2 1 rfl rfl)
abbrev cX0_replace : ByteArray := prog_1_method_33_code
def yX0_replace : MethodName := ⟨RX0, "replace", "(I)I"⟩
def dkwX0_replace_2 : List UInt8 := [27, 6, 79, 28, 172]
abbrev dktX0_replace_2 : List UInt8 := dkwX0_replace_2 ++ []
def dkwX0_replace_1 : List UInt8 := [18, 224, 172, 42, 182, 0, 229, 42, 180, 0, 38, 180, 0, 200, 27, 46, 61, 42, 180, 0, 38, 180, 0, 200]
abbrev dktX0_replace_1 : List UInt8 := dkwX0_replace_1 ++ dktX0_replace_2
def dkwX0_replace_0 : List UInt8 := [42, 27, 182, 0, 196, 154, 0, 6, 18, 199, 172, 42, 180, 0, 38, 180, 0, 200, 27, 46, 6, 160, 0, 6]
abbrev dktX0_replace_0 : List UInt8 := dkwX0_replace_0 ++ dktX0_replace_1
theorem dksX0_replace_0 : cX0_replace.data.toList.drop 0 = dktX0_replace_0 := by decide +kernel
theorem dksX0_replace_1 : cX0_replace.data.toList.drop 24 = dktX0_replace_1 := dk_seg dksX0_replace_0 24 rfl rfl
theorem dksX0_replace_2 : cX0_replace.data.toList.drop 48 = dktX0_replace_2 := dk_seg dksX0_replace_1 24 rfl rfl
theorem dX0_replace_0 : decode cX0_replace 0 = .ok (.aload_n 0, 1) := dk_42 (dk_at dksX0_replace_0 0 rfl rfl)
theorem dX0_replace_1 : decode cX0_replace 1 = .ok (.iload_n 1, 1) := dk_27 (dk_at dksX0_replace_0 1 rfl rfl)
theorem dX0_replace_2 : decode cX0_replace 2 = .ok (.invokevirtual 196, 3) := dk_182 0 196 (dk_at dksX0_replace_0 2 rfl rfl)
theorem dX0_replace_5 : decode cX0_replace 5 = .ok (.ifCond .ne 6, 3) := dk_154 0 6 (dk_at dksX0_replace_0 5 rfl rfl)
theorem dX0_replace_8 : decode cX0_replace 8 = .ok (.ldc 199, 2) := dk_18 199 (dk_at dksX0_replace_0 8 rfl rfl)
theorem dX0_replace_10 : decode cX0_replace 10 = .ok (.ireturn, 1) := dk_172 (dk_at dksX0_replace_0 10 rfl rfl)
theorem dX0_replace_11 : decode cX0_replace 11 = .ok (.aload_n 0, 1) := dk_42 (dk_at dksX0_replace_0 11 rfl rfl)
theorem dX0_replace_12 : decode cX0_replace 12 = .ok (.getfield 38, 3) := dk_180 0 38 (dk_at dksX0_replace_0 12 rfl rfl)
theorem dX0_replace_15 : decode cX0_replace 15 = .ok (.getfield 200, 3) := dk_180 0 200 (dk_at dksX0_replace_0 15 rfl rfl)
theorem dX0_replace_18 : decode cX0_replace 18 = .ok (.iload_n 1, 1) := dk_27 (dk_at dksX0_replace_0 18 rfl rfl)
theorem dX0_replace_19 : decode cX0_replace 19 = .ok (.iaload, 1) := dk_46 (dk_at dksX0_replace_0 19 rfl rfl)
theorem dX0_replace_20 : decode cX0_replace 20 = .ok (.iconst 3, 1) := dk_6 (dk_at dksX0_replace_0 20 rfl rfl)
theorem dX0_replace_21 : decode cX0_replace 21 = .ok (.if_icmp .ne 6, 3) := dk_160 0 6 (dk_at dksX0_replace_0 21 rfl rfl)
theorem dX0_replace_24 : decode cX0_replace 24 = .ok (.ldc 224, 2) := dk_18 224 (dk_at dksX0_replace_1 0 rfl rfl)
theorem dX0_replace_26 : decode cX0_replace 26 = .ok (.ireturn, 1) := dk_172 (dk_at dksX0_replace_1 2 rfl rfl)
theorem dX0_replace_27 : decode cX0_replace 27 = .ok (.aload_n 0, 1) := dk_42 (dk_at dksX0_replace_1 3 rfl rfl)
theorem dX0_replace_28 : decode cX0_replace 28 = .ok (.invokevirtual 229, 3) := dk_182 0 229 (dk_at dksX0_replace_1 4 rfl rfl)
theorem dX0_replace_31 : decode cX0_replace 31 = .ok (.aload_n 0, 1) := dk_42 (dk_at dksX0_replace_1 7 rfl rfl)
theorem dX0_replace_32 : decode cX0_replace 32 = .ok (.getfield 38, 3) := dk_180 0 38 (dk_at dksX0_replace_1 8 rfl rfl)
theorem dX0_replace_35 : decode cX0_replace 35 = .ok (.getfield 200, 3) := dk_180 0 200 (dk_at dksX0_replace_1 11 rfl rfl)
theorem dX0_replace_38 : decode cX0_replace 38 = .ok (.iload_n 1, 1) := dk_27 (dk_at dksX0_replace_1 14 rfl rfl)
theorem dX0_replace_39 : decode cX0_replace 39 = .ok (.iaload, 1) := dk_46 (dk_at dksX0_replace_1 15 rfl rfl)
theorem dX0_replace_40 : decode cX0_replace 40 = .ok (.istore_n 2, 1) := dk_61 (dk_at dksX0_replace_1 16 rfl rfl)
theorem dX0_replace_41 : decode cX0_replace 41 = .ok (.aload_n 0, 1) := dk_42 (dk_at dksX0_replace_1 17 rfl rfl)
theorem dX0_replace_42 : decode cX0_replace 42 = .ok (.getfield 38, 3) := dk_180 0 38 (dk_at dksX0_replace_1 18 rfl rfl)
theorem dX0_replace_45 : decode cX0_replace 45 = .ok (.getfield 200, 3) := dk_180 0 200 (dk_at dksX0_replace_1 21 rfl rfl)
theorem dX0_replace_48 : decode cX0_replace 48 = .ok (.iload_n 1, 1) := dk_27 (dk_at dksX0_replace_2 0 rfl rfl)
theorem dX0_replace_49 : decode cX0_replace 49 = .ok (.iconst 3, 1) := dk_6 (dk_at dksX0_replace_2 1 rfl rfl)
theorem dX0_replace_50 : decode cX0_replace 50 = .ok (.iastore, 1) := dk_79 (dk_at dksX0_replace_2 2 rfl rfl)
theorem dX0_replace_51 : decode cX0_replace 51 = .ok (.iload_n 2, 1) := dk_28 (dk_at dksX0_replace_2 3 rfl rfl)
theorem dX0_replace_52 : decode cX0_replace 52 = .ok (.ireturn, 1) := dk_172 (dk_at dksX0_replace_2 4 rfl rfl)
abbrev cX0_drift : ByteArray := prog_1_method_34_code
def yX0_drift : MethodName := ⟨RX0, "drift", "(I)I"⟩
def dkwX0_drift_2 : List UInt8 := [180, 0, 38, 180, 0, 152, 172]
abbrev dktX0_drift_2 : List UInt8 := dkwX0_drift_2 ++ []
def dkwX0_drift_1 : List UInt8 := [182, 0, 229, 3, 61, 28, 27, 162, 0, 16, 42, 180, 0, 38, 182, 0, 242, 132, 2, 1, 167, 255, 241, 42]
abbrev dktX0_drift_1 : List UInt8 := dkwX0_drift_1 ++ dktX0_drift_2
def dkwX0_drift_0 : List UInt8 := [27, 4, 16, 30, 184, 0, 10, 154, 0, 6, 18, 87, 172, 42, 182, 0, 164, 154, 0, 6, 18, 224, 172, 42]
abbrev dktX0_drift_0 : List UInt8 := dkwX0_drift_0 ++ dktX0_drift_1
theorem dksX0_drift_0 : cX0_drift.data.toList.drop 0 = dktX0_drift_0 := by decide +kernel
theorem dksX0_drift_1 : cX0_drift.data.toList.drop 24 = dktX0_drift_1 := dk_seg dksX0_drift_0 24 rfl rfl
theorem dksX0_drift_2 : cX0_drift.data.toList.drop 48 = dktX0_drift_2 := dk_seg dksX0_drift_1 24 rfl rfl
theorem dX0_drift_0 : decode cX0_drift 0 = .ok (.iload_n 1, 1) := dk_27 (dk_at dksX0_drift_0 0 rfl rfl)
theorem dX0_drift_1 : decode cX0_drift 1 = .ok (.iconst 1, 1) := dk_4 (dk_at dksX0_drift_0 1 rfl rfl)
theorem dX0_drift_2 : decode cX0_drift 2 = .ok (.bipush 30, 2) := dk_16 30 (dk_at dksX0_drift_0 2 rfl rfl)
theorem dX0_drift_4 : decode cX0_drift 4 = .ok (.invokestatic 10, 3) := dk_184 0 10 (dk_at dksX0_drift_0 4 rfl rfl)
theorem dX0_drift_7 : decode cX0_drift 7 = .ok (.ifCond .ne 6, 3) := dk_154 0 6 (dk_at dksX0_drift_0 7 rfl rfl)
theorem dX0_drift_10 : decode cX0_drift 10 = .ok (.ldc 87, 2) := dk_18 87 (dk_at dksX0_drift_0 10 rfl rfl)
theorem dX0_drift_12 : decode cX0_drift 12 = .ok (.ireturn, 1) := dk_172 (dk_at dksX0_drift_0 12 rfl rfl)
theorem dX0_drift_13 : decode cX0_drift 13 = .ok (.aload_n 0, 1) := dk_42 (dk_at dksX0_drift_0 13 rfl rfl)
theorem dX0_drift_14 : decode cX0_drift 14 = .ok (.invokevirtual 164, 3) := dk_182 0 164 (dk_at dksX0_drift_0 14 rfl rfl)
theorem dX0_drift_17 : decode cX0_drift 17 = .ok (.ifCond .ne 6, 3) := dk_154 0 6 (dk_at dksX0_drift_0 17 rfl rfl)
theorem dX0_drift_20 : decode cX0_drift 20 = .ok (.ldc 224, 2) := dk_18 224 (dk_at dksX0_drift_0 20 rfl rfl)
theorem dX0_drift_22 : decode cX0_drift 22 = .ok (.ireturn, 1) := dk_172 (dk_at dksX0_drift_0 22 rfl rfl)
theorem dX0_drift_23 : decode cX0_drift 23 = .ok (.aload_n 0, 1) := dk_42 (dk_at dksX0_drift_0 23 rfl rfl)
theorem dX0_drift_24 : decode cX0_drift 24 = .ok (.invokevirtual 229, 3) := dk_182 0 229 (dk_at dksX0_drift_1 0 rfl rfl)
theorem dX0_drift_27 : decode cX0_drift 27 = .ok (.iconst 0, 1) := dk_3 (dk_at dksX0_drift_1 3 rfl rfl)
theorem dX0_drift_28 : decode cX0_drift 28 = .ok (.istore_n 2, 1) := dk_61 (dk_at dksX0_drift_1 4 rfl rfl)
theorem dX0_drift_29 : decode cX0_drift 29 = .ok (.iload_n 2, 1) := dk_28 (dk_at dksX0_drift_1 5 rfl rfl)
theorem dX0_drift_30 : decode cX0_drift 30 = .ok (.iload_n 1, 1) := dk_27 (dk_at dksX0_drift_1 6 rfl rfl)
theorem dX0_drift_31 : decode cX0_drift 31 = .ok (.if_icmp .ge 16, 3) := dk_162 0 16 (dk_at dksX0_drift_1 7 rfl rfl)
theorem dX0_drift_34 : decode cX0_drift 34 = .ok (.aload_n 0, 1) := dk_42 (dk_at dksX0_drift_1 10 rfl rfl)
theorem dX0_drift_35 : decode cX0_drift 35 = .ok (.getfield 38, 3) := dk_180 0 38 (dk_at dksX0_drift_1 11 rfl rfl)
theorem dX0_drift_38 : decode cX0_drift 38 = .ok (.invokevirtual 242, 3) := dk_182 0 242 (dk_at dksX0_drift_1 14 rfl rfl)
theorem dX0_drift_41 : decode cX0_drift 41 = .ok (.iinc 2 1, 3) := dk_132 2 1 (dk_at dksX0_drift_1 17 rfl rfl)
theorem dX0_drift_44 : decode cX0_drift 44 = .ok (.goto (-15), 3) := dk_167 255 241 (dk_at dksX0_drift_1 20 rfl rfl)
theorem dX0_drift_47 : decode cX0_drift 47 = .ok (.aload_n 0, 1) := dk_42 (dk_at dksX0_drift_1 23 rfl rfl)
theorem dX0_drift_48 : decode cX0_drift 48 = .ok (.getfield 38, 3) := dk_180 0 38 (dk_at dksX0_drift_2 0 rfl rfl)
theorem dX0_drift_51 : decode cX0_drift 51 = .ok (.getfield 152, 3) := dk_180 0 152 (dk_at dksX0_drift_2 3 rfl rfl)
theorem dX0_drift_54 : decode cX0_drift 54 = .ok (.ireturn, 1) := dk_172 (dk_at dksX0_drift_2 6 rfl rfl)
abbrev cX0_undo : ByteArray := prog_1_method_35_code
def yX0_undo : MethodName := ⟨RX0, "undo", "()I"⟩
def dkwX0_undo_2 : List UInt8 := [27, 181, 0, 245, 42, 180, 0, 109, 172]
abbrev dktX0_undo_2 : List UInt8 := dkwX0_undo_2 ++ []
def dkwX0_undo_1 : List UInt8 := [180, 0, 245, 60, 42, 180, 0, 38, 42, 180, 0, 45, 42, 180, 0, 109, 50, 182, 0, 125, 42, 180, 0, 38]
abbrev dktX0_undo_1 : List UInt8 := dkwX0_undo_1 ++ dktX0_undo_2
def dkwX0_undo_0 : List UInt8 := [42, 180, 0, 109, 154, 0, 6, 18, 224, 172, 42, 89, 180, 0, 109, 4, 100, 181, 0, 109, 42, 180, 0, 38]
abbrev dktX0_undo_0 : List UInt8 := dkwX0_undo_0 ++ dktX0_undo_1
theorem dksX0_undo_0 : cX0_undo.data.toList.drop 0 = dktX0_undo_0 := by decide +kernel
theorem dksX0_undo_1 : cX0_undo.data.toList.drop 24 = dktX0_undo_1 := dk_seg dksX0_undo_0 24 rfl rfl
theorem dksX0_undo_2 : cX0_undo.data.toList.drop 48 = dktX0_undo_2 := dk_seg dksX0_undo_1 24 rfl rfl
theorem dX0_undo_0 : decode cX0_undo 0 = .ok (.aload_n 0, 1) := dk_42 (dk_at dksX0_undo_0 0 rfl rfl)
theorem dX0_undo_1 : decode cX0_undo 1 = .ok (.getfield 109, 3) := dk_180 0 109 (dk_at dksX0_undo_0 1 rfl rfl)
theorem dX0_undo_4 : decode cX0_undo 4 = .ok (.ifCond .ne 6, 3) := dk_154 0 6 (dk_at dksX0_undo_0 4 rfl rfl)
theorem dX0_undo_7 : decode cX0_undo 7 = .ok (.ldc 224, 2) := dk_18 224 (dk_at dksX0_undo_0 7 rfl rfl)
theorem dX0_undo_9 : decode cX0_undo 9 = .ok (.ireturn, 1) := dk_172 (dk_at dksX0_undo_0 9 rfl rfl)
theorem dX0_undo_10 : decode cX0_undo 10 = .ok (.aload_n 0, 1) := dk_42 (dk_at dksX0_undo_0 10 rfl rfl)
theorem dX0_undo_11 : decode cX0_undo 11 = .ok (.dup, 1) := dk_89 (dk_at dksX0_undo_0 11 rfl rfl)
theorem dX0_undo_12 : decode cX0_undo 12 = .ok (.getfield 109, 3) := dk_180 0 109 (dk_at dksX0_undo_0 12 rfl rfl)
theorem dX0_undo_15 : decode cX0_undo 15 = .ok (.iconst 1, 1) := dk_4 (dk_at dksX0_undo_0 15 rfl rfl)
theorem dX0_undo_16 : decode cX0_undo 16 = .ok (.isub, 1) := dk_100 (dk_at dksX0_undo_0 16 rfl rfl)
theorem dX0_undo_17 : decode cX0_undo 17 = .ok (.putfield 109, 3) := dk_181 0 109 (dk_at dksX0_undo_0 17 rfl rfl)
theorem dX0_undo_20 : decode cX0_undo 20 = .ok (.aload_n 0, 1) := dk_42 (dk_at dksX0_undo_0 20 rfl rfl)
theorem dX0_undo_21 : decode cX0_undo 21 = .ok (.getfield 38, 3) := dk_180 0 38 (dk_at dksX0_undo_0 21 rfl rfl)
theorem dX0_undo_24 : decode cX0_undo 24 = .ok (.getfield 245, 3) := dk_180 0 245 (dk_at dksX0_undo_1 0 rfl rfl)
theorem dX0_undo_27 : decode cX0_undo 27 = .ok (.istore_n 1, 1) := dk_60 (dk_at dksX0_undo_1 3 rfl rfl)
theorem dX0_undo_28 : decode cX0_undo 28 = .ok (.aload_n 0, 1) := dk_42 (dk_at dksX0_undo_1 4 rfl rfl)
theorem dX0_undo_29 : decode cX0_undo 29 = .ok (.getfield 38, 3) := dk_180 0 38 (dk_at dksX0_undo_1 5 rfl rfl)
theorem dX0_undo_32 : decode cX0_undo 32 = .ok (.aload_n 0, 1) := dk_42 (dk_at dksX0_undo_1 8 rfl rfl)
theorem dX0_undo_33 : decode cX0_undo 33 = .ok (.getfield 45, 3) := dk_180 0 45 (dk_at dksX0_undo_1 9 rfl rfl)
theorem dX0_undo_36 : decode cX0_undo 36 = .ok (.aload_n 0, 1) := dk_42 (dk_at dksX0_undo_1 12 rfl rfl)
theorem dX0_undo_37 : decode cX0_undo 37 = .ok (.getfield 109, 3) := dk_180 0 109 (dk_at dksX0_undo_1 13 rfl rfl)
theorem dX0_undo_40 : decode cX0_undo 40 = .ok (.aaload, 1) := dk_50 (dk_at dksX0_undo_1 16 rfl rfl)
theorem dX0_undo_41 : decode cX0_undo 41 = .ok (.invokevirtual 125, 3) := dk_182 0 125 (dk_at dksX0_undo_1 17 rfl rfl)
theorem dX0_undo_44 : decode cX0_undo 44 = .ok (.aload_n 0, 1) := dk_42 (dk_at dksX0_undo_1 20 rfl rfl)
theorem dX0_undo_45 : decode cX0_undo 45 = .ok (.getfield 38, 3) := dk_180 0 38 (dk_at dksX0_undo_1 21 rfl rfl)
theorem dX0_undo_48 : decode cX0_undo 48 = .ok (.iload_n 1, 1) := dk_27 (dk_at dksX0_undo_2 0 rfl rfl)
theorem dX0_undo_49 : decode cX0_undo 49 = .ok (.putfield 245, 3) := dk_181 0 245 (dk_at dksX0_undo_2 1 rfl rfl)
theorem dX0_undo_52 : decode cX0_undo 52 = .ok (.aload_n 0, 1) := dk_42 (dk_at dksX0_undo_2 4 rfl rfl)
theorem dX0_undo_53 : decode cX0_undo 53 = .ok (.getfield 109, 3) := dk_180 0 109 (dk_at dksX0_undo_2 5 rfl rfl)
theorem dX0_undo_56 : decode cX0_undo 56 = .ok (.ireturn, 1) := dk_172 (dk_at dksX0_undo_2 8 rfl rfl)
abbrev cX0_wouldFall : ByteArray := prog_1_method_36_code
def yX0_wouldFall : MethodName := ⟨RX0, "wouldFall", "(IIII)I"⟩
def dkwX0_wouldFall_3 : List UInt8 := [180, 0, 42, 180, 0, 251, 167, 0, 10, 42, 180, 0, 42, 180, 0, 254, 172]
abbrev dktX0_wouldFall_3 : List UInt8 := dkwX0_wouldFall_3 ++ []
def dkwX0_wouldFall_2 : List UInt8 := [29, 182, 0, 248, 54, 5, 21, 4, 154, 0, 8, 21, 5, 167, 0, 26, 21, 4, 4, 160, 0, 13, 42]
abbrev dktX0_wouldFall_2 : List UInt8 := dkwX0_wouldFall_2 ++ dktX0_wouldFall_3
def dkwX0_wouldFall_1 : List UInt8 := [27, 28, 29, 182, 0, 225, 172, 42, 180, 0, 42, 42, 180, 0, 38, 182, 0, 125, 42, 180, 0, 42, 27, 28]
abbrev dktX0_wouldFall_1 : List UInt8 := dkwX0_wouldFall_1 ++ dktX0_wouldFall_2
def dkwX0_wouldFall_0 : List UInt8 := [21, 4, 3, 5, 184, 0, 10, 154, 0, 6, 18, 87, 172, 42, 27, 28, 29, 182, 0, 225, 156, 0, 11, 42]
abbrev dktX0_wouldFall_0 : List UInt8 := dkwX0_wouldFall_0 ++ dktX0_wouldFall_1
theorem dksX0_wouldFall_0 : cX0_wouldFall.data.toList.drop 0 = dktX0_wouldFall_0 := by decide +kernel
theorem dksX0_wouldFall_1 : cX0_wouldFall.data.toList.drop 24 = dktX0_wouldFall_1 := dk_seg dksX0_wouldFall_0 24 rfl rfl
theorem dksX0_wouldFall_2 : cX0_wouldFall.data.toList.drop 48 = dktX0_wouldFall_2 := dk_seg dksX0_wouldFall_1 24 rfl rfl
theorem dksX0_wouldFall_3 : cX0_wouldFall.data.toList.drop 71 = dktX0_wouldFall_3 := dk_seg dksX0_wouldFall_2 23 rfl rfl
theorem dX0_wouldFall_0 : decode cX0_wouldFall 0 = .ok (.iload 4, 2) := dk_21 4 (dk_at dksX0_wouldFall_0 0 rfl rfl)
theorem dX0_wouldFall_2 : decode cX0_wouldFall 2 = .ok (.iconst 0, 1) := dk_3 (dk_at dksX0_wouldFall_0 2 rfl rfl)
theorem dX0_wouldFall_3 : decode cX0_wouldFall 3 = .ok (.iconst 2, 1) := dk_5 (dk_at dksX0_wouldFall_0 3 rfl rfl)
theorem dX0_wouldFall_4 : decode cX0_wouldFall 4 = .ok (.invokestatic 10, 3) := dk_184 0 10 (dk_at dksX0_wouldFall_0 4 rfl rfl)
theorem dX0_wouldFall_7 : decode cX0_wouldFall 7 = .ok (.ifCond .ne 6, 3) := dk_154 0 6 (dk_at dksX0_wouldFall_0 7 rfl rfl)
theorem dX0_wouldFall_10 : decode cX0_wouldFall 10 = .ok (.ldc 87, 2) := dk_18 87 (dk_at dksX0_wouldFall_0 10 rfl rfl)
theorem dX0_wouldFall_12 : decode cX0_wouldFall 12 = .ok (.ireturn, 1) := dk_172 (dk_at dksX0_wouldFall_0 12 rfl rfl)
theorem dX0_wouldFall_13 : decode cX0_wouldFall 13 = .ok (.aload_n 0, 1) := dk_42 (dk_at dksX0_wouldFall_0 13 rfl rfl)
theorem dX0_wouldFall_14 : decode cX0_wouldFall 14 = .ok (.iload_n 1, 1) := dk_27 (dk_at dksX0_wouldFall_0 14 rfl rfl)
theorem dX0_wouldFall_15 : decode cX0_wouldFall 15 = .ok (.iload_n 2, 1) := dk_28 (dk_at dksX0_wouldFall_0 15 rfl rfl)
theorem dX0_wouldFall_16 : decode cX0_wouldFall 16 = .ok (.iload_n 3, 1) := dk_29 (dk_at dksX0_wouldFall_0 16 rfl rfl)
theorem dX0_wouldFall_17 : decode cX0_wouldFall 17 = .ok (.invokevirtual 225, 3) := dk_182 0 225 (dk_at dksX0_wouldFall_0 17 rfl rfl)
theorem dX0_wouldFall_20 : decode cX0_wouldFall 20 = .ok (.ifCond .ge 11, 3) := dk_156 0 11 (dk_at dksX0_wouldFall_0 20 rfl rfl)
theorem dX0_wouldFall_23 : decode cX0_wouldFall 23 = .ok (.aload_n 0, 1) := dk_42 (dk_at dksX0_wouldFall_0 23 rfl rfl)
theorem dX0_wouldFall_24 : decode cX0_wouldFall 24 = .ok (.iload_n 1, 1) := dk_27 (dk_at dksX0_wouldFall_1 0 rfl rfl)
theorem dX0_wouldFall_25 : decode cX0_wouldFall 25 = .ok (.iload_n 2, 1) := dk_28 (dk_at dksX0_wouldFall_1 1 rfl rfl)
theorem dX0_wouldFall_26 : decode cX0_wouldFall 26 = .ok (.iload_n 3, 1) := dk_29 (dk_at dksX0_wouldFall_1 2 rfl rfl)
theorem dX0_wouldFall_27 : decode cX0_wouldFall 27 = .ok (.invokevirtual 225, 3) := dk_182 0 225 (dk_at dksX0_wouldFall_1 3 rfl rfl)
theorem dX0_wouldFall_30 : decode cX0_wouldFall 30 = .ok (.ireturn, 1) := dk_172 (dk_at dksX0_wouldFall_1 6 rfl rfl)
theorem dX0_wouldFall_31 : decode cX0_wouldFall 31 = .ok (.aload_n 0, 1) := dk_42 (dk_at dksX0_wouldFall_1 7 rfl rfl)
theorem dX0_wouldFall_32 : decode cX0_wouldFall 32 = .ok (.getfield 42, 3) := dk_180 0 42 (dk_at dksX0_wouldFall_1 8 rfl rfl)
theorem dX0_wouldFall_35 : decode cX0_wouldFall 35 = .ok (.aload_n 0, 1) := dk_42 (dk_at dksX0_wouldFall_1 11 rfl rfl)
theorem dX0_wouldFall_36 : decode cX0_wouldFall 36 = .ok (.getfield 38, 3) := dk_180 0 38 (dk_at dksX0_wouldFall_1 12 rfl rfl)
theorem dX0_wouldFall_39 : decode cX0_wouldFall 39 = .ok (.invokevirtual 125, 3) := dk_182 0 125 (dk_at dksX0_wouldFall_1 15 rfl rfl)
theorem dX0_wouldFall_42 : decode cX0_wouldFall 42 = .ok (.aload_n 0, 1) := dk_42 (dk_at dksX0_wouldFall_1 18 rfl rfl)
theorem dX0_wouldFall_43 : decode cX0_wouldFall 43 = .ok (.getfield 42, 3) := dk_180 0 42 (dk_at dksX0_wouldFall_1 19 rfl rfl)
theorem dX0_wouldFall_46 : decode cX0_wouldFall 46 = .ok (.iload_n 1, 1) := dk_27 (dk_at dksX0_wouldFall_1 22 rfl rfl)
theorem dX0_wouldFall_47 : decode cX0_wouldFall 47 = .ok (.iload_n 2, 1) := dk_28 (dk_at dksX0_wouldFall_1 23 rfl rfl)
theorem dX0_wouldFall_48 : decode cX0_wouldFall 48 = .ok (.iload_n 3, 1) := dk_29 (dk_at dksX0_wouldFall_2 0 rfl rfl)
theorem dX0_wouldFall_49 : decode cX0_wouldFall 49 = .ok (.invokevirtual 248, 3) := dk_182 0 248 (dk_at dksX0_wouldFall_2 1 rfl rfl)
theorem dX0_wouldFall_52 : decode cX0_wouldFall 52 = .ok (.istore 5, 2) := dk_54 5 (dk_at dksX0_wouldFall_2 4 rfl rfl)
theorem dX0_wouldFall_54 : decode cX0_wouldFall 54 = .ok (.iload 4, 2) := dk_21 4 (dk_at dksX0_wouldFall_2 6 rfl rfl)
theorem dX0_wouldFall_56 : decode cX0_wouldFall 56 = .ok (.ifCond .ne 8, 3) := dk_154 0 8 (dk_at dksX0_wouldFall_2 8 rfl rfl)
theorem dX0_wouldFall_59 : decode cX0_wouldFall 59 = .ok (.iload 5, 2) := dk_21 5 (dk_at dksX0_wouldFall_2 11 rfl rfl)
theorem dX0_wouldFall_61 : decode cX0_wouldFall 61 = .ok (.goto 26, 3) := dk_167 0 26 (dk_at dksX0_wouldFall_2 13 rfl rfl)
theorem dX0_wouldFall_64 : decode cX0_wouldFall 64 = .ok (.iload 4, 2) := dk_21 4 (dk_at dksX0_wouldFall_2 16 rfl rfl)
theorem dX0_wouldFall_66 : decode cX0_wouldFall 66 = .ok (.iconst 1, 1) := dk_4 (dk_at dksX0_wouldFall_2 18 rfl rfl)
theorem dX0_wouldFall_67 : decode cX0_wouldFall 67 = .ok (.if_icmp .ne 13, 3) := dk_160 0 13 (dk_at dksX0_wouldFall_2 19 rfl rfl)
theorem dX0_wouldFall_70 : decode cX0_wouldFall 70 = .ok (.aload_n 0, 1) := dk_42 (dk_at dksX0_wouldFall_2 22 rfl rfl)
theorem dX0_wouldFall_71 : decode cX0_wouldFall 71 = .ok (.getfield 42, 3) := dk_180 0 42 (dk_at dksX0_wouldFall_3 0 rfl rfl)
theorem dX0_wouldFall_74 : decode cX0_wouldFall 74 = .ok (.getfield 251, 3) := dk_180 0 251 (dk_at dksX0_wouldFall_3 3 rfl rfl)
theorem dX0_wouldFall_77 : decode cX0_wouldFall 77 = .ok (.goto 10, 3) := dk_167 0 10 (dk_at dksX0_wouldFall_3 6 rfl rfl)
theorem dX0_wouldFall_80 : decode cX0_wouldFall 80 = .ok (.aload_n 0, 1) := dk_42 (dk_at dksX0_wouldFall_3 9 rfl rfl)
theorem dX0_wouldFall_81 : decode cX0_wouldFall 81 = .ok (.getfield 42, 3) := dk_180 0 42 (dk_at dksX0_wouldFall_3 10 rfl rfl)
theorem dX0_wouldFall_84 : decode cX0_wouldFall 84 = .ok (.getfield 254, 3) := dk_180 0 254 (dk_at dksX0_wouldFall_3 13 rfl rfl)
theorem dX0_wouldFall_87 : decode cX0_wouldFall 87 = .ok (.ireturn, 1) := dk_172 (dk_at dksX0_wouldFall_3 16 rfl rfl)
abbrev cX0_balls : ByteArray := prog_1_method_37_code
def yX0_balls : MethodName := ⟨RX0, "balls", "(II)I"⟩
def dkwX0_balls_5 : List UInt8 := [167, 255, 186, 28, 154, 0, 7, 29, 167, 0, 5, 21, 4, 172]
abbrev dktX0_balls_5 : List UInt8 := dkwX0_balls_5 ++ []
def dkwX0_balls_4 : List UInt8 := [21, 6, 153, 0, 14, 21, 4, 2, 160, 0, 8, 21, 5, 167, 0, 5, 21, 4, 54, 4, 132, 5, 1]
abbrev dktX0_balls_4 : List UInt8 := dkwX0_balls_4 ++ dktX0_balls_5
def dkwX0_balls_3 : List UInt8 := [160, 0, 7, 4, 167, 0, 4, 3, 54, 6, 29, 21, 6, 153, 0, 7, 4, 167, 0, 4, 3, 96, 62]
abbrev dktX0_balls_3 : List UInt8 := dkwX0_balls_3 ++ dktX0_balls_4
def dkwX0_balls_2 : List UInt8 := [17, 16, 204, 162, 0, 68, 21, 5, 184, 0, 132, 153, 0, 18, 42, 180, 0, 65, 21, 5, 46, 27]
abbrev dktX0_balls_2 : List UInt8 := dkwX0_balls_2 ++ dktX0_balls_3
def dkwX0_balls_1 : List UInt8 := [182, 0, 164, 154, 0, 6, 18, 224, 172, 42, 182, 0, 139, 3, 62, 2, 54, 4, 3, 54, 5, 21, 5]
abbrev dktX0_balls_1 : List UInt8 := dkwX0_balls_1 ++ dktX0_balls_2
def dkwX0_balls_0 : List UInt8 := [42, 27, 182, 1, 1, 154, 0, 6, 18, 199, 172, 28, 3, 4, 184, 0, 10, 154, 0, 6, 18, 87, 172, 42]
abbrev dktX0_balls_0 : List UInt8 := dkwX0_balls_0 ++ dktX0_balls_1
theorem dksX0_balls_0 : cX0_balls.data.toList.drop 0 = dktX0_balls_0 := by decide +kernel
theorem dksX0_balls_1 : cX0_balls.data.toList.drop 24 = dktX0_balls_1 := dk_seg dksX0_balls_0 24 rfl rfl
theorem dksX0_balls_2 : cX0_balls.data.toList.drop 47 = dktX0_balls_2 := dk_seg dksX0_balls_1 23 rfl rfl
theorem dksX0_balls_3 : cX0_balls.data.toList.drop 69 = dktX0_balls_3 := dk_seg dksX0_balls_2 22 rfl rfl
theorem dksX0_balls_4 : cX0_balls.data.toList.drop 92 = dktX0_balls_4 := dk_seg dksX0_balls_3 23 rfl rfl
theorem dksX0_balls_5 : cX0_balls.data.toList.drop 115 = dktX0_balls_5 := dk_seg dksX0_balls_4 23 rfl rfl
theorem dX0_balls_0 : decode cX0_balls 0 = .ok (.aload_n 0, 1) := dk_42 (dk_at dksX0_balls_0 0 rfl rfl)
theorem dX0_balls_1 : decode cX0_balls 1 = .ok (.iload_n 1, 1) := dk_27 (dk_at dksX0_balls_0 1 rfl rfl)
theorem dX0_balls_2 : decode cX0_balls 2 = .ok (.invokevirtual 257, 3) := dk_182 1 1 (dk_at dksX0_balls_0 2 rfl rfl)
theorem dX0_balls_5 : decode cX0_balls 5 = .ok (.ifCond .ne 6, 3) := dk_154 0 6 (dk_at dksX0_balls_0 5 rfl rfl)
theorem dX0_balls_8 : decode cX0_balls 8 = .ok (.ldc 199, 2) := dk_18 199 (dk_at dksX0_balls_0 8 rfl rfl)
theorem dX0_balls_10 : decode cX0_balls 10 = .ok (.ireturn, 1) := dk_172 (dk_at dksX0_balls_0 10 rfl rfl)
theorem dX0_balls_11 : decode cX0_balls 11 = .ok (.iload_n 2, 1) := dk_28 (dk_at dksX0_balls_0 11 rfl rfl)
theorem dX0_balls_12 : decode cX0_balls 12 = .ok (.iconst 0, 1) := dk_3 (dk_at dksX0_balls_0 12 rfl rfl)
theorem dX0_balls_13 : decode cX0_balls 13 = .ok (.iconst 1, 1) := dk_4 (dk_at dksX0_balls_0 13 rfl rfl)
theorem dX0_balls_14 : decode cX0_balls 14 = .ok (.invokestatic 10, 3) := dk_184 0 10 (dk_at dksX0_balls_0 14 rfl rfl)
theorem dX0_balls_17 : decode cX0_balls 17 = .ok (.ifCond .ne 6, 3) := dk_154 0 6 (dk_at dksX0_balls_0 17 rfl rfl)
theorem dX0_balls_20 : decode cX0_balls 20 = .ok (.ldc 87, 2) := dk_18 87 (dk_at dksX0_balls_0 20 rfl rfl)
theorem dX0_balls_22 : decode cX0_balls 22 = .ok (.ireturn, 1) := dk_172 (dk_at dksX0_balls_0 22 rfl rfl)
theorem dX0_balls_23 : decode cX0_balls 23 = .ok (.aload_n 0, 1) := dk_42 (dk_at dksX0_balls_0 23 rfl rfl)
theorem dX0_balls_24 : decode cX0_balls 24 = .ok (.invokevirtual 164, 3) := dk_182 0 164 (dk_at dksX0_balls_1 0 rfl rfl)
theorem dX0_balls_27 : decode cX0_balls 27 = .ok (.ifCond .ne 6, 3) := dk_154 0 6 (dk_at dksX0_balls_1 3 rfl rfl)
theorem dX0_balls_30 : decode cX0_balls 30 = .ok (.ldc 224, 2) := dk_18 224 (dk_at dksX0_balls_1 6 rfl rfl)
theorem dX0_balls_32 : decode cX0_balls 32 = .ok (.ireturn, 1) := dk_172 (dk_at dksX0_balls_1 8 rfl rfl)
theorem dX0_balls_33 : decode cX0_balls 33 = .ok (.aload_n 0, 1) := dk_42 (dk_at dksX0_balls_1 9 rfl rfl)
theorem dX0_balls_34 : decode cX0_balls 34 = .ok (.invokevirtual 139, 3) := dk_182 0 139 (dk_at dksX0_balls_1 10 rfl rfl)
theorem dX0_balls_37 : decode cX0_balls 37 = .ok (.iconst 0, 1) := dk_3 (dk_at dksX0_balls_1 13 rfl rfl)
theorem dX0_balls_38 : decode cX0_balls 38 = .ok (.istore_n 3, 1) := dk_62 (dk_at dksX0_balls_1 14 rfl rfl)
theorem dX0_balls_39 : decode cX0_balls 39 = .ok (.iconst (-1), 1) := dk_2 (dk_at dksX0_balls_1 15 rfl rfl)
theorem dX0_balls_40 : decode cX0_balls 40 = .ok (.istore 4, 2) := dk_54 4 (dk_at dksX0_balls_1 16 rfl rfl)
theorem dX0_balls_42 : decode cX0_balls 42 = .ok (.iconst 0, 1) := dk_3 (dk_at dksX0_balls_1 18 rfl rfl)
theorem dX0_balls_43 : decode cX0_balls 43 = .ok (.istore 5, 2) := dk_54 5 (dk_at dksX0_balls_1 19 rfl rfl)
theorem dX0_balls_45 : decode cX0_balls 45 = .ok (.iload 5, 2) := dk_21 5 (dk_at dksX0_balls_1 21 rfl rfl)
theorem dX0_balls_47 : decode cX0_balls 47 = .ok (.sipush 4300, 3) := dk_17 16 204 (dk_at dksX0_balls_2 0 rfl rfl)
theorem dX0_balls_50 : decode cX0_balls 50 = .ok (.if_icmp .ge 68, 3) := dk_162 0 68 (dk_at dksX0_balls_2 3 rfl rfl)
theorem dX0_balls_53 : decode cX0_balls 53 = .ok (.iload 5, 2) := dk_21 5 (dk_at dksX0_balls_2 6 rfl rfl)
theorem dX0_balls_55 : decode cX0_balls 55 = .ok (.invokestatic 132, 3) := dk_184 0 132 (dk_at dksX0_balls_2 8 rfl rfl)
theorem dX0_balls_58 : decode cX0_balls 58 = .ok (.ifCond .eq 18, 3) := dk_153 0 18 (dk_at dksX0_balls_2 11 rfl rfl)
theorem dX0_balls_61 : decode cX0_balls 61 = .ok (.aload_n 0, 1) := dk_42 (dk_at dksX0_balls_2 14 rfl rfl)
theorem dX0_balls_62 : decode cX0_balls 62 = .ok (.getfield 65, 3) := dk_180 0 65 (dk_at dksX0_balls_2 15 rfl rfl)
theorem dX0_balls_65 : decode cX0_balls 65 = .ok (.iload 5, 2) := dk_21 5 (dk_at dksX0_balls_2 18 rfl rfl)
theorem dX0_balls_67 : decode cX0_balls 67 = .ok (.iaload, 1) := dk_46 (dk_at dksX0_balls_2 20 rfl rfl)
theorem dX0_balls_68 : decode cX0_balls 68 = .ok (.iload_n 1, 1) := dk_27 (dk_at dksX0_balls_2 21 rfl rfl)
theorem dX0_balls_69 : decode cX0_balls 69 = .ok (.if_icmp .ne 7, 3) := dk_160 0 7 (dk_at dksX0_balls_3 0 rfl rfl)
theorem dX0_balls_72 : decode cX0_balls 72 = .ok (.iconst 1, 1) := dk_4 (dk_at dksX0_balls_3 3 rfl rfl)
theorem dX0_balls_73 : decode cX0_balls 73 = .ok (.goto 4, 3) := dk_167 0 4 (dk_at dksX0_balls_3 4 rfl rfl)
theorem dX0_balls_76 : decode cX0_balls 76 = .ok (.iconst 0, 1) := dk_3 (dk_at dksX0_balls_3 7 rfl rfl)
theorem dX0_balls_77 : decode cX0_balls 77 = .ok (.istore 6, 2) := dk_54 6 (dk_at dksX0_balls_3 8 rfl rfl)
theorem dX0_balls_79 : decode cX0_balls 79 = .ok (.iload_n 3, 1) := dk_29 (dk_at dksX0_balls_3 10 rfl rfl)
theorem dX0_balls_80 : decode cX0_balls 80 = .ok (.iload 6, 2) := dk_21 6 (dk_at dksX0_balls_3 11 rfl rfl)
theorem dX0_balls_82 : decode cX0_balls 82 = .ok (.ifCond .eq 7, 3) := dk_153 0 7 (dk_at dksX0_balls_3 13 rfl rfl)
theorem dX0_balls_85 : decode cX0_balls 85 = .ok (.iconst 1, 1) := dk_4 (dk_at dksX0_balls_3 16 rfl rfl)
theorem dX0_balls_86 : decode cX0_balls 86 = .ok (.goto 4, 3) := dk_167 0 4 (dk_at dksX0_balls_3 17 rfl rfl)
theorem dX0_balls_89 : decode cX0_balls 89 = .ok (.iconst 0, 1) := dk_3 (dk_at dksX0_balls_3 20 rfl rfl)
theorem dX0_balls_90 : decode cX0_balls 90 = .ok (.iadd, 1) := dk_96 (dk_at dksX0_balls_3 21 rfl rfl)
theorem dX0_balls_91 : decode cX0_balls 91 = .ok (.istore_n 3, 1) := dk_62 (dk_at dksX0_balls_3 22 rfl rfl)
theorem dX0_balls_92 : decode cX0_balls 92 = .ok (.iload 6, 2) := dk_21 6 (dk_at dksX0_balls_4 0 rfl rfl)
theorem dX0_balls_94 : decode cX0_balls 94 = .ok (.ifCond .eq 14, 3) := dk_153 0 14 (dk_at dksX0_balls_4 2 rfl rfl)
theorem dX0_balls_97 : decode cX0_balls 97 = .ok (.iload 4, 2) := dk_21 4 (dk_at dksX0_balls_4 5 rfl rfl)
theorem dX0_balls_99 : decode cX0_balls 99 = .ok (.iconst (-1), 1) := dk_2 (dk_at dksX0_balls_4 7 rfl rfl)
theorem dX0_balls_100 : decode cX0_balls 100 = .ok (.if_icmp .ne 8, 3) := dk_160 0 8 (dk_at dksX0_balls_4 8 rfl rfl)
theorem dX0_balls_103 : decode cX0_balls 103 = .ok (.iload 5, 2) := dk_21 5 (dk_at dksX0_balls_4 11 rfl rfl)
theorem dX0_balls_105 : decode cX0_balls 105 = .ok (.goto 5, 3) := dk_167 0 5 (dk_at dksX0_balls_4 13 rfl rfl)
theorem dX0_balls_108 : decode cX0_balls 108 = .ok (.iload 4, 2) := dk_21 4 (dk_at dksX0_balls_4 16 rfl rfl)
theorem dX0_balls_110 : decode cX0_balls 110 = .ok (.istore 4, 2) := dk_54 4 (dk_at dksX0_balls_4 18 rfl rfl)
theorem dX0_balls_112 : decode cX0_balls 112 = .ok (.iinc 5 1, 3) := dk_132 5 1 (dk_at dksX0_balls_4 20 rfl rfl)
theorem dX0_balls_115 : decode cX0_balls 115 = .ok (.goto (-70), 3) := dk_167 255 186 (dk_at dksX0_balls_5 0 rfl rfl)
theorem dX0_balls_118 : decode cX0_balls 118 = .ok (.iload_n 2, 1) := dk_28 (dk_at dksX0_balls_5 3 rfl rfl)
theorem dX0_balls_119 : decode cX0_balls 119 = .ok (.ifCond .ne 7, 3) := dk_154 0 7 (dk_at dksX0_balls_5 4 rfl rfl)
theorem dX0_balls_122 : decode cX0_balls 122 = .ok (.iload_n 3, 1) := dk_29 (dk_at dksX0_balls_5 7 rfl rfl)
theorem dX0_balls_123 : decode cX0_balls 123 = .ok (.goto 5, 3) := dk_167 0 5 (dk_at dksX0_balls_5 8 rfl rfl)
theorem dX0_balls_126 : decode cX0_balls 126 = .ok (.iload 4, 2) := dk_21 4 (dk_at dksX0_balls_5 11 rfl rfl)
theorem dX0_balls_128 : decode cX0_balls 128 = .ok (.ireturn, 1) := dk_172 (dk_at dksX0_balls_5 13 rfl rfl)
abbrev cX0_isSet : ByteArray := prog_1_method_13_code
def yX0_isSet : MethodName := ⟨RX0, "isSet", "(I)Z"⟩
def dkwX0_isSet_0 : List UInt8 := [27, 3, 4, 42, 180, 0, 29, 180, 0, 119, 120, 4, 100, 184, 0, 10, 172]
abbrev dktX0_isSet_0 : List UInt8 := dkwX0_isSet_0 ++ []
theorem dksX0_isSet_0 : cX0_isSet.data.toList.drop 0 = dktX0_isSet_0 := by decide +kernel
theorem dX0_isSet_0 : decode cX0_isSet 0 = .ok (.iload_n 1, 1) := dk_27 (dk_at dksX0_isSet_0 0 rfl rfl)
theorem dX0_isSet_1 : decode cX0_isSet 1 = .ok (.iconst 0, 1) := dk_3 (dk_at dksX0_isSet_0 1 rfl rfl)
theorem dX0_isSet_2 : decode cX0_isSet 2 = .ok (.iconst 1, 1) := dk_4 (dk_at dksX0_isSet_0 2 rfl rfl)
theorem dX0_isSet_3 : decode cX0_isSet 3 = .ok (.aload_n 0, 1) := dk_42 (dk_at dksX0_isSet_0 3 rfl rfl)
theorem dX0_isSet_4 : decode cX0_isSet 4 = .ok (.getfield 29, 3) := dk_180 0 29 (dk_at dksX0_isSet_0 4 rfl rfl)
theorem dX0_isSet_7 : decode cX0_isSet 7 = .ok (.getfield 119, 3) := dk_180 0 119 (dk_at dksX0_isSet_0 7 rfl rfl)
theorem dX0_isSet_10 : decode cX0_isSet 10 = .ok (.ishl, 1) := dk_120 (dk_at dksX0_isSet_0 10 rfl rfl)
theorem dX0_isSet_11 : decode cX0_isSet 11 = .ok (.iconst 1, 1) := dk_4 (dk_at dksX0_isSet_0 11 rfl rfl)
theorem dX0_isSet_12 : decode cX0_isSet 12 = .ok (.isub, 1) := dk_100 (dk_at dksX0_isSet_0 12 rfl rfl)
theorem dX0_isSet_13 : decode cX0_isSet 13 = .ok (.invokestatic 10, 3) := dk_184 0 10 (dk_at dksX0_isSet_0 13 rfl rfl)
theorem dX0_isSet_16 : decode cX0_isSet 16 = .ok (.ireturn, 1) := dk_172 (dk_at dksX0_isSet_0 16 rfl rfl)
abbrev cX0_spare : ByteArray := prog_1_method_38_code
def yX0_spare : MethodName := ⟨RX0, "spare", "(II)I"⟩
def dkwX0_spare_5 : List UInt8 := [153, 0, 8, 21, 4, 167, 0, 4, 29, 62, 132, 4, 1, 167, 255, 163, 29, 172]
abbrev dktX0_spare_5 : List UInt8 := dkwX0_spare_5 ++ []
def dkwX0_spare_4 : List UInt8 := [16, 100, 112, 29, 16, 100, 112, 162, 0, 7, 4, 167, 0, 4, 3, 54, 6, 21, 5, 153, 0, 13, 21, 6]
abbrev dktX0_spare_4 : List UInt8 := dkwX0_spare_4 ++ dktX0_spare_5
def dkwX0_spare_3 : List UInt8 := [180, 0, 65, 21, 4, 46, 126, 154, 0, 7, 4, 167, 0, 4, 3, 54, 5, 29, 2, 159, 0, 15, 21, 4]
abbrev dktX0_spare_3 : List UInt8 := dkwX0_spare_3 ++ dktX0_spare_4
def dkwX0_spare_2 : List UInt8 := [21, 4, 184, 0, 132, 153, 0, 33, 27, 42, 180, 0, 65, 21, 4, 46, 2, 130, 126, 154, 0, 19, 28, 42]
abbrev dktX0_spare_2 : List UInt8 := dkwX0_spare_2 ++ dktX0_spare_3
def dkwX0_spare_1 : List UInt8 := [154, 0, 6, 18, 224, 172, 42, 182, 0, 139, 2, 62, 3, 54, 4, 21, 4, 17, 16, 204, 162, 0, 91]
abbrev dktX0_spare_1 : List UInt8 := dkwX0_spare_1 ++ dktX0_spare_2
def dkwX0_spare_0 : List UInt8 := [42, 27, 182, 1, 1, 153, 0, 11, 42, 28, 182, 1, 1, 154, 0, 6, 18, 199, 172, 42, 182, 0, 164]
abbrev dktX0_spare_0 : List UInt8 := dkwX0_spare_0 ++ dktX0_spare_1
theorem dksX0_spare_0 : cX0_spare.data.toList.drop 0 = dktX0_spare_0 := by decide +kernel
theorem dksX0_spare_1 : cX0_spare.data.toList.drop 23 = dktX0_spare_1 := dk_seg dksX0_spare_0 23 rfl rfl
theorem dksX0_spare_2 : cX0_spare.data.toList.drop 46 = dktX0_spare_2 := dk_seg dksX0_spare_1 23 rfl rfl
theorem dksX0_spare_3 : cX0_spare.data.toList.drop 70 = dktX0_spare_3 := dk_seg dksX0_spare_2 24 rfl rfl
theorem dksX0_spare_4 : cX0_spare.data.toList.drop 94 = dktX0_spare_4 := dk_seg dksX0_spare_3 24 rfl rfl
theorem dksX0_spare_5 : cX0_spare.data.toList.drop 118 = dktX0_spare_5 := dk_seg dksX0_spare_4 24 rfl rfl
theorem dX0_spare_0 : decode cX0_spare 0 = .ok (.aload_n 0, 1) := dk_42 (dk_at dksX0_spare_0 0 rfl rfl)
theorem dX0_spare_1 : decode cX0_spare 1 = .ok (.iload_n 1, 1) := dk_27 (dk_at dksX0_spare_0 1 rfl rfl)
theorem dX0_spare_2 : decode cX0_spare 2 = .ok (.invokevirtual 257, 3) := dk_182 1 1 (dk_at dksX0_spare_0 2 rfl rfl)
theorem dX0_spare_5 : decode cX0_spare 5 = .ok (.ifCond .eq 11, 3) := dk_153 0 11 (dk_at dksX0_spare_0 5 rfl rfl)
theorem dX0_spare_8 : decode cX0_spare 8 = .ok (.aload_n 0, 1) := dk_42 (dk_at dksX0_spare_0 8 rfl rfl)
theorem dX0_spare_9 : decode cX0_spare 9 = .ok (.iload_n 2, 1) := dk_28 (dk_at dksX0_spare_0 9 rfl rfl)
theorem dX0_spare_10 : decode cX0_spare 10 = .ok (.invokevirtual 257, 3) := dk_182 1 1 (dk_at dksX0_spare_0 10 rfl rfl)
theorem dX0_spare_13 : decode cX0_spare 13 = .ok (.ifCond .ne 6, 3) := dk_154 0 6 (dk_at dksX0_spare_0 13 rfl rfl)
theorem dX0_spare_16 : decode cX0_spare 16 = .ok (.ldc 199, 2) := dk_18 199 (dk_at dksX0_spare_0 16 rfl rfl)
theorem dX0_spare_18 : decode cX0_spare 18 = .ok (.ireturn, 1) := dk_172 (dk_at dksX0_spare_0 18 rfl rfl)
theorem dX0_spare_19 : decode cX0_spare 19 = .ok (.aload_n 0, 1) := dk_42 (dk_at dksX0_spare_0 19 rfl rfl)
theorem dX0_spare_20 : decode cX0_spare 20 = .ok (.invokevirtual 164, 3) := dk_182 0 164 (dk_at dksX0_spare_0 20 rfl rfl)
theorem dX0_spare_23 : decode cX0_spare 23 = .ok (.ifCond .ne 6, 3) := dk_154 0 6 (dk_at dksX0_spare_1 0 rfl rfl)
theorem dX0_spare_26 : decode cX0_spare 26 = .ok (.ldc 224, 2) := dk_18 224 (dk_at dksX0_spare_1 3 rfl rfl)
theorem dX0_spare_28 : decode cX0_spare 28 = .ok (.ireturn, 1) := dk_172 (dk_at dksX0_spare_1 5 rfl rfl)
theorem dX0_spare_29 : decode cX0_spare 29 = .ok (.aload_n 0, 1) := dk_42 (dk_at dksX0_spare_1 6 rfl rfl)
theorem dX0_spare_30 : decode cX0_spare 30 = .ok (.invokevirtual 139, 3) := dk_182 0 139 (dk_at dksX0_spare_1 7 rfl rfl)
theorem dX0_spare_33 : decode cX0_spare 33 = .ok (.iconst (-1), 1) := dk_2 (dk_at dksX0_spare_1 10 rfl rfl)
theorem dX0_spare_34 : decode cX0_spare 34 = .ok (.istore_n 3, 1) := dk_62 (dk_at dksX0_spare_1 11 rfl rfl)
theorem dX0_spare_35 : decode cX0_spare 35 = .ok (.iconst 0, 1) := dk_3 (dk_at dksX0_spare_1 12 rfl rfl)
theorem dX0_spare_36 : decode cX0_spare 36 = .ok (.istore 4, 2) := dk_54 4 (dk_at dksX0_spare_1 13 rfl rfl)
theorem dX0_spare_38 : decode cX0_spare 38 = .ok (.iload 4, 2) := dk_21 4 (dk_at dksX0_spare_1 15 rfl rfl)
theorem dX0_spare_40 : decode cX0_spare 40 = .ok (.sipush 4300, 3) := dk_17 16 204 (dk_at dksX0_spare_1 17 rfl rfl)
theorem dX0_spare_43 : decode cX0_spare 43 = .ok (.if_icmp .ge 91, 3) := dk_162 0 91 (dk_at dksX0_spare_1 20 rfl rfl)
theorem dX0_spare_46 : decode cX0_spare 46 = .ok (.iload 4, 2) := dk_21 4 (dk_at dksX0_spare_2 0 rfl rfl)
theorem dX0_spare_48 : decode cX0_spare 48 = .ok (.invokestatic 132, 3) := dk_184 0 132 (dk_at dksX0_spare_2 2 rfl rfl)
theorem dX0_spare_51 : decode cX0_spare 51 = .ok (.ifCond .eq 33, 3) := dk_153 0 33 (dk_at dksX0_spare_2 5 rfl rfl)
theorem dX0_spare_54 : decode cX0_spare 54 = .ok (.iload_n 1, 1) := dk_27 (dk_at dksX0_spare_2 8 rfl rfl)
theorem dX0_spare_55 : decode cX0_spare 55 = .ok (.aload_n 0, 1) := dk_42 (dk_at dksX0_spare_2 9 rfl rfl)
theorem dX0_spare_56 : decode cX0_spare 56 = .ok (.getfield 65, 3) := dk_180 0 65 (dk_at dksX0_spare_2 10 rfl rfl)
theorem dX0_spare_59 : decode cX0_spare 59 = .ok (.iload 4, 2) := dk_21 4 (dk_at dksX0_spare_2 13 rfl rfl)
theorem dX0_spare_61 : decode cX0_spare 61 = .ok (.iaload, 1) := dk_46 (dk_at dksX0_spare_2 15 rfl rfl)
theorem dX0_spare_62 : decode cX0_spare 62 = .ok (.iconst (-1), 1) := dk_2 (dk_at dksX0_spare_2 16 rfl rfl)
theorem dX0_spare_63 : decode cX0_spare 63 = .ok (.ixor, 1) := dk_130 (dk_at dksX0_spare_2 17 rfl rfl)
theorem dX0_spare_64 : decode cX0_spare 64 = .ok (.iand, 1) := dk_126 (dk_at dksX0_spare_2 18 rfl rfl)
theorem dX0_spare_65 : decode cX0_spare 65 = .ok (.ifCond .ne 19, 3) := dk_154 0 19 (dk_at dksX0_spare_2 19 rfl rfl)
theorem dX0_spare_68 : decode cX0_spare 68 = .ok (.iload_n 2, 1) := dk_28 (dk_at dksX0_spare_2 22 rfl rfl)
theorem dX0_spare_69 : decode cX0_spare 69 = .ok (.aload_n 0, 1) := dk_42 (dk_at dksX0_spare_2 23 rfl rfl)
theorem dX0_spare_70 : decode cX0_spare 70 = .ok (.getfield 65, 3) := dk_180 0 65 (dk_at dksX0_spare_3 0 rfl rfl)
theorem dX0_spare_73 : decode cX0_spare 73 = .ok (.iload 4, 2) := dk_21 4 (dk_at dksX0_spare_3 3 rfl rfl)
theorem dX0_spare_75 : decode cX0_spare 75 = .ok (.iaload, 1) := dk_46 (dk_at dksX0_spare_3 5 rfl rfl)
theorem dX0_spare_76 : decode cX0_spare 76 = .ok (.iand, 1) := dk_126 (dk_at dksX0_spare_3 6 rfl rfl)
theorem dX0_spare_77 : decode cX0_spare 77 = .ok (.ifCond .ne 7, 3) := dk_154 0 7 (dk_at dksX0_spare_3 7 rfl rfl)
theorem dX0_spare_80 : decode cX0_spare 80 = .ok (.iconst 1, 1) := dk_4 (dk_at dksX0_spare_3 10 rfl rfl)
theorem dX0_spare_81 : decode cX0_spare 81 = .ok (.goto 4, 3) := dk_167 0 4 (dk_at dksX0_spare_3 11 rfl rfl)
theorem dX0_spare_84 : decode cX0_spare 84 = .ok (.iconst 0, 1) := dk_3 (dk_at dksX0_spare_3 14 rfl rfl)
theorem dX0_spare_85 : decode cX0_spare 85 = .ok (.istore 5, 2) := dk_54 5 (dk_at dksX0_spare_3 15 rfl rfl)
theorem dX0_spare_87 : decode cX0_spare 87 = .ok (.iload_n 3, 1) := dk_29 (dk_at dksX0_spare_3 17 rfl rfl)
theorem dX0_spare_88 : decode cX0_spare 88 = .ok (.iconst (-1), 1) := dk_2 (dk_at dksX0_spare_3 18 rfl rfl)
theorem dX0_spare_89 : decode cX0_spare 89 = .ok (.if_icmp .eq 15, 3) := dk_159 0 15 (dk_at dksX0_spare_3 19 rfl rfl)
theorem dX0_spare_92 : decode cX0_spare 92 = .ok (.iload 4, 2) := dk_21 4 (dk_at dksX0_spare_3 22 rfl rfl)
theorem dX0_spare_94 : decode cX0_spare 94 = .ok (.bipush 100, 2) := dk_16 100 (dk_at dksX0_spare_4 0 rfl rfl)
theorem dX0_spare_96 : decode cX0_spare 96 = .ok (.irem, 1) := dk_112 (dk_at dksX0_spare_4 2 rfl rfl)
theorem dX0_spare_97 : decode cX0_spare 97 = .ok (.iload_n 3, 1) := dk_29 (dk_at dksX0_spare_4 3 rfl rfl)
theorem dX0_spare_98 : decode cX0_spare 98 = .ok (.bipush 100, 2) := dk_16 100 (dk_at dksX0_spare_4 4 rfl rfl)
theorem dX0_spare_100 : decode cX0_spare 100 = .ok (.irem, 1) := dk_112 (dk_at dksX0_spare_4 6 rfl rfl)
theorem dX0_spare_101 : decode cX0_spare 101 = .ok (.if_icmp .ge 7, 3) := dk_162 0 7 (dk_at dksX0_spare_4 7 rfl rfl)
theorem dX0_spare_104 : decode cX0_spare 104 = .ok (.iconst 1, 1) := dk_4 (dk_at dksX0_spare_4 10 rfl rfl)
theorem dX0_spare_105 : decode cX0_spare 105 = .ok (.goto 4, 3) := dk_167 0 4 (dk_at dksX0_spare_4 11 rfl rfl)
theorem dX0_spare_108 : decode cX0_spare 108 = .ok (.iconst 0, 1) := dk_3 (dk_at dksX0_spare_4 14 rfl rfl)
theorem dX0_spare_109 : decode cX0_spare 109 = .ok (.istore 6, 2) := dk_54 6 (dk_at dksX0_spare_4 15 rfl rfl)
theorem dX0_spare_111 : decode cX0_spare 111 = .ok (.iload 5, 2) := dk_21 5 (dk_at dksX0_spare_4 17 rfl rfl)
theorem dX0_spare_113 : decode cX0_spare 113 = .ok (.ifCond .eq 13, 3) := dk_153 0 13 (dk_at dksX0_spare_4 19 rfl rfl)
theorem dX0_spare_116 : decode cX0_spare 116 = .ok (.iload 6, 2) := dk_21 6 (dk_at dksX0_spare_4 22 rfl rfl)
theorem dX0_spare_118 : decode cX0_spare 118 = .ok (.ifCond .eq 8, 3) := dk_153 0 8 (dk_at dksX0_spare_5 0 rfl rfl)
theorem dX0_spare_121 : decode cX0_spare 121 = .ok (.iload 4, 2) := dk_21 4 (dk_at dksX0_spare_5 3 rfl rfl)
theorem dX0_spare_123 : decode cX0_spare 123 = .ok (.goto 4, 3) := dk_167 0 4 (dk_at dksX0_spare_5 5 rfl rfl)
theorem dX0_spare_126 : decode cX0_spare 126 = .ok (.iload_n 3, 1) := dk_29 (dk_at dksX0_spare_5 8 rfl rfl)
theorem dX0_spare_127 : decode cX0_spare 127 = .ok (.istore_n 3, 1) := dk_62 (dk_at dksX0_spare_5 9 rfl rfl)
theorem dX0_spare_128 : decode cX0_spare 128 = .ok (.iinc 4 1, 3) := dk_132 4 1 (dk_at dksX0_spare_5 10 rfl rfl)
theorem dX0_spare_131 : decode cX0_spare 131 = .ok (.goto (-93), 3) := dk_167 255 163 (dk_at dksX0_spare_5 13 rfl rfl)
theorem dX0_spare_134 : decode cX0_spare 134 = .ok (.iload_n 3, 1) := dk_29 (dk_at dksX0_spare_5 16 rfl rfl)
theorem dX0_spare_135 : decode cX0_spare 135 = .ok (.ireturn, 1) := dk_172 (dk_at dksX0_spare_5 17 rfl rfl)
abbrev cX0_allDown : ByteArray := prog_1_method_41_code
def yX0_allDown : MethodName := ⟨RX0, "allDown", "(I)I"⟩
def dkwX0_allDown_5 : List UInt8 := [132, 3, 1, 167, 255, 224, 29, 172]
abbrev dktX0_allDown_5 : List UInt8 := dkwX0_allDown_5 ++ []
def dkwX0_allDown_4 : List UInt8 := [42, 42, 42, 180, 0, 38, 180, 0, 152, 29, 182, 1, 4, 182, 1, 7, 28, 4, 100, 159, 0, 9]
abbrev dktX0_allDown_4 : List UInt8 := dkwX0_allDown_4 ++ dktX0_allDown_5
def dkwX0_allDown_3 : List UInt8 := [154, 0, 13, 28, 18, 151, 162, 0, 7, 28, 167, 0, 4, 2, 172, 3, 62, 29, 184, 0, 132, 153, 0, 25]
abbrev dktX0_allDown_3 : List UInt8 := dkwX0_allDown_3 ++ dktX0_allDown_4
def dkwX0_allDown_2 : List UInt8 := [180, 0, 152, 182, 1, 7, 61, 27, 153, 0, 13, 28, 18, 151, 162, 0, 7, 28, 154, 0, 19, 27]
abbrev dktX0_allDown_2 : List UInt8 := dkwX0_allDown_2 ++ dktX0_allDown_3
def dkwX0_allDown_1 : List UInt8 := [180, 0, 68, 2, 184, 1, 10, 42, 180, 0, 42, 42, 180, 0, 38, 182, 0, 125, 42, 42, 180, 0, 38]
abbrev dktX0_allDown_1 : List UInt8 := dkwX0_allDown_1 ++ dktX0_allDown_2
def dkwX0_allDown_0 : List UInt8 := [27, 3, 4, 184, 0, 10, 154, 0, 6, 18, 87, 172, 42, 182, 0, 164, 154, 0, 6, 18, 224, 172, 42]
abbrev dktX0_allDown_0 : List UInt8 := dkwX0_allDown_0 ++ dktX0_allDown_1
theorem dksX0_allDown_0 : cX0_allDown.data.toList.drop 0 = dktX0_allDown_0 := by decide +kernel
theorem dksX0_allDown_1 : cX0_allDown.data.toList.drop 23 = dktX0_allDown_1 := dk_seg dksX0_allDown_0 23 rfl rfl
theorem dksX0_allDown_2 : cX0_allDown.data.toList.drop 46 = dktX0_allDown_2 := dk_seg dksX0_allDown_1 23 rfl rfl
theorem dksX0_allDown_3 : cX0_allDown.data.toList.drop 68 = dktX0_allDown_3 := dk_seg dksX0_allDown_2 22 rfl rfl
theorem dksX0_allDown_4 : cX0_allDown.data.toList.drop 92 = dktX0_allDown_4 := dk_seg dksX0_allDown_3 24 rfl rfl
theorem dksX0_allDown_5 : cX0_allDown.data.toList.drop 114 = dktX0_allDown_5 := dk_seg dksX0_allDown_4 22 rfl rfl
theorem dX0_allDown_0 : decode cX0_allDown 0 = .ok (.iload_n 1, 1) := dk_27 (dk_at dksX0_allDown_0 0 rfl rfl)
theorem dX0_allDown_1 : decode cX0_allDown 1 = .ok (.iconst 0, 1) := dk_3 (dk_at dksX0_allDown_0 1 rfl rfl)
theorem dX0_allDown_2 : decode cX0_allDown 2 = .ok (.iconst 1, 1) := dk_4 (dk_at dksX0_allDown_0 2 rfl rfl)
theorem dX0_allDown_3 : decode cX0_allDown 3 = .ok (.invokestatic 10, 3) := dk_184 0 10 (dk_at dksX0_allDown_0 3 rfl rfl)
theorem dX0_allDown_6 : decode cX0_allDown 6 = .ok (.ifCond .ne 6, 3) := dk_154 0 6 (dk_at dksX0_allDown_0 6 rfl rfl)
theorem dX0_allDown_9 : decode cX0_allDown 9 = .ok (.ldc 87, 2) := dk_18 87 (dk_at dksX0_allDown_0 9 rfl rfl)
theorem dX0_allDown_11 : decode cX0_allDown 11 = .ok (.ireturn, 1) := dk_172 (dk_at dksX0_allDown_0 11 rfl rfl)
theorem dX0_allDown_12 : decode cX0_allDown 12 = .ok (.aload_n 0, 1) := dk_42 (dk_at dksX0_allDown_0 12 rfl rfl)
theorem dX0_allDown_13 : decode cX0_allDown 13 = .ok (.invokevirtual 164, 3) := dk_182 0 164 (dk_at dksX0_allDown_0 13 rfl rfl)
theorem dX0_allDown_16 : decode cX0_allDown 16 = .ok (.ifCond .ne 6, 3) := dk_154 0 6 (dk_at dksX0_allDown_0 16 rfl rfl)
theorem dX0_allDown_19 : decode cX0_allDown 19 = .ok (.ldc 224, 2) := dk_18 224 (dk_at dksX0_allDown_0 19 rfl rfl)
theorem dX0_allDown_21 : decode cX0_allDown 21 = .ok (.ireturn, 1) := dk_172 (dk_at dksX0_allDown_0 21 rfl rfl)
theorem dX0_allDown_22 : decode cX0_allDown 22 = .ok (.aload_n 0, 1) := dk_42 (dk_at dksX0_allDown_0 22 rfl rfl)
theorem dX0_allDown_23 : decode cX0_allDown 23 = .ok (.getfield 68, 3) := dk_180 0 68 (dk_at dksX0_allDown_1 0 rfl rfl)
theorem dX0_allDown_26 : decode cX0_allDown 26 = .ok (.iconst (-1), 1) := dk_2 (dk_at dksX0_allDown_1 3 rfl rfl)
theorem dX0_allDown_27 : decode cX0_allDown 27 = .ok (.invokestatic 266, 3) := dk_184 1 10 (dk_at dksX0_allDown_1 4 rfl rfl)
theorem dX0_allDown_30 : decode cX0_allDown 30 = .ok (.aload_n 0, 1) := dk_42 (dk_at dksX0_allDown_1 7 rfl rfl)
theorem dX0_allDown_31 : decode cX0_allDown 31 = .ok (.getfield 42, 3) := dk_180 0 42 (dk_at dksX0_allDown_1 8 rfl rfl)
theorem dX0_allDown_34 : decode cX0_allDown 34 = .ok (.aload_n 0, 1) := dk_42 (dk_at dksX0_allDown_1 11 rfl rfl)
theorem dX0_allDown_35 : decode cX0_allDown 35 = .ok (.getfield 38, 3) := dk_180 0 38 (dk_at dksX0_allDown_1 12 rfl rfl)
theorem dX0_allDown_38 : decode cX0_allDown 38 = .ok (.invokevirtual 125, 3) := dk_182 0 125 (dk_at dksX0_allDown_1 15 rfl rfl)
theorem dX0_allDown_41 : decode cX0_allDown 41 = .ok (.aload_n 0, 1) := dk_42 (dk_at dksX0_allDown_1 18 rfl rfl)
theorem dX0_allDown_42 : decode cX0_allDown 42 = .ok (.aload_n 0, 1) := dk_42 (dk_at dksX0_allDown_1 19 rfl rfl)
theorem dX0_allDown_43 : decode cX0_allDown 43 = .ok (.getfield 38, 3) := dk_180 0 38 (dk_at dksX0_allDown_1 20 rfl rfl)
theorem dX0_allDown_46 : decode cX0_allDown 46 = .ok (.getfield 152, 3) := dk_180 0 152 (dk_at dksX0_allDown_2 0 rfl rfl)
theorem dX0_allDown_49 : decode cX0_allDown 49 = .ok (.invokevirtual 263, 3) := dk_182 1 7 (dk_at dksX0_allDown_2 3 rfl rfl)
theorem dX0_allDown_52 : decode cX0_allDown 52 = .ok (.istore_n 2, 1) := dk_61 (dk_at dksX0_allDown_2 6 rfl rfl)
theorem dX0_allDown_53 : decode cX0_allDown 53 = .ok (.iload_n 1, 1) := dk_27 (dk_at dksX0_allDown_2 7 rfl rfl)
theorem dX0_allDown_54 : decode cX0_allDown 54 = .ok (.ifCond .eq 13, 3) := dk_153 0 13 (dk_at dksX0_allDown_2 8 rfl rfl)
theorem dX0_allDown_57 : decode cX0_allDown 57 = .ok (.iload_n 2, 1) := dk_28 (dk_at dksX0_allDown_2 11 rfl rfl)
theorem dX0_allDown_58 : decode cX0_allDown 58 = .ok (.ldc 151, 2) := dk_18 151 (dk_at dksX0_allDown_2 12 rfl rfl)
theorem dX0_allDown_60 : decode cX0_allDown 60 = .ok (.if_icmp .ge 7, 3) := dk_162 0 7 (dk_at dksX0_allDown_2 14 rfl rfl)
theorem dX0_allDown_63 : decode cX0_allDown 63 = .ok (.iload_n 2, 1) := dk_28 (dk_at dksX0_allDown_2 17 rfl rfl)
theorem dX0_allDown_64 : decode cX0_allDown 64 = .ok (.ifCond .ne 19, 3) := dk_154 0 19 (dk_at dksX0_allDown_2 18 rfl rfl)
theorem dX0_allDown_67 : decode cX0_allDown 67 = .ok (.iload_n 1, 1) := dk_27 (dk_at dksX0_allDown_2 21 rfl rfl)
theorem dX0_allDown_68 : decode cX0_allDown 68 = .ok (.ifCond .ne 13, 3) := dk_154 0 13 (dk_at dksX0_allDown_3 0 rfl rfl)
theorem dX0_allDown_71 : decode cX0_allDown 71 = .ok (.iload_n 2, 1) := dk_28 (dk_at dksX0_allDown_3 3 rfl rfl)
theorem dX0_allDown_72 : decode cX0_allDown 72 = .ok (.ldc 151, 2) := dk_18 151 (dk_at dksX0_allDown_3 4 rfl rfl)
theorem dX0_allDown_74 : decode cX0_allDown 74 = .ok (.if_icmp .ge 7, 3) := dk_162 0 7 (dk_at dksX0_allDown_3 6 rfl rfl)
theorem dX0_allDown_77 : decode cX0_allDown 77 = .ok (.iload_n 2, 1) := dk_28 (dk_at dksX0_allDown_3 9 rfl rfl)
theorem dX0_allDown_78 : decode cX0_allDown 78 = .ok (.goto 4, 3) := dk_167 0 4 (dk_at dksX0_allDown_3 10 rfl rfl)
theorem dX0_allDown_81 : decode cX0_allDown 81 = .ok (.iconst (-1), 1) := dk_2 (dk_at dksX0_allDown_3 13 rfl rfl)
theorem dX0_allDown_82 : decode cX0_allDown 82 = .ok (.ireturn, 1) := dk_172 (dk_at dksX0_allDown_3 14 rfl rfl)
theorem dX0_allDown_83 : decode cX0_allDown 83 = .ok (.iconst 0, 1) := dk_3 (dk_at dksX0_allDown_3 15 rfl rfl)
theorem dX0_allDown_84 : decode cX0_allDown 84 = .ok (.istore_n 3, 1) := dk_62 (dk_at dksX0_allDown_3 16 rfl rfl)
theorem dX0_allDown_85 : decode cX0_allDown 85 = .ok (.iload_n 3, 1) := dk_29 (dk_at dksX0_allDown_3 17 rfl rfl)
theorem dX0_allDown_86 : decode cX0_allDown 86 = .ok (.invokestatic 132, 3) := dk_184 0 132 (dk_at dksX0_allDown_3 18 rfl rfl)
theorem dX0_allDown_89 : decode cX0_allDown 89 = .ok (.ifCond .eq 25, 3) := dk_153 0 25 (dk_at dksX0_allDown_3 21 rfl rfl)
theorem dX0_allDown_92 : decode cX0_allDown 92 = .ok (.aload_n 0, 1) := dk_42 (dk_at dksX0_allDown_4 0 rfl rfl)
theorem dX0_allDown_93 : decode cX0_allDown 93 = .ok (.aload_n 0, 1) := dk_42 (dk_at dksX0_allDown_4 1 rfl rfl)
theorem dX0_allDown_94 : decode cX0_allDown 94 = .ok (.aload_n 0, 1) := dk_42 (dk_at dksX0_allDown_4 2 rfl rfl)
theorem dX0_allDown_95 : decode cX0_allDown 95 = .ok (.getfield 38, 3) := dk_180 0 38 (dk_at dksX0_allDown_4 3 rfl rfl)
theorem dX0_allDown_98 : decode cX0_allDown 98 = .ok (.getfield 152, 3) := dk_180 0 152 (dk_at dksX0_allDown_4 6 rfl rfl)
theorem dX0_allDown_101 : decode cX0_allDown 101 = .ok (.iload_n 3, 1) := dk_29 (dk_at dksX0_allDown_4 9 rfl rfl)
theorem dX0_allDown_102 : decode cX0_allDown 102 = .ok (.invokevirtual 260, 3) := dk_182 1 4 (dk_at dksX0_allDown_4 10 rfl rfl)
theorem dX0_allDown_105 : decode cX0_allDown 105 = .ok (.invokevirtual 263, 3) := dk_182 1 7 (dk_at dksX0_allDown_4 13 rfl rfl)
theorem dX0_allDown_108 : decode cX0_allDown 108 = .ok (.iload_n 2, 1) := dk_28 (dk_at dksX0_allDown_4 16 rfl rfl)
theorem dX0_allDown_109 : decode cX0_allDown 109 = .ok (.iconst 1, 1) := dk_4 (dk_at dksX0_allDown_4 17 rfl rfl)
theorem dX0_allDown_110 : decode cX0_allDown 110 = .ok (.isub, 1) := dk_100 (dk_at dksX0_allDown_4 18 rfl rfl)
theorem dX0_allDown_111 : decode cX0_allDown 111 = .ok (.if_icmp .eq 9, 3) := dk_159 0 9 (dk_at dksX0_allDown_4 19 rfl rfl)
theorem dX0_allDown_114 : decode cX0_allDown 114 = .ok (.iinc 3 1, 3) := dk_132 3 1 (dk_at dksX0_allDown_5 0 rfl rfl)
theorem dX0_allDown_117 : decode cX0_allDown 117 = .ok (.goto (-32), 3) := dk_167 255 224 (dk_at dksX0_allDown_5 3 rfl rfl)
theorem dX0_allDown_120 : decode cX0_allDown 120 = .ok (.iload_n 3, 1) := dk_29 (dk_at dksX0_allDown_5 6 rfl rfl)
theorem dX0_allDown_121 : decode cX0_allDown 121 = .ok (.ireturn, 1) := dk_172 (dk_at dksX0_allDown_5 7 rfl rfl)
abbrev cX0_needOf : ByteArray := prog_1_method_40_code
def yX0_needOf : MethodName := ⟨RX0, "needOf", "(I)I"⟩
def dkwX0_needOf_4 : List UInt8 := [180, 0, 68, 27, 46, 172]
abbrev dktX0_needOf_4 : List UInt8 := dkwX0_needOf_4 ++ []
def dkwX0_needOf_3 : List UInt8 := [42, 180, 0, 68, 27, 46, 42, 29, 182, 1, 7, 4, 96, 184, 0, 158, 79, 132, 2, 1, 167, 255, 192, 42]
abbrev dktX0_needOf_3 : List UInt8 := dkwX0_needOf_3 ++ dktX0_needOf_4
def dkwX0_needOf_2 : List UInt8 := [167, 0, 4, 27, 62, 42, 180, 0, 68, 27, 29, 27, 160, 0, 12, 42, 180, 0, 68, 27, 46, 167, 0, 19]
abbrev dktX0_needOf_2 : List UInt8 := dkwX0_needOf_2 ++ dktX0_needOf_3
def dkwX0_needOf_1 : List UInt8 := [3, 61, 28, 17, 16, 204, 162, 0, 63, 28, 184, 0, 132, 153, 0, 12, 42, 27, 28, 182, 1, 4]
abbrev dktX0_needOf_1 : List UInt8 := dkwX0_needOf_1 ++ dktX0_needOf_2
def dkwX0_needOf_0 : List UInt8 := [27, 154, 0, 5, 3, 172, 42, 180, 0, 68, 27, 46, 2, 160, 0, 80, 42, 180, 0, 68, 27, 18, 151, 79]
abbrev dktX0_needOf_0 : List UInt8 := dkwX0_needOf_0 ++ dktX0_needOf_1
theorem dksX0_needOf_0 : cX0_needOf.data.toList.drop 0 = dktX0_needOf_0 := by decide +kernel
theorem dksX0_needOf_1 : cX0_needOf.data.toList.drop 24 = dktX0_needOf_1 := dk_seg dksX0_needOf_0 24 rfl rfl
theorem dksX0_needOf_2 : cX0_needOf.data.toList.drop 46 = dktX0_needOf_2 := dk_seg dksX0_needOf_1 22 rfl rfl
theorem dksX0_needOf_3 : cX0_needOf.data.toList.drop 70 = dktX0_needOf_3 := dk_seg dksX0_needOf_2 24 rfl rfl
theorem dksX0_needOf_4 : cX0_needOf.data.toList.drop 94 = dktX0_needOf_4 := dk_seg dksX0_needOf_3 24 rfl rfl
theorem dX0_needOf_0 : decode cX0_needOf 0 = .ok (.iload_n 1, 1) := dk_27 (dk_at dksX0_needOf_0 0 rfl rfl)
theorem dX0_needOf_1 : decode cX0_needOf 1 = .ok (.ifCond .ne 5, 3) := dk_154 0 5 (dk_at dksX0_needOf_0 1 rfl rfl)
theorem dX0_needOf_4 : decode cX0_needOf 4 = .ok (.iconst 0, 1) := dk_3 (dk_at dksX0_needOf_0 4 rfl rfl)
theorem dX0_needOf_5 : decode cX0_needOf 5 = .ok (.ireturn, 1) := dk_172 (dk_at dksX0_needOf_0 5 rfl rfl)
theorem dX0_needOf_6 : decode cX0_needOf 6 = .ok (.aload_n 0, 1) := dk_42 (dk_at dksX0_needOf_0 6 rfl rfl)
theorem dX0_needOf_7 : decode cX0_needOf 7 = .ok (.getfield 68, 3) := dk_180 0 68 (dk_at dksX0_needOf_0 7 rfl rfl)
theorem dX0_needOf_10 : decode cX0_needOf 10 = .ok (.iload_n 1, 1) := dk_27 (dk_at dksX0_needOf_0 10 rfl rfl)
theorem dX0_needOf_11 : decode cX0_needOf 11 = .ok (.iaload, 1) := dk_46 (dk_at dksX0_needOf_0 11 rfl rfl)
theorem dX0_needOf_12 : decode cX0_needOf 12 = .ok (.iconst (-1), 1) := dk_2 (dk_at dksX0_needOf_0 12 rfl rfl)
theorem dX0_needOf_13 : decode cX0_needOf 13 = .ok (.if_icmp .ne 80, 3) := dk_160 0 80 (dk_at dksX0_needOf_0 13 rfl rfl)
theorem dX0_needOf_16 : decode cX0_needOf 16 = .ok (.aload_n 0, 1) := dk_42 (dk_at dksX0_needOf_0 16 rfl rfl)
theorem dX0_needOf_17 : decode cX0_needOf 17 = .ok (.getfield 68, 3) := dk_180 0 68 (dk_at dksX0_needOf_0 17 rfl rfl)
theorem dX0_needOf_20 : decode cX0_needOf 20 = .ok (.iload_n 1, 1) := dk_27 (dk_at dksX0_needOf_0 20 rfl rfl)
theorem dX0_needOf_21 : decode cX0_needOf 21 = .ok (.ldc 151, 2) := dk_18 151 (dk_at dksX0_needOf_0 21 rfl rfl)
theorem dX0_needOf_23 : decode cX0_needOf 23 = .ok (.iastore, 1) := dk_79 (dk_at dksX0_needOf_0 23 rfl rfl)
theorem dX0_needOf_24 : decode cX0_needOf 24 = .ok (.iconst 0, 1) := dk_3 (dk_at dksX0_needOf_1 0 rfl rfl)
theorem dX0_needOf_25 : decode cX0_needOf 25 = .ok (.istore_n 2, 1) := dk_61 (dk_at dksX0_needOf_1 1 rfl rfl)
theorem dX0_needOf_26 : decode cX0_needOf 26 = .ok (.iload_n 2, 1) := dk_28 (dk_at dksX0_needOf_1 2 rfl rfl)
theorem dX0_needOf_27 : decode cX0_needOf 27 = .ok (.sipush 4300, 3) := dk_17 16 204 (dk_at dksX0_needOf_1 3 rfl rfl)
theorem dX0_needOf_30 : decode cX0_needOf 30 = .ok (.if_icmp .ge 63, 3) := dk_162 0 63 (dk_at dksX0_needOf_1 6 rfl rfl)
theorem dX0_needOf_33 : decode cX0_needOf 33 = .ok (.iload_n 2, 1) := dk_28 (dk_at dksX0_needOf_1 9 rfl rfl)
theorem dX0_needOf_34 : decode cX0_needOf 34 = .ok (.invokestatic 132, 3) := dk_184 0 132 (dk_at dksX0_needOf_1 10 rfl rfl)
theorem dX0_needOf_37 : decode cX0_needOf 37 = .ok (.ifCond .eq 12, 3) := dk_153 0 12 (dk_at dksX0_needOf_1 13 rfl rfl)
theorem dX0_needOf_40 : decode cX0_needOf 40 = .ok (.aload_n 0, 1) := dk_42 (dk_at dksX0_needOf_1 16 rfl rfl)
theorem dX0_needOf_41 : decode cX0_needOf 41 = .ok (.iload_n 1, 1) := dk_27 (dk_at dksX0_needOf_1 17 rfl rfl)
theorem dX0_needOf_42 : decode cX0_needOf 42 = .ok (.iload_n 2, 1) := dk_28 (dk_at dksX0_needOf_1 18 rfl rfl)
theorem dX0_needOf_43 : decode cX0_needOf 43 = .ok (.invokevirtual 260, 3) := dk_182 1 4 (dk_at dksX0_needOf_1 19 rfl rfl)
theorem dX0_needOf_46 : decode cX0_needOf 46 = .ok (.goto 4, 3) := dk_167 0 4 (dk_at dksX0_needOf_2 0 rfl rfl)
theorem dX0_needOf_49 : decode cX0_needOf 49 = .ok (.iload_n 1, 1) := dk_27 (dk_at dksX0_needOf_2 3 rfl rfl)
theorem dX0_needOf_50 : decode cX0_needOf 50 = .ok (.istore_n 3, 1) := dk_62 (dk_at dksX0_needOf_2 4 rfl rfl)
theorem dX0_needOf_51 : decode cX0_needOf 51 = .ok (.aload_n 0, 1) := dk_42 (dk_at dksX0_needOf_2 5 rfl rfl)
theorem dX0_needOf_52 : decode cX0_needOf 52 = .ok (.getfield 68, 3) := dk_180 0 68 (dk_at dksX0_needOf_2 6 rfl rfl)
theorem dX0_needOf_55 : decode cX0_needOf 55 = .ok (.iload_n 1, 1) := dk_27 (dk_at dksX0_needOf_2 9 rfl rfl)
theorem dX0_needOf_56 : decode cX0_needOf 56 = .ok (.iload_n 3, 1) := dk_29 (dk_at dksX0_needOf_2 10 rfl rfl)
theorem dX0_needOf_57 : decode cX0_needOf 57 = .ok (.iload_n 1, 1) := dk_27 (dk_at dksX0_needOf_2 11 rfl rfl)
theorem dX0_needOf_58 : decode cX0_needOf 58 = .ok (.if_icmp .ne 12, 3) := dk_160 0 12 (dk_at dksX0_needOf_2 12 rfl rfl)
theorem dX0_needOf_61 : decode cX0_needOf 61 = .ok (.aload_n 0, 1) := dk_42 (dk_at dksX0_needOf_2 15 rfl rfl)
theorem dX0_needOf_62 : decode cX0_needOf 62 = .ok (.getfield 68, 3) := dk_180 0 68 (dk_at dksX0_needOf_2 16 rfl rfl)
theorem dX0_needOf_65 : decode cX0_needOf 65 = .ok (.iload_n 1, 1) := dk_27 (dk_at dksX0_needOf_2 19 rfl rfl)
theorem dX0_needOf_66 : decode cX0_needOf 66 = .ok (.iaload, 1) := dk_46 (dk_at dksX0_needOf_2 20 rfl rfl)
theorem dX0_needOf_67 : decode cX0_needOf 67 = .ok (.goto 19, 3) := dk_167 0 19 (dk_at dksX0_needOf_2 21 rfl rfl)
theorem dX0_needOf_70 : decode cX0_needOf 70 = .ok (.aload_n 0, 1) := dk_42 (dk_at dksX0_needOf_3 0 rfl rfl)
theorem dX0_needOf_71 : decode cX0_needOf 71 = .ok (.getfield 68, 3) := dk_180 0 68 (dk_at dksX0_needOf_3 1 rfl rfl)
theorem dX0_needOf_74 : decode cX0_needOf 74 = .ok (.iload_n 1, 1) := dk_27 (dk_at dksX0_needOf_3 4 rfl rfl)
theorem dX0_needOf_75 : decode cX0_needOf 75 = .ok (.iaload, 1) := dk_46 (dk_at dksX0_needOf_3 5 rfl rfl)
theorem dX0_needOf_76 : decode cX0_needOf 76 = .ok (.aload_n 0, 1) := dk_42 (dk_at dksX0_needOf_3 6 rfl rfl)
theorem dX0_needOf_77 : decode cX0_needOf 77 = .ok (.iload_n 3, 1) := dk_29 (dk_at dksX0_needOf_3 7 rfl rfl)
theorem dX0_needOf_78 : decode cX0_needOf 78 = .ok (.invokevirtual 263, 3) := dk_182 1 7 (dk_at dksX0_needOf_3 8 rfl rfl)
theorem dX0_needOf_81 : decode cX0_needOf 81 = .ok (.iconst 1, 1) := dk_4 (dk_at dksX0_needOf_3 11 rfl rfl)
theorem dX0_needOf_82 : decode cX0_needOf 82 = .ok (.iadd, 1) := dk_96 (dk_at dksX0_needOf_3 12 rfl rfl)
theorem dX0_needOf_83 : decode cX0_needOf 83 = .ok (.invokestatic 158, 3) := dk_184 0 158 (dk_at dksX0_needOf_3 13 rfl rfl)
theorem dX0_needOf_86 : decode cX0_needOf 86 = .ok (.iastore, 1) := dk_79 (dk_at dksX0_needOf_3 16 rfl rfl)
theorem dX0_needOf_87 : decode cX0_needOf 87 = .ok (.iinc 2 1, 3) := dk_132 2 1 (dk_at dksX0_needOf_3 17 rfl rfl)
theorem dX0_needOf_90 : decode cX0_needOf 90 = .ok (.goto (-64), 3) := dk_167 255 192 (dk_at dksX0_needOf_3 20 rfl rfl)
theorem dX0_needOf_93 : decode cX0_needOf 93 = .ok (.aload_n 0, 1) := dk_42 (dk_at dksX0_needOf_3 23 rfl rfl)
theorem dX0_needOf_94 : decode cX0_needOf 94 = .ok (.getfield 68, 3) := dk_180 0 68 (dk_at dksX0_needOf_4 0 rfl rfl)
theorem dX0_needOf_97 : decode cX0_needOf 97 = .ok (.iload_n 1, 1) := dk_27 (dk_at dksX0_needOf_4 3 rfl rfl)
theorem dX0_needOf_98 : decode cX0_needOf 98 = .ok (.iaload, 1) := dk_46 (dk_at dksX0_needOf_4 4 rfl rfl)
theorem dX0_needOf_99 : decode cX0_needOf 99 = .ok (.ireturn, 1) := dk_172 (dk_at dksX0_needOf_4 5 rfl rfl)
abbrev cX0_resultOf : ByteArray := prog_1_method_39_code
def yX0_resultOf : MethodName := ⟨RX0, "resultOf", "(II)I"⟩
def dkwX0_resultOf_1 : List UInt8 := [172]
abbrev dktX0_resultOf_1 : List UInt8 := dkwX0_resultOf_1 ++ []
def dkwX0_resultOf_0 : List UInt8 := [42, 180, 0, 42, 27, 181, 0, 152, 42, 180, 0, 42, 28, 182, 0, 129, 62, 42, 180, 0, 42, 180, 0, 152]
abbrev dktX0_resultOf_0 : List UInt8 := dkwX0_resultOf_0 ++ dktX0_resultOf_1
theorem dksX0_resultOf_0 : cX0_resultOf.data.toList.drop 0 = dktX0_resultOf_0 := by decide +kernel
theorem dksX0_resultOf_1 : cX0_resultOf.data.toList.drop 24 = dktX0_resultOf_1 := dk_seg dksX0_resultOf_0 24 rfl rfl
theorem dX0_resultOf_0 : decode cX0_resultOf 0 = .ok (.aload_n 0, 1) := dk_42 (dk_at dksX0_resultOf_0 0 rfl rfl)
theorem dX0_resultOf_1 : decode cX0_resultOf 1 = .ok (.getfield 42, 3) := dk_180 0 42 (dk_at dksX0_resultOf_0 1 rfl rfl)
theorem dX0_resultOf_4 : decode cX0_resultOf 4 = .ok (.iload_n 1, 1) := dk_27 (dk_at dksX0_resultOf_0 4 rfl rfl)
theorem dX0_resultOf_5 : decode cX0_resultOf 5 = .ok (.putfield 152, 3) := dk_181 0 152 (dk_at dksX0_resultOf_0 5 rfl rfl)
theorem dX0_resultOf_8 : decode cX0_resultOf 8 = .ok (.aload_n 0, 1) := dk_42 (dk_at dksX0_resultOf_0 8 rfl rfl)
theorem dX0_resultOf_9 : decode cX0_resultOf 9 = .ok (.getfield 42, 3) := dk_180 0 42 (dk_at dksX0_resultOf_0 9 rfl rfl)
theorem dX0_resultOf_12 : decode cX0_resultOf 12 = .ok (.iload_n 2, 1) := dk_28 (dk_at dksX0_resultOf_0 12 rfl rfl)
theorem dX0_resultOf_13 : decode cX0_resultOf 13 = .ok (.invokevirtual 129, 3) := dk_182 0 129 (dk_at dksX0_resultOf_0 13 rfl rfl)
theorem dX0_resultOf_16 : decode cX0_resultOf 16 = .ok (.istore_n 3, 1) := dk_62 (dk_at dksX0_resultOf_0 16 rfl rfl)
theorem dX0_resultOf_17 : decode cX0_resultOf 17 = .ok (.aload_n 0, 1) := dk_42 (dk_at dksX0_resultOf_0 17 rfl rfl)
theorem dX0_resultOf_18 : decode cX0_resultOf 18 = .ok (.getfield 42, 3) := dk_180 0 42 (dk_at dksX0_resultOf_0 18 rfl rfl)
theorem dX0_resultOf_21 : decode cX0_resultOf 21 = .ok (.getfield 152, 3) := dk_180 0 152 (dk_at dksX0_resultOf_0 21 rfl rfl)
theorem dX0_resultOf_24 : decode cX0_resultOf 24 = .ok (.ireturn, 1) := dk_172 (dk_at dksX0_resultOf_1 0 rfl rfl)
abbrev cX0_mend : ByteArray := prog_1_method_42_code
def yX0_mend : MethodName := ⟨RX0, "mend", "(IIII)I"⟩
def dkwX0_mend_6 : List UInt8 := [154, 0, 8, 21, 5, 167, 0, 5, 21, 6, 172]
abbrev dktX0_mend_6 : List UInt8 := dkwX0_mend_6 ++ []
def dkwX0_mend_5 : List UInt8 := [21, 6, 21, 9, 184, 0, 158, 54, 6, 132, 8, 1, 167, 255, 178, 132, 7, 1, 167, 255, 159, 21, 4]
abbrev dktX0_mend_5 : List UInt8 := dkwX0_mend_5 ++ dktX0_mend_6
def dkwX0_mend_4 : List UInt8 := [54, 9, 21, 9, 21, 6, 162, 0, 14, 16, 10, 21, 7, 104, 21, 8, 96, 167, 0, 5, 21, 5, 54, 5]
abbrev dktX0_mend_4 : List UInt8 := dkwX0_mend_4 ++ dktX0_mend_5
def dkwX0_mend_3 : List UInt8 := [42, 180, 0, 42, 21, 7, 21, 8, 182, 0, 238, 42, 180, 0, 42, 27, 28, 29, 182, 0, 248, 184, 0, 142]
abbrev dktX0_mend_3 : List UInt8 := dkwX0_mend_3 ++ dktX0_mend_4
def dkwX0_mend_2 : List UInt8 := [21, 7, 4, 96, 54, 8, 21, 8, 16, 9, 162, 0, 77, 42, 180, 0, 42, 42, 180, 0, 38, 182, 0, 125]
abbrev dktX0_mend_2 : List UInt8 := dkwX0_mend_2 ++ dktX0_mend_3
def dkwX0_mend_1 : List UInt8 := [27, 28, 29, 182, 0, 225, 172, 2, 54, 5, 18, 151, 54, 6, 3, 54, 7, 21, 7, 16, 9, 162, 0, 96]
abbrev dktX0_mend_1 : List UInt8 := dkwX0_mend_1 ++ dktX0_mend_2
def dkwX0_mend_0 : List UInt8 := [21, 4, 3, 4, 184, 0, 10, 154, 0, 6, 18, 87, 172, 42, 27, 28, 29, 182, 0, 225, 156, 0, 11, 42]
abbrev dktX0_mend_0 : List UInt8 := dkwX0_mend_0 ++ dktX0_mend_1
theorem dksX0_mend_0 : cX0_mend.data.toList.drop 0 = dktX0_mend_0 := by decide +kernel
theorem dksX0_mend_1 : cX0_mend.data.toList.drop 24 = dktX0_mend_1 := dk_seg dksX0_mend_0 24 rfl rfl
theorem dksX0_mend_2 : cX0_mend.data.toList.drop 48 = dktX0_mend_2 := dk_seg dksX0_mend_1 24 rfl rfl
theorem dksX0_mend_3 : cX0_mend.data.toList.drop 72 = dktX0_mend_3 := dk_seg dksX0_mend_2 24 rfl rfl
theorem dksX0_mend_4 : cX0_mend.data.toList.drop 96 = dktX0_mend_4 := dk_seg dksX0_mend_3 24 rfl rfl
theorem dksX0_mend_5 : cX0_mend.data.toList.drop 120 = dktX0_mend_5 := dk_seg dksX0_mend_4 24 rfl rfl
theorem dksX0_mend_6 : cX0_mend.data.toList.drop 143 = dktX0_mend_6 := dk_seg dksX0_mend_5 23 rfl rfl
theorem dX0_mend_0 : decode cX0_mend 0 = .ok (.iload 4, 2) := dk_21 4 (dk_at dksX0_mend_0 0 rfl rfl)
theorem dX0_mend_2 : decode cX0_mend 2 = .ok (.iconst 0, 1) := dk_3 (dk_at dksX0_mend_0 2 rfl rfl)
theorem dX0_mend_3 : decode cX0_mend 3 = .ok (.iconst 1, 1) := dk_4 (dk_at dksX0_mend_0 3 rfl rfl)
theorem dX0_mend_4 : decode cX0_mend 4 = .ok (.invokestatic 10, 3) := dk_184 0 10 (dk_at dksX0_mend_0 4 rfl rfl)
theorem dX0_mend_7 : decode cX0_mend 7 = .ok (.ifCond .ne 6, 3) := dk_154 0 6 (dk_at dksX0_mend_0 7 rfl rfl)
theorem dX0_mend_10 : decode cX0_mend 10 = .ok (.ldc 87, 2) := dk_18 87 (dk_at dksX0_mend_0 10 rfl rfl)
theorem dX0_mend_12 : decode cX0_mend 12 = .ok (.ireturn, 1) := dk_172 (dk_at dksX0_mend_0 12 rfl rfl)
theorem dX0_mend_13 : decode cX0_mend 13 = .ok (.aload_n 0, 1) := dk_42 (dk_at dksX0_mend_0 13 rfl rfl)
theorem dX0_mend_14 : decode cX0_mend 14 = .ok (.iload_n 1, 1) := dk_27 (dk_at dksX0_mend_0 14 rfl rfl)
theorem dX0_mend_15 : decode cX0_mend 15 = .ok (.iload_n 2, 1) := dk_28 (dk_at dksX0_mend_0 15 rfl rfl)
theorem dX0_mend_16 : decode cX0_mend 16 = .ok (.iload_n 3, 1) := dk_29 (dk_at dksX0_mend_0 16 rfl rfl)
theorem dX0_mend_17 : decode cX0_mend 17 = .ok (.invokevirtual 225, 3) := dk_182 0 225 (dk_at dksX0_mend_0 17 rfl rfl)
theorem dX0_mend_20 : decode cX0_mend 20 = .ok (.ifCond .ge 11, 3) := dk_156 0 11 (dk_at dksX0_mend_0 20 rfl rfl)
theorem dX0_mend_23 : decode cX0_mend 23 = .ok (.aload_n 0, 1) := dk_42 (dk_at dksX0_mend_0 23 rfl rfl)
theorem dX0_mend_24 : decode cX0_mend 24 = .ok (.iload_n 1, 1) := dk_27 (dk_at dksX0_mend_1 0 rfl rfl)
theorem dX0_mend_25 : decode cX0_mend 25 = .ok (.iload_n 2, 1) := dk_28 (dk_at dksX0_mend_1 1 rfl rfl)
theorem dX0_mend_26 : decode cX0_mend 26 = .ok (.iload_n 3, 1) := dk_29 (dk_at dksX0_mend_1 2 rfl rfl)
theorem dX0_mend_27 : decode cX0_mend 27 = .ok (.invokevirtual 225, 3) := dk_182 0 225 (dk_at dksX0_mend_1 3 rfl rfl)
theorem dX0_mend_30 : decode cX0_mend 30 = .ok (.ireturn, 1) := dk_172 (dk_at dksX0_mend_1 6 rfl rfl)
theorem dX0_mend_31 : decode cX0_mend 31 = .ok (.iconst (-1), 1) := dk_2 (dk_at dksX0_mend_1 7 rfl rfl)
theorem dX0_mend_32 : decode cX0_mend 32 = .ok (.istore 5, 2) := dk_54 5 (dk_at dksX0_mend_1 8 rfl rfl)
theorem dX0_mend_34 : decode cX0_mend 34 = .ok (.ldc 151, 2) := dk_18 151 (dk_at dksX0_mend_1 10 rfl rfl)
theorem dX0_mend_36 : decode cX0_mend 36 = .ok (.istore 6, 2) := dk_54 6 (dk_at dksX0_mend_1 12 rfl rfl)
theorem dX0_mend_38 : decode cX0_mend 38 = .ok (.iconst 0, 1) := dk_3 (dk_at dksX0_mend_1 14 rfl rfl)
theorem dX0_mend_39 : decode cX0_mend 39 = .ok (.istore 7, 2) := dk_54 7 (dk_at dksX0_mend_1 15 rfl rfl)
theorem dX0_mend_41 : decode cX0_mend 41 = .ok (.iload 7, 2) := dk_21 7 (dk_at dksX0_mend_1 17 rfl rfl)
theorem dX0_mend_43 : decode cX0_mend 43 = .ok (.bipush 9, 2) := dk_16 9 (dk_at dksX0_mend_1 19 rfl rfl)
theorem dX0_mend_45 : decode cX0_mend 45 = .ok (.if_icmp .ge 96, 3) := dk_162 0 96 (dk_at dksX0_mend_1 21 rfl rfl)
theorem dX0_mend_48 : decode cX0_mend 48 = .ok (.iload 7, 2) := dk_21 7 (dk_at dksX0_mend_2 0 rfl rfl)
theorem dX0_mend_50 : decode cX0_mend 50 = .ok (.iconst 1, 1) := dk_4 (dk_at dksX0_mend_2 2 rfl rfl)
theorem dX0_mend_51 : decode cX0_mend 51 = .ok (.iadd, 1) := dk_96 (dk_at dksX0_mend_2 3 rfl rfl)
theorem dX0_mend_52 : decode cX0_mend 52 = .ok (.istore 8, 2) := dk_54 8 (dk_at dksX0_mend_2 4 rfl rfl)
theorem dX0_mend_54 : decode cX0_mend 54 = .ok (.iload 8, 2) := dk_21 8 (dk_at dksX0_mend_2 6 rfl rfl)
theorem dX0_mend_56 : decode cX0_mend 56 = .ok (.bipush 9, 2) := dk_16 9 (dk_at dksX0_mend_2 8 rfl rfl)
theorem dX0_mend_58 : decode cX0_mend 58 = .ok (.if_icmp .ge 77, 3) := dk_162 0 77 (dk_at dksX0_mend_2 10 rfl rfl)
theorem dX0_mend_61 : decode cX0_mend 61 = .ok (.aload_n 0, 1) := dk_42 (dk_at dksX0_mend_2 13 rfl rfl)
theorem dX0_mend_62 : decode cX0_mend 62 = .ok (.getfield 42, 3) := dk_180 0 42 (dk_at dksX0_mend_2 14 rfl rfl)
theorem dX0_mend_65 : decode cX0_mend 65 = .ok (.aload_n 0, 1) := dk_42 (dk_at dksX0_mend_2 17 rfl rfl)
theorem dX0_mend_66 : decode cX0_mend 66 = .ok (.getfield 38, 3) := dk_180 0 38 (dk_at dksX0_mend_2 18 rfl rfl)
theorem dX0_mend_69 : decode cX0_mend 69 = .ok (.invokevirtual 125, 3) := dk_182 0 125 (dk_at dksX0_mend_2 21 rfl rfl)
theorem dX0_mend_72 : decode cX0_mend 72 = .ok (.aload_n 0, 1) := dk_42 (dk_at dksX0_mend_3 0 rfl rfl)
theorem dX0_mend_73 : decode cX0_mend 73 = .ok (.getfield 42, 3) := dk_180 0 42 (dk_at dksX0_mend_3 1 rfl rfl)
theorem dX0_mend_76 : decode cX0_mend 76 = .ok (.iload 7, 2) := dk_21 7 (dk_at dksX0_mend_3 4 rfl rfl)
theorem dX0_mend_78 : decode cX0_mend 78 = .ok (.iload 8, 2) := dk_21 8 (dk_at dksX0_mend_3 6 rfl rfl)
theorem dX0_mend_80 : decode cX0_mend 80 = .ok (.invokevirtual 238, 3) := dk_182 0 238 (dk_at dksX0_mend_3 8 rfl rfl)
theorem dX0_mend_83 : decode cX0_mend 83 = .ok (.aload_n 0, 1) := dk_42 (dk_at dksX0_mend_3 11 rfl rfl)
theorem dX0_mend_84 : decode cX0_mend 84 = .ok (.getfield 42, 3) := dk_180 0 42 (dk_at dksX0_mend_3 12 rfl rfl)
theorem dX0_mend_87 : decode cX0_mend 87 = .ok (.iload_n 1, 1) := dk_27 (dk_at dksX0_mend_3 15 rfl rfl)
theorem dX0_mend_88 : decode cX0_mend 88 = .ok (.iload_n 2, 1) := dk_28 (dk_at dksX0_mend_3 16 rfl rfl)
theorem dX0_mend_89 : decode cX0_mend 89 = .ok (.iload_n 3, 1) := dk_29 (dk_at dksX0_mend_3 17 rfl rfl)
theorem dX0_mend_90 : decode cX0_mend 90 = .ok (.invokevirtual 248, 3) := dk_182 0 248 (dk_at dksX0_mend_3 18 rfl rfl)
theorem dX0_mend_93 : decode cX0_mend 93 = .ok (.invokestatic 142, 3) := dk_184 0 142 (dk_at dksX0_mend_3 21 rfl rfl)
theorem dX0_mend_96 : decode cX0_mend 96 = .ok (.istore 9, 2) := dk_54 9 (dk_at dksX0_mend_4 0 rfl rfl)
theorem dX0_mend_98 : decode cX0_mend 98 = .ok (.iload 9, 2) := dk_21 9 (dk_at dksX0_mend_4 2 rfl rfl)
theorem dX0_mend_100 : decode cX0_mend 100 = .ok (.iload 6, 2) := dk_21 6 (dk_at dksX0_mend_4 4 rfl rfl)
theorem dX0_mend_102 : decode cX0_mend 102 = .ok (.if_icmp .ge 14, 3) := dk_162 0 14 (dk_at dksX0_mend_4 6 rfl rfl)
theorem dX0_mend_105 : decode cX0_mend 105 = .ok (.bipush 10, 2) := dk_16 10 (dk_at dksX0_mend_4 9 rfl rfl)
theorem dX0_mend_107 : decode cX0_mend 107 = .ok (.iload 7, 2) := dk_21 7 (dk_at dksX0_mend_4 11 rfl rfl)
theorem dX0_mend_109 : decode cX0_mend 109 = .ok (.imul, 1) := dk_104 (dk_at dksX0_mend_4 13 rfl rfl)
theorem dX0_mend_110 : decode cX0_mend 110 = .ok (.iload 8, 2) := dk_21 8 (dk_at dksX0_mend_4 14 rfl rfl)
theorem dX0_mend_112 : decode cX0_mend 112 = .ok (.iadd, 1) := dk_96 (dk_at dksX0_mend_4 16 rfl rfl)
theorem dX0_mend_113 : decode cX0_mend 113 = .ok (.goto 5, 3) := dk_167 0 5 (dk_at dksX0_mend_4 17 rfl rfl)
theorem dX0_mend_116 : decode cX0_mend 116 = .ok (.iload 5, 2) := dk_21 5 (dk_at dksX0_mend_4 20 rfl rfl)
theorem dX0_mend_118 : decode cX0_mend 118 = .ok (.istore 5, 2) := dk_54 5 (dk_at dksX0_mend_4 22 rfl rfl)
theorem dX0_mend_120 : decode cX0_mend 120 = .ok (.iload 6, 2) := dk_21 6 (dk_at dksX0_mend_5 0 rfl rfl)
theorem dX0_mend_122 : decode cX0_mend 122 = .ok (.iload 9, 2) := dk_21 9 (dk_at dksX0_mend_5 2 rfl rfl)
theorem dX0_mend_124 : decode cX0_mend 124 = .ok (.invokestatic 158, 3) := dk_184 0 158 (dk_at dksX0_mend_5 4 rfl rfl)
theorem dX0_mend_127 : decode cX0_mend 127 = .ok (.istore 6, 2) := dk_54 6 (dk_at dksX0_mend_5 7 rfl rfl)
theorem dX0_mend_129 : decode cX0_mend 129 = .ok (.iinc 8 1, 3) := dk_132 8 1 (dk_at dksX0_mend_5 9 rfl rfl)
theorem dX0_mend_132 : decode cX0_mend 132 = .ok (.goto (-78), 3) := dk_167 255 178 (dk_at dksX0_mend_5 12 rfl rfl)
theorem dX0_mend_135 : decode cX0_mend 135 = .ok (.iinc 7 1, 3) := dk_132 7 1 (dk_at dksX0_mend_5 15 rfl rfl)
theorem dX0_mend_138 : decode cX0_mend 138 = .ok (.goto (-97), 3) := dk_167 255 159 (dk_at dksX0_mend_5 18 rfl rfl)
theorem dX0_mend_141 : decode cX0_mend 141 = .ok (.iload 4, 2) := dk_21 4 (dk_at dksX0_mend_5 21 rfl rfl)
theorem dX0_mend_143 : decode cX0_mend 143 = .ok (.ifCond .ne 8, 3) := dk_154 0 8 (dk_at dksX0_mend_6 0 rfl rfl)
theorem dX0_mend_146 : decode cX0_mend 146 = .ok (.iload 5, 2) := dk_21 5 (dk_at dksX0_mend_6 3 rfl rfl)
theorem dX0_mend_148 : decode cX0_mend 148 = .ok (.goto 5, 3) := dk_167 0 5 (dk_at dksX0_mend_6 5 rfl rfl)
theorem dX0_mend_151 : decode cX0_mend 151 = .ok (.iload 6, 2) := dk_21 6 (dk_at dksX0_mend_6 8 rfl rfl)
theorem dX0_mend_153 : decode cX0_mend 153 = .ok (.ireturn, 1) := dk_172 (dk_at dksX0_mend_6 10 rfl rfl)
abbrev cX0_hand : ByteArray := prog_1_method_43_code
def yX0_hand : MethodName := ⟨RX0, "hand", "(I)I"⟩
def dkwX0_hand_3 : List UInt8 := [132, 3, 1, 167, 255, 215, 28, 172]
abbrev dktX0_hand_3 : List UInt8 := dkwX0_hand_3 ++ []
def dkwX0_hand_2 : List UInt8 := [180, 0, 65, 29, 46, 27, 160, 0, 13, 4, 29, 17, 3, 232, 108, 120, 167, 0, 4, 3, 128, 61]
abbrev dktX0_hand_2 : List UInt8 := dkwX0_hand_2 ++ dktX0_hand_3
def dkwX0_hand_1 : List UInt8 := [182, 0, 139, 3, 61, 3, 62, 29, 17, 16, 204, 162, 0, 40, 28, 29, 184, 0, 132, 153, 0, 23, 42]
abbrev dktX0_hand_1 : List UInt8 := dkwX0_hand_1 ++ dktX0_hand_2
def dkwX0_hand_0 : List UInt8 := [42, 27, 182, 1, 1, 154, 0, 6, 18, 199, 172, 42, 182, 0, 164, 154, 0, 6, 18, 224, 172, 42]
abbrev dktX0_hand_0 : List UInt8 := dkwX0_hand_0 ++ dktX0_hand_1
theorem dksX0_hand_0 : cX0_hand.data.toList.drop 0 = dktX0_hand_0 := by decide +kernel
theorem dksX0_hand_1 : cX0_hand.data.toList.drop 22 = dktX0_hand_1 := dk_seg dksX0_hand_0 22 rfl rfl
theorem dksX0_hand_2 : cX0_hand.data.toList.drop 45 = dktX0_hand_2 := dk_seg dksX0_hand_1 23 rfl rfl
theorem dksX0_hand_3 : cX0_hand.data.toList.drop 67 = dktX0_hand_3 := dk_seg dksX0_hand_2 22 rfl rfl
theorem dX0_hand_0 : decode cX0_hand 0 = .ok (.aload_n 0, 1) := dk_42 (dk_at dksX0_hand_0 0 rfl rfl)
theorem dX0_hand_1 : decode cX0_hand 1 = .ok (.iload_n 1, 1) := dk_27 (dk_at dksX0_hand_0 1 rfl rfl)
theorem dX0_hand_2 : decode cX0_hand 2 = .ok (.invokevirtual 257, 3) := dk_182 1 1 (dk_at dksX0_hand_0 2 rfl rfl)
theorem dX0_hand_5 : decode cX0_hand 5 = .ok (.ifCond .ne 6, 3) := dk_154 0 6 (dk_at dksX0_hand_0 5 rfl rfl)
theorem dX0_hand_8 : decode cX0_hand 8 = .ok (.ldc 199, 2) := dk_18 199 (dk_at dksX0_hand_0 8 rfl rfl)
theorem dX0_hand_10 : decode cX0_hand 10 = .ok (.ireturn, 1) := dk_172 (dk_at dksX0_hand_0 10 rfl rfl)
theorem dX0_hand_11 : decode cX0_hand 11 = .ok (.aload_n 0, 1) := dk_42 (dk_at dksX0_hand_0 11 rfl rfl)
theorem dX0_hand_12 : decode cX0_hand 12 = .ok (.invokevirtual 164, 3) := dk_182 0 164 (dk_at dksX0_hand_0 12 rfl rfl)
theorem dX0_hand_15 : decode cX0_hand 15 = .ok (.ifCond .ne 6, 3) := dk_154 0 6 (dk_at dksX0_hand_0 15 rfl rfl)
theorem dX0_hand_18 : decode cX0_hand 18 = .ok (.ldc 224, 2) := dk_18 224 (dk_at dksX0_hand_0 18 rfl rfl)
theorem dX0_hand_20 : decode cX0_hand 20 = .ok (.ireturn, 1) := dk_172 (dk_at dksX0_hand_0 20 rfl rfl)
theorem dX0_hand_21 : decode cX0_hand 21 = .ok (.aload_n 0, 1) := dk_42 (dk_at dksX0_hand_0 21 rfl rfl)
theorem dX0_hand_22 : decode cX0_hand 22 = .ok (.invokevirtual 139, 3) := dk_182 0 139 (dk_at dksX0_hand_1 0 rfl rfl)
theorem dX0_hand_25 : decode cX0_hand 25 = .ok (.iconst 0, 1) := dk_3 (dk_at dksX0_hand_1 3 rfl rfl)
theorem dX0_hand_26 : decode cX0_hand 26 = .ok (.istore_n 2, 1) := dk_61 (dk_at dksX0_hand_1 4 rfl rfl)
theorem dX0_hand_27 : decode cX0_hand 27 = .ok (.iconst 0, 1) := dk_3 (dk_at dksX0_hand_1 5 rfl rfl)
theorem dX0_hand_28 : decode cX0_hand 28 = .ok (.istore_n 3, 1) := dk_62 (dk_at dksX0_hand_1 6 rfl rfl)
theorem dX0_hand_29 : decode cX0_hand 29 = .ok (.iload_n 3, 1) := dk_29 (dk_at dksX0_hand_1 7 rfl rfl)
theorem dX0_hand_30 : decode cX0_hand 30 = .ok (.sipush 4300, 3) := dk_17 16 204 (dk_at dksX0_hand_1 8 rfl rfl)
theorem dX0_hand_33 : decode cX0_hand 33 = .ok (.if_icmp .ge 40, 3) := dk_162 0 40 (dk_at dksX0_hand_1 11 rfl rfl)
theorem dX0_hand_36 : decode cX0_hand 36 = .ok (.iload_n 2, 1) := dk_28 (dk_at dksX0_hand_1 14 rfl rfl)
theorem dX0_hand_37 : decode cX0_hand 37 = .ok (.iload_n 3, 1) := dk_29 (dk_at dksX0_hand_1 15 rfl rfl)
theorem dX0_hand_38 : decode cX0_hand 38 = .ok (.invokestatic 132, 3) := dk_184 0 132 (dk_at dksX0_hand_1 16 rfl rfl)
theorem dX0_hand_41 : decode cX0_hand 41 = .ok (.ifCond .eq 23, 3) := dk_153 0 23 (dk_at dksX0_hand_1 19 rfl rfl)
theorem dX0_hand_44 : decode cX0_hand 44 = .ok (.aload_n 0, 1) := dk_42 (dk_at dksX0_hand_1 22 rfl rfl)
theorem dX0_hand_45 : decode cX0_hand 45 = .ok (.getfield 65, 3) := dk_180 0 65 (dk_at dksX0_hand_2 0 rfl rfl)
theorem dX0_hand_48 : decode cX0_hand 48 = .ok (.iload_n 3, 1) := dk_29 (dk_at dksX0_hand_2 3 rfl rfl)
theorem dX0_hand_49 : decode cX0_hand 49 = .ok (.iaload, 1) := dk_46 (dk_at dksX0_hand_2 4 rfl rfl)
theorem dX0_hand_50 : decode cX0_hand 50 = .ok (.iload_n 1, 1) := dk_27 (dk_at dksX0_hand_2 5 rfl rfl)
theorem dX0_hand_51 : decode cX0_hand 51 = .ok (.if_icmp .ne 13, 3) := dk_160 0 13 (dk_at dksX0_hand_2 6 rfl rfl)
theorem dX0_hand_54 : decode cX0_hand 54 = .ok (.iconst 1, 1) := dk_4 (dk_at dksX0_hand_2 9 rfl rfl)
theorem dX0_hand_55 : decode cX0_hand 55 = .ok (.iload_n 3, 1) := dk_29 (dk_at dksX0_hand_2 10 rfl rfl)
theorem dX0_hand_56 : decode cX0_hand 56 = .ok (.sipush 1000, 3) := dk_17 3 232 (dk_at dksX0_hand_2 11 rfl rfl)
theorem dX0_hand_59 : decode cX0_hand 59 = .ok (.idiv, 1) := dk_108 (dk_at dksX0_hand_2 14 rfl rfl)
theorem dX0_hand_60 : decode cX0_hand 60 = .ok (.ishl, 1) := dk_120 (dk_at dksX0_hand_2 15 rfl rfl)
theorem dX0_hand_61 : decode cX0_hand 61 = .ok (.goto 4, 3) := dk_167 0 4 (dk_at dksX0_hand_2 16 rfl rfl)
theorem dX0_hand_64 : decode cX0_hand 64 = .ok (.iconst 0, 1) := dk_3 (dk_at dksX0_hand_2 19 rfl rfl)
theorem dX0_hand_65 : decode cX0_hand 65 = .ok (.ior, 1) := dk_128 (dk_at dksX0_hand_2 20 rfl rfl)
theorem dX0_hand_66 : decode cX0_hand 66 = .ok (.istore_n 2, 1) := dk_61 (dk_at dksX0_hand_2 21 rfl rfl)
theorem dX0_hand_67 : decode cX0_hand 67 = .ok (.iinc 3 1, 3) := dk_132 3 1 (dk_at dksX0_hand_3 0 rfl rfl)
theorem dX0_hand_70 : decode cX0_hand 70 = .ok (.goto (-41), 3) := dk_167 255 215 (dk_at dksX0_hand_3 3 rfl rfl)
theorem dX0_hand_73 : decode cX0_hand 73 = .ok (.iload_n 2, 1) := dk_28 (dk_at dksX0_hand_3 6 rfl rfl)
theorem dX0_hand_74 : decode cX0_hand 74 = .ok (.ireturn, 1) := dk_172 (dk_at dksX0_hand_3 7 rfl rfl)
abbrev cX0_ask : ByteArray := prog_1_method_44_code
def yX0_ask : MethodName := ⟨RX0, "ask", "(I)I"⟩
def dkwX0_ask_6 : List UInt8 := [21, 4, 21, 7, 184, 0, 158, 54, 4, 132, 5, 1, 167, 255, 140, 29, 172]
abbrev dktX0_ask_6 : List UInt8 := dkwX0_ask_6 ++ []
def dkwX0_ask_5 : List UInt8 := [28, 21, 6, 100, 184, 1, 16, 54, 7, 21, 7, 21, 4, 162, 0, 8, 21, 5, 167, 0, 4, 29, 62]
abbrev dktX0_ask_5 : List UInt8 := dkwX0_ask_5 ++ dktX0_ask_6
def dkwX0_ask_4 : List UInt8 := [21, 5, 184, 0, 147, 153, 0, 7, 4, 167, 0, 4, 3, 96, 54, 6, 132, 7, 1, 167, 255, 202, 21, 6]
abbrev dktX0_ask_4 : List UInt8 := dkwX0_ask_4 ++ dktX0_ask_5
def dkwX0_ask_3 : List UInt8 := [104, 184, 0, 158, 162, 0, 42, 21, 6, 21, 7, 184, 0, 132, 153, 0, 22, 42, 180, 0, 65, 21, 7, 46]
abbrev dktX0_ask_3 : List UInt8 := dkwX0_ask_3 ++ dktX0_ask_4
def dkwX0_ask_2 : List UInt8 := [162, 0, 110, 3, 54, 6, 17, 3, 232, 27, 104, 54, 7, 21, 7, 17, 16, 204, 17, 3, 232, 27, 4, 96]
abbrev dktX0_ask_2 : List UInt8 := dkwX0_ask_2 ++ dktX0_ask_3
def dkwX0_ask_1 : List UInt8 := [182, 0, 139, 16, 120, 61, 2, 62, 28, 54, 4, 3, 54, 5, 21, 5, 42, 180, 0, 29, 180, 0, 119]
abbrev dktX0_ask_1 : List UInt8 := dkwX0_ask_1 ++ dktX0_ask_2
def dkwX0_ask_0 : List UInt8 := [27, 3, 7, 184, 0, 10, 154, 0, 6, 18, 87, 172, 42, 182, 0, 164, 154, 0, 6, 18, 224, 172, 42]
abbrev dktX0_ask_0 : List UInt8 := dkwX0_ask_0 ++ dktX0_ask_1
theorem dksX0_ask_0 : cX0_ask.data.toList.drop 0 = dktX0_ask_0 := by decide +kernel
theorem dksX0_ask_1 : cX0_ask.data.toList.drop 23 = dktX0_ask_1 := dk_seg dksX0_ask_0 23 rfl rfl
theorem dksX0_ask_2 : cX0_ask.data.toList.drop 46 = dktX0_ask_2 := dk_seg dksX0_ask_1 23 rfl rfl
theorem dksX0_ask_3 : cX0_ask.data.toList.drop 70 = dktX0_ask_3 := dk_seg dksX0_ask_2 24 rfl rfl
theorem dksX0_ask_4 : cX0_ask.data.toList.drop 94 = dktX0_ask_4 := dk_seg dksX0_ask_3 24 rfl rfl
theorem dksX0_ask_5 : cX0_ask.data.toList.drop 118 = dktX0_ask_5 := dk_seg dksX0_ask_4 24 rfl rfl
theorem dksX0_ask_6 : cX0_ask.data.toList.drop 141 = dktX0_ask_6 := dk_seg dksX0_ask_5 23 rfl rfl
theorem dX0_ask_0 : decode cX0_ask 0 = .ok (.iload_n 1, 1) := dk_27 (dk_at dksX0_ask_0 0 rfl rfl)
theorem dX0_ask_1 : decode cX0_ask 1 = .ok (.iconst 0, 1) := dk_3 (dk_at dksX0_ask_0 1 rfl rfl)
theorem dX0_ask_2 : decode cX0_ask 2 = .ok (.iconst 4, 1) := dk_7 (dk_at dksX0_ask_0 2 rfl rfl)
theorem dX0_ask_3 : decode cX0_ask 3 = .ok (.invokestatic 10, 3) := dk_184 0 10 (dk_at dksX0_ask_0 3 rfl rfl)
theorem dX0_ask_6 : decode cX0_ask 6 = .ok (.ifCond .ne 6, 3) := dk_154 0 6 (dk_at dksX0_ask_0 6 rfl rfl)
theorem dX0_ask_9 : decode cX0_ask 9 = .ok (.ldc 87, 2) := dk_18 87 (dk_at dksX0_ask_0 9 rfl rfl)
theorem dX0_ask_11 : decode cX0_ask 11 = .ok (.ireturn, 1) := dk_172 (dk_at dksX0_ask_0 11 rfl rfl)
theorem dX0_ask_12 : decode cX0_ask 12 = .ok (.aload_n 0, 1) := dk_42 (dk_at dksX0_ask_0 12 rfl rfl)
theorem dX0_ask_13 : decode cX0_ask 13 = .ok (.invokevirtual 164, 3) := dk_182 0 164 (dk_at dksX0_ask_0 13 rfl rfl)
theorem dX0_ask_16 : decode cX0_ask 16 = .ok (.ifCond .ne 6, 3) := dk_154 0 6 (dk_at dksX0_ask_0 16 rfl rfl)
theorem dX0_ask_19 : decode cX0_ask 19 = .ok (.ldc 224, 2) := dk_18 224 (dk_at dksX0_ask_0 19 rfl rfl)
theorem dX0_ask_21 : decode cX0_ask 21 = .ok (.ireturn, 1) := dk_172 (dk_at dksX0_ask_0 21 rfl rfl)
theorem dX0_ask_22 : decode cX0_ask 22 = .ok (.aload_n 0, 1) := dk_42 (dk_at dksX0_ask_0 22 rfl rfl)
theorem dX0_ask_23 : decode cX0_ask 23 = .ok (.invokevirtual 139, 3) := dk_182 0 139 (dk_at dksX0_ask_1 0 rfl rfl)
theorem dX0_ask_26 : decode cX0_ask 26 = .ok (.bipush 120, 2) := dk_16 120 (dk_at dksX0_ask_1 3 rfl rfl)
theorem dX0_ask_28 : decode cX0_ask 28 = .ok (.istore_n 2, 1) := dk_61 (dk_at dksX0_ask_1 5 rfl rfl)
theorem dX0_ask_29 : decode cX0_ask 29 = .ok (.iconst (-1), 1) := dk_2 (dk_at dksX0_ask_1 6 rfl rfl)
theorem dX0_ask_30 : decode cX0_ask 30 = .ok (.istore_n 3, 1) := dk_62 (dk_at dksX0_ask_1 7 rfl rfl)
theorem dX0_ask_31 : decode cX0_ask 31 = .ok (.iload_n 2, 1) := dk_28 (dk_at dksX0_ask_1 8 rfl rfl)
theorem dX0_ask_32 : decode cX0_ask 32 = .ok (.istore 4, 2) := dk_54 4 (dk_at dksX0_ask_1 9 rfl rfl)
theorem dX0_ask_34 : decode cX0_ask 34 = .ok (.iconst 0, 1) := dk_3 (dk_at dksX0_ask_1 11 rfl rfl)
theorem dX0_ask_35 : decode cX0_ask 35 = .ok (.istore 5, 2) := dk_54 5 (dk_at dksX0_ask_1 12 rfl rfl)
theorem dX0_ask_37 : decode cX0_ask 37 = .ok (.iload 5, 2) := dk_21 5 (dk_at dksX0_ask_1 14 rfl rfl)
theorem dX0_ask_39 : decode cX0_ask 39 = .ok (.aload_n 0, 1) := dk_42 (dk_at dksX0_ask_1 16 rfl rfl)
theorem dX0_ask_40 : decode cX0_ask 40 = .ok (.getfield 29, 3) := dk_180 0 29 (dk_at dksX0_ask_1 17 rfl rfl)
theorem dX0_ask_43 : decode cX0_ask 43 = .ok (.getfield 119, 3) := dk_180 0 119 (dk_at dksX0_ask_1 20 rfl rfl)
theorem dX0_ask_46 : decode cX0_ask 46 = .ok (.if_icmp .ge 110, 3) := dk_162 0 110 (dk_at dksX0_ask_2 0 rfl rfl)
theorem dX0_ask_49 : decode cX0_ask 49 = .ok (.iconst 0, 1) := dk_3 (dk_at dksX0_ask_2 3 rfl rfl)
theorem dX0_ask_50 : decode cX0_ask 50 = .ok (.istore 6, 2) := dk_54 6 (dk_at dksX0_ask_2 4 rfl rfl)
theorem dX0_ask_52 : decode cX0_ask 52 = .ok (.sipush 1000, 3) := dk_17 3 232 (dk_at dksX0_ask_2 6 rfl rfl)
theorem dX0_ask_55 : decode cX0_ask 55 = .ok (.iload_n 1, 1) := dk_27 (dk_at dksX0_ask_2 9 rfl rfl)
theorem dX0_ask_56 : decode cX0_ask 56 = .ok (.imul, 1) := dk_104 (dk_at dksX0_ask_2 10 rfl rfl)
theorem dX0_ask_57 : decode cX0_ask 57 = .ok (.istore 7, 2) := dk_54 7 (dk_at dksX0_ask_2 11 rfl rfl)
theorem dX0_ask_59 : decode cX0_ask 59 = .ok (.iload 7, 2) := dk_21 7 (dk_at dksX0_ask_2 13 rfl rfl)
theorem dX0_ask_61 : decode cX0_ask 61 = .ok (.sipush 4300, 3) := dk_17 16 204 (dk_at dksX0_ask_2 15 rfl rfl)
theorem dX0_ask_64 : decode cX0_ask 64 = .ok (.sipush 1000, 3) := dk_17 3 232 (dk_at dksX0_ask_2 18 rfl rfl)
theorem dX0_ask_67 : decode cX0_ask 67 = .ok (.iload_n 1, 1) := dk_27 (dk_at dksX0_ask_2 21 rfl rfl)
theorem dX0_ask_68 : decode cX0_ask 68 = .ok (.iconst 1, 1) := dk_4 (dk_at dksX0_ask_2 22 rfl rfl)
theorem dX0_ask_69 : decode cX0_ask 69 = .ok (.iadd, 1) := dk_96 (dk_at dksX0_ask_2 23 rfl rfl)
theorem dX0_ask_70 : decode cX0_ask 70 = .ok (.imul, 1) := dk_104 (dk_at dksX0_ask_3 0 rfl rfl)
theorem dX0_ask_71 : decode cX0_ask 71 = .ok (.invokestatic 158, 3) := dk_184 0 158 (dk_at dksX0_ask_3 1 rfl rfl)
theorem dX0_ask_74 : decode cX0_ask 74 = .ok (.if_icmp .ge 42, 3) := dk_162 0 42 (dk_at dksX0_ask_3 4 rfl rfl)
theorem dX0_ask_77 : decode cX0_ask 77 = .ok (.iload 6, 2) := dk_21 6 (dk_at dksX0_ask_3 7 rfl rfl)
theorem dX0_ask_79 : decode cX0_ask 79 = .ok (.iload 7, 2) := dk_21 7 (dk_at dksX0_ask_3 9 rfl rfl)
theorem dX0_ask_81 : decode cX0_ask 81 = .ok (.invokestatic 132, 3) := dk_184 0 132 (dk_at dksX0_ask_3 11 rfl rfl)
theorem dX0_ask_84 : decode cX0_ask 84 = .ok (.ifCond .eq 22, 3) := dk_153 0 22 (dk_at dksX0_ask_3 14 rfl rfl)
theorem dX0_ask_87 : decode cX0_ask 87 = .ok (.aload_n 0, 1) := dk_42 (dk_at dksX0_ask_3 17 rfl rfl)
theorem dX0_ask_88 : decode cX0_ask 88 = .ok (.getfield 65, 3) := dk_180 0 65 (dk_at dksX0_ask_3 18 rfl rfl)
theorem dX0_ask_91 : decode cX0_ask 91 = .ok (.iload 7, 2) := dk_21 7 (dk_at dksX0_ask_3 21 rfl rfl)
theorem dX0_ask_93 : decode cX0_ask 93 = .ok (.iaload, 1) := dk_46 (dk_at dksX0_ask_3 23 rfl rfl)
theorem dX0_ask_94 : decode cX0_ask 94 = .ok (.iload 5, 2) := dk_21 5 (dk_at dksX0_ask_4 0 rfl rfl)
theorem dX0_ask_96 : decode cX0_ask 96 = .ok (.invokestatic 147, 3) := dk_184 0 147 (dk_at dksX0_ask_4 2 rfl rfl)
theorem dX0_ask_99 : decode cX0_ask 99 = .ok (.ifCond .eq 7, 3) := dk_153 0 7 (dk_at dksX0_ask_4 5 rfl rfl)
theorem dX0_ask_102 : decode cX0_ask 102 = .ok (.iconst 1, 1) := dk_4 (dk_at dksX0_ask_4 8 rfl rfl)
theorem dX0_ask_103 : decode cX0_ask 103 = .ok (.goto 4, 3) := dk_167 0 4 (dk_at dksX0_ask_4 9 rfl rfl)
theorem dX0_ask_106 : decode cX0_ask 106 = .ok (.iconst 0, 1) := dk_3 (dk_at dksX0_ask_4 12 rfl rfl)
theorem dX0_ask_107 : decode cX0_ask 107 = .ok (.iadd, 1) := dk_96 (dk_at dksX0_ask_4 13 rfl rfl)
theorem dX0_ask_108 : decode cX0_ask 108 = .ok (.istore 6, 2) := dk_54 6 (dk_at dksX0_ask_4 14 rfl rfl)
theorem dX0_ask_110 : decode cX0_ask 110 = .ok (.iinc 7 1, 3) := dk_132 7 1 (dk_at dksX0_ask_4 16 rfl rfl)
theorem dX0_ask_113 : decode cX0_ask 113 = .ok (.goto (-54), 3) := dk_167 255 202 (dk_at dksX0_ask_4 19 rfl rfl)
theorem dX0_ask_116 : decode cX0_ask 116 = .ok (.iload 6, 2) := dk_21 6 (dk_at dksX0_ask_4 22 rfl rfl)
theorem dX0_ask_118 : decode cX0_ask 118 = .ok (.iload_n 2, 1) := dk_28 (dk_at dksX0_ask_5 0 rfl rfl)
theorem dX0_ask_119 : decode cX0_ask 119 = .ok (.iload 6, 2) := dk_21 6 (dk_at dksX0_ask_5 1 rfl rfl)
theorem dX0_ask_121 : decode cX0_ask 121 = .ok (.isub, 1) := dk_100 (dk_at dksX0_ask_5 3 rfl rfl)
theorem dX0_ask_122 : decode cX0_ask 122 = .ok (.invokestatic 272, 3) := dk_184 1 16 (dk_at dksX0_ask_5 4 rfl rfl)
theorem dX0_ask_125 : decode cX0_ask 125 = .ok (.istore 7, 2) := dk_54 7 (dk_at dksX0_ask_5 7 rfl rfl)
theorem dX0_ask_127 : decode cX0_ask 127 = .ok (.iload 7, 2) := dk_21 7 (dk_at dksX0_ask_5 9 rfl rfl)
theorem dX0_ask_129 : decode cX0_ask 129 = .ok (.iload 4, 2) := dk_21 4 (dk_at dksX0_ask_5 11 rfl rfl)
theorem dX0_ask_131 : decode cX0_ask 131 = .ok (.if_icmp .ge 8, 3) := dk_162 0 8 (dk_at dksX0_ask_5 13 rfl rfl)
theorem dX0_ask_134 : decode cX0_ask 134 = .ok (.iload 5, 2) := dk_21 5 (dk_at dksX0_ask_5 16 rfl rfl)
theorem dX0_ask_136 : decode cX0_ask 136 = .ok (.goto 4, 3) := dk_167 0 4 (dk_at dksX0_ask_5 18 rfl rfl)
theorem dX0_ask_139 : decode cX0_ask 139 = .ok (.iload_n 3, 1) := dk_29 (dk_at dksX0_ask_5 21 rfl rfl)
theorem dX0_ask_140 : decode cX0_ask 140 = .ok (.istore_n 3, 1) := dk_62 (dk_at dksX0_ask_5 22 rfl rfl)
theorem dX0_ask_141 : decode cX0_ask 141 = .ok (.iload 4, 2) := dk_21 4 (dk_at dksX0_ask_6 0 rfl rfl)
theorem dX0_ask_143 : decode cX0_ask 143 = .ok (.iload 7, 2) := dk_21 7 (dk_at dksX0_ask_6 2 rfl rfl)
theorem dX0_ask_145 : decode cX0_ask 145 = .ok (.invokestatic 158, 3) := dk_184 0 158 (dk_at dksX0_ask_6 4 rfl rfl)
theorem dX0_ask_148 : decode cX0_ask 148 = .ok (.istore 4, 2) := dk_54 4 (dk_at dksX0_ask_6 7 rfl rfl)
theorem dX0_ask_150 : decode cX0_ask 150 = .ok (.iinc 5 1, 3) := dk_132 5 1 (dk_at dksX0_ask_6 9 rfl rfl)
theorem dX0_ask_153 : decode cX0_ask 153 = .ok (.goto (-116), 3) := dk_167 255 140 (dk_at dksX0_ask_6 12 rfl rfl)
theorem dX0_ask_156 : decode cX0_ask 156 = .ok (.iload_n 3, 1) := dk_29 (dk_at dksX0_ask_6 15 rfl rfl)
theorem dX0_ask_157 : decode cX0_ask 157 = .ok (.ireturn, 1) := dk_172 (dk_at dksX0_ask_6 16 rfl rfl)
abbrev cX0_calm : ByteArray := prog_1_method_45_code
def yX0_calm : MethodName := ⟨RX0, "calm", "(II)I"⟩
def dkwX0_calm_2 : List UInt8 := [132, 5, 1, 167, 255, 238, 33, 136, 172]
abbrev dktX0_calm_2 : List UInt8 := dkwX0_calm_2 ++ []
def dkwX0_calm_1 : List UInt8 := [20, 1, 19, 66, 3, 54, 5, 21, 5, 27, 162, 0, 18, 33, 28, 133, 105, 20, 1, 21, 109, 66]
abbrev dktX0_calm_1 : List UInt8 := dkwX0_calm_1 ++ dktX0_calm_2
def dkwX0_calm_0 : List UInt8 := [27, 3, 16, 60, 184, 0, 10, 153, 0, 13, 28, 3, 16, 100, 184, 0, 10, 154, 0, 6, 18, 87, 172]
abbrev dktX0_calm_0 : List UInt8 := dkwX0_calm_0 ++ dktX0_calm_1
theorem dksX0_calm_0 : cX0_calm.data.toList.drop 0 = dktX0_calm_0 := by decide +kernel
theorem dksX0_calm_1 : cX0_calm.data.toList.drop 23 = dktX0_calm_1 := dk_seg dksX0_calm_0 23 rfl rfl
theorem dksX0_calm_2 : cX0_calm.data.toList.drop 45 = dktX0_calm_2 := dk_seg dksX0_calm_1 22 rfl rfl
theorem dX0_calm_0 : decode cX0_calm 0 = .ok (.iload_n 1, 1) := dk_27 (dk_at dksX0_calm_0 0 rfl rfl)
theorem dX0_calm_1 : decode cX0_calm 1 = .ok (.iconst 0, 1) := dk_3 (dk_at dksX0_calm_0 1 rfl rfl)
theorem dX0_calm_2 : decode cX0_calm 2 = .ok (.bipush 60, 2) := dk_16 60 (dk_at dksX0_calm_0 2 rfl rfl)
theorem dX0_calm_4 : decode cX0_calm 4 = .ok (.invokestatic 10, 3) := dk_184 0 10 (dk_at dksX0_calm_0 4 rfl rfl)
theorem dX0_calm_7 : decode cX0_calm 7 = .ok (.ifCond .eq 13, 3) := dk_153 0 13 (dk_at dksX0_calm_0 7 rfl rfl)
theorem dX0_calm_10 : decode cX0_calm 10 = .ok (.iload_n 2, 1) := dk_28 (dk_at dksX0_calm_0 10 rfl rfl)
theorem dX0_calm_11 : decode cX0_calm 11 = .ok (.iconst 0, 1) := dk_3 (dk_at dksX0_calm_0 11 rfl rfl)
theorem dX0_calm_12 : decode cX0_calm 12 = .ok (.bipush 100, 2) := dk_16 100 (dk_at dksX0_calm_0 12 rfl rfl)
theorem dX0_calm_14 : decode cX0_calm 14 = .ok (.invokestatic 10, 3) := dk_184 0 10 (dk_at dksX0_calm_0 14 rfl rfl)
theorem dX0_calm_17 : decode cX0_calm 17 = .ok (.ifCond .ne 6, 3) := dk_154 0 6 (dk_at dksX0_calm_0 17 rfl rfl)
theorem dX0_calm_20 : decode cX0_calm 20 = .ok (.ldc 87, 2) := dk_18 87 (dk_at dksX0_calm_0 20 rfl rfl)
theorem dX0_calm_22 : decode cX0_calm 22 = .ok (.ireturn, 1) := dk_172 (dk_at dksX0_calm_0 22 rfl rfl)
theorem dX0_calm_23 : decode cX0_calm 23 = .ok (.ldc2_w 275, 3) := dk_20 1 19 (dk_at dksX0_calm_1 0 rfl rfl)
theorem dX0_calm_26 : decode cX0_calm 26 = .ok (.lstore_n 3, 1) := dk_66 (dk_at dksX0_calm_1 3 rfl rfl)
theorem dX0_calm_27 : decode cX0_calm 27 = .ok (.iconst 0, 1) := dk_3 (dk_at dksX0_calm_1 4 rfl rfl)
theorem dX0_calm_28 : decode cX0_calm 28 = .ok (.istore 5, 2) := dk_54 5 (dk_at dksX0_calm_1 5 rfl rfl)
theorem dX0_calm_30 : decode cX0_calm 30 = .ok (.iload 5, 2) := dk_21 5 (dk_at dksX0_calm_1 7 rfl rfl)
theorem dX0_calm_32 : decode cX0_calm 32 = .ok (.iload_n 1, 1) := dk_27 (dk_at dksX0_calm_1 9 rfl rfl)
theorem dX0_calm_33 : decode cX0_calm 33 = .ok (.if_icmp .ge 18, 3) := dk_162 0 18 (dk_at dksX0_calm_1 10 rfl rfl)
theorem dX0_calm_36 : decode cX0_calm 36 = .ok (.lload_n 3, 1) := dk_33 (dk_at dksX0_calm_1 13 rfl rfl)
theorem dX0_calm_37 : decode cX0_calm 37 = .ok (.iload_n 2, 1) := dk_28 (dk_at dksX0_calm_1 14 rfl rfl)
theorem dX0_calm_38 : decode cX0_calm 38 = .ok (.i2l, 1) := dk_133 (dk_at dksX0_calm_1 15 rfl rfl)
theorem dX0_calm_39 : decode cX0_calm 39 = .ok (.lmul, 1) := dk_105 (dk_at dksX0_calm_1 16 rfl rfl)
theorem dX0_calm_40 : decode cX0_calm 40 = .ok (.ldc2_w 277, 3) := dk_20 1 21 (dk_at dksX0_calm_1 17 rfl rfl)
theorem dX0_calm_43 : decode cX0_calm 43 = .ok (.ldiv, 1) := dk_109 (dk_at dksX0_calm_1 20 rfl rfl)
theorem dX0_calm_44 : decode cX0_calm 44 = .ok (.lstore_n 3, 1) := dk_66 (dk_at dksX0_calm_1 21 rfl rfl)
theorem dX0_calm_45 : decode cX0_calm 45 = .ok (.iinc 5 1, 3) := dk_132 5 1 (dk_at dksX0_calm_2 0 rfl rfl)
theorem dX0_calm_48 : decode cX0_calm 48 = .ok (.goto (-18), 3) := dk_167 255 238 (dk_at dksX0_calm_2 3 rfl rfl)
theorem dX0_calm_51 : decode cX0_calm 51 = .ok (.lload_n 3, 1) := dk_33 (dk_at dksX0_calm_2 6 rfl rfl)
theorem dX0_calm_52 : decode cX0_calm 52 = .ok (.l2i, 1) := dk_136 (dk_at dksX0_calm_2 7 rfl rfl)
theorem dX0_calm_53 : decode cX0_calm 53 = .ok (.ireturn, 1) := dk_172 (dk_at dksX0_calm_2 8 rfl rfl)
abbrev cX0_write : ByteArray := prog_1_method_46_code
def yX0_write : MethodName := ⟨RX0, "write", "(IZ)I"⟩
def dkwX0_write_2 : List UInt8 := [4, 96, 181, 0, 112, 42, 180, 0, 112, 172]
abbrev dktX0_write_2 : List UInt8 := dkwX0_write_2 ++ []
def dkwX0_write_1 : List UInt8 := [180, 0, 49, 42, 180, 0, 112, 27, 79, 42, 180, 0, 53, 42, 180, 0, 112, 28, 84, 42, 89, 180, 0, 112]
abbrev dktX0_write_1 : List UInt8 := dkwX0_write_1 ++ dktX0_write_2
def dkwX0_write_0 : List UInt8 := [42, 27, 182, 0, 196, 154, 0, 6, 18, 199, 172, 42, 180, 0, 112, 16, 15, 160, 0, 6, 18, 91, 172, 42]
abbrev dktX0_write_0 : List UInt8 := dkwX0_write_0 ++ dktX0_write_1
theorem dksX0_write_0 : cX0_write.data.toList.drop 0 = dktX0_write_0 := by decide +kernel
theorem dksX0_write_1 : cX0_write.data.toList.drop 24 = dktX0_write_1 := dk_seg dksX0_write_0 24 rfl rfl
theorem dksX0_write_2 : cX0_write.data.toList.drop 48 = dktX0_write_2 := dk_seg dksX0_write_1 24 rfl rfl
theorem dX0_write_0 : decode cX0_write 0 = .ok (.aload_n 0, 1) := dk_42 (dk_at dksX0_write_0 0 rfl rfl)
theorem dX0_write_1 : decode cX0_write 1 = .ok (.iload_n 1, 1) := dk_27 (dk_at dksX0_write_0 1 rfl rfl)
theorem dX0_write_2 : decode cX0_write 2 = .ok (.invokevirtual 196, 3) := dk_182 0 196 (dk_at dksX0_write_0 2 rfl rfl)
theorem dX0_write_5 : decode cX0_write 5 = .ok (.ifCond .ne 6, 3) := dk_154 0 6 (dk_at dksX0_write_0 5 rfl rfl)
theorem dX0_write_8 : decode cX0_write 8 = .ok (.ldc 199, 2) := dk_18 199 (dk_at dksX0_write_0 8 rfl rfl)
theorem dX0_write_10 : decode cX0_write 10 = .ok (.ireturn, 1) := dk_172 (dk_at dksX0_write_0 10 rfl rfl)
theorem dX0_write_11 : decode cX0_write 11 = .ok (.aload_n 0, 1) := dk_42 (dk_at dksX0_write_0 11 rfl rfl)
theorem dX0_write_12 : decode cX0_write 12 = .ok (.getfield 112, 3) := dk_180 0 112 (dk_at dksX0_write_0 12 rfl rfl)
theorem dX0_write_15 : decode cX0_write 15 = .ok (.bipush 15, 2) := dk_16 15 (dk_at dksX0_write_0 15 rfl rfl)
theorem dX0_write_17 : decode cX0_write 17 = .ok (.if_icmp .ne 6, 3) := dk_160 0 6 (dk_at dksX0_write_0 17 rfl rfl)
theorem dX0_write_20 : decode cX0_write 20 = .ok (.ldc 91, 2) := dk_18 91 (dk_at dksX0_write_0 20 rfl rfl)
theorem dX0_write_22 : decode cX0_write 22 = .ok (.ireturn, 1) := dk_172 (dk_at dksX0_write_0 22 rfl rfl)
theorem dX0_write_23 : decode cX0_write 23 = .ok (.aload_n 0, 1) := dk_42 (dk_at dksX0_write_0 23 rfl rfl)
theorem dX0_write_24 : decode cX0_write 24 = .ok (.getfield 49, 3) := dk_180 0 49 (dk_at dksX0_write_1 0 rfl rfl)
theorem dX0_write_27 : decode cX0_write 27 = .ok (.aload_n 0, 1) := dk_42 (dk_at dksX0_write_1 3 rfl rfl)
theorem dX0_write_28 : decode cX0_write 28 = .ok (.getfield 112, 3) := dk_180 0 112 (dk_at dksX0_write_1 4 rfl rfl)
theorem dX0_write_31 : decode cX0_write 31 = .ok (.iload_n 1, 1) := dk_27 (dk_at dksX0_write_1 7 rfl rfl)
theorem dX0_write_32 : decode cX0_write 32 = .ok (.iastore, 1) := dk_79 (dk_at dksX0_write_1 8 rfl rfl)
theorem dX0_write_33 : decode cX0_write 33 = .ok (.aload_n 0, 1) := dk_42 (dk_at dksX0_write_1 9 rfl rfl)
theorem dX0_write_34 : decode cX0_write 34 = .ok (.getfield 53, 3) := dk_180 0 53 (dk_at dksX0_write_1 10 rfl rfl)
theorem dX0_write_37 : decode cX0_write 37 = .ok (.aload_n 0, 1) := dk_42 (dk_at dksX0_write_1 13 rfl rfl)
theorem dX0_write_38 : decode cX0_write 38 = .ok (.getfield 112, 3) := dk_180 0 112 (dk_at dksX0_write_1 14 rfl rfl)
theorem dX0_write_41 : decode cX0_write 41 = .ok (.iload_n 2, 1) := dk_28 (dk_at dksX0_write_1 17 rfl rfl)
theorem dX0_write_42 : decode cX0_write 42 = .ok (.bastore, 1) := dk_84 (dk_at dksX0_write_1 18 rfl rfl)
theorem dX0_write_43 : decode cX0_write 43 = .ok (.aload_n 0, 1) := dk_42 (dk_at dksX0_write_1 19 rfl rfl)
theorem dX0_write_44 : decode cX0_write 44 = .ok (.dup, 1) := dk_89 (dk_at dksX0_write_1 20 rfl rfl)
theorem dX0_write_45 : decode cX0_write 45 = .ok (.getfield 112, 3) := dk_180 0 112 (dk_at dksX0_write_1 21 rfl rfl)
theorem dX0_write_48 : decode cX0_write 48 = .ok (.iconst 1, 1) := dk_4 (dk_at dksX0_write_2 0 rfl rfl)
theorem dX0_write_49 : decode cX0_write 49 = .ok (.iadd, 1) := dk_96 (dk_at dksX0_write_2 1 rfl rfl)
theorem dX0_write_50 : decode cX0_write 50 = .ok (.putfield 112, 3) := dk_181 0 112 (dk_at dksX0_write_2 2 rfl rfl)
theorem dX0_write_53 : decode cX0_write 53 = .ok (.aload_n 0, 1) := dk_42 (dk_at dksX0_write_2 5 rfl rfl)
theorem dX0_write_54 : decode cX0_write 54 = .ok (.getfield 112, 3) := dk_180 0 112 (dk_at dksX0_write_2 6 rfl rfl)
theorem dX0_write_57 : decode cX0_write 57 = .ok (.ireturn, 1) := dk_172 (dk_at dksX0_write_2 9 rfl rfl)
abbrev cX0_tear : ByteArray := prog_1_method_47_code
def yX0_tear : MethodName := ⟨RX0, "tear", "()I"⟩
def dkwX0_tear_0 : List UInt8 := [42, 180, 0, 112, 60, 42, 3, 181, 0, 112, 27, 172]
abbrev dktX0_tear_0 : List UInt8 := dkwX0_tear_0 ++ []
theorem dksX0_tear_0 : cX0_tear.data.toList.drop 0 = dktX0_tear_0 := by decide +kernel
theorem dX0_tear_0 : decode cX0_tear 0 = .ok (.aload_n 0, 1) := dk_42 (dk_at dksX0_tear_0 0 rfl rfl)
theorem dX0_tear_1 : decode cX0_tear 1 = .ok (.getfield 112, 3) := dk_180 0 112 (dk_at dksX0_tear_0 1 rfl rfl)
theorem dX0_tear_4 : decode cX0_tear 4 = .ok (.istore_n 1, 1) := dk_60 (dk_at dksX0_tear_0 4 rfl rfl)
theorem dX0_tear_5 : decode cX0_tear 5 = .ok (.aload_n 0, 1) := dk_42 (dk_at dksX0_tear_0 5 rfl rfl)
theorem dX0_tear_6 : decode cX0_tear 6 = .ok (.iconst 0, 1) := dk_3 (dk_at dksX0_tear_0 6 rfl rfl)
theorem dX0_tear_7 : decode cX0_tear 7 = .ok (.putfield 112, 3) := dk_181 0 112 (dk_at dksX0_tear_0 7 rfl rfl)
theorem dX0_tear_10 : decode cX0_tear 10 = .ok (.iload_n 1, 1) := dk_27 (dk_at dksX0_tear_0 10 rfl rfl)
theorem dX0_tear_11 : decode cX0_tear 11 = .ok (.ireturn, 1) := dk_172 (dk_at dksX0_tear_0 11 rfl rfl)
abbrev cX0_judge : ByteArray := prog_1_method_48_code
def yX0_judge : MethodName := ⟨RX0, "judge", "()I"⟩
def dkwX0_judge_1 : List UInt8 := [184, 0, 147, 42, 180, 0, 53, 27, 51, 159, 0, 5, 27, 172, 132, 1, 1, 167, 255, 218, 2, 172]
abbrev dktX0_judge_1 : List UInt8 := dkwX0_judge_1 ++ []
def dkwX0_judge_0 : List UInt8 := [3, 60, 27, 42, 180, 0, 112, 162, 0, 36, 42, 180, 0, 38, 180, 0, 152, 42, 180, 0, 49, 27, 46]
abbrev dktX0_judge_0 : List UInt8 := dkwX0_judge_0 ++ dktX0_judge_1
theorem dksX0_judge_0 : cX0_judge.data.toList.drop 0 = dktX0_judge_0 := by decide +kernel
theorem dksX0_judge_1 : cX0_judge.data.toList.drop 23 = dktX0_judge_1 := dk_seg dksX0_judge_0 23 rfl rfl
theorem dX0_judge_0 : decode cX0_judge 0 = .ok (.iconst 0, 1) := dk_3 (dk_at dksX0_judge_0 0 rfl rfl)
theorem dX0_judge_1 : decode cX0_judge 1 = .ok (.istore_n 1, 1) := dk_60 (dk_at dksX0_judge_0 1 rfl rfl)
theorem dX0_judge_2 : decode cX0_judge 2 = .ok (.iload_n 1, 1) := dk_27 (dk_at dksX0_judge_0 2 rfl rfl)
theorem dX0_judge_3 : decode cX0_judge 3 = .ok (.aload_n 0, 1) := dk_42 (dk_at dksX0_judge_0 3 rfl rfl)
theorem dX0_judge_4 : decode cX0_judge 4 = .ok (.getfield 112, 3) := dk_180 0 112 (dk_at dksX0_judge_0 4 rfl rfl)
theorem dX0_judge_7 : decode cX0_judge 7 = .ok (.if_icmp .ge 36, 3) := dk_162 0 36 (dk_at dksX0_judge_0 7 rfl rfl)
theorem dX0_judge_10 : decode cX0_judge 10 = .ok (.aload_n 0, 1) := dk_42 (dk_at dksX0_judge_0 10 rfl rfl)
theorem dX0_judge_11 : decode cX0_judge 11 = .ok (.getfield 38, 3) := dk_180 0 38 (dk_at dksX0_judge_0 11 rfl rfl)
theorem dX0_judge_14 : decode cX0_judge 14 = .ok (.getfield 152, 3) := dk_180 0 152 (dk_at dksX0_judge_0 14 rfl rfl)
theorem dX0_judge_17 : decode cX0_judge 17 = .ok (.aload_n 0, 1) := dk_42 (dk_at dksX0_judge_0 17 rfl rfl)
theorem dX0_judge_18 : decode cX0_judge 18 = .ok (.getfield 49, 3) := dk_180 0 49 (dk_at dksX0_judge_0 18 rfl rfl)
theorem dX0_judge_21 : decode cX0_judge 21 = .ok (.iload_n 1, 1) := dk_27 (dk_at dksX0_judge_0 21 rfl rfl)
theorem dX0_judge_22 : decode cX0_judge 22 = .ok (.iaload, 1) := dk_46 (dk_at dksX0_judge_0 22 rfl rfl)
theorem dX0_judge_23 : decode cX0_judge 23 = .ok (.invokestatic 147, 3) := dk_184 0 147 (dk_at dksX0_judge_1 0 rfl rfl)
theorem dX0_judge_26 : decode cX0_judge 26 = .ok (.aload_n 0, 1) := dk_42 (dk_at dksX0_judge_1 3 rfl rfl)
theorem dX0_judge_27 : decode cX0_judge 27 = .ok (.getfield 53, 3) := dk_180 0 53 (dk_at dksX0_judge_1 4 rfl rfl)
theorem dX0_judge_30 : decode cX0_judge 30 = .ok (.iload_n 1, 1) := dk_27 (dk_at dksX0_judge_1 7 rfl rfl)
theorem dX0_judge_31 : decode cX0_judge 31 = .ok (.baload, 1) := dk_51 (dk_at dksX0_judge_1 8 rfl rfl)
theorem dX0_judge_32 : decode cX0_judge 32 = .ok (.if_icmp .eq 5, 3) := dk_159 0 5 (dk_at dksX0_judge_1 9 rfl rfl)
theorem dX0_judge_35 : decode cX0_judge 35 = .ok (.iload_n 1, 1) := dk_27 (dk_at dksX0_judge_1 12 rfl rfl)
theorem dX0_judge_36 : decode cX0_judge 36 = .ok (.ireturn, 1) := dk_172 (dk_at dksX0_judge_1 13 rfl rfl)
theorem dX0_judge_37 : decode cX0_judge 37 = .ok (.iinc 1 1, 3) := dk_132 1 1 (dk_at dksX0_judge_1 14 rfl rfl)
theorem dX0_judge_40 : decode cX0_judge 40 = .ok (.goto (-38), 3) := dk_167 255 218 (dk_at dksX0_judge_1 17 rfl rfl)
theorem dX0_judge_43 : decode cX0_judge 43 = .ok (.iconst (-1), 1) := dk_2 (dk_at dksX0_judge_1 20 rfl rfl)
theorem dX0_judge_44 : decode cX0_judge 44 = .ok (.ireturn, 1) := dk_172 (dk_at dksX0_judge_1 21 rfl rfl)
abbrev cX0_seed : ByteArray := prog_1_method_49_code
def yX0_seed : MethodName := ⟨RX0, "seed", "(I)I"⟩
def dkwX0_seed_1 : List UInt8 := [172]
abbrev dktX0_seed_1 : List UInt8 := dkwX0_seed_1 ++ []
def dkwX0_seed_0 : List UInt8 := [27, 156, 0, 6, 18, 87, 172, 42, 180, 0, 38, 180, 0, 245, 61, 42, 180, 0, 38, 27, 181, 0, 245, 28]
abbrev dktX0_seed_0 : List UInt8 := dkwX0_seed_0 ++ dktX0_seed_1
theorem dksX0_seed_0 : cX0_seed.data.toList.drop 0 = dktX0_seed_0 := by decide +kernel
theorem dksX0_seed_1 : cX0_seed.data.toList.drop 24 = dktX0_seed_1 := dk_seg dksX0_seed_0 24 rfl rfl
theorem dX0_seed_0 : decode cX0_seed 0 = .ok (.iload_n 1, 1) := dk_27 (dk_at dksX0_seed_0 0 rfl rfl)
theorem dX0_seed_1 : decode cX0_seed 1 = .ok (.ifCond .ge 6, 3) := dk_156 0 6 (dk_at dksX0_seed_0 1 rfl rfl)
theorem dX0_seed_4 : decode cX0_seed 4 = .ok (.ldc 87, 2) := dk_18 87 (dk_at dksX0_seed_0 4 rfl rfl)
theorem dX0_seed_6 : decode cX0_seed 6 = .ok (.ireturn, 1) := dk_172 (dk_at dksX0_seed_0 6 rfl rfl)
theorem dX0_seed_7 : decode cX0_seed 7 = .ok (.aload_n 0, 1) := dk_42 (dk_at dksX0_seed_0 7 rfl rfl)
theorem dX0_seed_8 : decode cX0_seed 8 = .ok (.getfield 38, 3) := dk_180 0 38 (dk_at dksX0_seed_0 8 rfl rfl)
theorem dX0_seed_11 : decode cX0_seed 11 = .ok (.getfield 245, 3) := dk_180 0 245 (dk_at dksX0_seed_0 11 rfl rfl)
theorem dX0_seed_14 : decode cX0_seed 14 = .ok (.istore_n 2, 1) := dk_61 (dk_at dksX0_seed_0 14 rfl rfl)
theorem dX0_seed_15 : decode cX0_seed 15 = .ok (.aload_n 0, 1) := dk_42 (dk_at dksX0_seed_0 15 rfl rfl)
theorem dX0_seed_16 : decode cX0_seed 16 = .ok (.getfield 38, 3) := dk_180 0 38 (dk_at dksX0_seed_0 16 rfl rfl)
theorem dX0_seed_19 : decode cX0_seed 19 = .ok (.iload_n 1, 1) := dk_27 (dk_at dksX0_seed_0 19 rfl rfl)
theorem dX0_seed_20 : decode cX0_seed 20 = .ok (.putfield 245, 3) := dk_181 0 245 (dk_at dksX0_seed_0 20 rfl rfl)
theorem dX0_seed_23 : decode cX0_seed 23 = .ok (.iload_n 2, 1) := dk_28 (dk_at dksX0_seed_0 23 rfl rfl)
theorem dX0_seed_24 : decode cX0_seed 24 = .ok (.ireturn, 1) := dk_172 (dk_at dksX0_seed_1 0 rfl rfl)
abbrev cX0_keep : ByteArray := prog_1_method_50_code
def yX0_keep : MethodName := ⟨RX0, "keep", "(I)I"⟩
def dkwX0_keep_1 : List UInt8 := [182, 0, 125, 42, 180, 0, 71, 27, 50, 4, 181, 0, 115, 42, 3, 181, 0, 109, 4, 172]
abbrev dktX0_keep_1 : List UInt8 := dkwX0_keep_1 ++ []
def dkwX0_keep_0 : List UInt8 := [27, 3, 4, 184, 0, 10, 154, 0, 6, 18, 199, 172, 42, 180, 0, 71, 27, 50, 42, 180, 0, 38]
abbrev dktX0_keep_0 : List UInt8 := dkwX0_keep_0 ++ dktX0_keep_1
theorem dksX0_keep_0 : cX0_keep.data.toList.drop 0 = dktX0_keep_0 := by decide +kernel
theorem dksX0_keep_1 : cX0_keep.data.toList.drop 22 = dktX0_keep_1 := dk_seg dksX0_keep_0 22 rfl rfl
theorem dX0_keep_0 : decode cX0_keep 0 = .ok (.iload_n 1, 1) := dk_27 (dk_at dksX0_keep_0 0 rfl rfl)
theorem dX0_keep_1 : decode cX0_keep 1 = .ok (.iconst 0, 1) := dk_3 (dk_at dksX0_keep_0 1 rfl rfl)
theorem dX0_keep_2 : decode cX0_keep 2 = .ok (.iconst 1, 1) := dk_4 (dk_at dksX0_keep_0 2 rfl rfl)
theorem dX0_keep_3 : decode cX0_keep 3 = .ok (.invokestatic 10, 3) := dk_184 0 10 (dk_at dksX0_keep_0 3 rfl rfl)
theorem dX0_keep_6 : decode cX0_keep 6 = .ok (.ifCond .ne 6, 3) := dk_154 0 6 (dk_at dksX0_keep_0 6 rfl rfl)
theorem dX0_keep_9 : decode cX0_keep 9 = .ok (.ldc 199, 2) := dk_18 199 (dk_at dksX0_keep_0 9 rfl rfl)
theorem dX0_keep_11 : decode cX0_keep 11 = .ok (.ireturn, 1) := dk_172 (dk_at dksX0_keep_0 11 rfl rfl)
theorem dX0_keep_12 : decode cX0_keep 12 = .ok (.aload_n 0, 1) := dk_42 (dk_at dksX0_keep_0 12 rfl rfl)
theorem dX0_keep_13 : decode cX0_keep 13 = .ok (.getfield 71, 3) := dk_180 0 71 (dk_at dksX0_keep_0 13 rfl rfl)
theorem dX0_keep_16 : decode cX0_keep 16 = .ok (.iload_n 1, 1) := dk_27 (dk_at dksX0_keep_0 16 rfl rfl)
theorem dX0_keep_17 : decode cX0_keep 17 = .ok (.aaload, 1) := dk_50 (dk_at dksX0_keep_0 17 rfl rfl)
theorem dX0_keep_18 : decode cX0_keep 18 = .ok (.aload_n 0, 1) := dk_42 (dk_at dksX0_keep_0 18 rfl rfl)
theorem dX0_keep_19 : decode cX0_keep 19 = .ok (.getfield 38, 3) := dk_180 0 38 (dk_at dksX0_keep_0 19 rfl rfl)
theorem dX0_keep_22 : decode cX0_keep 22 = .ok (.invokevirtual 125, 3) := dk_182 0 125 (dk_at dksX0_keep_1 0 rfl rfl)
theorem dX0_keep_25 : decode cX0_keep 25 = .ok (.aload_n 0, 1) := dk_42 (dk_at dksX0_keep_1 3 rfl rfl)
theorem dX0_keep_26 : decode cX0_keep 26 = .ok (.getfield 71, 3) := dk_180 0 71 (dk_at dksX0_keep_1 4 rfl rfl)
theorem dX0_keep_29 : decode cX0_keep 29 = .ok (.iload_n 1, 1) := dk_27 (dk_at dksX0_keep_1 7 rfl rfl)
theorem dX0_keep_30 : decode cX0_keep 30 = .ok (.aaload, 1) := dk_50 (dk_at dksX0_keep_1 8 rfl rfl)
theorem dX0_keep_31 : decode cX0_keep 31 = .ok (.iconst 1, 1) := dk_4 (dk_at dksX0_keep_1 9 rfl rfl)
theorem dX0_keep_32 : decode cX0_keep 32 = .ok (.putfield 115, 3) := dk_181 0 115 (dk_at dksX0_keep_1 10 rfl rfl)
theorem dX0_keep_35 : decode cX0_keep 35 = .ok (.aload_n 0, 1) := dk_42 (dk_at dksX0_keep_1 13 rfl rfl)
theorem dX0_keep_36 : decode cX0_keep 36 = .ok (.iconst 0, 1) := dk_3 (dk_at dksX0_keep_1 14 rfl rfl)
theorem dX0_keep_37 : decode cX0_keep 37 = .ok (.putfield 109, 3) := dk_181 0 109 (dk_at dksX0_keep_1 15 rfl rfl)
theorem dX0_keep_40 : decode cX0_keep 40 = .ok (.iconst 1, 1) := dk_4 (dk_at dksX0_keep_1 18 rfl rfl)
theorem dX0_keep_41 : decode cX0_keep 41 = .ok (.ireturn, 1) := dk_172 (dk_at dksX0_keep_1 19 rfl rfl)
abbrev cX0_goBack : ByteArray := prog_1_method_51_code
def yX0_goBack : MethodName := ⟨RX0, "goBack", "(I)I"⟩
def dkwX0_goBack_1 : List UInt8 := [18, 224, 172, 42, 180, 0, 38, 42, 180, 0, 71, 27, 50, 182, 0, 125, 42, 3, 181, 0, 109, 4, 172]
abbrev dktX0_goBack_1 : List UInt8 := dkwX0_goBack_1 ++ []
def dkwX0_goBack_0 : List UInt8 := [27, 3, 4, 184, 0, 10, 154, 0, 6, 18, 199, 172, 42, 180, 0, 71, 27, 50, 180, 0, 115, 154, 0, 6]
abbrev dktX0_goBack_0 : List UInt8 := dkwX0_goBack_0 ++ dktX0_goBack_1
theorem dksX0_goBack_0 : cX0_goBack.data.toList.drop 0 = dktX0_goBack_0 := by decide +kernel
theorem dksX0_goBack_1 : cX0_goBack.data.toList.drop 24 = dktX0_goBack_1 := dk_seg dksX0_goBack_0 24 rfl rfl
theorem dX0_goBack_0 : decode cX0_goBack 0 = .ok (.iload_n 1, 1) := dk_27 (dk_at dksX0_goBack_0 0 rfl rfl)
theorem dX0_goBack_1 : decode cX0_goBack 1 = .ok (.iconst 0, 1) := dk_3 (dk_at dksX0_goBack_0 1 rfl rfl)
theorem dX0_goBack_2 : decode cX0_goBack 2 = .ok (.iconst 1, 1) := dk_4 (dk_at dksX0_goBack_0 2 rfl rfl)
theorem dX0_goBack_3 : decode cX0_goBack 3 = .ok (.invokestatic 10, 3) := dk_184 0 10 (dk_at dksX0_goBack_0 3 rfl rfl)
theorem dX0_goBack_6 : decode cX0_goBack 6 = .ok (.ifCond .ne 6, 3) := dk_154 0 6 (dk_at dksX0_goBack_0 6 rfl rfl)
theorem dX0_goBack_9 : decode cX0_goBack 9 = .ok (.ldc 199, 2) := dk_18 199 (dk_at dksX0_goBack_0 9 rfl rfl)
theorem dX0_goBack_11 : decode cX0_goBack 11 = .ok (.ireturn, 1) := dk_172 (dk_at dksX0_goBack_0 11 rfl rfl)
theorem dX0_goBack_12 : decode cX0_goBack 12 = .ok (.aload_n 0, 1) := dk_42 (dk_at dksX0_goBack_0 12 rfl rfl)
theorem dX0_goBack_13 : decode cX0_goBack 13 = .ok (.getfield 71, 3) := dk_180 0 71 (dk_at dksX0_goBack_0 13 rfl rfl)
theorem dX0_goBack_16 : decode cX0_goBack 16 = .ok (.iload_n 1, 1) := dk_27 (dk_at dksX0_goBack_0 16 rfl rfl)
theorem dX0_goBack_17 : decode cX0_goBack 17 = .ok (.aaload, 1) := dk_50 (dk_at dksX0_goBack_0 17 rfl rfl)
theorem dX0_goBack_18 : decode cX0_goBack 18 = .ok (.getfield 115, 3) := dk_180 0 115 (dk_at dksX0_goBack_0 18 rfl rfl)
theorem dX0_goBack_21 : decode cX0_goBack 21 = .ok (.ifCond .ne 6, 3) := dk_154 0 6 (dk_at dksX0_goBack_0 21 rfl rfl)
theorem dX0_goBack_24 : decode cX0_goBack 24 = .ok (.ldc 224, 2) := dk_18 224 (dk_at dksX0_goBack_1 0 rfl rfl)
theorem dX0_goBack_26 : decode cX0_goBack 26 = .ok (.ireturn, 1) := dk_172 (dk_at dksX0_goBack_1 2 rfl rfl)
theorem dX0_goBack_27 : decode cX0_goBack 27 = .ok (.aload_n 0, 1) := dk_42 (dk_at dksX0_goBack_1 3 rfl rfl)
theorem dX0_goBack_28 : decode cX0_goBack 28 = .ok (.getfield 38, 3) := dk_180 0 38 (dk_at dksX0_goBack_1 4 rfl rfl)
theorem dX0_goBack_31 : decode cX0_goBack 31 = .ok (.aload_n 0, 1) := dk_42 (dk_at dksX0_goBack_1 7 rfl rfl)
theorem dX0_goBack_32 : decode cX0_goBack 32 = .ok (.getfield 71, 3) := dk_180 0 71 (dk_at dksX0_goBack_1 8 rfl rfl)
theorem dX0_goBack_35 : decode cX0_goBack 35 = .ok (.iload_n 1, 1) := dk_27 (dk_at dksX0_goBack_1 11 rfl rfl)
theorem dX0_goBack_36 : decode cX0_goBack 36 = .ok (.aaload, 1) := dk_50 (dk_at dksX0_goBack_1 12 rfl rfl)
theorem dX0_goBack_37 : decode cX0_goBack 37 = .ok (.invokevirtual 125, 3) := dk_182 0 125 (dk_at dksX0_goBack_1 13 rfl rfl)
theorem dX0_goBack_40 : decode cX0_goBack 40 = .ok (.aload_n 0, 1) := dk_42 (dk_at dksX0_goBack_1 16 rfl rfl)
theorem dX0_goBack_41 : decode cX0_goBack 41 = .ok (.iconst 0, 1) := dk_3 (dk_at dksX0_goBack_1 17 rfl rfl)
theorem dX0_goBack_42 : decode cX0_goBack 42 = .ok (.putfield 109, 3) := dk_181 0 109 (dk_at dksX0_goBack_1 18 rfl rfl)
theorem dX0_goBack_45 : decode cX0_goBack 45 = .ok (.iconst 1, 1) := dk_4 (dk_at dksX0_goBack_1 21 rfl rfl)
theorem dX0_goBack_46 : decode cX0_goBack 46 = .ok (.ireturn, 1) := dk_172 (dk_at dksX0_goBack_1 22 rfl rfl)
theorem q56 : (Jvm.Cond.initialized "SkittleGentry") ∈ lw_all := lw_g (lw_at lw_m1 1 rfl) rfl
theorem q73 : (Jvm.Cond.instantiable "SkittleGentry" (15 : Nat)) ∈ lw_all := lw_g (lw_at lw_m1 18 rfl) rfl
theorem q75 : (Jvm.Cond.instanceMethod ({ cls := "SkittleGentry", name := "<init>", desc := "()V" } : Jvm.MethodName)) ∈ lw_all := lw_g (lw_at lw_m1 20 rfl) rfl
theorem q76 : (Jvm.Cond.code ({ cls := "SkittleGentry", name := "<init>", desc := "()V" } : Jvm.MethodName) prog_1_method_7_code (2 : Nat) (Option.none : Option Jvm.ClassFile.FieldType)) ∈ lw_all := lw_g (lw_at lw_m1 21 rfl) rfl
theorem q77 : (Jvm.Cond.methodLink "SkittleGentry" (14 : Nat) ({ cls := "java/lang/Object", name := "<init>", desc := "()V" } : Jvm.MethodName)) ∈ lw_all := lw_g (lw_at lw_m1 22 rfl) rfl
theorem q80 : (Jvm.Cond.classLink "SkittleGentry" (20 : Nat) "SkittleGentry$Gentry") ∈ lw_all := lw_g (lw_at lw_m1 25 rfl) rfl
theorem q82 : (Jvm.Cond.classLink "SkittleGentry" (26 : Nat) "SkittleGentry$County") ∈ lw_all := lw_g (lw_at lw_m1 27 rfl) rfl
theorem q84 : (Jvm.Cond.methodLinkNest "SkittleGentry" (28 : Nat) ({ cls := "SkittleGentry$County", name := "<init>", desc := "()V" } : Jvm.MethodName) "SkittleGentry") ∈ lw_tbl := lw_at lw_m1 29 rfl
theorem q91 : (Jvm.Cond.fieldLinkNest "SkittleGentry" (122 : Nat) "SkittleGentry$County" "floor" "I" "SkittleGentry") ∈ lw_tbl := lw_at lw_m1 36 rfl
theorem q98 : (Jvm.Cond.fieldLinkNest "SkittleGentry" (203 : Nat) "SkittleGentry$County" "weight" "[I" "SkittleGentry") ∈ lw_tbl := lw_at lw_m1 43 rfl
theorem q104 : (Jvm.Cond.fieldLinkNest "SkittleGentry" (119 : Nat) "SkittleGentry$County" "many" "I" "SkittleGentry") ∈ lw_tbl := lw_at lw_m1 49 rfl
theorem q117 : (Jvm.Cond.classLink "SkittleGentry" (33 : Nat) "SkittleGentry$State") ∈ lw_all := lw_g (lw_at lw_m1 62 rfl) rfl
theorem q119 : (Jvm.Cond.methodLinkNest "SkittleGentry" (35 : Nat) ({ cls := "SkittleGentry$State", name := "<init>", desc := "(LSkittleGentry;)V" } : Jvm.MethodName) "SkittleGentry") ∈ lw_tbl := lw_at lw_m1 64 rfl
theorem q124 : (Jvm.Cond.fieldLinkNest "SkittleGentry" (200 : Nat) "SkittleGentry$State" "kind" "[I" "SkittleGentry") ∈ lw_tbl := lw_at lw_m1 69 rfl
theorem q126 : (Jvm.Cond.fieldLinkNest "SkittleGentry" (206 : Nat) "SkittleGentry$State" "chip" "[I" "SkittleGentry") ∈ lw_tbl := lw_at lw_m1 71 rfl
theorem q128 : (Jvm.Cond.fieldLinkNest "SkittleGentry" (175 : Nat) "SkittleGentry$State" "plate" "[I" "SkittleGentry") ∈ lw_tbl := lw_at lw_m1 73 rfl
theorem q130 : (Jvm.Cond.fieldLinkNest "SkittleGentry" (209 : Nat) "SkittleGentry$State" "rocked" "[I" "SkittleGentry") ∈ lw_tbl := lw_at lw_m1 75 rfl
theorem q132 : (Jvm.Cond.fieldLinkNest "SkittleGentry" (193 : Nat) "SkittleGentry$State" "taken" "[I" "SkittleGentry") ∈ lw_tbl := lw_at lw_m1 77 rfl
theorem q134 : (Jvm.Cond.fieldLinkNest "SkittleGentry" (152 : Nat) "SkittleGentry$State" "stands" "I" "SkittleGentry") ∈ lw_tbl := lw_at lw_m1 79 rfl
theorem q136 : (Jvm.Cond.fieldLinkNest "SkittleGentry" (184 : Nat) "SkittleGentry$State" "throwMany" "I" "SkittleGentry") ∈ lw_tbl := lw_at lw_m1 81 rfl
theorem q138 : (Jvm.Cond.fieldLinkNest "SkittleGentry" (187 : Nat) "SkittleGentry$State" "floorers" "I" "SkittleGentry") ∈ lw_tbl := lw_at lw_m1 83 rfl
theorem q140 : (Jvm.Cond.fieldLinkNest "SkittleGentry" (245 : Nat) "SkittleGentry$State" "seed" "I" "SkittleGentry") ∈ lw_tbl := lw_at lw_m1 85 rfl
theorem q141 : (Jvm.Cond.fieldLinkNest "SkittleGentry" (115 : Nat) "SkittleGentry$State" "isKept" "Z" "SkittleGentry") ∈ lw_tbl := lw_at lw_m1 86 rfl
theorem q143 : (Jvm.Cond.fieldLinkNest "SkittleGentry" (251 : Nat) "SkittleGentry$State" "rocks" "I" "SkittleGentry") ∈ lw_tbl := lw_at lw_m1 88 rfl
theorem q145 : (Jvm.Cond.fieldLinkNest "SkittleGentry" (254 : Nat) "SkittleGentry$State" "stays" "I" "SkittleGentry") ∈ lw_tbl := lw_at lw_m1 90 rfl
theorem q176 : (Jvm.Cond.methodLinkNest "SkittleGentry" (74 : Nat) ({ cls := "SkittleGentry$Gentry", name := "<init>", desc := "()V" } : Jvm.MethodName) "SkittleGentry") ∈ lw_tbl := lw_at lw_m1 121 rfl
theorem q183 : (Jvm.Cond.classLink "SkittleGentry" (75 : Nat) "SkittleGentry$Family") ∈ lw_all := lw_g (lw_at lw_m1 128 rfl) rfl
theorem q185 : (Jvm.Cond.methodLinkNest "SkittleGentry" (77 : Nat) ({ cls := "SkittleGentry$Family", name := "<init>", desc := "()V" } : Jvm.MethodName) "SkittleGentry") ∈ lw_tbl := lw_at lw_m1 130 rfl
theorem q190 : (Jvm.Cond.classLink "SkittleGentry" (78 : Nat) "SkittleGentry$Saint") ∈ lw_all := lw_g (lw_at lw_m1 135 rfl) rfl
theorem q192 : (Jvm.Cond.methodLinkNest "SkittleGentry" (80 : Nat) ({ cls := "SkittleGentry$Saint", name := "<init>", desc := "()V" } : Jvm.MethodName) "SkittleGentry") ∈ lw_tbl := lw_at lw_m1 137 rfl
theorem q197 : (Jvm.Cond.classLink "SkittleGentry" (81 : Nat) "SkittleGentry$Poor") ∈ lw_all := lw_g (lw_at lw_m1 142 rfl) rfl
theorem q199 : (Jvm.Cond.methodLinkNest "SkittleGentry" (83 : Nat) ({ cls := "SkittleGentry$Poor", name := "<init>", desc := "()V" } : Jvm.MethodName) "SkittleGentry") ∈ lw_tbl := lw_at lw_m1 144 rfl
theorem q204 : (Jvm.Cond.methodLink "SkittleGentry" (84 : Nat) ({ cls := "SkittleGentry$State", name := "begin", desc := "()V" } : Jvm.MethodName)) ∈ lw_all := lw_g (lw_at lw_m1 149 rfl) rfl
theorem q215 : (Jvm.Cond.fieldLink "SkittleGentry" (22 : Nat) "SkittleGentry" "kinds" "[LSkittleGentry$Gentry;") ∈ lw_all := lw_g (lw_at lw_m1 160 rfl) rfl
theorem q217 : (Jvm.Cond.fieldLink "SkittleGentry" (29 : Nat) "SkittleGentry" "county" "LSkittleGentry$County;") ∈ lw_all := lw_g (lw_at lw_m1 162 rfl) rfl
theorem q218 : (Jvm.Cond.fieldLink "SkittleGentry" (38 : Nat) "SkittleGentry" "now" "LSkittleGentry$State;") ∈ lw_all := lw_g (lw_at lw_m1 163 rfl) rfl
theorem q219 : (Jvm.Cond.fieldLink "SkittleGentry" (42 : Nat) "SkittleGentry" "tried" "LSkittleGentry$State;") ∈ lw_all := lw_g (lw_at lw_m1 164 rfl) rfl
theorem q220 : (Jvm.Cond.fieldLink "SkittleGentry" (45 : Nat) "SkittleGentry" "undone" "[LSkittleGentry$State;") ∈ lw_all := lw_g (lw_at lw_m1 165 rfl) rfl
theorem q221 : (Jvm.Cond.fieldLink "SkittleGentry" (109 : Nat) "SkittleGentry" "known" "I") ∈ lw_all := lw_g (lw_at lw_m1 166 rfl) rfl
theorem q222 : (Jvm.Cond.fieldLink "SkittleGentry" (49 : Nat) "SkittleGentry" "bookOf" "[I") ∈ lw_all := lw_g (lw_at lw_m1 167 rfl) rfl
theorem q223 : (Jvm.Cond.fieldLink "SkittleGentry" (53 : Nat) "SkittleGentry" "bookStands" "[Z") ∈ lw_all := lw_g (lw_at lw_m1 168 rfl) rfl
theorem q224 : (Jvm.Cond.fieldLink "SkittleGentry" (112 : Nat) "SkittleGentry" "written" "I") ∈ lw_all := lw_g (lw_at lw_m1 169 rfl) rfl
theorem q225 : (Jvm.Cond.fieldLink "SkittleGentry" (57 : Nat) "SkittleGentry" "text" "[B") ∈ lw_all := lw_g (lw_at lw_m1 170 rfl) rfl
theorem q226 : (Jvm.Cond.fieldLink "SkittleGentry" (88 : Nat) "SkittleGentry" "size" "I") ∈ lw_all := lw_g (lw_at lw_m1 171 rfl) rfl
theorem q227 : (Jvm.Cond.fieldLink "SkittleGentry" (61 : Nat) "SkittleGentry" "fault" "I") ∈ lw_all := lw_g (lw_at lw_m1 172 rfl) rfl
theorem q228 : (Jvm.Cond.fieldLink "SkittleGentry" (65 : Nat) "SkittleGentry" "fells" "[I") ∈ lw_all := lw_g (lw_at lw_m1 173 rfl) rfl
theorem q229 : (Jvm.Cond.fieldLink "SkittleGentry" (68 : Nat) "SkittleGentry" "need" "[I") ∈ lw_all := lw_g (lw_at lw_m1 174 rfl) rfl
theorem q230 : (Jvm.Cond.fieldLink "SkittleGentry" (71 : Nat) "SkittleGentry" "images" "[LSkittleGentry$State;") ∈ lw_all := lw_g (lw_at lw_m1 175 rfl) rfl
theorem q231 : (Jvm.Cond.laysFinal "SkittleGentry" "SkittleGentry" "kinds" "[LSkittleGentry$Gentry;") ∈ lw_all := lw_g (lw_at lw_m1 176 rfl) rfl
theorem q232 : (Jvm.Cond.soleField "SkittleGentry" "kinds") ∈ lw_all := lw_g (lw_at lw_m1 177 rfl) rfl
theorem q233 : (Jvm.Cond.lays "SkittleGentry" "SkittleGentry" "county" "LSkittleGentry$County;") ∈ lw_all := lw_g (lw_at lw_m1 178 rfl) rfl
theorem q234 : (Jvm.Cond.soleField "SkittleGentry" "county") ∈ lw_all := lw_g (lw_at lw_m1 179 rfl) rfl
theorem q235 : (Jvm.Cond.laysFinal "SkittleGentry" "SkittleGentry" "now" "LSkittleGentry$State;") ∈ lw_all := lw_g (lw_at lw_m1 180 rfl) rfl
theorem q236 : (Jvm.Cond.soleField "SkittleGentry" "now") ∈ lw_all := lw_g (lw_at lw_m1 181 rfl) rfl
theorem q237 : (Jvm.Cond.laysFinal "SkittleGentry" "SkittleGentry" "tried" "LSkittleGentry$State;") ∈ lw_all := lw_g (lw_at lw_m1 182 rfl) rfl
theorem q238 : (Jvm.Cond.soleField "SkittleGentry" "tried") ∈ lw_all := lw_g (lw_at lw_m1 183 rfl) rfl
theorem q239 : (Jvm.Cond.laysFinal "SkittleGentry" "SkittleGentry" "undone" "[LSkittleGentry$State;") ∈ lw_all := lw_g (lw_at lw_m1 184 rfl) rfl
theorem q240 : (Jvm.Cond.soleField "SkittleGentry" "undone") ∈ lw_all := lw_g (lw_at lw_m1 185 rfl) rfl
theorem q241 : (Jvm.Cond.lays "SkittleGentry" "SkittleGentry" "known" "I") ∈ lw_all := lw_g (lw_at lw_m1 186 rfl) rfl
theorem q242 : (Jvm.Cond.soleField "SkittleGentry" "known") ∈ lw_all := lw_g (lw_at lw_m1 187 rfl) rfl
theorem q243 : (Jvm.Cond.laysFinal "SkittleGentry" "SkittleGentry" "bookOf" "[I") ∈ lw_all := lw_g (lw_at lw_m1 188 rfl) rfl
theorem q244 : (Jvm.Cond.soleField "SkittleGentry" "bookOf") ∈ lw_all := lw_g (lw_at lw_m1 189 rfl) rfl
theorem q245 : (Jvm.Cond.laysFinal "SkittleGentry" "SkittleGentry" "bookStands" "[Z") ∈ lw_all := lw_g (lw_at lw_m1 190 rfl) rfl
theorem q246 : (Jvm.Cond.soleField "SkittleGentry" "bookStands") ∈ lw_all := lw_g (lw_at lw_m1 191 rfl) rfl
theorem q247 : (Jvm.Cond.lays "SkittleGentry" "SkittleGentry" "written" "I") ∈ lw_all := lw_g (lw_at lw_m1 192 rfl) rfl
theorem q248 : (Jvm.Cond.soleField "SkittleGentry" "written") ∈ lw_all := lw_g (lw_at lw_m1 193 rfl) rfl
theorem q249 : (Jvm.Cond.laysFinal "SkittleGentry" "SkittleGentry" "text" "[B") ∈ lw_all := lw_g (lw_at lw_m1 194 rfl) rfl
theorem q250 : (Jvm.Cond.soleField "SkittleGentry" "text") ∈ lw_all := lw_g (lw_at lw_m1 195 rfl) rfl
theorem q251 : (Jvm.Cond.lays "SkittleGentry" "SkittleGentry" "size" "I") ∈ lw_all := lw_g (lw_at lw_m1 196 rfl) rfl
theorem q252 : (Jvm.Cond.soleField "SkittleGentry" "size") ∈ lw_all := lw_g (lw_at lw_m1 197 rfl) rfl
theorem q253 : (Jvm.Cond.lays "SkittleGentry" "SkittleGentry" "fault" "I") ∈ lw_all := lw_g (lw_at lw_m1 198 rfl) rfl
theorem q254 : (Jvm.Cond.soleField "SkittleGentry" "fault") ∈ lw_all := lw_g (lw_at lw_m1 199 rfl) rfl
theorem q255 : (Jvm.Cond.laysFinal "SkittleGentry" "SkittleGentry" "fells" "[I") ∈ lw_all := lw_g (lw_at lw_m1 200 rfl) rfl
theorem q256 : (Jvm.Cond.soleField "SkittleGentry" "fells") ∈ lw_all := lw_g (lw_at lw_m1 201 rfl) rfl
theorem q257 : (Jvm.Cond.laysFinal "SkittleGentry" "SkittleGentry" "need" "[I") ∈ lw_all := lw_g (lw_at lw_m1 202 rfl) rfl
theorem q258 : (Jvm.Cond.soleField "SkittleGentry" "need") ∈ lw_all := lw_g (lw_at lw_m1 203 rfl) rfl
theorem q259 : (Jvm.Cond.laysFinal "SkittleGentry" "SkittleGentry" "images" "[LSkittleGentry$State;") ∈ lw_all := lw_g (lw_at lw_m1 204 rfl) rfl
theorem q260 : (Jvm.Cond.soleField "SkittleGentry" "images") ∈ lw_all := lw_g (lw_at lw_m1 205 rfl) rfl
theorem q261 : (Jvm.Cond.superclass "SkittleGentry" "java/lang/Object") ∈ lw_all := lw_g (lw_at lw_m1 206 rfl) rfl
theorem q263 : (Jvm.Cond.instanceMethod ({ cls := "SkittleGentry", name := "feed", desc := "(I)I" } : Jvm.MethodName)) ∈ lw_all := lw_g (lw_at lw_m1 208 rfl) rfl
theorem q264 : (Jvm.Cond.selects "SkittleGentry" ({ cls := "SkittleGentry", name := "feed", desc := "(I)I" } : Jvm.MethodName) ({ cls := "SkittleGentry", name := "feed", desc := "(I)I" } : Jvm.MethodName)) ∈ lw_all := lw_g (lw_at lw_m1 209 rfl) rfl
theorem q265 : (Jvm.Cond.code ({ cls := "SkittleGentry", name := "feed", desc := "(I)I" } : Jvm.MethodName) prog_1_method_8_code (2 : Nat) (Option.some Jvm.ClassFile.FieldType.int)) ∈ lw_all := lw_g (lw_at lw_m1 210 rfl) rfl
theorem q266 : (Jvm.Cond.methodLink "SkittleGentry" (10 : Nat) ({ cls := "SkittleGentry", name := "isIn", desc := "(III)Z" } : Jvm.MethodName)) ∈ lw_all := lw_g (lw_at lw_m1 211 rfl) rfl
theorem q267 : (Jvm.Cond.static ({ cls := "SkittleGentry", name := "isIn", desc := "(III)Z" } : Jvm.MethodName)) ∈ lw_all := lw_g (lw_at lw_m1 212 rfl) rfl
theorem q268 : (Jvm.Cond.code ({ cls := "SkittleGentry", name := "isIn", desc := "(III)Z" } : Jvm.MethodName) prog_1_method_1_code (3 : Nat) (Option.some Jvm.ClassFile.FieldType.boolean)) ∈ lw_all := lw_g (lw_at lw_m1 213 rfl) rfl
theorem q269 : (Jvm.Cond.constant "SkittleGentry" (87 : Nat) (-1000000002 : Int32)) ∈ lw_all := lw_g (lw_at lw_m1 214 rfl) rfl
theorem q270 : (Jvm.Cond.constant "SkittleGentry" (91 : Nat) (-1000000004 : Int32)) ∈ lw_all := lw_g (lw_at lw_m1 215 rfl) rfl
theorem q272 : (Jvm.Cond.instanceMethod ({ cls := "SkittleGentry", name := "county", desc := "()I" } : Jvm.MethodName)) ∈ lw_all := lw_g (lw_at lw_m1 217 rfl) rfl
theorem q273 : (Jvm.Cond.selects "SkittleGentry" ({ cls := "SkittleGentry", name := "county", desc := "()I" } : Jvm.MethodName) ({ cls := "SkittleGentry", name := "county", desc := "()I" } : Jvm.MethodName)) ∈ lw_all := lw_g (lw_at lw_m1 218 rfl) rfl
theorem q274 : (Jvm.Cond.codeWith ({ cls := "SkittleGentry", name := "county", desc := "()I" } : Jvm.MethodName) prog_1_method_9_code (4 : Nat) (Option.some Jvm.ClassFile.FieldType.int) [((5 : Nat), (27 : Nat), (35 : Nat), (101 : Nat)), ((5 : Nat), (27 : Nat), (59 : Nat), (0 : Nat)), ((35 : Nat), (52 : Nat), (59 : Nat), (0 : Nat))]) ∈ lw_all := lw_g (lw_at lw_m1 219 rfl) rfl
theorem q275 : (Jvm.Cond.classLink "SkittleGentry" (101 : Nat) "SkittleGentry$Fault") ∈ lw_all := lw_g (lw_at lw_m1 220 rfl) rfl
theorem q276 : (Jvm.Cond.classLink "SkittleGentry" (92 : Nat) "SkittleGentry$Reader") ∈ lw_all := lw_g (lw_at lw_m1 221 rfl) rfl
theorem q278 : (Jvm.Cond.methodLink "SkittleGentry" (94 : Nat) ({ cls := "SkittleGentry$Reader", name := "<init>", desc := "([BI)V" } : Jvm.MethodName)) ∈ lw_all := lw_g (lw_at lw_m1 223 rfl) rfl
theorem q297 : (Jvm.Cond.methodLink "SkittleGentry" (97 : Nat) ({ cls := "SkittleGentry$Reader", name := "all", desc := "()LSkittleGentry$County;" } : Jvm.MethodName)) ∈ lw_all := lw_g (lw_at lw_m2 2 rfl) rfl
theorem q359 : (Jvm.Cond.fieldLinkNest "SkittleGentry" (106 : Nat) "SkittleGentry$Fault" "number" "I" "SkittleGentry") ∈ lw_tbl := lw_at lw_m2 64 rfl
theorem q361 : (Jvm.Cond.fieldLinkNest "SkittleGentry" (103 : Nat) "SkittleGentry$Fault" "place" "I" "SkittleGentry") ∈ lw_tbl := lw_at lw_m2 66 rfl
theorem q396 : (Jvm.Cond.instanceMethod ({ cls := "SkittleGentry", name := "fault", desc := "()I" } : Jvm.MethodName)) ∈ lw_all := lw_g (lw_at lw_m2 101 rfl) rfl
theorem q397 : (Jvm.Cond.selects "SkittleGentry" ({ cls := "SkittleGentry", name := "fault", desc := "()I" } : Jvm.MethodName) ({ cls := "SkittleGentry", name := "fault", desc := "()I" } : Jvm.MethodName)) ∈ lw_all := lw_g (lw_at lw_m2 102 rfl) rfl
theorem q398 : (Jvm.Cond.code ({ cls := "SkittleGentry", name := "fault", desc := "()I" } : Jvm.MethodName) prog_1_method_10_code (1 : Nat) (Option.some Jvm.ClassFile.FieldType.int)) ∈ lw_all := lw_g (lw_at lw_m2 103 rfl) rfl
theorem q400 : (Jvm.Cond.instanceMethod ({ cls := "SkittleGentry", name := "told", desc := "(I)I" } : Jvm.MethodName)) ∈ lw_all := lw_g (lw_at lw_m2 105 rfl) rfl
theorem q401 : (Jvm.Cond.selects "SkittleGentry" ({ cls := "SkittleGentry", name := "told", desc := "(I)I" } : Jvm.MethodName) ({ cls := "SkittleGentry", name := "told", desc := "(I)I" } : Jvm.MethodName)) ∈ lw_all := lw_g (lw_at lw_m2 106 rfl) rfl
theorem q402 : (Jvm.Cond.code ({ cls := "SkittleGentry", name := "told", desc := "(I)I" } : Jvm.MethodName) prog_1_method_21_code (2 : Nat) (Option.some Jvm.ClassFile.FieldType.int)) ∈ lw_all := lw_g (lw_at lw_m2 107 rfl) rfl
theorem q403 : (Jvm.Cond.methodLink "SkittleGentry" (181 : Nat) ({ cls := "SkittleGentry", name := "toldOfBalls", desc := "(I)I" } : Jvm.MethodName)) ∈ lw_all := lw_g (lw_at lw_m2 108 rfl) rfl
theorem q404 : (Jvm.Cond.privateMethod ({ cls := "SkittleGentry", name := "toldOfBalls", desc := "(I)I" } : Jvm.MethodName)) ∈ lw_tbl := lw_at lw_m2 109 rfl
theorem q405 : (Jvm.Cond.instanceMethod ({ cls := "SkittleGentry", name := "toldOfBalls", desc := "(I)I" } : Jvm.MethodName)) ∈ lw_all := lw_g (lw_at lw_m2 110 rfl) rfl
theorem q406 : (Jvm.Cond.code ({ cls := "SkittleGentry", name := "toldOfBalls", desc := "(I)I" } : Jvm.MethodName) prog_1_method_19_code (3 : Nat) (Option.some Jvm.ClassFile.FieldType.int)) ∈ lw_all := lw_g (lw_at lw_m2 111 rfl) rfl
theorem q407 : (Jvm.Cond.methodLink "SkittleGentry" (164 : Nat) ({ cls := "SkittleGentry", name := "isCounty", desc := "()Z" } : Jvm.MethodName)) ∈ lw_all := lw_g (lw_at lw_m2 112 rfl) rfl
theorem q408 : (Jvm.Cond.privateMethod ({ cls := "SkittleGentry", name := "isCounty", desc := "()Z" } : Jvm.MethodName)) ∈ lw_tbl := lw_at lw_m2 113 rfl
theorem q409 : (Jvm.Cond.instanceMethod ({ cls := "SkittleGentry", name := "isCounty", desc := "()Z" } : Jvm.MethodName)) ∈ lw_all := lw_g (lw_at lw_m2 114 rfl) rfl
theorem q410 : (Jvm.Cond.code ({ cls := "SkittleGentry", name := "isCounty", desc := "()Z" } : Jvm.MethodName) prog_1_method_11_code (1 : Nat) (Option.some Jvm.ClassFile.FieldType.boolean)) ∈ lw_all := lw_g (lw_at lw_m2 115 rfl) rfl
theorem q411 : (Jvm.Cond.methodLink "SkittleGentry" (168 : Nat) ({ cls := "SkittleGentry", name := "worst", desc := "()I" } : Jvm.MethodName)) ∈ lw_all := lw_g (lw_at lw_m2 116 rfl) rfl
theorem q412 : (Jvm.Cond.privateMethod ({ cls := "SkittleGentry", name := "worst", desc := "()I" } : Jvm.MethodName)) ∈ lw_tbl := lw_at lw_m2 117 rfl
theorem q413 : (Jvm.Cond.instanceMethod ({ cls := "SkittleGentry", name := "worst", desc := "()I" } : Jvm.MethodName)) ∈ lw_all := lw_g (lw_at lw_m2 118 rfl) rfl
theorem q414 : (Jvm.Cond.code ({ cls := "SkittleGentry", name := "worst", desc := "()I" } : Jvm.MethodName) prog_1_method_16_code (4 : Nat) (Option.some Jvm.ClassFile.FieldType.int)) ∈ lw_all := lw_g (lw_at lw_m2 119 rfl) rfl
theorem q415 : (Jvm.Cond.methodLink "SkittleGentry" (139 : Nat) ({ cls := "SkittleGentry", name := "layFells", desc := "()V" } : Jvm.MethodName)) ∈ lw_all := lw_g (lw_at lw_m2 120 rfl) rfl
theorem q416 : (Jvm.Cond.privateMethod ({ cls := "SkittleGentry", name := "layFells", desc := "()V" } : Jvm.MethodName)) ∈ lw_tbl := lw_at lw_m2 121 rfl
theorem q417 : (Jvm.Cond.instanceMethod ({ cls := "SkittleGentry", name := "layFells", desc := "()V" } : Jvm.MethodName)) ∈ lw_all := lw_g (lw_at lw_m2 122 rfl) rfl
theorem q418 : (Jvm.Cond.code ({ cls := "SkittleGentry", name := "layFells", desc := "()V" } : Jvm.MethodName) prog_1_method_15_code (2 : Nat) (Option.none : Option Jvm.ClassFile.FieldType)) ∈ lw_all := lw_g (lw_at lw_m2 123 rfl) rfl
theorem q419 : (Jvm.Cond.methodLink "SkittleGentry" (132 : Nat) ({ cls := "SkittleGentry", name := "isBall", desc := "(I)Z" } : Jvm.MethodName)) ∈ lw_all := lw_g (lw_at lw_m2 124 rfl) rfl
theorem q420 : (Jvm.Cond.static ({ cls := "SkittleGentry", name := "isBall", desc := "(I)Z" } : Jvm.MethodName)) ∈ lw_all := lw_g (lw_at lw_m2 125 rfl) rfl
theorem q421 : (Jvm.Cond.code ({ cls := "SkittleGentry", name := "isBall", desc := "(I)Z" } : Jvm.MethodName) prog_1_method_6_code (1 : Nat) (Option.some Jvm.ClassFile.FieldType.boolean)) ∈ lw_all := lw_g (lw_at lw_m2 126 rfl) rfl
theorem q422 : (Jvm.Cond.methodLink "SkittleGentry" (136 : Nat) ({ cls := "SkittleGentry", name := "fellsBy", desc := "(I)I" } : Jvm.MethodName)) ∈ lw_all := lw_g (lw_at lw_m2 127 rfl) rfl
theorem q423 : (Jvm.Cond.privateMethod ({ cls := "SkittleGentry", name := "fellsBy", desc := "(I)I" } : Jvm.MethodName)) ∈ lw_tbl := lw_at lw_m2 128 rfl
theorem q424 : (Jvm.Cond.instanceMethod ({ cls := "SkittleGentry", name := "fellsBy", desc := "(I)I" } : Jvm.MethodName)) ∈ lw_all := lw_g (lw_at lw_m2 129 rfl) rfl
theorem q425 : (Jvm.Cond.code ({ cls := "SkittleGentry", name := "fellsBy", desc := "(I)I" } : Jvm.MethodName) prog_1_method_14_code (2 : Nat) (Option.some Jvm.ClassFile.FieldType.int)) ∈ lw_all := lw_g (lw_at lw_m2 130 rfl) rfl
theorem q426 : (Jvm.Cond.methodLink "SkittleGentry" (125 : Nat) ({ cls := "SkittleGentry$State", name := "set", desc := "(LSkittleGentry$State;)V" } : Jvm.MethodName)) ∈ lw_all := lw_g (lw_at lw_m2 131 rfl) rfl
theorem q430 : (Jvm.Cond.methodLink "SkittleGentry" (129 : Nat) ({ cls := "SkittleGentry$State", name := "rollBall", desc := "(I)I" } : Jvm.MethodName)) ∈ lw_all := lw_g (lw_at lw_m2 135 rfl) rfl
theorem q443 : (Jvm.Cond.static ({ cls := "SkittleGentry", name := "plateAt", desc := "(II)I" } : Jvm.MethodName)) ∈ lw_all := lw_g (lw_at lw_m2 148 rfl) rfl
theorem q444 : (Jvm.Cond.code ({ cls := "SkittleGentry", name := "plateAt", desc := "(II)I" } : Jvm.MethodName) prog_1_method_5_code (3 : Nat) (Option.some Jvm.ClassFile.FieldType.int)) ∈ lw_all := lw_g (lw_at lw_m2 149 rfl) rfl
theorem q445 : (Jvm.Cond.methodLink "SkittleGentry" (3 : Nat) ({ cls := "SkittleGentry", name := "rowOf", desc := "(I)I" } : Jvm.MethodName)) ∈ lw_all := lw_g (lw_at lw_m2 150 rfl) rfl
theorem q446 : (Jvm.Cond.static ({ cls := "SkittleGentry", name := "rowOf", desc := "(I)I" } : Jvm.MethodName)) ∈ lw_all := lw_g (lw_at lw_m2 151 rfl) rfl
theorem q447 : (Jvm.Cond.code ({ cls := "SkittleGentry", name := "rowOf", desc := "(I)I" } : Jvm.MethodName) prog_1_method_3_code (1 : Nat) (Option.some Jvm.ClassFile.FieldType.int)) ∈ lw_all := lw_g (lw_at lw_m2 152 rfl) rfl
theorem q448 : (Jvm.Cond.methodLink "SkittleGentry" (7 : Nat) ({ cls := "SkittleGentry", name := "columnOf", desc := "(I)I" } : Jvm.MethodName)) ∈ lw_all := lw_g (lw_at lw_m2 153 rfl) rfl
theorem q449 : (Jvm.Cond.static ({ cls := "SkittleGentry", name := "columnOf", desc := "(I)I" } : Jvm.MethodName)) ∈ lw_all := lw_g (lw_at lw_m2 154 rfl) rfl
theorem q450 : (Jvm.Cond.code ({ cls := "SkittleGentry", name := "columnOf", desc := "(I)I" } : Jvm.MethodName) prog_1_method_4_code (1 : Nat) (Option.some Jvm.ClassFile.FieldType.int)) ∈ lw_all := lw_g (lw_at lw_m2 155 rfl) rfl
theorem q456 : (Jvm.Cond.static ({ cls := "SkittleGentry", name := "has", desc := "(II)Z" } : Jvm.MethodName)) ∈ lw_all := lw_g (lw_at lw_m2 161 rfl) rfl
theorem q457 : (Jvm.Cond.code ({ cls := "SkittleGentry", name := "has", desc := "(II)Z" } : Jvm.MethodName) prog_1_method_2_code (2 : Nat) (Option.some Jvm.ClassFile.FieldType.boolean)) ∈ lw_all := lw_g (lw_at lw_m2 162 rfl) rfl
theorem q493 : (Jvm.Cond.methodLink "SkittleGentry" (142 : Nat) ({ cls := "java/lang/Integer", name := "bitCount", desc := "(I)I" } : Jvm.MethodName)) ∈ lw_all := lw_g (lw_at lw_m2 198 rfl) rfl
theorem q499 : (Jvm.Cond.methodLink "SkittleGentry" (172 : Nat) ({ cls := "SkittleGentry", name := "safest", desc := "()I" } : Jvm.MethodName)) ∈ lw_all := lw_g (lw_at lw_m2 204 rfl) rfl
theorem q500 : (Jvm.Cond.privateMethod ({ cls := "SkittleGentry", name := "safest", desc := "()I" } : Jvm.MethodName)) ∈ lw_tbl := lw_at lw_m2 205 rfl
theorem q501 : (Jvm.Cond.instanceMethod ({ cls := "SkittleGentry", name := "safest", desc := "()I" } : Jvm.MethodName)) ∈ lw_all := lw_g (lw_at lw_m2 206 rfl) rfl
theorem q502 : (Jvm.Cond.code ({ cls := "SkittleGentry", name := "safest", desc := "()I" } : Jvm.MethodName) prog_1_method_18_code (5 : Nat) (Option.some Jvm.ClassFile.FieldType.int)) ∈ lw_all := lw_g (lw_at lw_m2 207 rfl) rfl
theorem q503 : (Jvm.Cond.constant "SkittleGentry" (151 : Nat) (99999999 : Int32)) ∈ lw_all := lw_g (lw_at lw_m2 208 rfl) rfl
theorem q504 : (Jvm.Cond.methodLink "SkittleGentry" (147 : Nat) ({ cls := "SkittleGentry", name := "has", desc := "(II)Z" } : Jvm.MethodName)) ∈ lw_all := lw_g (lw_at lw_m2 209 rfl) rfl
theorem q505 : (Jvm.Cond.methodLink "SkittleGentry" (155 : Nat) ({ cls := "SkittleGentry", name := "ballsThatFell", desc := "(I)I" } : Jvm.MethodName)) ∈ lw_all := lw_g (lw_at lw_m2 210 rfl) rfl
theorem q506 : (Jvm.Cond.privateMethod ({ cls := "SkittleGentry", name := "ballsThatFell", desc := "(I)I" } : Jvm.MethodName)) ∈ lw_tbl := lw_at lw_m2 211 rfl
theorem q507 : (Jvm.Cond.instanceMethod ({ cls := "SkittleGentry", name := "ballsThatFell", desc := "(I)I" } : Jvm.MethodName)) ∈ lw_all := lw_g (lw_at lw_m2 212 rfl) rfl
theorem q508 : (Jvm.Cond.code ({ cls := "SkittleGentry", name := "ballsThatFell", desc := "(I)I" } : Jvm.MethodName) prog_1_method_17_code (5 : Nat) (Option.some Jvm.ClassFile.FieldType.int)) ∈ lw_all := lw_g (lw_at lw_m2 213 rfl) rfl
theorem q509 : (Jvm.Cond.methodLink "SkittleGentry" (158 : Nat) ({ cls := "java/lang/Math", name := "min", desc := "(II)I" } : Jvm.MethodName)) ∈ lw_all := lw_g (lw_at lw_m2 214 rfl) rfl
theorem q510 : (Jvm.Cond.methodLink "SkittleGentry" (190 : Nat) ({ cls := "SkittleGentry", name := "talk", desc := "()I" } : Jvm.MethodName)) ∈ lw_all := lw_g (lw_at lw_m2 215 rfl) rfl
theorem q511 : (Jvm.Cond.privateMethod ({ cls := "SkittleGentry", name := "talk", desc := "()I" } : Jvm.MethodName)) ∈ lw_tbl := lw_at lw_m2 216 rfl
theorem q512 : (Jvm.Cond.instanceMethod ({ cls := "SkittleGentry", name := "talk", desc := "()I" } : Jvm.MethodName)) ∈ lw_all := lw_g (lw_at lw_m2 217 rfl) rfl
theorem q513 : (Jvm.Cond.code ({ cls := "SkittleGentry", name := "talk", desc := "()I" } : Jvm.MethodName) prog_1_method_20_code (7 : Nat) (Option.some Jvm.ClassFile.FieldType.int)) ∈ lw_all := lw_g (lw_at lw_m2 218 rfl) rfl
theorem q514 : (Jvm.Cond.methodLink "SkittleGentry" (178 : Nat) ({ cls := "java/lang/Math", name := "abs", desc := "(I)I" } : Jvm.MethodName)) ∈ lw_all := lw_g (lw_at lw_m2 219 rfl) rfl
theorem q518 : (Jvm.Cond.instanceMethod ({ cls := "SkittleGentry", name := "skittle", desc := "(II)I" } : Jvm.MethodName)) ∈ lw_all := lw_g (lw_at lw_m2 223 rfl) rfl
theorem q519 : (Jvm.Cond.selects "SkittleGentry" ({ cls := "SkittleGentry", name := "skittle", desc := "(II)I" } : Jvm.MethodName) ({ cls := "SkittleGentry", name := "skittle", desc := "(II)I" } : Jvm.MethodName)) ∈ lw_all := lw_g (lw_at lw_m2 224 rfl) rfl
theorem q520 : (Jvm.Cond.code ({ cls := "SkittleGentry", name := "skittle", desc := "(II)I" } : Jvm.MethodName) prog_1_method_23_code (3 : Nat) (Option.some Jvm.ClassFile.FieldType.int)) ∈ lw_all := lw_g (lw_at lw_m2 225 rfl) rfl
theorem q521 : (Jvm.Cond.methodLink "SkittleGentry" (196 : Nat) ({ cls := "SkittleGentry", name := "isSkittle", desc := "(I)Z" } : Jvm.MethodName)) ∈ lw_all := lw_g (lw_at lw_m2 226 rfl) rfl
theorem q522 : (Jvm.Cond.privateMethod ({ cls := "SkittleGentry", name := "isSkittle", desc := "(I)Z" } : Jvm.MethodName)) ∈ lw_tbl := lw_at lw_m2 227 rfl
theorem q523 : (Jvm.Cond.instanceMethod ({ cls := "SkittleGentry", name := "isSkittle", desc := "(I)Z" } : Jvm.MethodName)) ∈ lw_all := lw_g (lw_at lw_m2 228 rfl) rfl
theorem q524 : (Jvm.Cond.code ({ cls := "SkittleGentry", name := "isSkittle", desc := "(I)Z" } : Jvm.MethodName) prog_1_method_12_code (2 : Nat) (Option.some Jvm.ClassFile.FieldType.boolean)) ∈ lw_all := lw_g (lw_at lw_m2 229 rfl) rfl
theorem q525 : (Jvm.Cond.constant "SkittleGentry" (199 : Nat) (-1000000001 : Int32)) ∈ lw_all := lw_g (lw_at lw_m2 230 rfl) rfl
theorem q526 : (Jvm.Cond.methodLink "SkittleGentry" (212 : Nat) ({ cls := "SkittleGentry", name := "firstOf", desc := "(I)I" } : Jvm.MethodName)) ∈ lw_all := lw_g (lw_at lw_m2 231 rfl) rfl
theorem q527 : (Jvm.Cond.privateMethod ({ cls := "SkittleGentry", name := "firstOf", desc := "(I)I" } : Jvm.MethodName)) ∈ lw_tbl := lw_at lw_m2 232 rfl
theorem q528 : (Jvm.Cond.instanceMethod ({ cls := "SkittleGentry", name := "firstOf", desc := "(I)I" } : Jvm.MethodName)) ∈ lw_all := lw_g (lw_at lw_m2 233 rfl) rfl
theorem q529 : (Jvm.Cond.code ({ cls := "SkittleGentry", name := "firstOf", desc := "(I)I" } : Jvm.MethodName) prog_1_method_22_code (4 : Nat) (Option.some Jvm.ClassFile.FieldType.int)) ∈ lw_all := lw_g (lw_at lw_m2 234 rfl) rfl
theorem q530 : (Jvm.Cond.methodLink "SkittleGentry" (215 : Nat) ({ cls := "SkittleGentry$State", name := "bears", desc := "(I)I" } : Jvm.MethodName)) ∈ lw_all := lw_g (lw_at lw_m2 235 rfl) rfl
theorem q532 : (Jvm.Cond.instanceMethod ({ cls := "SkittleGentry", name := "plate", desc := "(I)I" } : Jvm.MethodName)) ∈ lw_all := lw_g (lw_at lw_m2 237 rfl) rfl
theorem q533 : (Jvm.Cond.selects "SkittleGentry" ({ cls := "SkittleGentry", name := "plate", desc := "(I)I" } : Jvm.MethodName) ({ cls := "SkittleGentry", name := "plate", desc := "(I)I" } : Jvm.MethodName)) ∈ lw_all := lw_g (lw_at lw_m2 238 rfl) rfl
theorem q534 : (Jvm.Cond.code ({ cls := "SkittleGentry", name := "plate", desc := "(I)I" } : Jvm.MethodName) prog_1_method_25_code (2 : Nat) (Option.some Jvm.ClassFile.FieldType.int)) ∈ lw_all := lw_g (lw_at lw_m2 239 rfl) rfl
theorem q535 : (Jvm.Cond.methodLink "SkittleGentry" (218 : Nat) ({ cls := "SkittleGentry", name := "isPlate", desc := "(I)Z" } : Jvm.MethodName)) ∈ lw_all := lw_g (lw_at lw_m3 0 rfl) rfl
theorem q536 : (Jvm.Cond.static ({ cls := "SkittleGentry", name := "isPlate", desc := "(I)Z" } : Jvm.MethodName)) ∈ lw_all := lw_g (lw_at lw_m3 1 rfl) rfl
theorem q537 : (Jvm.Cond.code ({ cls := "SkittleGentry", name := "isPlate", desc := "(I)Z" } : Jvm.MethodName) prog_1_method_24_code (1 : Nat) (Option.some Jvm.ClassFile.FieldType.boolean)) ∈ lw_all := lw_g (lw_at lw_m3 2 rfl) rfl
theorem q538 : (Jvm.Cond.methodLink "SkittleGentry" (221 : Nat) ({ cls := "SkittleGentry$State", name := "onPlate", desc := "(I)I" } : Jvm.MethodName)) ∈ lw_all := lw_g (lw_at lw_m3 3 rfl) rfl
theorem q540 : (Jvm.Cond.instanceMethod ({ cls := "SkittleGentry", name := "ball", desc := "(III)I" } : Jvm.MethodName)) ∈ lw_all := lw_g (lw_at lw_m3 5 rfl) rfl
theorem q541 : (Jvm.Cond.selects "SkittleGentry" ({ cls := "SkittleGentry", name := "ball", desc := "(III)I" } : Jvm.MethodName) ({ cls := "SkittleGentry", name := "ball", desc := "(III)I" } : Jvm.MethodName)) ∈ lw_all := lw_g (lw_at lw_m3 6 rfl) rfl
theorem q542 : (Jvm.Cond.code ({ cls := "SkittleGentry", name := "ball", desc := "(III)I" } : Jvm.MethodName) prog_1_method_28_code (4 : Nat) (Option.some Jvm.ClassFile.FieldType.int)) ∈ lw_all := lw_g (lw_at lw_m3 7 rfl) rfl
theorem q543 : (Jvm.Cond.methodLink "SkittleGentry" (225 : Nat) ({ cls := "SkittleGentry", name := "refusedBall", desc := "(III)I" } : Jvm.MethodName)) ∈ lw_all := lw_g (lw_at lw_m3 8 rfl) rfl
theorem q544 : (Jvm.Cond.privateMethod ({ cls := "SkittleGentry", name := "refusedBall", desc := "(III)I" } : Jvm.MethodName)) ∈ lw_tbl := lw_at lw_m3 9 rfl
theorem q545 : (Jvm.Cond.instanceMethod ({ cls := "SkittleGentry", name := "refusedBall", desc := "(III)I" } : Jvm.MethodName)) ∈ lw_all := lw_g (lw_at lw_m3 10 rfl) rfl
theorem q546 : (Jvm.Cond.code ({ cls := "SkittleGentry", name := "refusedBall", desc := "(III)I" } : Jvm.MethodName) prog_1_method_27_code (5 : Nat) (Option.some Jvm.ClassFile.FieldType.int)) ∈ lw_all := lw_g (lw_at lw_m3 11 rfl) rfl
theorem q547 : (Jvm.Cond.constant "SkittleGentry" (224 : Nat) (-1000000003 : Int32)) ∈ lw_all := lw_g (lw_at lw_m3 12 rfl) rfl
theorem q548 : (Jvm.Cond.methodLink "SkittleGentry" (229 : Nat) ({ cls := "SkittleGentry", name := "remember", desc := "()V" } : Jvm.MethodName)) ∈ lw_all := lw_g (lw_at lw_m3 13 rfl) rfl
theorem q549 : (Jvm.Cond.privateMethod ({ cls := "SkittleGentry", name := "remember", desc := "()V" } : Jvm.MethodName)) ∈ lw_tbl := lw_at lw_m3 14 rfl
theorem q550 : (Jvm.Cond.instanceMethod ({ cls := "SkittleGentry", name := "remember", desc := "()V" } : Jvm.MethodName)) ∈ lw_all := lw_g (lw_at lw_m3 15 rfl) rfl
theorem q551 : (Jvm.Cond.code ({ cls := "SkittleGentry", name := "remember", desc := "()V" } : Jvm.MethodName) prog_1_method_26_code (2 : Nat) (Option.none : Option Jvm.ClassFile.FieldType)) ∈ lw_all := lw_g (lw_at lw_m3 16 rfl) rfl
theorem q552 : (Jvm.Cond.methodLink "SkittleGentry" (232 : Nat) ({ cls := "SkittleGentry$State", name := "throwBall", desc := "(III)I" } : Jvm.MethodName)) ∈ lw_all := lw_g (lw_at lw_m3 17 rfl) rfl
theorem q557 : (Jvm.Cond.instanceMethod ({ cls := "SkittleGentry", name := "setUp", desc := "()I" } : Jvm.MethodName)) ∈ lw_all := lw_g (lw_at lw_m3 22 rfl) rfl
theorem q558 : (Jvm.Cond.selects "SkittleGentry" ({ cls := "SkittleGentry", name := "setUp", desc := "()I" } : Jvm.MethodName) ({ cls := "SkittleGentry", name := "setUp", desc := "()I" } : Jvm.MethodName)) ∈ lw_all := lw_g (lw_at lw_m3 23 rfl) rfl
theorem q559 : (Jvm.Cond.code ({ cls := "SkittleGentry", name := "setUp", desc := "()I" } : Jvm.MethodName) prog_1_method_29_code (1 : Nat) (Option.some Jvm.ClassFile.FieldType.int)) ∈ lw_all := lw_g (lw_at lw_m3 24 rfl) rfl
theorem q560 : (Jvm.Cond.methodLink "SkittleGentry" (235 : Nat) ({ cls := "SkittleGentry$State", name := "setUp", desc := "()I" } : Jvm.MethodName)) ∈ lw_all := lw_g (lw_at lw_m3 25 rfl) rfl
theorem q566 : (Jvm.Cond.instanceMethod ({ cls := "SkittleGentry", name := "lift", desc := "(I)I" } : Jvm.MethodName)) ∈ lw_all := lw_g (lw_at lw_m3 31 rfl) rfl
theorem q567 : (Jvm.Cond.selects "SkittleGentry" ({ cls := "SkittleGentry", name := "lift", desc := "(I)I" } : Jvm.MethodName) ({ cls := "SkittleGentry", name := "lift", desc := "(I)I" } : Jvm.MethodName)) ∈ lw_all := lw_g (lw_at lw_m3 32 rfl) rfl
theorem q568 : (Jvm.Cond.code ({ cls := "SkittleGentry", name := "lift", desc := "(I)I" } : Jvm.MethodName) prog_1_method_30_code (2 : Nat) (Option.some Jvm.ClassFile.FieldType.int)) ∈ lw_all := lw_g (lw_at lw_m3 33 rfl) rfl
theorem q570 : (Jvm.Cond.instanceMethod ({ cls := "SkittleGentry", name := "change", desc := "(II)I" } : Jvm.MethodName)) ∈ lw_all := lw_g (lw_at lw_m3 35 rfl) rfl
theorem q571 : (Jvm.Cond.selects "SkittleGentry" ({ cls := "SkittleGentry", name := "change", desc := "(II)I" } : Jvm.MethodName) ({ cls := "SkittleGentry", name := "change", desc := "(II)I" } : Jvm.MethodName)) ∈ lw_all := lw_g (lw_at lw_m3 36 rfl) rfl
theorem q572 : (Jvm.Cond.code ({ cls := "SkittleGentry", name := "change", desc := "(II)I" } : Jvm.MethodName) prog_1_method_31_code (3 : Nat) (Option.some Jvm.ClassFile.FieldType.int)) ∈ lw_all := lw_g (lw_at lw_m3 37 rfl) rfl
theorem q573 : (Jvm.Cond.methodLink "SkittleGentry" (238 : Nat) ({ cls := "SkittleGentry$State", name := "change", desc := "(II)V" } : Jvm.MethodName)) ∈ lw_all := lw_g (lw_at lw_m3 38 rfl) rfl
theorem q578 : (Jvm.Cond.instanceMethod ({ cls := "SkittleGentry", name := "chip", desc := "(II)I" } : Jvm.MethodName)) ∈ lw_all := lw_g (lw_at lw_m3 43 rfl) rfl
theorem q579 : (Jvm.Cond.selects "SkittleGentry" ({ cls := "SkittleGentry", name := "chip", desc := "(II)I" } : Jvm.MethodName) ({ cls := "SkittleGentry", name := "chip", desc := "(II)I" } : Jvm.MethodName)) ∈ lw_all := lw_g (lw_at lw_m3 44 rfl) rfl
theorem q580 : (Jvm.Cond.code ({ cls := "SkittleGentry", name := "chip", desc := "(II)I" } : Jvm.MethodName) prog_1_method_32_code (4 : Nat) (Option.some Jvm.ClassFile.FieldType.int)) ∈ lw_all := lw_g (lw_at lw_m3 45 rfl) rfl
theorem q582 : (Jvm.Cond.instanceMethod ({ cls := "SkittleGentry", name := "replace", desc := "(I)I" } : Jvm.MethodName)) ∈ lw_all := lw_g (lw_at lw_m3 47 rfl) rfl
theorem q583 : (Jvm.Cond.selects "SkittleGentry" ({ cls := "SkittleGentry", name := "replace", desc := "(I)I" } : Jvm.MethodName) ({ cls := "SkittleGentry", name := "replace", desc := "(I)I" } : Jvm.MethodName)) ∈ lw_all := lw_g (lw_at lw_m3 48 rfl) rfl
theorem q584 : (Jvm.Cond.code ({ cls := "SkittleGentry", name := "replace", desc := "(I)I" } : Jvm.MethodName) prog_1_method_33_code (3 : Nat) (Option.some Jvm.ClassFile.FieldType.int)) ∈ lw_all := lw_g (lw_at lw_m3 49 rfl) rfl
theorem q586 : (Jvm.Cond.instanceMethod ({ cls := "SkittleGentry", name := "drift", desc := "(I)I" } : Jvm.MethodName)) ∈ lw_all := lw_g (lw_at lw_m3 51 rfl) rfl
theorem q587 : (Jvm.Cond.selects "SkittleGentry" ({ cls := "SkittleGentry", name := "drift", desc := "(I)I" } : Jvm.MethodName) ({ cls := "SkittleGentry", name := "drift", desc := "(I)I" } : Jvm.MethodName)) ∈ lw_all := lw_g (lw_at lw_m3 52 rfl) rfl
theorem q588 : (Jvm.Cond.code ({ cls := "SkittleGentry", name := "drift", desc := "(I)I" } : Jvm.MethodName) prog_1_method_34_code (3 : Nat) (Option.some Jvm.ClassFile.FieldType.int)) ∈ lw_all := lw_g (lw_at lw_m3 53 rfl) rfl
theorem q589 : (Jvm.Cond.methodLink "SkittleGentry" (242 : Nat) ({ cls := "SkittleGentry$State", name := "byDraws", desc := "()V" } : Jvm.MethodName)) ∈ lw_all := lw_g (lw_at lw_m3 54 rfl) rfl
theorem q605 : (Jvm.Cond.instanceMethod ({ cls := "SkittleGentry", name := "undo", desc := "()I" } : Jvm.MethodName)) ∈ lw_all := lw_g (lw_at lw_m3 70 rfl) rfl
theorem q606 : (Jvm.Cond.selects "SkittleGentry" ({ cls := "SkittleGentry", name := "undo", desc := "()I" } : Jvm.MethodName) ({ cls := "SkittleGentry", name := "undo", desc := "()I" } : Jvm.MethodName)) ∈ lw_all := lw_g (lw_at lw_m3 71 rfl) rfl
theorem q607 : (Jvm.Cond.code ({ cls := "SkittleGentry", name := "undo", desc := "()I" } : Jvm.MethodName) prog_1_method_35_code (2 : Nat) (Option.some Jvm.ClassFile.FieldType.int)) ∈ lw_all := lw_g (lw_at lw_m3 72 rfl) rfl
theorem q609 : (Jvm.Cond.instanceMethod ({ cls := "SkittleGentry", name := "wouldFall", desc := "(IIII)I" } : Jvm.MethodName)) ∈ lw_all := lw_g (lw_at lw_m3 74 rfl) rfl
theorem q610 : (Jvm.Cond.selects "SkittleGentry" ({ cls := "SkittleGentry", name := "wouldFall", desc := "(IIII)I" } : Jvm.MethodName) ({ cls := "SkittleGentry", name := "wouldFall", desc := "(IIII)I" } : Jvm.MethodName)) ∈ lw_all := lw_g (lw_at lw_m3 75 rfl) rfl
theorem q611 : (Jvm.Cond.code ({ cls := "SkittleGentry", name := "wouldFall", desc := "(IIII)I" } : Jvm.MethodName) prog_1_method_36_code (6 : Nat) (Option.some Jvm.ClassFile.FieldType.int)) ∈ lw_all := lw_g (lw_at lw_m3 76 rfl) rfl
theorem q612 : (Jvm.Cond.methodLink "SkittleGentry" (248 : Nat) ({ cls := "SkittleGentry$State", name := "roll", desc := "(III)I" } : Jvm.MethodName)) ∈ lw_all := lw_g (lw_at lw_m3 77 rfl) rfl
theorem q614 : (Jvm.Cond.instanceMethod ({ cls := "SkittleGentry", name := "balls", desc := "(II)I" } : Jvm.MethodName)) ∈ lw_all := lw_g (lw_at lw_m3 79 rfl) rfl
theorem q615 : (Jvm.Cond.selects "SkittleGentry" ({ cls := "SkittleGentry", name := "balls", desc := "(II)I" } : Jvm.MethodName) ({ cls := "SkittleGentry", name := "balls", desc := "(II)I" } : Jvm.MethodName)) ∈ lw_all := lw_g (lw_at lw_m3 80 rfl) rfl
theorem q616 : (Jvm.Cond.code ({ cls := "SkittleGentry", name := "balls", desc := "(II)I" } : Jvm.MethodName) prog_1_method_37_code (7 : Nat) (Option.some Jvm.ClassFile.FieldType.int)) ∈ lw_all := lw_g (lw_at lw_m3 81 rfl) rfl
theorem q617 : (Jvm.Cond.methodLink "SkittleGentry" (257 : Nat) ({ cls := "SkittleGentry", name := "isSet", desc := "(I)Z" } : Jvm.MethodName)) ∈ lw_all := lw_g (lw_at lw_m3 82 rfl) rfl
theorem q618 : (Jvm.Cond.privateMethod ({ cls := "SkittleGentry", name := "isSet", desc := "(I)Z" } : Jvm.MethodName)) ∈ lw_tbl := lw_at lw_m3 83 rfl
theorem q619 : (Jvm.Cond.instanceMethod ({ cls := "SkittleGentry", name := "isSet", desc := "(I)Z" } : Jvm.MethodName)) ∈ lw_all := lw_g (lw_at lw_m3 84 rfl) rfl
theorem q620 : (Jvm.Cond.code ({ cls := "SkittleGentry", name := "isSet", desc := "(I)Z" } : Jvm.MethodName) prog_1_method_13_code (2 : Nat) (Option.some Jvm.ClassFile.FieldType.boolean)) ∈ lw_all := lw_g (lw_at lw_m3 85 rfl) rfl
theorem q622 : (Jvm.Cond.instanceMethod ({ cls := "SkittleGentry", name := "spare", desc := "(II)I" } : Jvm.MethodName)) ∈ lw_all := lw_g (lw_at lw_m3 87 rfl) rfl
theorem q623 : (Jvm.Cond.selects "SkittleGentry" ({ cls := "SkittleGentry", name := "spare", desc := "(II)I" } : Jvm.MethodName) ({ cls := "SkittleGentry", name := "spare", desc := "(II)I" } : Jvm.MethodName)) ∈ lw_all := lw_g (lw_at lw_m3 88 rfl) rfl
theorem q624 : (Jvm.Cond.code ({ cls := "SkittleGentry", name := "spare", desc := "(II)I" } : Jvm.MethodName) prog_1_method_38_code (7 : Nat) (Option.some Jvm.ClassFile.FieldType.int)) ∈ lw_all := lw_g (lw_at lw_m3 89 rfl) rfl
theorem q626 : (Jvm.Cond.instanceMethod ({ cls := "SkittleGentry", name := "allDown", desc := "(I)I" } : Jvm.MethodName)) ∈ lw_all := lw_g (lw_at lw_m3 91 rfl) rfl
theorem q627 : (Jvm.Cond.selects "SkittleGentry" ({ cls := "SkittleGentry", name := "allDown", desc := "(I)I" } : Jvm.MethodName) ({ cls := "SkittleGentry", name := "allDown", desc := "(I)I" } : Jvm.MethodName)) ∈ lw_all := lw_g (lw_at lw_m3 92 rfl) rfl
theorem q628 : (Jvm.Cond.code ({ cls := "SkittleGentry", name := "allDown", desc := "(I)I" } : Jvm.MethodName) prog_1_method_41_code (4 : Nat) (Option.some Jvm.ClassFile.FieldType.int)) ∈ lw_all := lw_g (lw_at lw_m3 93 rfl) rfl
theorem q629 : (Jvm.Cond.methodLink "SkittleGentry" (266 : Nat) ({ cls := "java/util/Arrays", name := "fill", desc := "([II)V" } : Jvm.MethodName)) ∈ lw_all := lw_g (lw_at lw_m3 94 rfl) rfl
theorem q630 : (Jvm.Cond.methodLink "SkittleGentry" (263 : Nat) ({ cls := "SkittleGentry", name := "needOf", desc := "(I)I" } : Jvm.MethodName)) ∈ lw_all := lw_g (lw_at lw_m3 95 rfl) rfl
theorem q631 : (Jvm.Cond.privateMethod ({ cls := "SkittleGentry", name := "needOf", desc := "(I)I" } : Jvm.MethodName)) ∈ lw_tbl := lw_at lw_m3 96 rfl
theorem q632 : (Jvm.Cond.instanceMethod ({ cls := "SkittleGentry", name := "needOf", desc := "(I)I" } : Jvm.MethodName)) ∈ lw_all := lw_g (lw_at lw_m3 97 rfl) rfl
theorem q633 : (Jvm.Cond.code ({ cls := "SkittleGentry", name := "needOf", desc := "(I)I" } : Jvm.MethodName) prog_1_method_40_code (4 : Nat) (Option.some Jvm.ClassFile.FieldType.int)) ∈ lw_all := lw_g (lw_at lw_m3 98 rfl) rfl
theorem q634 : (Jvm.Cond.methodLink "SkittleGentry" (260 : Nat) ({ cls := "SkittleGentry", name := "resultOf", desc := "(II)I" } : Jvm.MethodName)) ∈ lw_all := lw_g (lw_at lw_m3 99 rfl) rfl
theorem q635 : (Jvm.Cond.privateMethod ({ cls := "SkittleGentry", name := "resultOf", desc := "(II)I" } : Jvm.MethodName)) ∈ lw_tbl := lw_at lw_m3 100 rfl
theorem q636 : (Jvm.Cond.instanceMethod ({ cls := "SkittleGentry", name := "resultOf", desc := "(II)I" } : Jvm.MethodName)) ∈ lw_all := lw_g (lw_at lw_m3 101 rfl) rfl
theorem q637 : (Jvm.Cond.code ({ cls := "SkittleGentry", name := "resultOf", desc := "(II)I" } : Jvm.MethodName) prog_1_method_39_code (4 : Nat) (Option.some Jvm.ClassFile.FieldType.int)) ∈ lw_all := lw_g (lw_at lw_m3 102 rfl) rfl
theorem q639 : (Jvm.Cond.instanceMethod ({ cls := "SkittleGentry", name := "mend", desc := "(IIII)I" } : Jvm.MethodName)) ∈ lw_all := lw_g (lw_at lw_m3 104 rfl) rfl
theorem q640 : (Jvm.Cond.selects "SkittleGentry" ({ cls := "SkittleGentry", name := "mend", desc := "(IIII)I" } : Jvm.MethodName) ({ cls := "SkittleGentry", name := "mend", desc := "(IIII)I" } : Jvm.MethodName)) ∈ lw_all := lw_g (lw_at lw_m3 105 rfl) rfl
theorem q641 : (Jvm.Cond.code ({ cls := "SkittleGentry", name := "mend", desc := "(IIII)I" } : Jvm.MethodName) prog_1_method_42_code (10 : Nat) (Option.some Jvm.ClassFile.FieldType.int)) ∈ lw_all := lw_g (lw_at lw_m3 106 rfl) rfl
theorem q643 : (Jvm.Cond.instanceMethod ({ cls := "SkittleGentry", name := "hand", desc := "(I)I" } : Jvm.MethodName)) ∈ lw_all := lw_g (lw_at lw_m3 108 rfl) rfl
theorem q644 : (Jvm.Cond.selects "SkittleGentry" ({ cls := "SkittleGentry", name := "hand", desc := "(I)I" } : Jvm.MethodName) ({ cls := "SkittleGentry", name := "hand", desc := "(I)I" } : Jvm.MethodName)) ∈ lw_all := lw_g (lw_at lw_m3 109 rfl) rfl
theorem q645 : (Jvm.Cond.code ({ cls := "SkittleGentry", name := "hand", desc := "(I)I" } : Jvm.MethodName) prog_1_method_43_code (4 : Nat) (Option.some Jvm.ClassFile.FieldType.int)) ∈ lw_all := lw_g (lw_at lw_m3 110 rfl) rfl
theorem q647 : (Jvm.Cond.instanceMethod ({ cls := "SkittleGentry", name := "ask", desc := "(I)I" } : Jvm.MethodName)) ∈ lw_all := lw_g (lw_at lw_m3 112 rfl) rfl
theorem q648 : (Jvm.Cond.selects "SkittleGentry" ({ cls := "SkittleGentry", name := "ask", desc := "(I)I" } : Jvm.MethodName) ({ cls := "SkittleGentry", name := "ask", desc := "(I)I" } : Jvm.MethodName)) ∈ lw_all := lw_g (lw_at lw_m3 113 rfl) rfl
theorem q649 : (Jvm.Cond.code ({ cls := "SkittleGentry", name := "ask", desc := "(I)I" } : Jvm.MethodName) prog_1_method_44_code (8 : Nat) (Option.some Jvm.ClassFile.FieldType.int)) ∈ lw_all := lw_g (lw_at lw_m3 114 rfl) rfl
theorem q650 : (Jvm.Cond.methodLink "SkittleGentry" (272 : Nat) ({ cls := "java/lang/Math", name := "max", desc := "(II)I" } : Jvm.MethodName)) ∈ lw_all := lw_g (lw_at lw_m3 115 rfl) rfl
theorem q652 : (Jvm.Cond.instanceMethod ({ cls := "SkittleGentry", name := "calm", desc := "(II)I" } : Jvm.MethodName)) ∈ lw_all := lw_g (lw_at lw_m3 117 rfl) rfl
theorem q653 : (Jvm.Cond.selects "SkittleGentry" ({ cls := "SkittleGentry", name := "calm", desc := "(II)I" } : Jvm.MethodName) ({ cls := "SkittleGentry", name := "calm", desc := "(II)I" } : Jvm.MethodName)) ∈ lw_all := lw_g (lw_at lw_m3 118 rfl) rfl
theorem q654 : (Jvm.Cond.code ({ cls := "SkittleGentry", name := "calm", desc := "(II)I" } : Jvm.MethodName) prog_1_method_45_code (6 : Nat) (Option.some Jvm.ClassFile.FieldType.int)) ∈ lw_all := lw_g (lw_at lw_m3 119 rfl) rfl
theorem q655 : (Jvm.Cond.constantLong "SkittleGentry" (275 : Nat) (1000000000 : Int64)) ∈ lw_all := lw_g (lw_at lw_m3 120 rfl) rfl
theorem q656 : (Jvm.Cond.constantLong "SkittleGentry" (277 : Nat) (100 : Int64)) ∈ lw_all := lw_g (lw_at lw_m3 121 rfl) rfl
theorem q658 : (Jvm.Cond.instanceMethod ({ cls := "SkittleGentry", name := "write", desc := "(IZ)I" } : Jvm.MethodName)) ∈ lw_all := lw_g (lw_at lw_m3 123 rfl) rfl
theorem q659 : (Jvm.Cond.selects "SkittleGentry" ({ cls := "SkittleGentry", name := "write", desc := "(IZ)I" } : Jvm.MethodName) ({ cls := "SkittleGentry", name := "write", desc := "(IZ)I" } : Jvm.MethodName)) ∈ lw_all := lw_g (lw_at lw_m3 124 rfl) rfl
theorem q660 : (Jvm.Cond.code ({ cls := "SkittleGentry", name := "write", desc := "(IZ)I" } : Jvm.MethodName) prog_1_method_46_code (3 : Nat) (Option.some Jvm.ClassFile.FieldType.int)) ∈ lw_all := lw_g (lw_at lw_m3 125 rfl) rfl
theorem q662 : (Jvm.Cond.instanceMethod ({ cls := "SkittleGentry", name := "tear", desc := "()I" } : Jvm.MethodName)) ∈ lw_all := lw_g (lw_at lw_m3 127 rfl) rfl
theorem q663 : (Jvm.Cond.selects "SkittleGentry" ({ cls := "SkittleGentry", name := "tear", desc := "()I" } : Jvm.MethodName) ({ cls := "SkittleGentry", name := "tear", desc := "()I" } : Jvm.MethodName)) ∈ lw_all := lw_g (lw_at lw_m3 128 rfl) rfl
theorem q664 : (Jvm.Cond.code ({ cls := "SkittleGentry", name := "tear", desc := "()I" } : Jvm.MethodName) prog_1_method_47_code (2 : Nat) (Option.some Jvm.ClassFile.FieldType.int)) ∈ lw_all := lw_g (lw_at lw_m3 129 rfl) rfl
theorem q666 : (Jvm.Cond.instanceMethod ({ cls := "SkittleGentry", name := "judge", desc := "()I" } : Jvm.MethodName)) ∈ lw_all := lw_g (lw_at lw_m3 131 rfl) rfl
theorem q667 : (Jvm.Cond.selects "SkittleGentry" ({ cls := "SkittleGentry", name := "judge", desc := "()I" } : Jvm.MethodName) ({ cls := "SkittleGentry", name := "judge", desc := "()I" } : Jvm.MethodName)) ∈ lw_all := lw_g (lw_at lw_m3 132 rfl) rfl
theorem q668 : (Jvm.Cond.code ({ cls := "SkittleGentry", name := "judge", desc := "()I" } : Jvm.MethodName) prog_1_method_48_code (2 : Nat) (Option.some Jvm.ClassFile.FieldType.int)) ∈ lw_all := lw_g (lw_at lw_m3 133 rfl) rfl
theorem q670 : (Jvm.Cond.instanceMethod ({ cls := "SkittleGentry", name := "seed", desc := "(I)I" } : Jvm.MethodName)) ∈ lw_all := lw_g (lw_at lw_m3 135 rfl) rfl
theorem q671 : (Jvm.Cond.selects "SkittleGentry" ({ cls := "SkittleGentry", name := "seed", desc := "(I)I" } : Jvm.MethodName) ({ cls := "SkittleGentry", name := "seed", desc := "(I)I" } : Jvm.MethodName)) ∈ lw_all := lw_g (lw_at lw_m3 136 rfl) rfl
theorem q672 : (Jvm.Cond.code ({ cls := "SkittleGentry", name := "seed", desc := "(I)I" } : Jvm.MethodName) prog_1_method_49_code (3 : Nat) (Option.some Jvm.ClassFile.FieldType.int)) ∈ lw_all := lw_g (lw_at lw_m3 137 rfl) rfl
theorem q674 : (Jvm.Cond.instanceMethod ({ cls := "SkittleGentry", name := "keep", desc := "(I)I" } : Jvm.MethodName)) ∈ lw_all := lw_g (lw_at lw_m3 139 rfl) rfl
theorem q675 : (Jvm.Cond.selects "SkittleGentry" ({ cls := "SkittleGentry", name := "keep", desc := "(I)I" } : Jvm.MethodName) ({ cls := "SkittleGentry", name := "keep", desc := "(I)I" } : Jvm.MethodName)) ∈ lw_all := lw_g (lw_at lw_m3 140 rfl) rfl
theorem q676 : (Jvm.Cond.code ({ cls := "SkittleGentry", name := "keep", desc := "(I)I" } : Jvm.MethodName) prog_1_method_50_code (2 : Nat) (Option.some Jvm.ClassFile.FieldType.int)) ∈ lw_all := lw_g (lw_at lw_m3 141 rfl) rfl
theorem q678 : (Jvm.Cond.instanceMethod ({ cls := "SkittleGentry", name := "goBack", desc := "(I)I" } : Jvm.MethodName)) ∈ lw_all := lw_g (lw_at lw_m3 143 rfl) rfl
theorem q679 : (Jvm.Cond.selects "SkittleGentry" ({ cls := "SkittleGentry", name := "goBack", desc := "(I)I" } : Jvm.MethodName) ({ cls := "SkittleGentry", name := "goBack", desc := "(I)I" } : Jvm.MethodName)) ∈ lw_all := lw_g (lw_at lw_m3 144 rfl) rfl
theorem q680 : (Jvm.Cond.code ({ cls := "SkittleGentry", name := "goBack", desc := "(I)I" } : Jvm.MethodName) prog_1_method_51_code (2 : Nat) (Option.some Jvm.ClassFile.FieldType.int)) ∈ lw_all := lw_g (lw_at lw_m3 145 rfl) rfl
theorem in_X0 : ∀ w ∈ wsX00, w ∈ lw_all := lw_in wsX00 [231, 233, 235, 237, 239, 241, 243, 245, 247, 249, 251, 253, 255, 257, 259] (by decide +kernel) (by decide +kernel)
