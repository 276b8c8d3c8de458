/-! SkittleGentryModel -/
set_option maxRecDepth 100000
def RX7 : String := "SkittleGentryModel"
def TX7 : u_T := fun k => match k with
  | 0 => ("SkittleGentryModel", "thrown", "I", false)
  | 1 => ("SkittleGentryModel", "text", "[I", true)
  | 2 => ("SkittleGentryModel", "typed", "I", false)
  | 3 => ("SkittleGentryModel", "at", "I", false)
  | 4 => ("SkittleGentryModel", "kindOfFault", "I", false)
  | 5 => ("SkittleGentryModel", "place", "I", false)
  | 6 => ("SkittleGentryModel", "faultAt", "I", false)
  | 7 => ("SkittleGentryModel", "isCounty", "Z", false)
  | 8 => ("SkittleGentryModel", "floor", "I", false)
  | 9 => ("SkittleGentryModel", "many", "I", false)
  | 10 => ("SkittleGentryModel", "floorTold", "I", false)
  | 11 => ("SkittleGentryModel", "manyTold", "I", false)
  | 12 => ("SkittleGentryModel", "draft", "[I", true)
  | 13 => ("SkittleGentryModel", "weight", "[I", true)
  | 14 => ("SkittleGentryModel", "s", "[I", true)
  | 15 => ("SkittleGentryModel", "kept", "[I", true)
  | 16 => ("SkittleGentryModel", "isKept", "[Z", true)
  | 17 => ("SkittleGentryModel", "undos", "[I", true)
  | 18 => ("SkittleGentryModel", "undoMany", "I", false)
  | 19 => ("SkittleGentryModel", "bookOf", "[I", true)
  | 20 => ("SkittleGentryModel", "book", "[Z", true)
  | 21 => ("SkittleGentryModel", "bookMany", "I", false)
  | 22 => ("SkittleGentryModel", "on", "[I", true)
  | 23 => ("SkittleGentryModel", "bear", "[I", true)
  | 24 => ("SkittleGentryModel", "rocks", "[I", true)
  | 25 => ("SkittleGentryModel", "taker", "[I", true)
  | 26 => ("SkittleGentryModel", "up", "I", false)
  | 27 => ("SkittleGentryModel", "rockMany", "I", false)
  | 28 => ("SkittleGentryModel", "stays", "I", false)
  | 29 => ("SkittleGentryModel", "striker", "[I", true)
  | 30 => ("SkittleGentryModel", "strength", "[I", true)
  | 31 => ("SkittleGentryModel", "side", "[I", true)
  | 32 => ("SkittleGentryModel", "far", "[I", true)
  | 33 => ("SkittleGentryModel", "firstBy", "[I", true)
  | _ => ("SkittleGentryModel", "queue", "[I", true)
def tyX7 : Nat → FieldType := fun k => match k with
  | 0 => .int
  | 1 => .array .int
  | 2 => .int
  | 3 => .int
  | 4 => .int
  | 5 => .int
  | 6 => .int
  | 7 => .boolean
  | 8 => .int
  | 9 => .int
  | 10 => .int
  | 11 => .int
  | 12 => .array .int
  | 13 => .array .int
  | 14 => .array .int
  | 15 => .array .int
  | 16 => .array .boolean
  | 17 => .array .int
  | 18 => .int
  | 19 => .array .int
  | 20 => .array .boolean
  | 21 => .int
  | 22 => .array .int
  | 23 => .array .int
  | 24 => .array .int
  | 25 => .array .int
  | 26 => .int
  | 27 => .int
  | 28 => .int
  | 29 => .array .int
  | 30 => .array .int
  | 31 => .array .int
  | 32 => .array .int
  | 33 => .array .int
  | _ => .array .int
abbrev wsX70 : List Cond := u_ws RX7 TX7 35
set_option maxRecDepth 100000 in
theorem nmX7 : ∀ a, a < 35 → ∀ b, b < 35 → a ≠ b → (TX7 a).2.1 ≠ (TX7 b).2.1 := by decide +kernel
set_option maxRecDepth 100000 in
theorem tyX7_ok : ∀ k, k < 35 → parseFieldDescriptor (TX7 k).2.2.1 = some (tyX7 k) := by decide +kernel
abbrev cX7_init : ByteArray := prog_12_method_1_code
def yX7_init : MethodName := ⟨RX7, "<init>", "()V"⟩
def dkwX7_init_7 : List UInt8 := [60, 27, 16, 9, 162, 0, 19, 42, 180, 0, 19, 16, 18, 27, 96, 2, 79, 132, 1, 1, 167, 255, 237, 177]
abbrev dktX7_init_7 : List UInt8 := dkwX7_init_7 ++ []
def dkwX7_init_6 : List UInt8 := [42, 17, 2, 0, 188, 10, 181, 0, 62, 42, 17, 2, 0, 188, 10, 181, 0, 65, 42, 2, 181, 0, 68, 3]
abbrev dktX7_init_6 : List UInt8 := dkwX7_init_6 ++ dktX7_init_7
def dkwX7_init_5 : List UInt8 := [16, 10, 188, 10, 181, 0, 53, 42, 16, 10, 188, 10, 181, 0, 56, 42, 17, 2, 0, 188, 10, 181, 0, 59]
abbrev dktX7_init_5 : List UInt8 := dkwX7_init_5 ++ dktX7_init_6
def dkwX7_init_4 : List UInt8 := [16, 9, 188, 10, 181, 0, 44, 42, 16, 9, 188, 10, 181, 0, 47, 42, 16, 10, 188, 10, 181, 0, 50, 42]
abbrev dktX7_init_4 : List UInt8 := dkwX7_init_4 ++ dktX7_init_5
def dkwX7_init_3 : List UInt8 := [16, 15, 188, 4, 181, 0, 35, 42, 16, 9, 188, 10, 181, 0, 38, 42, 16, 9, 188, 10, 181, 0, 41, 42]
abbrev dktX7_init_3 : List UInt8 := dkwX7_init_3 ++ dktX7_init_4
def dkwX7_init_2 : List UInt8 := [188, 4, 181, 0, 25, 42, 17, 3, 16, 188, 10, 181, 0, 29, 42, 16, 15, 188, 10, 181, 0, 32, 42]
abbrev dktX7_init_2 : List UInt8 := dkwX7_init_2 ++ dktX7_init_3
def dkwX7_init_1 : List UInt8 := [188, 10, 181, 0, 16, 42, 16, 49, 188, 10, 181, 0, 19, 42, 16, 98, 188, 10, 181, 0, 22, 42, 5]
abbrev dktX7_init_1 : List UInt8 := dkwX7_init_1 ++ dktX7_init_2
def dkwX7_init_0 : List UInt8 := [42, 183, 0, 1, 42, 17, 0, 240, 188, 10, 181, 0, 7, 42, 16, 27, 188, 10, 181, 0, 13, 42, 16, 9]
abbrev dktX7_init_0 : List UInt8 := dkwX7_init_0 ++ dktX7_init_1
theorem dksX7_init_0 : cX7_init.data.toList.drop 0 = dktX7_init_0 := by decide +kernel
theorem dksX7_init_1 : cX7_init.data.toList.drop 24 = dktX7_init_1 := dk_seg dksX7_init_0 24 rfl rfl
theorem dksX7_init_2 : cX7_init.data.toList.drop 47 = dktX7_init_2 := dk_seg dksX7_init_1 23 rfl rfl
theorem dksX7_init_3 : cX7_init.data.toList.drop 70 = dktX7_init_3 := dk_seg dksX7_init_2 23 rfl rfl
theorem dksX7_init_4 : cX7_init.data.toList.drop 94 = dktX7_init_4 := dk_seg dksX7_init_3 24 rfl rfl
theorem dksX7_init_5 : cX7_init.data.toList.drop 118 = dktX7_init_5 := dk_seg dksX7_init_4 24 rfl rfl
theorem dksX7_init_6 : cX7_init.data.toList.drop 142 = dktX7_init_6 := dk_seg dksX7_init_5 24 rfl rfl
theorem dksX7_init_7 : cX7_init.data.toList.drop 166 = dktX7_init_7 := dk_seg dksX7_init_6 24 rfl rfl
theorem dX7_init_0 : decode cX7_init 0 = .ok (.aload_n 0, 1) := dk_42 (dk_at dksX7_init_0 0 rfl rfl)
theorem dX7_init_1 : decode cX7_init 1 = .ok (.invokespecial 1, 3) := dk_183 0 1 (dk_at dksX7_init_0 1 rfl rfl)
theorem dX7_init_4 : decode cX7_init 4 = .ok (.aload_n 0, 1) := dk_42 (dk_at dksX7_init_0 4 rfl rfl)
theorem dX7_init_5 : decode cX7_init 5 = .ok (.sipush 240, 3) := dk_17 0 240 (dk_at dksX7_init_0 5 rfl rfl)
theorem dX7_init_8 : decode cX7_init 8 = .ok (.newarray .int, 2) := dk_188_10 (dk_at dksX7_init_0 8 rfl rfl)
theorem dX7_init_10 : decode cX7_init 10 = .ok (.putfield 7, 3) := dk_181 0 7 (dk_at dksX7_init_0 10 rfl rfl)
theorem dX7_init_13 : decode cX7_init 13 = .ok (.aload_n 0, 1) := dk_42 (dk_at dksX7_init_0 13 rfl rfl)
theorem dX7_init_14 : decode cX7_init 14 = .ok (.bipush 27, 2) := dk_16 27 (dk_at dksX7_init_0 14 rfl rfl)
theorem dX7_init_16 : decode cX7_init 16 = .ok (.newarray .int, 2) := dk_188_10 (dk_at dksX7_init_0 16 rfl rfl)
theorem dX7_init_18 : decode cX7_init 18 = .ok (.putfield 13, 3) := dk_181 0 13 (dk_at dksX7_init_0 18 rfl rfl)
theorem dX7_init_21 : decode cX7_init 21 = .ok (.aload_n 0, 1) := dk_42 (dk_at dksX7_init_0 21 rfl rfl)
theorem dX7_init_22 : decode cX7_init 22 = .ok (.bipush 9, 2) := dk_16 9 (dk_at dksX7_init_0 22 rfl rfl)
theorem dX7_init_24 : decode cX7_init 24 = .ok (.newarray .int, 2) := dk_188_10 (dk_at dksX7_init_1 0 rfl rfl)
theorem dX7_init_26 : decode cX7_init 26 = .ok (.putfield 16, 3) := dk_181 0 16 (dk_at dksX7_init_1 2 rfl rfl)
theorem dX7_init_29 : decode cX7_init 29 = .ok (.aload_n 0, 1) := dk_42 (dk_at dksX7_init_1 5 rfl rfl)
theorem dX7_init_30 : decode cX7_init 30 = .ok (.bipush 49, 2) := dk_16 49 (dk_at dksX7_init_1 6 rfl rfl)
theorem dX7_init_32 : decode cX7_init 32 = .ok (.newarray .int, 2) := dk_188_10 (dk_at dksX7_init_1 8 rfl rfl)
theorem dX7_init_34 : decode cX7_init 34 = .ok (.putfield 19, 3) := dk_181 0 19 (dk_at dksX7_init_1 10 rfl rfl)
theorem dX7_init_37 : decode cX7_init 37 = .ok (.aload_n 0, 1) := dk_42 (dk_at dksX7_init_1 13 rfl rfl)
theorem dX7_init_38 : decode cX7_init 38 = .ok (.bipush 98, 2) := dk_16 98 (dk_at dksX7_init_1 14 rfl rfl)
theorem dX7_init_40 : decode cX7_init 40 = .ok (.newarray .int, 2) := dk_188_10 (dk_at dksX7_init_1 16 rfl rfl)
theorem dX7_init_42 : decode cX7_init 42 = .ok (.putfield 22, 3) := dk_181 0 22 (dk_at dksX7_init_1 18 rfl rfl)
theorem dX7_init_45 : decode cX7_init 45 = .ok (.aload_n 0, 1) := dk_42 (dk_at dksX7_init_1 21 rfl rfl)
theorem dX7_init_46 : decode cX7_init 46 = .ok (.iconst 2, 1) := dk_5 (dk_at dksX7_init_1 22 rfl rfl)
theorem dX7_init_47 : decode cX7_init 47 = .ok (.newarray .boolean, 2) := dk_188_4 (dk_at dksX7_init_2 0 rfl rfl)
theorem dX7_init_49 : decode cX7_init 49 = .ok (.putfield 25, 3) := dk_181 0 25 (dk_at dksX7_init_2 2 rfl rfl)
theorem dX7_init_52 : decode cX7_init 52 = .ok (.aload_n 0, 1) := dk_42 (dk_at dksX7_init_2 5 rfl rfl)
theorem dX7_init_53 : decode cX7_init 53 = .ok (.sipush 784, 3) := dk_17 3 16 (dk_at dksX7_init_2 6 rfl rfl)
theorem dX7_init_56 : decode cX7_init 56 = .ok (.newarray .int, 2) := dk_188_10 (dk_at dksX7_init_2 9 rfl rfl)
theorem dX7_init_58 : decode cX7_init 58 = .ok (.putfield 29, 3) := dk_181 0 29 (dk_at dksX7_init_2 11 rfl rfl)
theorem dX7_init_61 : decode cX7_init 61 = .ok (.aload_n 0, 1) := dk_42 (dk_at dksX7_init_2 14 rfl rfl)
theorem dX7_init_62 : decode cX7_init 62 = .ok (.bipush 15, 2) := dk_16 15 (dk_at dksX7_init_2 15 rfl rfl)
theorem dX7_init_64 : decode cX7_init 64 = .ok (.newarray .int, 2) := dk_188_10 (dk_at dksX7_init_2 17 rfl rfl)
theorem dX7_init_66 : decode cX7_init 66 = .ok (.putfield 32, 3) := dk_181 0 32 (dk_at dksX7_init_2 19 rfl rfl)
theorem dX7_init_69 : decode cX7_init 69 = .ok (.aload_n 0, 1) := dk_42 (dk_at dksX7_init_2 22 rfl rfl)
theorem dX7_init_70 : decode cX7_init 70 = .ok (.bipush 15, 2) := dk_16 15 (dk_at dksX7_init_3 0 rfl rfl)
theorem dX7_init_72 : decode cX7_init 72 = .ok (.newarray .boolean, 2) := dk_188_4 (dk_at dksX7_init_3 2 rfl rfl)
theorem dX7_init_74 : decode cX7_init 74 = .ok (.putfield 35, 3) := dk_181 0 35 (dk_at dksX7_init_3 4 rfl rfl)
theorem dX7_init_77 : decode cX7_init 77 = .ok (.aload_n 0, 1) := dk_42 (dk_at dksX7_init_3 7 rfl rfl)
theorem dX7_init_78 : decode cX7_init 78 = .ok (.bipush 9, 2) := dk_16 9 (dk_at dksX7_init_3 8 rfl rfl)
theorem dX7_init_80 : decode cX7_init 80 = .ok (.newarray .int, 2) := dk_188_10 (dk_at dksX7_init_3 10 rfl rfl)
theorem dX7_init_82 : decode cX7_init 82 = .ok (.putfield 38, 3) := dk_181 0 38 (dk_at dksX7_init_3 12 rfl rfl)
theorem dX7_init_85 : decode cX7_init 85 = .ok (.aload_n 0, 1) := dk_42 (dk_at dksX7_init_3 15 rfl rfl)
theorem dX7_init_86 : decode cX7_init 86 = .ok (.bipush 9, 2) := dk_16 9 (dk_at dksX7_init_3 16 rfl rfl)
theorem dX7_init_88 : decode cX7_init 88 = .ok (.newarray .int, 2) := dk_188_10 (dk_at dksX7_init_3 18 rfl rfl)
theorem dX7_init_90 : decode cX7_init 90 = .ok (.putfield 41, 3) := dk_181 0 41 (dk_at dksX7_init_3 20 rfl rfl)
theorem dX7_init_93 : decode cX7_init 93 = .ok (.aload_n 0, 1) := dk_42 (dk_at dksX7_init_3 23 rfl rfl)
theorem dX7_init_94 : decode cX7_init 94 = .ok (.bipush 9, 2) := dk_16 9 (dk_at dksX7_init_4 0 rfl rfl)
theorem dX7_init_96 : decode cX7_init 96 = .ok (.newarray .int, 2) := dk_188_10 (dk_at dksX7_init_4 2 rfl rfl)
theorem dX7_init_98 : decode cX7_init 98 = .ok (.putfield 44, 3) := dk_181 0 44 (dk_at dksX7_init_4 4 rfl rfl)
theorem dX7_init_101 : decode cX7_init 101 = .ok (.aload_n 0, 1) := dk_42 (dk_at dksX7_init_4 7 rfl rfl)
theorem dX7_init_102 : decode cX7_init 102 = .ok (.bipush 9, 2) := dk_16 9 (dk_at dksX7_init_4 8 rfl rfl)
theorem dX7_init_104 : decode cX7_init 104 = .ok (.newarray .int, 2) := dk_188_10 (dk_at dksX7_init_4 10 rfl rfl)
theorem dX7_init_106 : decode cX7_init 106 = .ok (.putfield 47, 3) := dk_181 0 47 (dk_at dksX7_init_4 12 rfl rfl)
theorem dX7_init_109 : decode cX7_init 109 = .ok (.aload_n 0, 1) := dk_42 (dk_at dksX7_init_4 15 rfl rfl)
theorem dX7_init_110 : decode cX7_init 110 = .ok (.bipush 10, 2) := dk_16 10 (dk_at dksX7_init_4 16 rfl rfl)
theorem dX7_init_112 : decode cX7_init 112 = .ok (.newarray .int, 2) := dk_188_10 (dk_at dksX7_init_4 18 rfl rfl)
theorem dX7_init_114 : decode cX7_init 114 = .ok (.putfield 50, 3) := dk_181 0 50 (dk_at dksX7_init_4 20 rfl rfl)
theorem dX7_init_117 : decode cX7_init 117 = .ok (.aload_n 0, 1) := dk_42 (dk_at dksX7_init_4 23 rfl rfl)
theorem dX7_init_118 : decode cX7_init 118 = .ok (.bipush 10, 2) := dk_16 10 (dk_at dksX7_init_5 0 rfl rfl)
theorem dX7_init_120 : decode cX7_init 120 = .ok (.newarray .int, 2) := dk_188_10 (dk_at dksX7_init_5 2 rfl rfl)
theorem dX7_init_122 : decode cX7_init 122 = .ok (.putfield 53, 3) := dk_181 0 53 (dk_at dksX7_init_5 4 rfl rfl)
theorem dX7_init_125 : decode cX7_init 125 = .ok (.aload_n 0, 1) := dk_42 (dk_at dksX7_init_5 7 rfl rfl)
theorem dX7_init_126 : decode cX7_init 126 = .ok (.bipush 10, 2) := dk_16 10 (dk_at dksX7_init_5 8 rfl rfl)
theorem dX7_init_128 : decode cX7_init 128 = .ok (.newarray .int, 2) := dk_188_10 (dk_at dksX7_init_5 10 rfl rfl)
theorem dX7_init_130 : decode cX7_init 130 = .ok (.putfield 56, 3) := dk_181 0 56 (dk_at dksX7_init_5 12 rfl rfl)
theorem dX7_init_133 : decode cX7_init 133 = .ok (.aload_n 0, 1) := dk_42 (dk_at dksX7_init_5 15 rfl rfl)
theorem dX7_init_134 : decode cX7_init 134 = .ok (.sipush 512, 3) := dk_17 2 0 (dk_at dksX7_init_5 16 rfl rfl)
theorem dX7_init_137 : decode cX7_init 137 = .ok (.newarray .int, 2) := dk_188_10 (dk_at dksX7_init_5 19 rfl rfl)
theorem dX7_init_139 : decode cX7_init 139 = .ok (.putfield 59, 3) := dk_181 0 59 (dk_at dksX7_init_5 21 rfl rfl)
theorem dX7_init_142 : decode cX7_init 142 = .ok (.aload_n 0, 1) := dk_42 (dk_at dksX7_init_6 0 rfl rfl)
theorem dX7_init_143 : decode cX7_init 143 = .ok (.sipush 512, 3) := dk_17 2 0 (dk_at dksX7_init_6 1 rfl rfl)
theorem dX7_init_146 : decode cX7_init 146 = .ok (.newarray .int, 2) := dk_188_10 (dk_at dksX7_init_6 4 rfl rfl)
theorem dX7_init_148 : decode cX7_init 148 = .ok (.putfield 62, 3) := dk_181 0 62 (dk_at dksX7_init_6 6 rfl rfl)
theorem dX7_init_151 : decode cX7_init 151 = .ok (.aload_n 0, 1) := dk_42 (dk_at dksX7_init_6 9 rfl rfl)
theorem dX7_init_152 : decode cX7_init 152 = .ok (.sipush 512, 3) := dk_17 2 0 (dk_at dksX7_init_6 10 rfl rfl)
theorem dX7_init_155 : decode cX7_init 155 = .ok (.newarray .int, 2) := dk_188_10 (dk_at dksX7_init_6 13 rfl rfl)
theorem dX7_init_157 : decode cX7_init 157 = .ok (.putfield 65, 3) := dk_181 0 65 (dk_at dksX7_init_6 15 rfl rfl)
theorem dX7_init_160 : decode cX7_init 160 = .ok (.aload_n 0, 1) := dk_42 (dk_at dksX7_init_6 18 rfl rfl)
theorem dX7_init_161 : decode cX7_init 161 = .ok (.iconst (-1), 1) := dk_2 (dk_at dksX7_init_6 19 rfl rfl)
theorem dX7_init_162 : decode cX7_init 162 = .ok (.putfield 68, 3) := dk_181 0 68 (dk_at dksX7_init_6 20 rfl rfl)
theorem dX7_init_165 : decode cX7_init 165 = .ok (.iconst 0, 1) := dk_3 (dk_at dksX7_init_6 23 rfl rfl)
theorem dX7_init_166 : decode cX7_init 166 = .ok (.istore_n 1, 1) := dk_60 (dk_at dksX7_init_7 0 rfl rfl)
theorem dX7_init_167 : decode cX7_init 167 = .ok (.iload_n 1, 1) := dk_27 (dk_at dksX7_init_7 1 rfl rfl)
theorem dX7_init_168 : decode cX7_init 168 = .ok (.bipush 9, 2) := dk_16 9 (dk_at dksX7_init_7 2 rfl rfl)
theorem dX7_init_170 : decode cX7_init 170 = .ok (.if_icmp .ge 19, 3) := dk_162 0 19 (dk_at dksX7_init_7 4 rfl rfl)
theorem dX7_init_173 : decode cX7_init 173 = .ok (.aload_n 0, 1) := dk_42 (dk_at dksX7_init_7 7 rfl rfl)
theorem dX7_init_174 : decode cX7_init 174 = .ok (.getfield 19, 3) := dk_180 0 19 (dk_at dksX7_init_7 8 rfl rfl)
theorem dX7_init_177 : decode cX7_init 177 = .ok (.bipush 18, 2) := dk_16 18 (dk_at dksX7_init_7 11 rfl rfl)
theorem dX7_init_179 : decode cX7_init 179 = .ok (.iload_n 1, 1) := dk_27 (dk_at dksX7_init_7 13 rfl rfl)
theorem dX7_init_180 : decode cX7_init 180 = .ok (.iadd, 1) := dk_96 (dk_at dksX7_init_7 14 rfl rfl)
theorem dX7_init_181 : decode cX7_init 181 = .ok (.iconst (-1), 1) := dk_2 (dk_at dksX7_init_7 15 rfl rfl)
theorem dX7_init_182 : decode cX7_init 182 = .ok (.iastore, 1) := dk_79 (dk_at dksX7_init_7 16 rfl rfl)
theorem dX7_init_183 : decode cX7_init 183 = .ok (.iinc 1 1, 3) := dk_132 1 1 (dk_at dksX7_init_7 17 rfl rfl)
theorem dX7_init_186 : decode cX7_init 186 = .ok (.goto (-19), 3) := dk_167 255 237 (dk_at dksX7_init_7 20 rfl rfl)
theorem dX7_init_189 : decode cX7_init 189 = .ok (.return_, 1) := dk_177 (dk_at dksX7_init_7 23 rfl rfl)
abbrev cX7_feed : ByteArray := prog_12_method_6_code
def yX7_feed : MethodName := ⟨RX7, "feed", "(I)I"⟩
def dkwX7_feed_2 : List UInt8 := [4, 96, 181, 0, 80, 42, 180, 0, 80, 172]
abbrev dktX7_feed_2 : List UInt8 := dkwX7_feed_2 ++ []
def dkwX7_feed_1 : List UInt8 := [17, 0, 240, 160, 0, 6, 18, 83, 172, 42, 180, 0, 7, 42, 180, 0, 80, 27, 79, 42, 89, 180, 0, 80]
abbrev dktX7_feed_1 : List UInt8 := dkwX7_feed_1 ++ dktX7_feed_2
def dkwX7_feed_0 : List UInt8 := [42, 3, 181, 0, 72, 27, 3, 17, 0, 255, 184, 0, 75, 154, 0, 6, 18, 79, 172, 42, 180, 0, 80]
abbrev dktX7_feed_0 : List UInt8 := dkwX7_feed_0 ++ dktX7_feed_1
theorem dksX7_feed_0 : cX7_feed.data.toList.drop 0 = dktX7_feed_0 := by decide +kernel
theorem dksX7_feed_1 : cX7_feed.data.toList.drop 23 = dktX7_feed_1 := dk_seg dksX7_feed_0 23 rfl rfl
theorem dksX7_feed_2 : cX7_feed.data.toList.drop 47 = dktX7_feed_2 := dk_seg dksX7_feed_1 24 rfl rfl
theorem dX7_feed_0 : decode cX7_feed 0 = .ok (.aload_n 0, 1) := dk_42 (dk_at dksX7_feed_0 0 rfl rfl)
theorem dX7_feed_1 : decode cX7_feed 1 = .ok (.iconst 0, 1) := dk_3 (dk_at dksX7_feed_0 1 rfl rfl)
theorem dX7_feed_2 : decode cX7_feed 2 = .ok (.putfield 72, 3) := dk_181 0 72 (dk_at dksX7_feed_0 2 rfl rfl)
theorem dX7_feed_5 : decode cX7_feed 5 = .ok (.iload_n 1, 1) := dk_27 (dk_at dksX7_feed_0 5 rfl rfl)
theorem dX7_feed_6 : decode cX7_feed 6 = .ok (.iconst 0, 1) := dk_3 (dk_at dksX7_feed_0 6 rfl rfl)
theorem dX7_feed_7 : decode cX7_feed 7 = .ok (.sipush 255, 3) := dk_17 0 255 (dk_at dksX7_feed_0 7 rfl rfl)
theorem dX7_feed_10 : decode cX7_feed 10 = .ok (.invokestatic 75, 3) := dk_184 0 75 (dk_at dksX7_feed_0 10 rfl rfl)
theorem dX7_feed_13 : decode cX7_feed 13 = .ok (.ifCond .ne 6, 3) := dk_154 0 6 (dk_at dksX7_feed_0 13 rfl rfl)
theorem dX7_feed_16 : decode cX7_feed 16 = .ok (.ldc 79, 2) := dk_18 79 (dk_at dksX7_feed_0 16 rfl rfl)
theorem dX7_feed_18 : decode cX7_feed 18 = .ok (.ireturn, 1) := dk_172 (dk_at dksX7_feed_0 18 rfl rfl)
theorem dX7_feed_19 : decode cX7_feed 19 = .ok (.aload_n 0, 1) := dk_42 (dk_at dksX7_feed_0 19 rfl rfl)
theorem dX7_feed_20 : decode cX7_feed 20 = .ok (.getfield 80, 3) := dk_180 0 80 (dk_at dksX7_feed_0 20 rfl rfl)
theorem dX7_feed_23 : decode cX7_feed 23 = .ok (.sipush 240, 3) := dk_17 0 240 (dk_at dksX7_feed_1 0 rfl rfl)
theorem dX7_feed_26 : decode cX7_feed 26 = .ok (.if_icmp .ne 6, 3) := dk_160 0 6 (dk_at dksX7_feed_1 3 rfl rfl)
theorem dX7_feed_29 : decode cX7_feed 29 = .ok (.ldc 83, 2) := dk_18 83 (dk_at dksX7_feed_1 6 rfl rfl)
theorem dX7_feed_31 : decode cX7_feed 31 = .ok (.ireturn, 1) := dk_172 (dk_at dksX7_feed_1 8 rfl rfl)
theorem dX7_feed_32 : decode cX7_feed 32 = .ok (.aload_n 0, 1) := dk_42 (dk_at dksX7_feed_1 9 rfl rfl)
theorem dX7_feed_33 : decode cX7_feed 33 = .ok (.getfield 7, 3) := dk_180 0 7 (dk_at dksX7_feed_1 10 rfl rfl)
theorem dX7_feed_36 : decode cX7_feed 36 = .ok (.aload_n 0, 1) := dk_42 (dk_at dksX7_feed_1 13 rfl rfl)
theorem dX7_feed_37 : decode cX7_feed 37 = .ok (.getfield 80, 3) := dk_180 0 80 (dk_at dksX7_feed_1 14 rfl rfl)
theorem dX7_feed_40 : decode cX7_feed 40 = .ok (.iload_n 1, 1) := dk_27 (dk_at dksX7_feed_1 17 rfl rfl)
theorem dX7_feed_41 : decode cX7_feed 41 = .ok (.iastore, 1) := dk_79 (dk_at dksX7_feed_1 18 rfl rfl)
theorem dX7_feed_42 : decode cX7_feed 42 = .ok (.aload_n 0, 1) := dk_42 (dk_at dksX7_feed_1 19 rfl rfl)
theorem dX7_feed_43 : decode cX7_feed 43 = .ok (.dup, 1) := dk_89 (dk_at dksX7_feed_1 20 rfl rfl)
theorem dX7_feed_44 : decode cX7_feed 44 = .ok (.getfield 80, 3) := dk_180 0 80 (dk_at dksX7_feed_1 21 rfl rfl)
theorem dX7_feed_47 : decode cX7_feed 47 = .ok (.iconst 1, 1) := dk_4 (dk_at dksX7_feed_2 0 rfl rfl)
theorem dX7_feed_48 : decode cX7_feed 48 = .ok (.iadd, 1) := dk_96 (dk_at dksX7_feed_2 1 rfl rfl)
theorem dX7_feed_49 : decode cX7_feed 49 = .ok (.putfield 80, 3) := dk_181 0 80 (dk_at dksX7_feed_2 2 rfl rfl)
theorem dX7_feed_52 : decode cX7_feed 52 = .ok (.aload_n 0, 1) := dk_42 (dk_at dksX7_feed_2 5 rfl rfl)
theorem dX7_feed_53 : decode cX7_feed 53 = .ok (.getfield 80, 3) := dk_180 0 80 (dk_at dksX7_feed_2 6 rfl rfl)
theorem dX7_feed_56 : decode cX7_feed 56 = .ok (.ireturn, 1) := dk_172 (dk_at dksX7_feed_2 9 rfl rfl)
abbrev cX7_in : ByteArray := prog_12_method_3_code
def yX7_in : MethodName := ⟨RX7, "in", "(III)Z"⟩
def dkwX7_in_0 : List UInt8 := [26, 27, 161, 0, 12, 26, 28, 163, 0, 7, 4, 167, 0, 4, 3, 172]
abbrev dktX7_in_0 : List UInt8 := dkwX7_in_0 ++ []
theorem dksX7_in_0 : cX7_in.data.toList.drop 0 = dktX7_in_0 := by decide +kernel
theorem dX7_in_0 : decode cX7_in 0 = .ok (.iload_n 0, 1) := dk_26 (dk_at dksX7_in_0 0 rfl rfl)
theorem dX7_in_1 : decode cX7_in 1 = .ok (.iload_n 1, 1) := dk_27 (dk_at dksX7_in_0 1 rfl rfl)
theorem dX7_in_2 : decode cX7_in 2 = .ok (.if_icmp .lt 12, 3) := dk_161 0 12 (dk_at dksX7_in_0 2 rfl rfl)
theorem dX7_in_5 : decode cX7_in 5 = .ok (.iload_n 0, 1) := dk_26 (dk_at dksX7_in_0 5 rfl rfl)
theorem dX7_in_6 : decode cX7_in 6 = .ok (.iload_n 2, 1) := dk_28 (dk_at dksX7_in_0 6 rfl rfl)
theorem dX7_in_7 : decode cX7_in 7 = .ok (.if_icmp .gt 7, 3) := dk_163 0 7 (dk_at dksX7_in_0 7 rfl rfl)
theorem dX7_in_10 : decode cX7_in 10 = .ok (.iconst 1, 1) := dk_4 (dk_at dksX7_in_0 10 rfl rfl)
theorem dX7_in_11 : decode cX7_in 11 = .ok (.goto 4, 3) := dk_167 0 4 (dk_at dksX7_in_0 11 rfl rfl)
theorem dX7_in_14 : decode cX7_in 14 = .ok (.iconst 0, 1) := dk_3 (dk_at dksX7_in_0 14 rfl rfl)
theorem dX7_in_15 : decode cX7_in 15 = .ok (.ireturn, 1) := dk_172 (dk_at dksX7_in_0 15 rfl rfl)
abbrev cX7_county : ByteArray := prog_12_method_15_code
def yX7_county : MethodName := ⟨RX7, "county", "()I"⟩
def dkwX7_county_3 : List UInt8 := [182, 0, 127, 42, 180, 0, 130, 172]
abbrev dktX7_county_3 : List UInt8 := dkwX7_county_3 ++ []
def dkwX7_county_2 : List UInt8 := [42, 180, 0, 98, 181, 0, 68, 42, 182, 0, 94, 154, 0, 11, 16, 246, 42, 180, 0, 91, 100, 172, 42]
abbrev dktX7_county_2 : List UInt8 := dkwX7_county_2 ++ dktX7_county_3
def dkwX7_county_1 : List UInt8 := [181, 0, 108, 42, 182, 0, 124, 42, 3, 181, 0, 80, 42, 42, 182, 0, 94, 153, 0, 7, 2, 167, 0, 7]
abbrev dktX7_county_1 : List UInt8 := dkwX7_county_1 ++ dktX7_county_2
def dkwX7_county_0 : List UInt8 := [42, 3, 181, 0, 72, 42, 3, 181, 0, 84, 42, 3, 181, 0, 91, 42, 2, 181, 0, 115, 42, 3]
abbrev dktX7_county_0 : List UInt8 := dkwX7_county_0 ++ dktX7_county_1
theorem dksX7_county_0 : cX7_county.data.toList.drop 0 = dktX7_county_0 := by decide +kernel
theorem dksX7_county_1 : cX7_county.data.toList.drop 22 = dktX7_county_1 := dk_seg dksX7_county_0 22 rfl rfl
theorem dksX7_county_2 : cX7_county.data.toList.drop 46 = dktX7_county_2 := dk_seg dksX7_county_1 24 rfl rfl
theorem dksX7_county_3 : cX7_county.data.toList.drop 69 = dktX7_county_3 := dk_seg dksX7_county_2 23 rfl rfl
theorem dX7_county_0 : decode cX7_county 0 = .ok (.aload_n 0, 1) := dk_42 (dk_at dksX7_county_0 0 rfl rfl)
theorem dX7_county_1 : decode cX7_county 1 = .ok (.iconst 0, 1) := dk_3 (dk_at dksX7_county_0 1 rfl rfl)
theorem dX7_county_2 : decode cX7_county 2 = .ok (.putfield 72, 3) := dk_181 0 72 (dk_at dksX7_county_0 2 rfl rfl)
theorem dX7_county_5 : decode cX7_county 5 = .ok (.aload_n 0, 1) := dk_42 (dk_at dksX7_county_0 5 rfl rfl)
theorem dX7_county_6 : decode cX7_county 6 = .ok (.iconst 0, 1) := dk_3 (dk_at dksX7_county_0 6 rfl rfl)
theorem dX7_county_7 : decode cX7_county 7 = .ok (.putfield 84, 3) := dk_181 0 84 (dk_at dksX7_county_0 7 rfl rfl)
theorem dX7_county_10 : decode cX7_county 10 = .ok (.aload_n 0, 1) := dk_42 (dk_at dksX7_county_0 10 rfl rfl)
theorem dX7_county_11 : decode cX7_county 11 = .ok (.iconst 0, 1) := dk_3 (dk_at dksX7_county_0 11 rfl rfl)
theorem dX7_county_12 : decode cX7_county 12 = .ok (.putfield 91, 3) := dk_181 0 91 (dk_at dksX7_county_0 12 rfl rfl)
theorem dX7_county_15 : decode cX7_county 15 = .ok (.aload_n 0, 1) := dk_42 (dk_at dksX7_county_0 15 rfl rfl)
theorem dX7_county_16 : decode cX7_county 16 = .ok (.iconst (-1), 1) := dk_2 (dk_at dksX7_county_0 16 rfl rfl)
theorem dX7_county_17 : decode cX7_county 17 = .ok (.putfield 115, 3) := dk_181 0 115 (dk_at dksX7_county_0 17 rfl rfl)
theorem dX7_county_20 : decode cX7_county 20 = .ok (.aload_n 0, 1) := dk_42 (dk_at dksX7_county_0 20 rfl rfl)
theorem dX7_county_21 : decode cX7_county 21 = .ok (.iconst 0, 1) := dk_3 (dk_at dksX7_county_0 21 rfl rfl)
theorem dX7_county_22 : decode cX7_county 22 = .ok (.putfield 108, 3) := dk_181 0 108 (dk_at dksX7_county_1 0 rfl rfl)
theorem dX7_county_25 : decode cX7_county 25 = .ok (.aload_n 0, 1) := dk_42 (dk_at dksX7_county_1 3 rfl rfl)
theorem dX7_county_26 : decode cX7_county 26 = .ok (.invokevirtual 124, 3) := dk_182 0 124 (dk_at dksX7_county_1 4 rfl rfl)
theorem dX7_county_29 : decode cX7_county 29 = .ok (.aload_n 0, 1) := dk_42 (dk_at dksX7_county_1 7 rfl rfl)
theorem dX7_county_30 : decode cX7_county 30 = .ok (.iconst 0, 1) := dk_3 (dk_at dksX7_county_1 8 rfl rfl)
theorem dX7_county_31 : decode cX7_county 31 = .ok (.putfield 80, 3) := dk_181 0 80 (dk_at dksX7_county_1 9 rfl rfl)
theorem dX7_county_34 : decode cX7_county 34 = .ok (.aload_n 0, 1) := dk_42 (dk_at dksX7_county_1 12 rfl rfl)
theorem dX7_county_35 : decode cX7_county 35 = .ok (.aload_n 0, 1) := dk_42 (dk_at dksX7_county_1 13 rfl rfl)
theorem dX7_county_36 : decode cX7_county 36 = .ok (.invokevirtual 94, 3) := dk_182 0 94 (dk_at dksX7_county_1 14 rfl rfl)
theorem dX7_county_39 : decode cX7_county 39 = .ok (.ifCond .eq 7, 3) := dk_153 0 7 (dk_at dksX7_county_1 17 rfl rfl)
theorem dX7_county_42 : decode cX7_county 42 = .ok (.iconst (-1), 1) := dk_2 (dk_at dksX7_county_1 20 rfl rfl)
theorem dX7_county_43 : decode cX7_county 43 = .ok (.goto 7, 3) := dk_167 0 7 (dk_at dksX7_county_1 21 rfl rfl)
theorem dX7_county_46 : decode cX7_county 46 = .ok (.aload_n 0, 1) := dk_42 (dk_at dksX7_county_2 0 rfl rfl)
theorem dX7_county_47 : decode cX7_county 47 = .ok (.getfield 98, 3) := dk_180 0 98 (dk_at dksX7_county_2 1 rfl rfl)
theorem dX7_county_50 : decode cX7_county 50 = .ok (.putfield 68, 3) := dk_181 0 68 (dk_at dksX7_county_2 4 rfl rfl)
theorem dX7_county_53 : decode cX7_county 53 = .ok (.aload_n 0, 1) := dk_42 (dk_at dksX7_county_2 7 rfl rfl)
theorem dX7_county_54 : decode cX7_county 54 = .ok (.invokevirtual 94, 3) := dk_182 0 94 (dk_at dksX7_county_2 8 rfl rfl)
theorem dX7_county_57 : decode cX7_county 57 = .ok (.ifCond .ne 11, 3) := dk_154 0 11 (dk_at dksX7_county_2 11 rfl rfl)
theorem dX7_county_60 : decode cX7_county 60 = .ok (.bipush (-10), 2) := dk_16 246 (dk_at dksX7_county_2 14 rfl rfl)
theorem dX7_county_62 : decode cX7_county 62 = .ok (.aload_n 0, 1) := dk_42 (dk_at dksX7_county_2 16 rfl rfl)
theorem dX7_county_63 : decode cX7_county 63 = .ok (.getfield 91, 3) := dk_180 0 91 (dk_at dksX7_county_2 17 rfl rfl)
theorem dX7_county_66 : decode cX7_county 66 = .ok (.isub, 1) := dk_100 (dk_at dksX7_county_2 20 rfl rfl)
theorem dX7_county_67 : decode cX7_county 67 = .ok (.ireturn, 1) := dk_172 (dk_at dksX7_county_2 21 rfl rfl)
theorem dX7_county_68 : decode cX7_county 68 = .ok (.aload_n 0, 1) := dk_42 (dk_at dksX7_county_2 22 rfl rfl)
theorem dX7_county_69 : decode cX7_county 69 = .ok (.invokevirtual 127, 3) := dk_182 0 127 (dk_at dksX7_county_3 0 rfl rfl)
theorem dX7_county_72 : decode cX7_county 72 = .ok (.aload_n 0, 1) := dk_42 (dk_at dksX7_county_3 3 rfl rfl)
theorem dX7_county_73 : decode cX7_county 73 = .ok (.getfield 130, 3) := dk_180 0 130 (dk_at dksX7_county_3 4 rfl rfl)
theorem dX7_county_76 : decode cX7_county 76 = .ok (.ireturn, 1) := dk_172 (dk_at dksX7_county_3 7 rfl rfl)
abbrev cX7_reads : ByteArray := prog_12_method_14_code
def yX7_reads : MethodName := ⟨RX7, "reads", "()V"⟩
def dkwX7_reads_7 : List UInt8 := [167, 255, 103, 177]
abbrev dktX7_reads_7 : List UInt8 := dkwX7_reads_7 ++ []
def dkwX7_reads_6 : List UInt8 := [167, 0, 7, 42, 182, 0, 118, 42, 182, 0, 94, 153, 0, 11, 42, 182, 0, 121, 42, 182, 0, 101]
abbrev dktX7_reads_6 : List UInt8 := dkwX7_reads_6 ++ dktX7_reads_7
def dkwX7_reads_5 : List UInt8 := [181, 0, 84, 28, 16, 103, 160, 0, 19, 4, 60, 42, 42, 3, 16, 9, 182, 0, 111, 181, 0, 115]
abbrev dktX7_reads_5 : List UInt8 := dkwX7_reads_5 ++ dktX7_reads_6
def dkwX7_reads_4 : List UInt8 := [16, 9, 160, 0, 15, 42, 6, 42, 180, 0, 84, 182, 0, 104, 167, 0, 54, 42, 89, 180, 0, 84, 4, 96]
abbrev dktX7_reads_4 : List UInt8 := dkwX7_reads_4 ++ dktX7_reads_5
def dkwX7_reads_3 : List UInt8 := [167, 0, 91, 28, 16, 103, 160, 0, 7, 27, 154, 0, 18, 28, 16, 115, 160, 0, 24, 42, 180, 0, 108]
abbrev dktX7_reads_3 : List UInt8 := dkwX7_reads_3 ++ dktX7_reads_4
def dkwX7_reads_2 : List UInt8 := [153, 0, 7, 4, 167, 0, 4, 3, 62, 29, 154, 0, 15, 42, 4, 42, 180, 0, 84, 182, 0, 104]
abbrev dktX7_reads_2 : List UInt8 := dkwX7_reads_2 ++ dktX7_reads_3
def dkwX7_reads_1 : List UInt8 := [42, 42, 180, 0, 84, 182, 0, 87, 61, 28, 16, 103, 159, 0, 13, 28, 16, 115, 160, 0, 11, 27]
abbrev dktX7_reads_1 : List UInt8 := dkwX7_reads_1 ++ dktX7_reads_2
def dkwX7_reads_0 : List UInt8 := [3, 60, 42, 182, 0, 101, 42, 182, 0, 94, 153, 0, 152, 42, 180, 0, 84, 42, 180, 0, 80, 162, 0, 141]
abbrev dktX7_reads_0 : List UInt8 := dkwX7_reads_0 ++ dktX7_reads_1
theorem dksX7_reads_0 : cX7_reads.data.toList.drop 0 = dktX7_reads_0 := by decide +kernel
theorem dksX7_reads_1 : cX7_reads.data.toList.drop 24 = dktX7_reads_1 := dk_seg dksX7_reads_0 24 rfl rfl
theorem dksX7_reads_2 : cX7_reads.data.toList.drop 46 = dktX7_reads_2 := dk_seg dksX7_reads_1 22 rfl rfl
theorem dksX7_reads_3 : cX7_reads.data.toList.drop 68 = dktX7_reads_3 := dk_seg dksX7_reads_2 22 rfl rfl
theorem dksX7_reads_4 : cX7_reads.data.toList.drop 91 = dktX7_reads_4 := dk_seg dksX7_reads_3 23 rfl rfl
theorem dksX7_reads_5 : cX7_reads.data.toList.drop 115 = dktX7_reads_5 := dk_seg dksX7_reads_4 24 rfl rfl
theorem dksX7_reads_6 : cX7_reads.data.toList.drop 137 = dktX7_reads_6 := dk_seg dksX7_reads_5 22 rfl rfl
theorem dksX7_reads_7 : cX7_reads.data.toList.drop 159 = dktX7_reads_7 := dk_seg dksX7_reads_6 22 rfl rfl
theorem dX7_reads_0 : decode cX7_reads 0 = .ok (.iconst 0, 1) := dk_3 (dk_at dksX7_reads_0 0 rfl rfl)
theorem dX7_reads_1 : decode cX7_reads 1 = .ok (.istore_n 1, 1) := dk_60 (dk_at dksX7_reads_0 1 rfl rfl)
theorem dX7_reads_2 : decode cX7_reads 2 = .ok (.aload_n 0, 1) := dk_42 (dk_at dksX7_reads_0 2 rfl rfl)
theorem dX7_reads_3 : decode cX7_reads 3 = .ok (.invokevirtual 101, 3) := dk_182 0 101 (dk_at dksX7_reads_0 3 rfl rfl)
theorem dX7_reads_6 : decode cX7_reads 6 = .ok (.aload_n 0, 1) := dk_42 (dk_at dksX7_reads_0 6 rfl rfl)
theorem dX7_reads_7 : decode cX7_reads 7 = .ok (.invokevirtual 94, 3) := dk_182 0 94 (dk_at dksX7_reads_0 7 rfl rfl)
theorem dX7_reads_10 : decode cX7_reads 10 = .ok (.ifCond .eq 152, 3) := dk_153 0 152 (dk_at dksX7_reads_0 10 rfl rfl)
theorem dX7_reads_13 : decode cX7_reads 13 = .ok (.aload_n 0, 1) := dk_42 (dk_at dksX7_reads_0 13 rfl rfl)
theorem dX7_reads_14 : decode cX7_reads 14 = .ok (.getfield 84, 3) := dk_180 0 84 (dk_at dksX7_reads_0 14 rfl rfl)
theorem dX7_reads_17 : decode cX7_reads 17 = .ok (.aload_n 0, 1) := dk_42 (dk_at dksX7_reads_0 17 rfl rfl)
theorem dX7_reads_18 : decode cX7_reads 18 = .ok (.getfield 80, 3) := dk_180 0 80 (dk_at dksX7_reads_0 18 rfl rfl)
theorem dX7_reads_21 : decode cX7_reads 21 = .ok (.if_icmp .ge 141, 3) := dk_162 0 141 (dk_at dksX7_reads_0 21 rfl rfl)
theorem dX7_reads_24 : decode cX7_reads 24 = .ok (.aload_n 0, 1) := dk_42 (dk_at dksX7_reads_1 0 rfl rfl)
theorem dX7_reads_25 : decode cX7_reads 25 = .ok (.aload_n 0, 1) := dk_42 (dk_at dksX7_reads_1 1 rfl rfl)
theorem dX7_reads_26 : decode cX7_reads 26 = .ok (.getfield 84, 3) := dk_180 0 84 (dk_at dksX7_reads_1 2 rfl rfl)
theorem dX7_reads_29 : decode cX7_reads 29 = .ok (.invokevirtual 87, 3) := dk_182 0 87 (dk_at dksX7_reads_1 5 rfl rfl)
theorem dX7_reads_32 : decode cX7_reads 32 = .ok (.istore_n 2, 1) := dk_61 (dk_at dksX7_reads_1 8 rfl rfl)
theorem dX7_reads_33 : decode cX7_reads 33 = .ok (.iload_n 2, 1) := dk_28 (dk_at dksX7_reads_1 9 rfl rfl)
theorem dX7_reads_34 : decode cX7_reads 34 = .ok (.bipush 103, 2) := dk_16 103 (dk_at dksX7_reads_1 10 rfl rfl)
theorem dX7_reads_36 : decode cX7_reads 36 = .ok (.if_icmp .eq 13, 3) := dk_159 0 13 (dk_at dksX7_reads_1 12 rfl rfl)
theorem dX7_reads_39 : decode cX7_reads 39 = .ok (.iload_n 2, 1) := dk_28 (dk_at dksX7_reads_1 15 rfl rfl)
theorem dX7_reads_40 : decode cX7_reads 40 = .ok (.bipush 115, 2) := dk_16 115 (dk_at dksX7_reads_1 16 rfl rfl)
theorem dX7_reads_42 : decode cX7_reads 42 = .ok (.if_icmp .ne 11, 3) := dk_160 0 11 (dk_at dksX7_reads_1 18 rfl rfl)
theorem dX7_reads_45 : decode cX7_reads 45 = .ok (.iload_n 1, 1) := dk_27 (dk_at dksX7_reads_1 21 rfl rfl)
theorem dX7_reads_46 : decode cX7_reads 46 = .ok (.ifCond .eq 7, 3) := dk_153 0 7 (dk_at dksX7_reads_2 0 rfl rfl)
theorem dX7_reads_49 : decode cX7_reads 49 = .ok (.iconst 1, 1) := dk_4 (dk_at dksX7_reads_2 3 rfl rfl)
theorem dX7_reads_50 : decode cX7_reads 50 = .ok (.goto 4, 3) := dk_167 0 4 (dk_at dksX7_reads_2 4 rfl rfl)
theorem dX7_reads_53 : decode cX7_reads 53 = .ok (.iconst 0, 1) := dk_3 (dk_at dksX7_reads_2 7 rfl rfl)
theorem dX7_reads_54 : decode cX7_reads 54 = .ok (.istore_n 3, 1) := dk_62 (dk_at dksX7_reads_2 8 rfl rfl)
theorem dX7_reads_55 : decode cX7_reads 55 = .ok (.iload_n 3, 1) := dk_29 (dk_at dksX7_reads_2 9 rfl rfl)
theorem dX7_reads_56 : decode cX7_reads 56 = .ok (.ifCond .ne 15, 3) := dk_154 0 15 (dk_at dksX7_reads_2 10 rfl rfl)
theorem dX7_reads_59 : decode cX7_reads 59 = .ok (.aload_n 0, 1) := dk_42 (dk_at dksX7_reads_2 13 rfl rfl)
theorem dX7_reads_60 : decode cX7_reads 60 = .ok (.iconst 1, 1) := dk_4 (dk_at dksX7_reads_2 14 rfl rfl)
theorem dX7_reads_61 : decode cX7_reads 61 = .ok (.aload_n 0, 1) := dk_42 (dk_at dksX7_reads_2 15 rfl rfl)
theorem dX7_reads_62 : decode cX7_reads 62 = .ok (.getfield 84, 3) := dk_180 0 84 (dk_at dksX7_reads_2 16 rfl rfl)
theorem dX7_reads_65 : decode cX7_reads 65 = .ok (.invokevirtual 104, 3) := dk_182 0 104 (dk_at dksX7_reads_2 19 rfl rfl)
theorem dX7_reads_68 : decode cX7_reads 68 = .ok (.goto 91, 3) := dk_167 0 91 (dk_at dksX7_reads_3 0 rfl rfl)
theorem dX7_reads_71 : decode cX7_reads 71 = .ok (.iload_n 2, 1) := dk_28 (dk_at dksX7_reads_3 3 rfl rfl)
theorem dX7_reads_72 : decode cX7_reads 72 = .ok (.bipush 103, 2) := dk_16 103 (dk_at dksX7_reads_3 4 rfl rfl)
theorem dX7_reads_74 : decode cX7_reads 74 = .ok (.if_icmp .ne 7, 3) := dk_160 0 7 (dk_at dksX7_reads_3 6 rfl rfl)
theorem dX7_reads_77 : decode cX7_reads 77 = .ok (.iload_n 1, 1) := dk_27 (dk_at dksX7_reads_3 9 rfl rfl)
theorem dX7_reads_78 : decode cX7_reads 78 = .ok (.ifCond .ne 18, 3) := dk_154 0 18 (dk_at dksX7_reads_3 10 rfl rfl)
theorem dX7_reads_81 : decode cX7_reads 81 = .ok (.iload_n 2, 1) := dk_28 (dk_at dksX7_reads_3 13 rfl rfl)
theorem dX7_reads_82 : decode cX7_reads 82 = .ok (.bipush 115, 2) := dk_16 115 (dk_at dksX7_reads_3 14 rfl rfl)
theorem dX7_reads_84 : decode cX7_reads 84 = .ok (.if_icmp .ne 24, 3) := dk_160 0 24 (dk_at dksX7_reads_3 16 rfl rfl)
theorem dX7_reads_87 : decode cX7_reads 87 = .ok (.aload_n 0, 1) := dk_42 (dk_at dksX7_reads_3 19 rfl rfl)
theorem dX7_reads_88 : decode cX7_reads 88 = .ok (.getfield 108, 3) := dk_180 0 108 (dk_at dksX7_reads_3 20 rfl rfl)
theorem dX7_reads_91 : decode cX7_reads 91 = .ok (.bipush 9, 2) := dk_16 9 (dk_at dksX7_reads_4 0 rfl rfl)
theorem dX7_reads_93 : decode cX7_reads 93 = .ok (.if_icmp .ne 15, 3) := dk_160 0 15 (dk_at dksX7_reads_4 2 rfl rfl)
theorem dX7_reads_96 : decode cX7_reads 96 = .ok (.aload_n 0, 1) := dk_42 (dk_at dksX7_reads_4 5 rfl rfl)
theorem dX7_reads_97 : decode cX7_reads 97 = .ok (.iconst 3, 1) := dk_6 (dk_at dksX7_reads_4 6 rfl rfl)
theorem dX7_reads_98 : decode cX7_reads 98 = .ok (.aload_n 0, 1) := dk_42 (dk_at dksX7_reads_4 7 rfl rfl)
theorem dX7_reads_99 : decode cX7_reads 99 = .ok (.getfield 84, 3) := dk_180 0 84 (dk_at dksX7_reads_4 8 rfl rfl)
theorem dX7_reads_102 : decode cX7_reads 102 = .ok (.invokevirtual 104, 3) := dk_182 0 104 (dk_at dksX7_reads_4 11 rfl rfl)
theorem dX7_reads_105 : decode cX7_reads 105 = .ok (.goto 54, 3) := dk_167 0 54 (dk_at dksX7_reads_4 14 rfl rfl)
theorem dX7_reads_108 : decode cX7_reads 108 = .ok (.aload_n 0, 1) := dk_42 (dk_at dksX7_reads_4 17 rfl rfl)
theorem dX7_reads_109 : decode cX7_reads 109 = .ok (.dup, 1) := dk_89 (dk_at dksX7_reads_4 18 rfl rfl)
theorem dX7_reads_110 : decode cX7_reads 110 = .ok (.getfield 84, 3) := dk_180 0 84 (dk_at dksX7_reads_4 19 rfl rfl)
theorem dX7_reads_113 : decode cX7_reads 113 = .ok (.iconst 1, 1) := dk_4 (dk_at dksX7_reads_4 22 rfl rfl)
theorem dX7_reads_114 : decode cX7_reads 114 = .ok (.iadd, 1) := dk_96 (dk_at dksX7_reads_4 23 rfl rfl)
theorem dX7_reads_115 : decode cX7_reads 115 = .ok (.putfield 84, 3) := dk_181 0 84 (dk_at dksX7_reads_5 0 rfl rfl)
theorem dX7_reads_118 : decode cX7_reads 118 = .ok (.iload_n 2, 1) := dk_28 (dk_at dksX7_reads_5 3 rfl rfl)
theorem dX7_reads_119 : decode cX7_reads 119 = .ok (.bipush 103, 2) := dk_16 103 (dk_at dksX7_reads_5 4 rfl rfl)
theorem dX7_reads_121 : decode cX7_reads 121 = .ok (.if_icmp .ne 19, 3) := dk_160 0 19 (dk_at dksX7_reads_5 6 rfl rfl)
theorem dX7_reads_124 : decode cX7_reads 124 = .ok (.iconst 1, 1) := dk_4 (dk_at dksX7_reads_5 9 rfl rfl)
theorem dX7_reads_125 : decode cX7_reads 125 = .ok (.istore_n 1, 1) := dk_60 (dk_at dksX7_reads_5 10 rfl rfl)
theorem dX7_reads_126 : decode cX7_reads 126 = .ok (.aload_n 0, 1) := dk_42 (dk_at dksX7_reads_5 11 rfl rfl)
theorem dX7_reads_127 : decode cX7_reads 127 = .ok (.aload_n 0, 1) := dk_42 (dk_at dksX7_reads_5 12 rfl rfl)
theorem dX7_reads_128 : decode cX7_reads 128 = .ok (.iconst 0, 1) := dk_3 (dk_at dksX7_reads_5 13 rfl rfl)
theorem dX7_reads_129 : decode cX7_reads 129 = .ok (.bipush 9, 2) := dk_16 9 (dk_at dksX7_reads_5 14 rfl rfl)
theorem dX7_reads_131 : decode cX7_reads 131 = .ok (.invokevirtual 111, 3) := dk_182 0 111 (dk_at dksX7_reads_5 16 rfl rfl)
theorem dX7_reads_134 : decode cX7_reads 134 = .ok (.putfield 115, 3) := dk_181 0 115 (dk_at dksX7_reads_5 19 rfl rfl)
theorem dX7_reads_137 : decode cX7_reads 137 = .ok (.goto 7, 3) := dk_167 0 7 (dk_at dksX7_reads_6 0 rfl rfl)
theorem dX7_reads_140 : decode cX7_reads 140 = .ok (.aload_n 0, 1) := dk_42 (dk_at dksX7_reads_6 3 rfl rfl)
theorem dX7_reads_141 : decode cX7_reads 141 = .ok (.invokevirtual 118, 3) := dk_182 0 118 (dk_at dksX7_reads_6 4 rfl rfl)
theorem dX7_reads_144 : decode cX7_reads 144 = .ok (.aload_n 0, 1) := dk_42 (dk_at dksX7_reads_6 7 rfl rfl)
theorem dX7_reads_145 : decode cX7_reads 145 = .ok (.invokevirtual 94, 3) := dk_182 0 94 (dk_at dksX7_reads_6 8 rfl rfl)
theorem dX7_reads_148 : decode cX7_reads 148 = .ok (.ifCond .eq 11, 3) := dk_153 0 11 (dk_at dksX7_reads_6 11 rfl rfl)
theorem dX7_reads_151 : decode cX7_reads 151 = .ok (.aload_n 0, 1) := dk_42 (dk_at dksX7_reads_6 14 rfl rfl)
theorem dX7_reads_152 : decode cX7_reads 152 = .ok (.invokevirtual 121, 3) := dk_182 0 121 (dk_at dksX7_reads_6 15 rfl rfl)
theorem dX7_reads_155 : decode cX7_reads 155 = .ok (.aload_n 0, 1) := dk_42 (dk_at dksX7_reads_6 18 rfl rfl)
theorem dX7_reads_156 : decode cX7_reads 156 = .ok (.invokevirtual 101, 3) := dk_182 0 101 (dk_at dksX7_reads_6 19 rfl rfl)
theorem dX7_reads_159 : decode cX7_reads 159 = .ok (.goto (-153), 3) := dk_167 255 103 (dk_at dksX7_reads_7 0 rfl rfl)
theorem dX7_reads_162 : decode cX7_reads 162 = .ok (.return_, 1) := dk_177 (dk_at dksX7_reads_7 3 rfl rfl)
abbrev cX7_blanks : ByteArray := prog_12_method_8_code
def yX7_blanks : MethodName := ⟨RX7, "blanks", "()V"⟩
def dkwX7_blanks_1 : List UInt8 := [167, 255, 233, 177]
abbrev dktX7_blanks_1 : List UInt8 := dkwX7_blanks_1 ++ []
def dkwX7_blanks_0 : List UInt8 := [42, 42, 180, 0, 84, 182, 0, 87, 16, 32, 160, 0, 16, 42, 89, 180, 0, 84, 4, 96, 181, 0, 84]
abbrev dktX7_blanks_0 : List UInt8 := dkwX7_blanks_0 ++ dktX7_blanks_1
theorem dksX7_blanks_0 : cX7_blanks.data.toList.drop 0 = dktX7_blanks_0 := by decide +kernel
theorem dksX7_blanks_1 : cX7_blanks.data.toList.drop 23 = dktX7_blanks_1 := dk_seg dksX7_blanks_0 23 rfl rfl
theorem dX7_blanks_0 : decode cX7_blanks 0 = .ok (.aload_n 0, 1) := dk_42 (dk_at dksX7_blanks_0 0 rfl rfl)
theorem dX7_blanks_1 : decode cX7_blanks 1 = .ok (.aload_n 0, 1) := dk_42 (dk_at dksX7_blanks_0 1 rfl rfl)
theorem dX7_blanks_2 : decode cX7_blanks 2 = .ok (.getfield 84, 3) := dk_180 0 84 (dk_at dksX7_blanks_0 2 rfl rfl)
theorem dX7_blanks_5 : decode cX7_blanks 5 = .ok (.invokevirtual 87, 3) := dk_182 0 87 (dk_at dksX7_blanks_0 5 rfl rfl)
theorem dX7_blanks_8 : decode cX7_blanks 8 = .ok (.bipush 32, 2) := dk_16 32 (dk_at dksX7_blanks_0 8 rfl rfl)
theorem dX7_blanks_10 : decode cX7_blanks 10 = .ok (.if_icmp .ne 16, 3) := dk_160 0 16 (dk_at dksX7_blanks_0 10 rfl rfl)
theorem dX7_blanks_13 : decode cX7_blanks 13 = .ok (.aload_n 0, 1) := dk_42 (dk_at dksX7_blanks_0 13 rfl rfl)
theorem dX7_blanks_14 : decode cX7_blanks 14 = .ok (.dup, 1) := dk_89 (dk_at dksX7_blanks_0 14 rfl rfl)
theorem dX7_blanks_15 : decode cX7_blanks 15 = .ok (.getfield 84, 3) := dk_180 0 84 (dk_at dksX7_blanks_0 15 rfl rfl)
theorem dX7_blanks_18 : decode cX7_blanks 18 = .ok (.iconst 1, 1) := dk_4 (dk_at dksX7_blanks_0 18 rfl rfl)
theorem dX7_blanks_19 : decode cX7_blanks 19 = .ok (.iadd, 1) := dk_96 (dk_at dksX7_blanks_0 19 rfl rfl)
theorem dX7_blanks_20 : decode cX7_blanks 20 = .ok (.putfield 84, 3) := dk_181 0 84 (dk_at dksX7_blanks_0 20 rfl rfl)
theorem dX7_blanks_23 : decode cX7_blanks 23 = .ok (.goto (-23), 3) := dk_167 255 233 (dk_at dksX7_blanks_1 0 rfl rfl)
theorem dX7_blanks_26 : decode cX7_blanks 26 = .ok (.return_, 1) := dk_177 (dk_at dksX7_blanks_1 3 rfl rfl)
abbrev cX7_letterAt : ByteArray := prog_12_method_7_code
def yX7_letterAt : MethodName := ⟨RX7, "letterAt", "(I)I"⟩
def dkwX7_letterAt_0 : List UInt8 := [27, 42, 180, 0, 80, 162, 0, 12, 42, 180, 0, 7, 27, 46, 167, 0, 4, 2, 172]
abbrev dktX7_letterAt_0 : List UInt8 := dkwX7_letterAt_0 ++ []
theorem dksX7_letterAt_0 : cX7_letterAt.data.toList.drop 0 = dktX7_letterAt_0 := by decide +kernel
theorem dX7_letterAt_0 : decode cX7_letterAt 0 = .ok (.iload_n 1, 1) := dk_27 (dk_at dksX7_letterAt_0 0 rfl rfl)
theorem dX7_letterAt_1 : decode cX7_letterAt 1 = .ok (.aload_n 0, 1) := dk_42 (dk_at dksX7_letterAt_0 1 rfl rfl)
theorem dX7_letterAt_2 : decode cX7_letterAt 2 = .ok (.getfield 80, 3) := dk_180 0 80 (dk_at dksX7_letterAt_0 2 rfl rfl)
theorem dX7_letterAt_5 : decode cX7_letterAt 5 = .ok (.if_icmp .ge 12, 3) := dk_162 0 12 (dk_at dksX7_letterAt_0 5 rfl rfl)
theorem dX7_letterAt_8 : decode cX7_letterAt 8 = .ok (.aload_n 0, 1) := dk_42 (dk_at dksX7_letterAt_0 8 rfl rfl)
theorem dX7_letterAt_9 : decode cX7_letterAt 9 = .ok (.getfield 7, 3) := dk_180 0 7 (dk_at dksX7_letterAt_0 9 rfl rfl)
theorem dX7_letterAt_12 : decode cX7_letterAt 12 = .ok (.iload_n 1, 1) := dk_27 (dk_at dksX7_letterAt_0 12 rfl rfl)
theorem dX7_letterAt_13 : decode cX7_letterAt 13 = .ok (.iaload, 1) := dk_46 (dk_at dksX7_letterAt_0 13 rfl rfl)
theorem dX7_letterAt_14 : decode cX7_letterAt 14 = .ok (.goto 4, 3) := dk_167 0 4 (dk_at dksX7_letterAt_0 14 rfl rfl)
theorem dX7_letterAt_17 : decode cX7_letterAt 17 = .ok (.iconst (-1), 1) := dk_2 (dk_at dksX7_letterAt_0 17 rfl rfl)
theorem dX7_letterAt_18 : decode cX7_letterAt 18 = .ok (.ireturn, 1) := dk_172 (dk_at dksX7_letterAt_0 18 rfl rfl)
abbrev cX7_isWell : ByteArray := prog_12_method_9_code
def yX7_isWell : MethodName := ⟨RX7, "isWell", "()Z"⟩
def dkwX7_isWell_0 : List UInt8 := [42, 180, 0, 91, 154, 0, 7, 4, 167, 0, 4, 3, 172]
abbrev dktX7_isWell_0 : List UInt8 := dkwX7_isWell_0 ++ []
theorem dksX7_isWell_0 : cX7_isWell.data.toList.drop 0 = dktX7_isWell_0 := by decide +kernel
theorem dX7_isWell_0 : decode cX7_isWell 0 = .ok (.aload_n 0, 1) := dk_42 (dk_at dksX7_isWell_0 0 rfl rfl)
theorem dX7_isWell_1 : decode cX7_isWell 1 = .ok (.getfield 91, 3) := dk_180 0 91 (dk_at dksX7_isWell_0 1 rfl rfl)
theorem dX7_isWell_4 : decode cX7_isWell 4 = .ok (.ifCond .ne 7, 3) := dk_154 0 7 (dk_at dksX7_isWell_0 4 rfl rfl)
theorem dX7_isWell_7 : decode cX7_isWell 7 = .ok (.iconst 1, 1) := dk_4 (dk_at dksX7_isWell_0 7 rfl rfl)
theorem dX7_isWell_8 : decode cX7_isWell 8 = .ok (.goto 4, 3) := dk_167 0 4 (dk_at dksX7_isWell_0 8 rfl rfl)
theorem dX7_isWell_11 : decode cX7_isWell 11 = .ok (.iconst 0, 1) := dk_3 (dk_at dksX7_isWell_0 11 rfl rfl)
theorem dX7_isWell_12 : decode cX7_isWell 12 = .ok (.ireturn, 1) := dk_172 (dk_at dksX7_isWell_0 12 rfl rfl)
abbrev cX7_faulty : ByteArray := prog_12_method_10_code
def yX7_faulty : MethodName := ⟨RX7, "faulty", "(II)V"⟩
def dkwX7_faulty_0 : List UInt8 := [42, 182, 0, 94, 153, 0, 13, 42, 27, 181, 0, 91, 42, 28, 181, 0, 98, 177]
abbrev dktX7_faulty_0 : List UInt8 := dkwX7_faulty_0 ++ []
theorem dksX7_faulty_0 : cX7_faulty.data.toList.drop 0 = dktX7_faulty_0 := by decide +kernel
theorem dX7_faulty_0 : decode cX7_faulty 0 = .ok (.aload_n 0, 1) := dk_42 (dk_at dksX7_faulty_0 0 rfl rfl)
theorem dX7_faulty_1 : decode cX7_faulty 1 = .ok (.invokevirtual 94, 3) := dk_182 0 94 (dk_at dksX7_faulty_0 1 rfl rfl)
theorem dX7_faulty_4 : decode cX7_faulty 4 = .ok (.ifCond .eq 13, 3) := dk_153 0 13 (dk_at dksX7_faulty_0 4 rfl rfl)
theorem dX7_faulty_7 : decode cX7_faulty 7 = .ok (.aload_n 0, 1) := dk_42 (dk_at dksX7_faulty_0 7 rfl rfl)
theorem dX7_faulty_8 : decode cX7_faulty 8 = .ok (.iload_n 1, 1) := dk_27 (dk_at dksX7_faulty_0 8 rfl rfl)
theorem dX7_faulty_9 : decode cX7_faulty 9 = .ok (.putfield 91, 3) := dk_181 0 91 (dk_at dksX7_faulty_0 9 rfl rfl)
theorem dX7_faulty_12 : decode cX7_faulty 12 = .ok (.aload_n 0, 1) := dk_42 (dk_at dksX7_faulty_0 12 rfl rfl)
theorem dX7_faulty_13 : decode cX7_faulty 13 = .ok (.iload_n 2, 1) := dk_28 (dk_at dksX7_faulty_0 13 rfl rfl)
theorem dX7_faulty_14 : decode cX7_faulty 14 = .ok (.putfield 98, 3) := dk_181 0 98 (dk_at dksX7_faulty_0 14 rfl rfl)
theorem dX7_faulty_17 : decode cX7_faulty 17 = .ok (.return_, 1) := dk_177 (dk_at dksX7_faulty_0 17 rfl rfl)
abbrev cX7_due : ByteArray := prog_12_method_11_code
def yX7_due : MethodName := ⟨RX7, "due", "(II)I"⟩
def dkwX7_due_5 : List UInt8 := [172]
abbrev dktX7_due_5 : List UInt8 := dkwX7_due_5 ++ []
def dkwX7_due_4 : List UInt8 := [29, 100, 6, 163, 0, 13, 21, 4, 27, 28, 184, 0, 75, 154, 0, 9, 42, 5, 29, 182, 0, 104, 21, 4]
abbrev dktX7_due_4 : List UInt8 := dkwX7_due_4 ++ dktX7_due_5
def dkwX7_due_3 : List UInt8 := [167, 255, 196, 42, 180, 0, 84, 29, 160, 0, 12, 42, 4, 29, 182, 0, 104, 167, 0, 29, 42, 180, 0, 84]
abbrev dktX7_due_3 : List UInt8 := dkwX7_due_3 ++ dktX7_due_4
def dkwX7_due_2 : List UInt8 := [42, 42, 180, 0, 84, 182, 0, 87, 96, 16, 48, 100, 54, 4, 42, 89, 180, 0, 84, 4, 96, 181, 0, 84]
abbrev dktX7_due_2 : List UInt8 := dkwX7_due_2 ++ dktX7_due_3
def dkwX7_due_1 : List UInt8 := [184, 0, 75, 153, 0, 48, 21, 4, 17, 39, 15, 164, 0, 8, 21, 4, 167, 0, 20, 16, 10, 21, 4, 104]
abbrev dktX7_due_1 : List UInt8 := dkwX7_due_1 ++ dktX7_due_2
def dkwX7_due_0 : List UInt8 := [42, 182, 0, 101, 42, 180, 0, 84, 62, 3, 54, 4, 42, 42, 180, 0, 84, 182, 0, 87, 16, 48, 16, 57]
abbrev dktX7_due_0 : List UInt8 := dkwX7_due_0 ++ dktX7_due_1
theorem dksX7_due_0 : cX7_due.data.toList.drop 0 = dktX7_due_0 := by decide +kernel
theorem dksX7_due_1 : cX7_due.data.toList.drop 24 = dktX7_due_1 := dk_seg dksX7_due_0 24 rfl rfl
theorem dksX7_due_2 : cX7_due.data.toList.drop 48 = dktX7_due_2 := dk_seg dksX7_due_1 24 rfl rfl
theorem dksX7_due_3 : cX7_due.data.toList.drop 72 = dktX7_due_3 := dk_seg dksX7_due_2 24 rfl rfl
theorem dksX7_due_4 : cX7_due.data.toList.drop 96 = dktX7_due_4 := dk_seg dksX7_due_3 24 rfl rfl
theorem dksX7_due_5 : cX7_due.data.toList.drop 120 = dktX7_due_5 := dk_seg dksX7_due_4 24 rfl rfl
theorem dX7_due_0 : decode cX7_due 0 = .ok (.aload_n 0, 1) := dk_42 (dk_at dksX7_due_0 0 rfl rfl)
theorem dX7_due_1 : decode cX7_due 1 = .ok (.invokevirtual 101, 3) := dk_182 0 101 (dk_at dksX7_due_0 1 rfl rfl)
theorem dX7_due_4 : decode cX7_due 4 = .ok (.aload_n 0, 1) := dk_42 (dk_at dksX7_due_0 4 rfl rfl)
theorem dX7_due_5 : decode cX7_due 5 = .ok (.getfield 84, 3) := dk_180 0 84 (dk_at dksX7_due_0 5 rfl rfl)
theorem dX7_due_8 : decode cX7_due 8 = .ok (.istore_n 3, 1) := dk_62 (dk_at dksX7_due_0 8 rfl rfl)
theorem dX7_due_9 : decode cX7_due 9 = .ok (.iconst 0, 1) := dk_3 (dk_at dksX7_due_0 9 rfl rfl)
theorem dX7_due_10 : decode cX7_due 10 = .ok (.istore 4, 2) := dk_54 4 (dk_at dksX7_due_0 10 rfl rfl)
theorem dX7_due_12 : decode cX7_due 12 = .ok (.aload_n 0, 1) := dk_42 (dk_at dksX7_due_0 12 rfl rfl)
theorem dX7_due_13 : decode cX7_due 13 = .ok (.aload_n 0, 1) := dk_42 (dk_at dksX7_due_0 13 rfl rfl)
theorem dX7_due_14 : decode cX7_due 14 = .ok (.getfield 84, 3) := dk_180 0 84 (dk_at dksX7_due_0 14 rfl rfl)
theorem dX7_due_17 : decode cX7_due 17 = .ok (.invokevirtual 87, 3) := dk_182 0 87 (dk_at dksX7_due_0 17 rfl rfl)
theorem dX7_due_20 : decode cX7_due 20 = .ok (.bipush 48, 2) := dk_16 48 (dk_at dksX7_due_0 20 rfl rfl)
theorem dX7_due_22 : decode cX7_due 22 = .ok (.bipush 57, 2) := dk_16 57 (dk_at dksX7_due_0 22 rfl rfl)
theorem dX7_due_24 : decode cX7_due 24 = .ok (.invokestatic 75, 3) := dk_184 0 75 (dk_at dksX7_due_1 0 rfl rfl)
theorem dX7_due_27 : decode cX7_due 27 = .ok (.ifCond .eq 48, 3) := dk_153 0 48 (dk_at dksX7_due_1 3 rfl rfl)
theorem dX7_due_30 : decode cX7_due 30 = .ok (.iload 4, 2) := dk_21 4 (dk_at dksX7_due_1 6 rfl rfl)
theorem dX7_due_32 : decode cX7_due 32 = .ok (.sipush 9999, 3) := dk_17 39 15 (dk_at dksX7_due_1 8 rfl rfl)
theorem dX7_due_35 : decode cX7_due 35 = .ok (.if_icmp .le 8, 3) := dk_164 0 8 (dk_at dksX7_due_1 11 rfl rfl)
theorem dX7_due_38 : decode cX7_due 38 = .ok (.iload 4, 2) := dk_21 4 (dk_at dksX7_due_1 14 rfl rfl)
theorem dX7_due_40 : decode cX7_due 40 = .ok (.goto 20, 3) := dk_167 0 20 (dk_at dksX7_due_1 16 rfl rfl)
theorem dX7_due_43 : decode cX7_due 43 = .ok (.bipush 10, 2) := dk_16 10 (dk_at dksX7_due_1 19 rfl rfl)
theorem dX7_due_45 : decode cX7_due 45 = .ok (.iload 4, 2) := dk_21 4 (dk_at dksX7_due_1 21 rfl rfl)
theorem dX7_due_47 : decode cX7_due 47 = .ok (.imul, 1) := dk_104 (dk_at dksX7_due_1 23 rfl rfl)
theorem dX7_due_48 : decode cX7_due 48 = .ok (.aload_n 0, 1) := dk_42 (dk_at dksX7_due_2 0 rfl rfl)
theorem dX7_due_49 : decode cX7_due 49 = .ok (.aload_n 0, 1) := dk_42 (dk_at dksX7_due_2 1 rfl rfl)
theorem dX7_due_50 : decode cX7_due 50 = .ok (.getfield 84, 3) := dk_180 0 84 (dk_at dksX7_due_2 2 rfl rfl)
theorem dX7_due_53 : decode cX7_due 53 = .ok (.invokevirtual 87, 3) := dk_182 0 87 (dk_at dksX7_due_2 5 rfl rfl)
theorem dX7_due_56 : decode cX7_due 56 = .ok (.iadd, 1) := dk_96 (dk_at dksX7_due_2 8 rfl rfl)
theorem dX7_due_57 : decode cX7_due 57 = .ok (.bipush 48, 2) := dk_16 48 (dk_at dksX7_due_2 9 rfl rfl)
theorem dX7_due_59 : decode cX7_due 59 = .ok (.isub, 1) := dk_100 (dk_at dksX7_due_2 11 rfl rfl)
theorem dX7_due_60 : decode cX7_due 60 = .ok (.istore 4, 2) := dk_54 4 (dk_at dksX7_due_2 12 rfl rfl)
theorem dX7_due_62 : decode cX7_due 62 = .ok (.aload_n 0, 1) := dk_42 (dk_at dksX7_due_2 14 rfl rfl)
theorem dX7_due_63 : decode cX7_due 63 = .ok (.dup, 1) := dk_89 (dk_at dksX7_due_2 15 rfl rfl)
theorem dX7_due_64 : decode cX7_due 64 = .ok (.getfield 84, 3) := dk_180 0 84 (dk_at dksX7_due_2 16 rfl rfl)
theorem dX7_due_67 : decode cX7_due 67 = .ok (.iconst 1, 1) := dk_4 (dk_at dksX7_due_2 19 rfl rfl)
theorem dX7_due_68 : decode cX7_due 68 = .ok (.iadd, 1) := dk_96 (dk_at dksX7_due_2 20 rfl rfl)
theorem dX7_due_69 : decode cX7_due 69 = .ok (.putfield 84, 3) := dk_181 0 84 (dk_at dksX7_due_2 21 rfl rfl)
theorem dX7_due_72 : decode cX7_due 72 = .ok (.goto (-60), 3) := dk_167 255 196 (dk_at dksX7_due_3 0 rfl rfl)
theorem dX7_due_75 : decode cX7_due 75 = .ok (.aload_n 0, 1) := dk_42 (dk_at dksX7_due_3 3 rfl rfl)
theorem dX7_due_76 : decode cX7_due 76 = .ok (.getfield 84, 3) := dk_180 0 84 (dk_at dksX7_due_3 4 rfl rfl)
theorem dX7_due_79 : decode cX7_due 79 = .ok (.iload_n 3, 1) := dk_29 (dk_at dksX7_due_3 7 rfl rfl)
theorem dX7_due_80 : decode cX7_due 80 = .ok (.if_icmp .ne 12, 3) := dk_160 0 12 (dk_at dksX7_due_3 8 rfl rfl)
theorem dX7_due_83 : decode cX7_due 83 = .ok (.aload_n 0, 1) := dk_42 (dk_at dksX7_due_3 11 rfl rfl)
theorem dX7_due_84 : decode cX7_due 84 = .ok (.iconst 1, 1) := dk_4 (dk_at dksX7_due_3 12 rfl rfl)
theorem dX7_due_85 : decode cX7_due 85 = .ok (.iload_n 3, 1) := dk_29 (dk_at dksX7_due_3 13 rfl rfl)
theorem dX7_due_86 : decode cX7_due 86 = .ok (.invokevirtual 104, 3) := dk_182 0 104 (dk_at dksX7_due_3 14 rfl rfl)
theorem dX7_due_89 : decode cX7_due 89 = .ok (.goto 29, 3) := dk_167 0 29 (dk_at dksX7_due_3 17 rfl rfl)
theorem dX7_due_92 : decode cX7_due 92 = .ok (.aload_n 0, 1) := dk_42 (dk_at dksX7_due_3 20 rfl rfl)
theorem dX7_due_93 : decode cX7_due 93 = .ok (.getfield 84, 3) := dk_180 0 84 (dk_at dksX7_due_3 21 rfl rfl)
theorem dX7_due_96 : decode cX7_due 96 = .ok (.iload_n 3, 1) := dk_29 (dk_at dksX7_due_4 0 rfl rfl)
theorem dX7_due_97 : decode cX7_due 97 = .ok (.isub, 1) := dk_100 (dk_at dksX7_due_4 1 rfl rfl)
theorem dX7_due_98 : decode cX7_due 98 = .ok (.iconst 3, 1) := dk_6 (dk_at dksX7_due_4 2 rfl rfl)
theorem dX7_due_99 : decode cX7_due 99 = .ok (.if_icmp .gt 13, 3) := dk_163 0 13 (dk_at dksX7_due_4 3 rfl rfl)
theorem dX7_due_102 : decode cX7_due 102 = .ok (.iload 4, 2) := dk_21 4 (dk_at dksX7_due_4 6 rfl rfl)
theorem dX7_due_104 : decode cX7_due 104 = .ok (.iload_n 1, 1) := dk_27 (dk_at dksX7_due_4 8 rfl rfl)
theorem dX7_due_105 : decode cX7_due 105 = .ok (.iload_n 2, 1) := dk_28 (dk_at dksX7_due_4 9 rfl rfl)
theorem dX7_due_106 : decode cX7_due 106 = .ok (.invokestatic 75, 3) := dk_184 0 75 (dk_at dksX7_due_4 10 rfl rfl)
theorem dX7_due_109 : decode cX7_due 109 = .ok (.ifCond .ne 9, 3) := dk_154 0 9 (dk_at dksX7_due_4 13 rfl rfl)
theorem dX7_due_112 : decode cX7_due 112 = .ok (.aload_n 0, 1) := dk_42 (dk_at dksX7_due_4 16 rfl rfl)
theorem dX7_due_113 : decode cX7_due 113 = .ok (.iconst 2, 1) := dk_5 (dk_at dksX7_due_4 17 rfl rfl)
theorem dX7_due_114 : decode cX7_due 114 = .ok (.iload_n 3, 1) := dk_29 (dk_at dksX7_due_4 18 rfl rfl)
theorem dX7_due_115 : decode cX7_due 115 = .ok (.invokevirtual 104, 3) := dk_182 0 104 (dk_at dksX7_due_4 19 rfl rfl)
theorem dX7_due_118 : decode cX7_due 118 = .ok (.iload 4, 2) := dk_21 4 (dk_at dksX7_due_4 22 rfl rfl)
theorem dX7_due_120 : decode cX7_due 120 = .ok (.ireturn, 1) := dk_172 (dk_at dksX7_due_5 0 rfl rfl)
abbrev cX7_tells : ByteArray := prog_12_method_13_code
def yX7_tells : MethodName := ⟨RX7, "tells", "()V"⟩
def dkwX7_tells_3 : List UInt8 := [181, 0, 108, 177]
abbrev dktX7_tells_3 : List UInt8 := dkwX7_tells_3 ++ []
def dkwX7_tells_2 : List UInt8 := [180, 0, 13, 16, 18, 27, 96, 42, 3, 16, 9, 182, 0, 111, 79, 42, 89, 180, 0, 108, 4, 96]
abbrev dktX7_tells_2 : List UInt8 := dkwX7_tells_2 ++ dktX7_tells_3
def dkwX7_tells_1 : List UInt8 := [42, 180, 0, 13, 16, 9, 27, 96, 42, 4, 16, 20, 182, 0, 111, 79, 42, 182, 0, 94, 153, 0, 19, 42]
abbrev dktX7_tells_1 : List UInt8 := dkwX7_tells_1 ++ dktX7_tells_2
def dkwX7_tells_0 : List UInt8 := [42, 180, 0, 108, 60, 42, 180, 0, 13, 27, 42, 3, 6, 182, 0, 111, 79, 42, 182, 0, 94, 153, 0, 19]
abbrev dktX7_tells_0 : List UInt8 := dkwX7_tells_0 ++ dktX7_tells_1
theorem dksX7_tells_0 : cX7_tells.data.toList.drop 0 = dktX7_tells_0 := by decide +kernel
theorem dksX7_tells_1 : cX7_tells.data.toList.drop 24 = dktX7_tells_1 := dk_seg dksX7_tells_0 24 rfl rfl
theorem dksX7_tells_2 : cX7_tells.data.toList.drop 48 = dktX7_tells_2 := dk_seg dksX7_tells_1 24 rfl rfl
theorem dksX7_tells_3 : cX7_tells.data.toList.drop 70 = dktX7_tells_3 := dk_seg dksX7_tells_2 22 rfl rfl
theorem dX7_tells_0 : decode cX7_tells 0 = .ok (.aload_n 0, 1) := dk_42 (dk_at dksX7_tells_0 0 rfl rfl)
theorem dX7_tells_1 : decode cX7_tells 1 = .ok (.getfield 108, 3) := dk_180 0 108 (dk_at dksX7_tells_0 1 rfl rfl)
theorem dX7_tells_4 : decode cX7_tells 4 = .ok (.istore_n 1, 1) := dk_60 (dk_at dksX7_tells_0 4 rfl rfl)
theorem dX7_tells_5 : decode cX7_tells 5 = .ok (.aload_n 0, 1) := dk_42 (dk_at dksX7_tells_0 5 rfl rfl)
theorem dX7_tells_6 : decode cX7_tells 6 = .ok (.getfield 13, 3) := dk_180 0 13 (dk_at dksX7_tells_0 6 rfl rfl)
theorem dX7_tells_9 : decode cX7_tells 9 = .ok (.iload_n 1, 1) := dk_27 (dk_at dksX7_tells_0 9 rfl rfl)
theorem dX7_tells_10 : decode cX7_tells 10 = .ok (.aload_n 0, 1) := dk_42 (dk_at dksX7_tells_0 10 rfl rfl)
theorem dX7_tells_11 : decode cX7_tells 11 = .ok (.iconst 0, 1) := dk_3 (dk_at dksX7_tells_0 11 rfl rfl)
theorem dX7_tells_12 : decode cX7_tells 12 = .ok (.iconst 3, 1) := dk_6 (dk_at dksX7_tells_0 12 rfl rfl)
theorem dX7_tells_13 : decode cX7_tells 13 = .ok (.invokevirtual 111, 3) := dk_182 0 111 (dk_at dksX7_tells_0 13 rfl rfl)
theorem dX7_tells_16 : decode cX7_tells 16 = .ok (.iastore, 1) := dk_79 (dk_at dksX7_tells_0 16 rfl rfl)
theorem dX7_tells_17 : decode cX7_tells 17 = .ok (.aload_n 0, 1) := dk_42 (dk_at dksX7_tells_0 17 rfl rfl)
theorem dX7_tells_18 : decode cX7_tells 18 = .ok (.invokevirtual 94, 3) := dk_182 0 94 (dk_at dksX7_tells_0 18 rfl rfl)
theorem dX7_tells_21 : decode cX7_tells 21 = .ok (.ifCond .eq 19, 3) := dk_153 0 19 (dk_at dksX7_tells_0 21 rfl rfl)
theorem dX7_tells_24 : decode cX7_tells 24 = .ok (.aload_n 0, 1) := dk_42 (dk_at dksX7_tells_1 0 rfl rfl)
theorem dX7_tells_25 : decode cX7_tells 25 = .ok (.getfield 13, 3) := dk_180 0 13 (dk_at dksX7_tells_1 1 rfl rfl)
theorem dX7_tells_28 : decode cX7_tells 28 = .ok (.bipush 9, 2) := dk_16 9 (dk_at dksX7_tells_1 4 rfl rfl)
theorem dX7_tells_30 : decode cX7_tells 30 = .ok (.iload_n 1, 1) := dk_27 (dk_at dksX7_tells_1 6 rfl rfl)
theorem dX7_tells_31 : decode cX7_tells 31 = .ok (.iadd, 1) := dk_96 (dk_at dksX7_tells_1 7 rfl rfl)
theorem dX7_tells_32 : decode cX7_tells 32 = .ok (.aload_n 0, 1) := dk_42 (dk_at dksX7_tells_1 8 rfl rfl)
theorem dX7_tells_33 : decode cX7_tells 33 = .ok (.iconst 1, 1) := dk_4 (dk_at dksX7_tells_1 9 rfl rfl)
theorem dX7_tells_34 : decode cX7_tells 34 = .ok (.bipush 20, 2) := dk_16 20 (dk_at dksX7_tells_1 10 rfl rfl)
theorem dX7_tells_36 : decode cX7_tells 36 = .ok (.invokevirtual 111, 3) := dk_182 0 111 (dk_at dksX7_tells_1 12 rfl rfl)
theorem dX7_tells_39 : decode cX7_tells 39 = .ok (.iastore, 1) := dk_79 (dk_at dksX7_tells_1 15 rfl rfl)
theorem dX7_tells_40 : decode cX7_tells 40 = .ok (.aload_n 0, 1) := dk_42 (dk_at dksX7_tells_1 16 rfl rfl)
theorem dX7_tells_41 : decode cX7_tells 41 = .ok (.invokevirtual 94, 3) := dk_182 0 94 (dk_at dksX7_tells_1 17 rfl rfl)
theorem dX7_tells_44 : decode cX7_tells 44 = .ok (.ifCond .eq 19, 3) := dk_153 0 19 (dk_at dksX7_tells_1 20 rfl rfl)
theorem dX7_tells_47 : decode cX7_tells 47 = .ok (.aload_n 0, 1) := dk_42 (dk_at dksX7_tells_1 23 rfl rfl)
theorem dX7_tells_48 : decode cX7_tells 48 = .ok (.getfield 13, 3) := dk_180 0 13 (dk_at dksX7_tells_2 0 rfl rfl)
theorem dX7_tells_51 : decode cX7_tells 51 = .ok (.bipush 18, 2) := dk_16 18 (dk_at dksX7_tells_2 3 rfl rfl)
theorem dX7_tells_53 : decode cX7_tells 53 = .ok (.iload_n 1, 1) := dk_27 (dk_at dksX7_tells_2 5 rfl rfl)
theorem dX7_tells_54 : decode cX7_tells 54 = .ok (.iadd, 1) := dk_96 (dk_at dksX7_tells_2 6 rfl rfl)
theorem dX7_tells_55 : decode cX7_tells 55 = .ok (.aload_n 0, 1) := dk_42 (dk_at dksX7_tells_2 7 rfl rfl)
theorem dX7_tells_56 : decode cX7_tells 56 = .ok (.iconst 0, 1) := dk_3 (dk_at dksX7_tells_2 8 rfl rfl)
theorem dX7_tells_57 : decode cX7_tells 57 = .ok (.bipush 9, 2) := dk_16 9 (dk_at dksX7_tells_2 9 rfl rfl)
theorem dX7_tells_59 : decode cX7_tells 59 = .ok (.invokevirtual 111, 3) := dk_182 0 111 (dk_at dksX7_tells_2 11 rfl rfl)
theorem dX7_tells_62 : decode cX7_tells 62 = .ok (.iastore, 1) := dk_79 (dk_at dksX7_tells_2 14 rfl rfl)
theorem dX7_tells_63 : decode cX7_tells 63 = .ok (.aload_n 0, 1) := dk_42 (dk_at dksX7_tells_2 15 rfl rfl)
theorem dX7_tells_64 : decode cX7_tells 64 = .ok (.dup, 1) := dk_89 (dk_at dksX7_tells_2 16 rfl rfl)
theorem dX7_tells_65 : decode cX7_tells 65 = .ok (.getfield 108, 3) := dk_180 0 108 (dk_at dksX7_tells_2 17 rfl rfl)
theorem dX7_tells_68 : decode cX7_tells 68 = .ok (.iconst 1, 1) := dk_4 (dk_at dksX7_tells_2 20 rfl rfl)
theorem dX7_tells_69 : decode cX7_tells 69 = .ok (.iadd, 1) := dk_96 (dk_at dksX7_tells_2 21 rfl rfl)
theorem dX7_tells_70 : decode cX7_tells 70 = .ok (.putfield 108, 3) := dk_181 0 108 (dk_at dksX7_tells_3 0 rfl rfl)
theorem dX7_tells_73 : decode cX7_tells 73 = .ok (.return_, 1) := dk_177 (dk_at dksX7_tells_3 3 rfl rfl)
abbrev cX7_ends : ByteArray := prog_12_method_12_code
def yX7_ends : MethodName := ⟨RX7, "ends", "()V"⟩
def dkwX7_ends_1 : List UInt8 := [182, 0, 104, 42, 89, 180, 0, 84, 4, 96, 181, 0, 84, 177]
abbrev dktX7_ends_1 : List UInt8 := dkwX7_ends_1 ++ []
def dkwX7_ends_0 : List UInt8 := [42, 182, 0, 101, 42, 42, 180, 0, 84, 182, 0, 87, 16, 59, 159, 0, 12, 42, 4, 42, 180, 0, 84]
abbrev dktX7_ends_0 : List UInt8 := dkwX7_ends_0 ++ dktX7_ends_1
theorem dksX7_ends_0 : cX7_ends.data.toList.drop 0 = dktX7_ends_0 := by decide +kernel
theorem dksX7_ends_1 : cX7_ends.data.toList.drop 23 = dktX7_ends_1 := dk_seg dksX7_ends_0 23 rfl rfl
theorem dX7_ends_0 : decode cX7_ends 0 = .ok (.aload_n 0, 1) := dk_42 (dk_at dksX7_ends_0 0 rfl rfl)
theorem dX7_ends_1 : decode cX7_ends 1 = .ok (.invokevirtual 101, 3) := dk_182 0 101 (dk_at dksX7_ends_0 1 rfl rfl)
theorem dX7_ends_4 : decode cX7_ends 4 = .ok (.aload_n 0, 1) := dk_42 (dk_at dksX7_ends_0 4 rfl rfl)
theorem dX7_ends_5 : decode cX7_ends 5 = .ok (.aload_n 0, 1) := dk_42 (dk_at dksX7_ends_0 5 rfl rfl)
theorem dX7_ends_6 : decode cX7_ends 6 = .ok (.getfield 84, 3) := dk_180 0 84 (dk_at dksX7_ends_0 6 rfl rfl)
theorem dX7_ends_9 : decode cX7_ends 9 = .ok (.invokevirtual 87, 3) := dk_182 0 87 (dk_at dksX7_ends_0 9 rfl rfl)
theorem dX7_ends_12 : decode cX7_ends 12 = .ok (.bipush 59, 2) := dk_16 59 (dk_at dksX7_ends_0 12 rfl rfl)
theorem dX7_ends_14 : decode cX7_ends 14 = .ok (.if_icmp .eq 12, 3) := dk_159 0 12 (dk_at dksX7_ends_0 14 rfl rfl)
theorem dX7_ends_17 : decode cX7_ends 17 = .ok (.aload_n 0, 1) := dk_42 (dk_at dksX7_ends_0 17 rfl rfl)
theorem dX7_ends_18 : decode cX7_ends 18 = .ok (.iconst 1, 1) := dk_4 (dk_at dksX7_ends_0 18 rfl rfl)
theorem dX7_ends_19 : decode cX7_ends 19 = .ok (.aload_n 0, 1) := dk_42 (dk_at dksX7_ends_0 19 rfl rfl)
theorem dX7_ends_20 : decode cX7_ends 20 = .ok (.getfield 84, 3) := dk_180 0 84 (dk_at dksX7_ends_0 20 rfl rfl)
theorem dX7_ends_23 : decode cX7_ends 23 = .ok (.invokevirtual 104, 3) := dk_182 0 104 (dk_at dksX7_ends_1 0 rfl rfl)
theorem dX7_ends_26 : decode cX7_ends 26 = .ok (.aload_n 0, 1) := dk_42 (dk_at dksX7_ends_1 3 rfl rfl)
theorem dX7_ends_27 : decode cX7_ends 27 = .ok (.dup, 1) := dk_89 (dk_at dksX7_ends_1 4 rfl rfl)
theorem dX7_ends_28 : decode cX7_ends 28 = .ok (.getfield 84, 3) := dk_180 0 84 (dk_at dksX7_ends_1 5 rfl rfl)
theorem dX7_ends_31 : decode cX7_ends 31 = .ok (.iconst 1, 1) := dk_4 (dk_at dksX7_ends_1 8 rfl rfl)
theorem dX7_ends_32 : decode cX7_ends 32 = .ok (.iadd, 1) := dk_96 (dk_at dksX7_ends_1 9 rfl rfl)
theorem dX7_ends_33 : decode cX7_ends 33 = .ok (.putfield 84, 3) := dk_181 0 84 (dk_at dksX7_ends_1 10 rfl rfl)
theorem dX7_ends_36 : decode cX7_ends 36 = .ok (.return_, 1) := dk_177 (dk_at dksX7_ends_1 13 rfl rfl)
abbrev cX7_settles : ByteArray := prog_12_method_16_code
def yX7_settles : MethodName := ⟨RX7, "settles", "()V"⟩
def dkwX7_settles_9 : List UInt8 := [42, 180, 0, 25, 4, 3, 84, 177]
abbrev dktX7_settles_9 : List UInt8 := dkwX7_settles_9 ++ []
def dkwX7_settles_8 : List UInt8 := [180, 0, 19, 16, 47, 3, 79, 42, 3, 181, 0, 140, 42, 3, 181, 0, 143, 42, 180, 0, 25, 3, 3, 84]
abbrev dktX7_settles_8 : List UInt8 := dkwX7_settles_8 ++ dktX7_settles_9
def dkwX7_settles_7 : List UInt8 := [180, 0, 19, 16, 45, 4, 42, 180, 0, 130, 120, 4, 100, 79, 42, 180, 0, 19, 16, 46, 3, 79, 42]
abbrev dktX7_settles_7 : List UInt8 := dkwX7_settles_7 ++ dktX7_settles_8
def dkwX7_settles_6 : List UInt8 := [153, 0, 15, 42, 180, 0, 13, 16, 18, 27, 96, 46, 167, 0, 4, 3, 79, 132, 1, 1, 167, 255, 132, 42]
abbrev dktX7_settles_6 : List UInt8 := dkwX7_settles_6 ++ dktX7_settles_7
def dkwX7_settles_5 : List UInt8 := [180, 0, 13, 16, 9, 27, 96, 46, 167, 0, 4, 3, 79, 42, 180, 0, 19, 16, 36, 27, 96, 28]
abbrev dktX7_settles_5 : List UInt8 := dkwX7_settles_5 ++ dktX7_settles_6
def dkwX7_settles_4 : List UInt8 := [153, 0, 12, 42, 180, 0, 13, 27, 46, 167, 0, 4, 3, 79, 42, 180, 0, 16, 27, 28, 153, 0, 15, 42]
abbrev dktX7_settles_4 : List UInt8 := dkwX7_settles_4 ++ dktX7_settles_5
def dkwX7_settles_3 : List UInt8 := [27, 96, 3, 79, 42, 180, 0, 19, 16, 18, 27, 96, 2, 79, 42, 180, 0, 19, 16, 27, 27, 96, 28]
abbrev dktX7_settles_3 : List UInt8 := dkwX7_settles_3 ++ dktX7_settles_4
def dkwX7_settles_2 : List UInt8 := [162, 0, 7, 4, 167, 0, 4, 3, 61, 42, 180, 0, 19, 3, 27, 96, 27, 79, 42, 180, 0, 19, 16, 9]
abbrev dktX7_settles_2 : List UInt8 := dkwX7_settles_2 ++ dktX7_settles_3
def dkwX7_settles_1 : List UInt8 := [181, 0, 137, 42, 42, 180, 0, 108, 181, 0, 130, 3, 60, 27, 16, 9, 162, 0, 124, 27, 42, 180, 0, 130]
abbrev dktX7_settles_1 : List UInt8 := dkwX7_settles_1 ++ dktX7_settles_2
def dkwX7_settles_0 : List UInt8 := [42, 42, 180, 0, 115, 2, 159, 0, 7, 4, 167, 0, 4, 3, 181, 0, 133, 42, 42, 180, 0, 115]
abbrev dktX7_settles_0 : List UInt8 := dkwX7_settles_0 ++ dktX7_settles_1
theorem dksX7_settles_0 : cX7_settles.data.toList.drop 0 = dktX7_settles_0 := by decide +kernel
theorem dksX7_settles_1 : cX7_settles.data.toList.drop 22 = dktX7_settles_1 := dk_seg dksX7_settles_0 22 rfl rfl
theorem dksX7_settles_2 : cX7_settles.data.toList.drop 46 = dktX7_settles_2 := dk_seg dksX7_settles_1 24 rfl rfl
theorem dksX7_settles_3 : cX7_settles.data.toList.drop 70 = dktX7_settles_3 := dk_seg dksX7_settles_2 24 rfl rfl
theorem dksX7_settles_4 : cX7_settles.data.toList.drop 93 = dktX7_settles_4 := dk_seg dksX7_settles_3 23 rfl rfl
theorem dksX7_settles_5 : cX7_settles.data.toList.drop 117 = dktX7_settles_5 := dk_seg dksX7_settles_4 24 rfl rfl
theorem dksX7_settles_6 : cX7_settles.data.toList.drop 139 = dktX7_settles_6 := dk_seg dksX7_settles_5 22 rfl rfl
theorem dksX7_settles_7 : cX7_settles.data.toList.drop 163 = dktX7_settles_7 := dk_seg dksX7_settles_6 24 rfl rfl
theorem dksX7_settles_8 : cX7_settles.data.toList.drop 186 = dktX7_settles_8 := dk_seg dksX7_settles_7 23 rfl rfl
theorem dksX7_settles_9 : cX7_settles.data.toList.drop 210 = dktX7_settles_9 := dk_seg dksX7_settles_8 24 rfl rfl
theorem dX7_settles_0 : decode cX7_settles 0 = .ok (.aload_n 0, 1) := dk_42 (dk_at dksX7_settles_0 0 rfl rfl)
theorem dX7_settles_1 : decode cX7_settles 1 = .ok (.aload_n 0, 1) := dk_42 (dk_at dksX7_settles_0 1 rfl rfl)
theorem dX7_settles_2 : decode cX7_settles 2 = .ok (.getfield 115, 3) := dk_180 0 115 (dk_at dksX7_settles_0 2 rfl rfl)
theorem dX7_settles_5 : decode cX7_settles 5 = .ok (.iconst (-1), 1) := dk_2 (dk_at dksX7_settles_0 5 rfl rfl)
theorem dX7_settles_6 : decode cX7_settles 6 = .ok (.if_icmp .eq 7, 3) := dk_159 0 7 (dk_at dksX7_settles_0 6 rfl rfl)
theorem dX7_settles_9 : decode cX7_settles 9 = .ok (.iconst 1, 1) := dk_4 (dk_at dksX7_settles_0 9 rfl rfl)
theorem dX7_settles_10 : decode cX7_settles 10 = .ok (.goto 4, 3) := dk_167 0 4 (dk_at dksX7_settles_0 10 rfl rfl)
theorem dX7_settles_13 : decode cX7_settles 13 = .ok (.iconst 0, 1) := dk_3 (dk_at dksX7_settles_0 13 rfl rfl)
theorem dX7_settles_14 : decode cX7_settles 14 = .ok (.putfield 133, 3) := dk_181 0 133 (dk_at dksX7_settles_0 14 rfl rfl)
theorem dX7_settles_17 : decode cX7_settles 17 = .ok (.aload_n 0, 1) := dk_42 (dk_at dksX7_settles_0 17 rfl rfl)
theorem dX7_settles_18 : decode cX7_settles 18 = .ok (.aload_n 0, 1) := dk_42 (dk_at dksX7_settles_0 18 rfl rfl)
theorem dX7_settles_19 : decode cX7_settles 19 = .ok (.getfield 115, 3) := dk_180 0 115 (dk_at dksX7_settles_0 19 rfl rfl)
theorem dX7_settles_22 : decode cX7_settles 22 = .ok (.putfield 137, 3) := dk_181 0 137 (dk_at dksX7_settles_1 0 rfl rfl)
theorem dX7_settles_25 : decode cX7_settles 25 = .ok (.aload_n 0, 1) := dk_42 (dk_at dksX7_settles_1 3 rfl rfl)
theorem dX7_settles_26 : decode cX7_settles 26 = .ok (.aload_n 0, 1) := dk_42 (dk_at dksX7_settles_1 4 rfl rfl)
theorem dX7_settles_27 : decode cX7_settles 27 = .ok (.getfield 108, 3) := dk_180 0 108 (dk_at dksX7_settles_1 5 rfl rfl)
theorem dX7_settles_30 : decode cX7_settles 30 = .ok (.putfield 130, 3) := dk_181 0 130 (dk_at dksX7_settles_1 8 rfl rfl)
theorem dX7_settles_33 : decode cX7_settles 33 = .ok (.iconst 0, 1) := dk_3 (dk_at dksX7_settles_1 11 rfl rfl)
theorem dX7_settles_34 : decode cX7_settles 34 = .ok (.istore_n 1, 1) := dk_60 (dk_at dksX7_settles_1 12 rfl rfl)
theorem dX7_settles_35 : decode cX7_settles 35 = .ok (.iload_n 1, 1) := dk_27 (dk_at dksX7_settles_1 13 rfl rfl)
theorem dX7_settles_36 : decode cX7_settles 36 = .ok (.bipush 9, 2) := dk_16 9 (dk_at dksX7_settles_1 14 rfl rfl)
theorem dX7_settles_38 : decode cX7_settles 38 = .ok (.if_icmp .ge 124, 3) := dk_162 0 124 (dk_at dksX7_settles_1 16 rfl rfl)
theorem dX7_settles_41 : decode cX7_settles 41 = .ok (.iload_n 1, 1) := dk_27 (dk_at dksX7_settles_1 19 rfl rfl)
theorem dX7_settles_42 : decode cX7_settles 42 = .ok (.aload_n 0, 1) := dk_42 (dk_at dksX7_settles_1 20 rfl rfl)
theorem dX7_settles_43 : decode cX7_settles 43 = .ok (.getfield 130, 3) := dk_180 0 130 (dk_at dksX7_settles_1 21 rfl rfl)
theorem dX7_settles_46 : decode cX7_settles 46 = .ok (.if_icmp .ge 7, 3) := dk_162 0 7 (dk_at dksX7_settles_2 0 rfl rfl)
theorem dX7_settles_49 : decode cX7_settles 49 = .ok (.iconst 1, 1) := dk_4 (dk_at dksX7_settles_2 3 rfl rfl)
theorem dX7_settles_50 : decode cX7_settles 50 = .ok (.goto 4, 3) := dk_167 0 4 (dk_at dksX7_settles_2 4 rfl rfl)
theorem dX7_settles_53 : decode cX7_settles 53 = .ok (.iconst 0, 1) := dk_3 (dk_at dksX7_settles_2 7 rfl rfl)
theorem dX7_settles_54 : decode cX7_settles 54 = .ok (.istore_n 2, 1) := dk_61 (dk_at dksX7_settles_2 8 rfl rfl)
theorem dX7_settles_55 : decode cX7_settles 55 = .ok (.aload_n 0, 1) := dk_42 (dk_at dksX7_settles_2 9 rfl rfl)
theorem dX7_settles_56 : decode cX7_settles 56 = .ok (.getfield 19, 3) := dk_180 0 19 (dk_at dksX7_settles_2 10 rfl rfl)
theorem dX7_settles_59 : decode cX7_settles 59 = .ok (.iconst 0, 1) := dk_3 (dk_at dksX7_settles_2 13 rfl rfl)
theorem dX7_settles_60 : decode cX7_settles 60 = .ok (.iload_n 1, 1) := dk_27 (dk_at dksX7_settles_2 14 rfl rfl)
theorem dX7_settles_61 : decode cX7_settles 61 = .ok (.iadd, 1) := dk_96 (dk_at dksX7_settles_2 15 rfl rfl)
theorem dX7_settles_62 : decode cX7_settles 62 = .ok (.iload_n 1, 1) := dk_27 (dk_at dksX7_settles_2 16 rfl rfl)
theorem dX7_settles_63 : decode cX7_settles 63 = .ok (.iastore, 1) := dk_79 (dk_at dksX7_settles_2 17 rfl rfl)
theorem dX7_settles_64 : decode cX7_settles 64 = .ok (.aload_n 0, 1) := dk_42 (dk_at dksX7_settles_2 18 rfl rfl)
theorem dX7_settles_65 : decode cX7_settles 65 = .ok (.getfield 19, 3) := dk_180 0 19 (dk_at dksX7_settles_2 19 rfl rfl)
theorem dX7_settles_68 : decode cX7_settles 68 = .ok (.bipush 9, 2) := dk_16 9 (dk_at dksX7_settles_2 22 rfl rfl)
theorem dX7_settles_70 : decode cX7_settles 70 = .ok (.iload_n 1, 1) := dk_27 (dk_at dksX7_settles_3 0 rfl rfl)
theorem dX7_settles_71 : decode cX7_settles 71 = .ok (.iadd, 1) := dk_96 (dk_at dksX7_settles_3 1 rfl rfl)
theorem dX7_settles_72 : decode cX7_settles 72 = .ok (.iconst 0, 1) := dk_3 (dk_at dksX7_settles_3 2 rfl rfl)
theorem dX7_settles_73 : decode cX7_settles 73 = .ok (.iastore, 1) := dk_79 (dk_at dksX7_settles_3 3 rfl rfl)
theorem dX7_settles_74 : decode cX7_settles 74 = .ok (.aload_n 0, 1) := dk_42 (dk_at dksX7_settles_3 4 rfl rfl)
theorem dX7_settles_75 : decode cX7_settles 75 = .ok (.getfield 19, 3) := dk_180 0 19 (dk_at dksX7_settles_3 5 rfl rfl)
theorem dX7_settles_78 : decode cX7_settles 78 = .ok (.bipush 18, 2) := dk_16 18 (dk_at dksX7_settles_3 8 rfl rfl)
theorem dX7_settles_80 : decode cX7_settles 80 = .ok (.iload_n 1, 1) := dk_27 (dk_at dksX7_settles_3 10 rfl rfl)
theorem dX7_settles_81 : decode cX7_settles 81 = .ok (.iadd, 1) := dk_96 (dk_at dksX7_settles_3 11 rfl rfl)
theorem dX7_settles_82 : decode cX7_settles 82 = .ok (.iconst (-1), 1) := dk_2 (dk_at dksX7_settles_3 12 rfl rfl)
theorem dX7_settles_83 : decode cX7_settles 83 = .ok (.iastore, 1) := dk_79 (dk_at dksX7_settles_3 13 rfl rfl)
theorem dX7_settles_84 : decode cX7_settles 84 = .ok (.aload_n 0, 1) := dk_42 (dk_at dksX7_settles_3 14 rfl rfl)
theorem dX7_settles_85 : decode cX7_settles 85 = .ok (.getfield 19, 3) := dk_180 0 19 (dk_at dksX7_settles_3 15 rfl rfl)
theorem dX7_settles_88 : decode cX7_settles 88 = .ok (.bipush 27, 2) := dk_16 27 (dk_at dksX7_settles_3 18 rfl rfl)
theorem dX7_settles_90 : decode cX7_settles 90 = .ok (.iload_n 1, 1) := dk_27 (dk_at dksX7_settles_3 20 rfl rfl)
theorem dX7_settles_91 : decode cX7_settles 91 = .ok (.iadd, 1) := dk_96 (dk_at dksX7_settles_3 21 rfl rfl)
theorem dX7_settles_92 : decode cX7_settles 92 = .ok (.iload_n 2, 1) := dk_28 (dk_at dksX7_settles_3 22 rfl rfl)
theorem dX7_settles_93 : decode cX7_settles 93 = .ok (.ifCond .eq 12, 3) := dk_153 0 12 (dk_at dksX7_settles_4 0 rfl rfl)
theorem dX7_settles_96 : decode cX7_settles 96 = .ok (.aload_n 0, 1) := dk_42 (dk_at dksX7_settles_4 3 rfl rfl)
theorem dX7_settles_97 : decode cX7_settles 97 = .ok (.getfield 13, 3) := dk_180 0 13 (dk_at dksX7_settles_4 4 rfl rfl)
theorem dX7_settles_100 : decode cX7_settles 100 = .ok (.iload_n 1, 1) := dk_27 (dk_at dksX7_settles_4 7 rfl rfl)
theorem dX7_settles_101 : decode cX7_settles 101 = .ok (.iaload, 1) := dk_46 (dk_at dksX7_settles_4 8 rfl rfl)
theorem dX7_settles_102 : decode cX7_settles 102 = .ok (.goto 4, 3) := dk_167 0 4 (dk_at dksX7_settles_4 9 rfl rfl)
theorem dX7_settles_105 : decode cX7_settles 105 = .ok (.iconst 0, 1) := dk_3 (dk_at dksX7_settles_4 12 rfl rfl)
theorem dX7_settles_106 : decode cX7_settles 106 = .ok (.iastore, 1) := dk_79 (dk_at dksX7_settles_4 13 rfl rfl)
theorem dX7_settles_107 : decode cX7_settles 107 = .ok (.aload_n 0, 1) := dk_42 (dk_at dksX7_settles_4 14 rfl rfl)
theorem dX7_settles_108 : decode cX7_settles 108 = .ok (.getfield 16, 3) := dk_180 0 16 (dk_at dksX7_settles_4 15 rfl rfl)
theorem dX7_settles_111 : decode cX7_settles 111 = .ok (.iload_n 1, 1) := dk_27 (dk_at dksX7_settles_4 18 rfl rfl)
theorem dX7_settles_112 : decode cX7_settles 112 = .ok (.iload_n 2, 1) := dk_28 (dk_at dksX7_settles_4 19 rfl rfl)
theorem dX7_settles_113 : decode cX7_settles 113 = .ok (.ifCond .eq 15, 3) := dk_153 0 15 (dk_at dksX7_settles_4 20 rfl rfl)
theorem dX7_settles_116 : decode cX7_settles 116 = .ok (.aload_n 0, 1) := dk_42 (dk_at dksX7_settles_4 23 rfl rfl)
theorem dX7_settles_117 : decode cX7_settles 117 = .ok (.getfield 13, 3) := dk_180 0 13 (dk_at dksX7_settles_5 0 rfl rfl)
theorem dX7_settles_120 : decode cX7_settles 120 = .ok (.bipush 9, 2) := dk_16 9 (dk_at dksX7_settles_5 3 rfl rfl)
theorem dX7_settles_122 : decode cX7_settles 122 = .ok (.iload_n 1, 1) := dk_27 (dk_at dksX7_settles_5 5 rfl rfl)
theorem dX7_settles_123 : decode cX7_settles 123 = .ok (.iadd, 1) := dk_96 (dk_at dksX7_settles_5 6 rfl rfl)
theorem dX7_settles_124 : decode cX7_settles 124 = .ok (.iaload, 1) := dk_46 (dk_at dksX7_settles_5 7 rfl rfl)
theorem dX7_settles_125 : decode cX7_settles 125 = .ok (.goto 4, 3) := dk_167 0 4 (dk_at dksX7_settles_5 8 rfl rfl)
theorem dX7_settles_128 : decode cX7_settles 128 = .ok (.iconst 0, 1) := dk_3 (dk_at dksX7_settles_5 11 rfl rfl)
theorem dX7_settles_129 : decode cX7_settles 129 = .ok (.iastore, 1) := dk_79 (dk_at dksX7_settles_5 12 rfl rfl)
theorem dX7_settles_130 : decode cX7_settles 130 = .ok (.aload_n 0, 1) := dk_42 (dk_at dksX7_settles_5 13 rfl rfl)
theorem dX7_settles_131 : decode cX7_settles 131 = .ok (.getfield 19, 3) := dk_180 0 19 (dk_at dksX7_settles_5 14 rfl rfl)
theorem dX7_settles_134 : decode cX7_settles 134 = .ok (.bipush 36, 2) := dk_16 36 (dk_at dksX7_settles_5 17 rfl rfl)
theorem dX7_settles_136 : decode cX7_settles 136 = .ok (.iload_n 1, 1) := dk_27 (dk_at dksX7_settles_5 19 rfl rfl)
theorem dX7_settles_137 : decode cX7_settles 137 = .ok (.iadd, 1) := dk_96 (dk_at dksX7_settles_5 20 rfl rfl)
theorem dX7_settles_138 : decode cX7_settles 138 = .ok (.iload_n 2, 1) := dk_28 (dk_at dksX7_settles_5 21 rfl rfl)
theorem dX7_settles_139 : decode cX7_settles 139 = .ok (.ifCond .eq 15, 3) := dk_153 0 15 (dk_at dksX7_settles_6 0 rfl rfl)
theorem dX7_settles_142 : decode cX7_settles 142 = .ok (.aload_n 0, 1) := dk_42 (dk_at dksX7_settles_6 3 rfl rfl)
theorem dX7_settles_143 : decode cX7_settles 143 = .ok (.getfield 13, 3) := dk_180 0 13 (dk_at dksX7_settles_6 4 rfl rfl)
theorem dX7_settles_146 : decode cX7_settles 146 = .ok (.bipush 18, 2) := dk_16 18 (dk_at dksX7_settles_6 7 rfl rfl)
theorem dX7_settles_148 : decode cX7_settles 148 = .ok (.iload_n 1, 1) := dk_27 (dk_at dksX7_settles_6 9 rfl rfl)
theorem dX7_settles_149 : decode cX7_settles 149 = .ok (.iadd, 1) := dk_96 (dk_at dksX7_settles_6 10 rfl rfl)
theorem dX7_settles_150 : decode cX7_settles 150 = .ok (.iaload, 1) := dk_46 (dk_at dksX7_settles_6 11 rfl rfl)
theorem dX7_settles_151 : decode cX7_settles 151 = .ok (.goto 4, 3) := dk_167 0 4 (dk_at dksX7_settles_6 12 rfl rfl)
theorem dX7_settles_154 : decode cX7_settles 154 = .ok (.iconst 0, 1) := dk_3 (dk_at dksX7_settles_6 15 rfl rfl)
theorem dX7_settles_155 : decode cX7_settles 155 = .ok (.iastore, 1) := dk_79 (dk_at dksX7_settles_6 16 rfl rfl)
theorem dX7_settles_156 : decode cX7_settles 156 = .ok (.iinc 1 1, 3) := dk_132 1 1 (dk_at dksX7_settles_6 17 rfl rfl)
theorem dX7_settles_159 : decode cX7_settles 159 = .ok (.goto (-124), 3) := dk_167 255 132 (dk_at dksX7_settles_6 20 rfl rfl)
theorem dX7_settles_162 : decode cX7_settles 162 = .ok (.aload_n 0, 1) := dk_42 (dk_at dksX7_settles_6 23 rfl rfl)
theorem dX7_settles_163 : decode cX7_settles 163 = .ok (.getfield 19, 3) := dk_180 0 19 (dk_at dksX7_settles_7 0 rfl rfl)
theorem dX7_settles_166 : decode cX7_settles 166 = .ok (.bipush 45, 2) := dk_16 45 (dk_at dksX7_settles_7 3 rfl rfl)
theorem dX7_settles_168 : decode cX7_settles 168 = .ok (.iconst 1, 1) := dk_4 (dk_at dksX7_settles_7 5 rfl rfl)
theorem dX7_settles_169 : decode cX7_settles 169 = .ok (.aload_n 0, 1) := dk_42 (dk_at dksX7_settles_7 6 rfl rfl)
theorem dX7_settles_170 : decode cX7_settles 170 = .ok (.getfield 130, 3) := dk_180 0 130 (dk_at dksX7_settles_7 7 rfl rfl)
theorem dX7_settles_173 : decode cX7_settles 173 = .ok (.ishl, 1) := dk_120 (dk_at dksX7_settles_7 10 rfl rfl)
theorem dX7_settles_174 : decode cX7_settles 174 = .ok (.iconst 1, 1) := dk_4 (dk_at dksX7_settles_7 11 rfl rfl)
theorem dX7_settles_175 : decode cX7_settles 175 = .ok (.isub, 1) := dk_100 (dk_at dksX7_settles_7 12 rfl rfl)
theorem dX7_settles_176 : decode cX7_settles 176 = .ok (.iastore, 1) := dk_79 (dk_at dksX7_settles_7 13 rfl rfl)
theorem dX7_settles_177 : decode cX7_settles 177 = .ok (.aload_n 0, 1) := dk_42 (dk_at dksX7_settles_7 14 rfl rfl)
theorem dX7_settles_178 : decode cX7_settles 178 = .ok (.getfield 19, 3) := dk_180 0 19 (dk_at dksX7_settles_7 15 rfl rfl)
theorem dX7_settles_181 : decode cX7_settles 181 = .ok (.bipush 46, 2) := dk_16 46 (dk_at dksX7_settles_7 18 rfl rfl)
theorem dX7_settles_183 : decode cX7_settles 183 = .ok (.iconst 0, 1) := dk_3 (dk_at dksX7_settles_7 20 rfl rfl)
theorem dX7_settles_184 : decode cX7_settles 184 = .ok (.iastore, 1) := dk_79 (dk_at dksX7_settles_7 21 rfl rfl)
theorem dX7_settles_185 : decode cX7_settles 185 = .ok (.aload_n 0, 1) := dk_42 (dk_at dksX7_settles_7 22 rfl rfl)
theorem dX7_settles_186 : decode cX7_settles 186 = .ok (.getfield 19, 3) := dk_180 0 19 (dk_at dksX7_settles_8 0 rfl rfl)
theorem dX7_settles_189 : decode cX7_settles 189 = .ok (.bipush 47, 2) := dk_16 47 (dk_at dksX7_settles_8 3 rfl rfl)
theorem dX7_settles_191 : decode cX7_settles 191 = .ok (.iconst 0, 1) := dk_3 (dk_at dksX7_settles_8 5 rfl rfl)
theorem dX7_settles_192 : decode cX7_settles 192 = .ok (.iastore, 1) := dk_79 (dk_at dksX7_settles_8 6 rfl rfl)
theorem dX7_settles_193 : decode cX7_settles 193 = .ok (.aload_n 0, 1) := dk_42 (dk_at dksX7_settles_8 7 rfl rfl)
theorem dX7_settles_194 : decode cX7_settles 194 = .ok (.iconst 0, 1) := dk_3 (dk_at dksX7_settles_8 8 rfl rfl)
theorem dX7_settles_195 : decode cX7_settles 195 = .ok (.putfield 140, 3) := dk_181 0 140 (dk_at dksX7_settles_8 9 rfl rfl)
theorem dX7_settles_198 : decode cX7_settles 198 = .ok (.aload_n 0, 1) := dk_42 (dk_at dksX7_settles_8 12 rfl rfl)
theorem dX7_settles_199 : decode cX7_settles 199 = .ok (.iconst 0, 1) := dk_3 (dk_at dksX7_settles_8 13 rfl rfl)
theorem dX7_settles_200 : decode cX7_settles 200 = .ok (.putfield 143, 3) := dk_181 0 143 (dk_at dksX7_settles_8 14 rfl rfl)
theorem dX7_settles_203 : decode cX7_settles 203 = .ok (.aload_n 0, 1) := dk_42 (dk_at dksX7_settles_8 17 rfl rfl)
theorem dX7_settles_204 : decode cX7_settles 204 = .ok (.getfield 25, 3) := dk_180 0 25 (dk_at dksX7_settles_8 18 rfl rfl)
theorem dX7_settles_207 : decode cX7_settles 207 = .ok (.iconst 0, 1) := dk_3 (dk_at dksX7_settles_8 21 rfl rfl)
theorem dX7_settles_208 : decode cX7_settles 208 = .ok (.iconst 0, 1) := dk_3 (dk_at dksX7_settles_8 22 rfl rfl)
theorem dX7_settles_209 : decode cX7_settles 209 = .ok (.bastore, 1) := dk_84 (dk_at dksX7_settles_8 23 rfl rfl)
theorem dX7_settles_210 : decode cX7_settles 210 = .ok (.aload_n 0, 1) := dk_42 (dk_at dksX7_settles_9 0 rfl rfl)
theorem dX7_settles_211 : decode cX7_settles 211 = .ok (.getfield 25, 3) := dk_180 0 25 (dk_at dksX7_settles_9 1 rfl rfl)
theorem dX7_settles_214 : decode cX7_settles 214 = .ok (.iconst 1, 1) := dk_4 (dk_at dksX7_settles_9 4 rfl rfl)
theorem dX7_settles_215 : decode cX7_settles 215 = .ok (.iconst 0, 1) := dk_3 (dk_at dksX7_settles_9 5 rfl rfl)
theorem dX7_settles_216 : decode cX7_settles 216 = .ok (.bastore, 1) := dk_84 (dk_at dksX7_settles_9 6 rfl rfl)
theorem dX7_settles_217 : decode cX7_settles 217 = .ok (.return_, 1) := dk_177 (dk_at dksX7_settles_9 7 rfl rfl)
abbrev cX7_fault : ByteArray := prog_12_method_17_code
def yX7_fault : MethodName := ⟨RX7, "fault", "()I"⟩
def dkwX7_fault_0 : List UInt8 := [42, 3, 181, 0, 72, 42, 180, 0, 68, 172]
abbrev dktX7_fault_0 : List UInt8 := dkwX7_fault_0 ++ []
theorem dksX7_fault_0 : cX7_fault.data.toList.drop 0 = dktX7_fault_0 := by decide +kernel
theorem dX7_fault_0 : decode cX7_fault 0 = .ok (.aload_n 0, 1) := dk_42 (dk_at dksX7_fault_0 0 rfl rfl)
theorem dX7_fault_1 : decode cX7_fault 1 = .ok (.iconst 0, 1) := dk_3 (dk_at dksX7_fault_0 1 rfl rfl)
theorem dX7_fault_2 : decode cX7_fault 2 = .ok (.putfield 72, 3) := dk_181 0 72 (dk_at dksX7_fault_0 2 rfl rfl)
theorem dX7_fault_5 : decode cX7_fault 5 = .ok (.aload_n 0, 1) := dk_42 (dk_at dksX7_fault_0 5 rfl rfl)
theorem dX7_fault_6 : decode cX7_fault 6 = .ok (.getfield 68, 3) := dk_180 0 68 (dk_at dksX7_fault_0 6 rfl rfl)
theorem dX7_fault_9 : decode cX7_fault 9 = .ok (.ireturn, 1) := dk_172 (dk_at dksX7_fault_0 9 rfl rfl)
abbrev cX7_told : ByteArray := prog_12_method_38_code
def yX7_told : MethodName := ⟨RX7, "told", "(I)I"⟩
def dkwX7_told_7 : List UInt8 := [16, 12, 160, 0, 10, 42, 180, 0, 140, 167, 0, 7, 42, 180, 0, 143, 172]
abbrev dktX7_told_7 : List UInt8 := dkwX7_told_7 ++ []
def dkwX7_told_6 : List UInt8 := [160, 0, 10, 42, 182, 0, 209, 167, 0, 33, 27, 16, 11, 160, 0, 10, 42, 182, 0, 213, 167, 0, 20, 27]
abbrev dktX7_told_6 : List UInt8 := dkwX7_told_6 ++ dktX7_told_7
def dkwX7_told_5 : List UInt8 := [42, 27, 16, 6, 100, 182, 0, 203, 167, 0, 11, 42, 27, 16, 8, 100, 182, 0, 206, 172, 27, 16, 10]
abbrev dktX7_told_5 : List UInt8 := dkwX7_told_5 ++ dktX7_told_6
def dkwX7_told_4 : List UInt8 := [46, 167, 0, 10, 42, 180, 0, 19, 16, 47, 46, 172, 27, 16, 10, 162, 0, 29, 27, 16, 8, 162, 0, 14]
abbrev dktX7_told_4 : List UInt8 := dkwX7_told_4 ++ dktX7_told_5
def dkwX7_told_3 : List UInt8 := [160, 0, 13, 42, 180, 0, 19, 16, 45, 46, 167, 0, 25, 27, 7, 160, 0, 13, 42, 180, 0, 19, 16, 46]
abbrev dktX7_told_3 : List UInt8 := dkwX7_told_3 ++ dktX7_told_4
def dkwX7_told_2 : List UInt8 := [160, 0, 10, 42, 180, 0, 130, 167, 0, 52, 27, 5, 160, 0, 10, 42, 180, 0, 80, 167, 0, 40, 27, 6]
abbrev dktX7_told_2 : List UInt8 := dkwX7_told_2 ++ dktX7_told_3
def dkwX7_told_1 : List UInt8 := [27, 154, 0, 21, 42, 180, 0, 133, 153, 0, 10, 42, 180, 0, 137, 167, 0, 68, 2, 167, 0, 64, 27, 4]
abbrev dktX7_told_1 : List UInt8 := dkwX7_told_1 ++ dktX7_told_2
def dkwX7_told_0 : List UInt8 := [42, 3, 181, 0, 72, 27, 3, 16, 13, 184, 0, 75, 154, 0, 6, 18, 79, 172, 27, 16, 6, 162, 0, 87]
abbrev dktX7_told_0 : List UInt8 := dkwX7_told_0 ++ dktX7_told_1
theorem dksX7_told_0 : cX7_told.data.toList.drop 0 = dktX7_told_0 := by decide +kernel
theorem dksX7_told_1 : cX7_told.data.toList.drop 24 = dktX7_told_1 := dk_seg dksX7_told_0 24 rfl rfl
theorem dksX7_told_2 : cX7_told.data.toList.drop 48 = dktX7_told_2 := dk_seg dksX7_told_1 24 rfl rfl
theorem dksX7_told_3 : cX7_told.data.toList.drop 72 = dktX7_told_3 := dk_seg dksX7_told_2 24 rfl rfl
theorem dksX7_told_4 : cX7_told.data.toList.drop 96 = dktX7_told_4 := dk_seg dksX7_told_3 24 rfl rfl
theorem dksX7_told_5 : cX7_told.data.toList.drop 120 = dktX7_told_5 := dk_seg dksX7_told_4 24 rfl rfl
theorem dksX7_told_6 : cX7_told.data.toList.drop 143 = dktX7_told_6 := dk_seg dksX7_told_5 23 rfl rfl
theorem dksX7_told_7 : cX7_told.data.toList.drop 167 = dktX7_told_7 := dk_seg dksX7_told_6 24 rfl rfl
theorem dX7_told_0 : decode cX7_told 0 = .ok (.aload_n 0, 1) := dk_42 (dk_at dksX7_told_0 0 rfl rfl)
theorem dX7_told_1 : decode cX7_told 1 = .ok (.iconst 0, 1) := dk_3 (dk_at dksX7_told_0 1 rfl rfl)
theorem dX7_told_2 : decode cX7_told 2 = .ok (.putfield 72, 3) := dk_181 0 72 (dk_at dksX7_told_0 2 rfl rfl)
theorem dX7_told_5 : decode cX7_told 5 = .ok (.iload_n 1, 1) := dk_27 (dk_at dksX7_told_0 5 rfl rfl)
theorem dX7_told_6 : decode cX7_told 6 = .ok (.iconst 0, 1) := dk_3 (dk_at dksX7_told_0 6 rfl rfl)
theorem dX7_told_7 : decode cX7_told 7 = .ok (.bipush 13, 2) := dk_16 13 (dk_at dksX7_told_0 7 rfl rfl)
theorem dX7_told_9 : decode cX7_told 9 = .ok (.invokestatic 75, 3) := dk_184 0 75 (dk_at dksX7_told_0 9 rfl rfl)
theorem dX7_told_12 : decode cX7_told 12 = .ok (.ifCond .ne 6, 3) := dk_154 0 6 (dk_at dksX7_told_0 12 rfl rfl)
theorem dX7_told_15 : decode cX7_told 15 = .ok (.ldc 79, 2) := dk_18 79 (dk_at dksX7_told_0 15 rfl rfl)
theorem dX7_told_17 : decode cX7_told 17 = .ok (.ireturn, 1) := dk_172 (dk_at dksX7_told_0 17 rfl rfl)
theorem dX7_told_18 : decode cX7_told 18 = .ok (.iload_n 1, 1) := dk_27 (dk_at dksX7_told_0 18 rfl rfl)
theorem dX7_told_19 : decode cX7_told 19 = .ok (.bipush 6, 2) := dk_16 6 (dk_at dksX7_told_0 19 rfl rfl)
theorem dX7_told_21 : decode cX7_told 21 = .ok (.if_icmp .ge 87, 3) := dk_162 0 87 (dk_at dksX7_told_0 21 rfl rfl)
theorem dX7_told_24 : decode cX7_told 24 = .ok (.iload_n 1, 1) := dk_27 (dk_at dksX7_told_1 0 rfl rfl)
theorem dX7_told_25 : decode cX7_told 25 = .ok (.ifCond .ne 21, 3) := dk_154 0 21 (dk_at dksX7_told_1 1 rfl rfl)
theorem dX7_told_28 : decode cX7_told 28 = .ok (.aload_n 0, 1) := dk_42 (dk_at dksX7_told_1 4 rfl rfl)
theorem dX7_told_29 : decode cX7_told 29 = .ok (.getfield 133, 3) := dk_180 0 133 (dk_at dksX7_told_1 5 rfl rfl)
theorem dX7_told_32 : decode cX7_told 32 = .ok (.ifCond .eq 10, 3) := dk_153 0 10 (dk_at dksX7_told_1 8 rfl rfl)
theorem dX7_told_35 : decode cX7_told 35 = .ok (.aload_n 0, 1) := dk_42 (dk_at dksX7_told_1 11 rfl rfl)
theorem dX7_told_36 : decode cX7_told 36 = .ok (.getfield 137, 3) := dk_180 0 137 (dk_at dksX7_told_1 12 rfl rfl)
theorem dX7_told_39 : decode cX7_told 39 = .ok (.goto 68, 3) := dk_167 0 68 (dk_at dksX7_told_1 15 rfl rfl)
theorem dX7_told_42 : decode cX7_told 42 = .ok (.iconst (-1), 1) := dk_2 (dk_at dksX7_told_1 18 rfl rfl)
theorem dX7_told_43 : decode cX7_told 43 = .ok (.goto 64, 3) := dk_167 0 64 (dk_at dksX7_told_1 19 rfl rfl)
theorem dX7_told_46 : decode cX7_told 46 = .ok (.iload_n 1, 1) := dk_27 (dk_at dksX7_told_1 22 rfl rfl)
theorem dX7_told_47 : decode cX7_told 47 = .ok (.iconst 1, 1) := dk_4 (dk_at dksX7_told_1 23 rfl rfl)
theorem dX7_told_48 : decode cX7_told 48 = .ok (.if_icmp .ne 10, 3) := dk_160 0 10 (dk_at dksX7_told_2 0 rfl rfl)
theorem dX7_told_51 : decode cX7_told 51 = .ok (.aload_n 0, 1) := dk_42 (dk_at dksX7_told_2 3 rfl rfl)
theorem dX7_told_52 : decode cX7_told 52 = .ok (.getfield 130, 3) := dk_180 0 130 (dk_at dksX7_told_2 4 rfl rfl)
theorem dX7_told_55 : decode cX7_told 55 = .ok (.goto 52, 3) := dk_167 0 52 (dk_at dksX7_told_2 7 rfl rfl)
theorem dX7_told_58 : decode cX7_told 58 = .ok (.iload_n 1, 1) := dk_27 (dk_at dksX7_told_2 10 rfl rfl)
theorem dX7_told_59 : decode cX7_told 59 = .ok (.iconst 2, 1) := dk_5 (dk_at dksX7_told_2 11 rfl rfl)
theorem dX7_told_60 : decode cX7_told 60 = .ok (.if_icmp .ne 10, 3) := dk_160 0 10 (dk_at dksX7_told_2 12 rfl rfl)
theorem dX7_told_63 : decode cX7_told 63 = .ok (.aload_n 0, 1) := dk_42 (dk_at dksX7_told_2 15 rfl rfl)
theorem dX7_told_64 : decode cX7_told 64 = .ok (.getfield 80, 3) := dk_180 0 80 (dk_at dksX7_told_2 16 rfl rfl)
theorem dX7_told_67 : decode cX7_told 67 = .ok (.goto 40, 3) := dk_167 0 40 (dk_at dksX7_told_2 19 rfl rfl)
theorem dX7_told_70 : decode cX7_told 70 = .ok (.iload_n 1, 1) := dk_27 (dk_at dksX7_told_2 22 rfl rfl)
theorem dX7_told_71 : decode cX7_told 71 = .ok (.iconst 3, 1) := dk_6 (dk_at dksX7_told_2 23 rfl rfl)
theorem dX7_told_72 : decode cX7_told 72 = .ok (.if_icmp .ne 13, 3) := dk_160 0 13 (dk_at dksX7_told_3 0 rfl rfl)
theorem dX7_told_75 : decode cX7_told 75 = .ok (.aload_n 0, 1) := dk_42 (dk_at dksX7_told_3 3 rfl rfl)
theorem dX7_told_76 : decode cX7_told 76 = .ok (.getfield 19, 3) := dk_180 0 19 (dk_at dksX7_told_3 4 rfl rfl)
theorem dX7_told_79 : decode cX7_told 79 = .ok (.bipush 45, 2) := dk_16 45 (dk_at dksX7_told_3 7 rfl rfl)
theorem dX7_told_81 : decode cX7_told 81 = .ok (.iaload, 1) := dk_46 (dk_at dksX7_told_3 9 rfl rfl)
theorem dX7_told_82 : decode cX7_told 82 = .ok (.goto 25, 3) := dk_167 0 25 (dk_at dksX7_told_3 10 rfl rfl)
theorem dX7_told_85 : decode cX7_told 85 = .ok (.iload_n 1, 1) := dk_27 (dk_at dksX7_told_3 13 rfl rfl)
theorem dX7_told_86 : decode cX7_told 86 = .ok (.iconst 4, 1) := dk_7 (dk_at dksX7_told_3 14 rfl rfl)
theorem dX7_told_87 : decode cX7_told 87 = .ok (.if_icmp .ne 13, 3) := dk_160 0 13 (dk_at dksX7_told_3 15 rfl rfl)
theorem dX7_told_90 : decode cX7_told 90 = .ok (.aload_n 0, 1) := dk_42 (dk_at dksX7_told_3 18 rfl rfl)
theorem dX7_told_91 : decode cX7_told 91 = .ok (.getfield 19, 3) := dk_180 0 19 (dk_at dksX7_told_3 19 rfl rfl)
theorem dX7_told_94 : decode cX7_told 94 = .ok (.bipush 46, 2) := dk_16 46 (dk_at dksX7_told_3 22 rfl rfl)
theorem dX7_told_96 : decode cX7_told 96 = .ok (.iaload, 1) := dk_46 (dk_at dksX7_told_4 0 rfl rfl)
theorem dX7_told_97 : decode cX7_told 97 = .ok (.goto 10, 3) := dk_167 0 10 (dk_at dksX7_told_4 1 rfl rfl)
theorem dX7_told_100 : decode cX7_told 100 = .ok (.aload_n 0, 1) := dk_42 (dk_at dksX7_told_4 4 rfl rfl)
theorem dX7_told_101 : decode cX7_told 101 = .ok (.getfield 19, 3) := dk_180 0 19 (dk_at dksX7_told_4 5 rfl rfl)
theorem dX7_told_104 : decode cX7_told 104 = .ok (.bipush 47, 2) := dk_16 47 (dk_at dksX7_told_4 8 rfl rfl)
theorem dX7_told_106 : decode cX7_told 106 = .ok (.iaload, 1) := dk_46 (dk_at dksX7_told_4 10 rfl rfl)
theorem dX7_told_107 : decode cX7_told 107 = .ok (.ireturn, 1) := dk_172 (dk_at dksX7_told_4 11 rfl rfl)
theorem dX7_told_108 : decode cX7_told 108 = .ok (.iload_n 1, 1) := dk_27 (dk_at dksX7_told_4 12 rfl rfl)
theorem dX7_told_109 : decode cX7_told 109 = .ok (.bipush 10, 2) := dk_16 10 (dk_at dksX7_told_4 13 rfl rfl)
theorem dX7_told_111 : decode cX7_told 111 = .ok (.if_icmp .ge 29, 3) := dk_162 0 29 (dk_at dksX7_told_4 15 rfl rfl)
theorem dX7_told_114 : decode cX7_told 114 = .ok (.iload_n 1, 1) := dk_27 (dk_at dksX7_told_4 18 rfl rfl)
theorem dX7_told_115 : decode cX7_told 115 = .ok (.bipush 8, 2) := dk_16 8 (dk_at dksX7_told_4 19 rfl rfl)
theorem dX7_told_117 : decode cX7_told 117 = .ok (.if_icmp .ge 14, 3) := dk_162 0 14 (dk_at dksX7_told_4 21 rfl rfl)
theorem dX7_told_120 : decode cX7_told 120 = .ok (.aload_n 0, 1) := dk_42 (dk_at dksX7_told_5 0 rfl rfl)
theorem dX7_told_121 : decode cX7_told 121 = .ok (.iload_n 1, 1) := dk_27 (dk_at dksX7_told_5 1 rfl rfl)
theorem dX7_told_122 : decode cX7_told 122 = .ok (.bipush 6, 2) := dk_16 6 (dk_at dksX7_told_5 2 rfl rfl)
theorem dX7_told_124 : decode cX7_told 124 = .ok (.isub, 1) := dk_100 (dk_at dksX7_told_5 4 rfl rfl)
theorem dX7_told_125 : decode cX7_told 125 = .ok (.invokevirtual 203, 3) := dk_182 0 203 (dk_at dksX7_told_5 5 rfl rfl)
theorem dX7_told_128 : decode cX7_told 128 = .ok (.goto 11, 3) := dk_167 0 11 (dk_at dksX7_told_5 8 rfl rfl)
theorem dX7_told_131 : decode cX7_told 131 = .ok (.aload_n 0, 1) := dk_42 (dk_at dksX7_told_5 11 rfl rfl)
theorem dX7_told_132 : decode cX7_told 132 = .ok (.iload_n 1, 1) := dk_27 (dk_at dksX7_told_5 12 rfl rfl)
theorem dX7_told_133 : decode cX7_told 133 = .ok (.bipush 8, 2) := dk_16 8 (dk_at dksX7_told_5 13 rfl rfl)
theorem dX7_told_135 : decode cX7_told 135 = .ok (.isub, 1) := dk_100 (dk_at dksX7_told_5 15 rfl rfl)
theorem dX7_told_136 : decode cX7_told 136 = .ok (.invokevirtual 206, 3) := dk_182 0 206 (dk_at dksX7_told_5 16 rfl rfl)
theorem dX7_told_139 : decode cX7_told 139 = .ok (.ireturn, 1) := dk_172 (dk_at dksX7_told_5 19 rfl rfl)
theorem dX7_told_140 : decode cX7_told 140 = .ok (.iload_n 1, 1) := dk_27 (dk_at dksX7_told_5 20 rfl rfl)
theorem dX7_told_141 : decode cX7_told 141 = .ok (.bipush 10, 2) := dk_16 10 (dk_at dksX7_told_5 21 rfl rfl)
theorem dX7_told_143 : decode cX7_told 143 = .ok (.if_icmp .ne 10, 3) := dk_160 0 10 (dk_at dksX7_told_6 0 rfl rfl)
theorem dX7_told_146 : decode cX7_told 146 = .ok (.aload_n 0, 1) := dk_42 (dk_at dksX7_told_6 3 rfl rfl)
theorem dX7_told_147 : decode cX7_told 147 = .ok (.invokevirtual 209, 3) := dk_182 0 209 (dk_at dksX7_told_6 4 rfl rfl)
theorem dX7_told_150 : decode cX7_told 150 = .ok (.goto 33, 3) := dk_167 0 33 (dk_at dksX7_told_6 7 rfl rfl)
theorem dX7_told_153 : decode cX7_told 153 = .ok (.iload_n 1, 1) := dk_27 (dk_at dksX7_told_6 10 rfl rfl)
theorem dX7_told_154 : decode cX7_told 154 = .ok (.bipush 11, 2) := dk_16 11 (dk_at dksX7_told_6 11 rfl rfl)
theorem dX7_told_156 : decode cX7_told 156 = .ok (.if_icmp .ne 10, 3) := dk_160 0 10 (dk_at dksX7_told_6 13 rfl rfl)
theorem dX7_told_159 : decode cX7_told 159 = .ok (.aload_n 0, 1) := dk_42 (dk_at dksX7_told_6 16 rfl rfl)
theorem dX7_told_160 : decode cX7_told 160 = .ok (.invokevirtual 213, 3) := dk_182 0 213 (dk_at dksX7_told_6 17 rfl rfl)
theorem dX7_told_163 : decode cX7_told 163 = .ok (.goto 20, 3) := dk_167 0 20 (dk_at dksX7_told_6 20 rfl rfl)
theorem dX7_told_166 : decode cX7_told 166 = .ok (.iload_n 1, 1) := dk_27 (dk_at dksX7_told_6 23 rfl rfl)
theorem dX7_told_167 : decode cX7_told 167 = .ok (.bipush 12, 2) := dk_16 12 (dk_at dksX7_told_7 0 rfl rfl)
theorem dX7_told_169 : decode cX7_told 169 = .ok (.if_icmp .ne 10, 3) := dk_160 0 10 (dk_at dksX7_told_7 2 rfl rfl)
theorem dX7_told_172 : decode cX7_told 172 = .ok (.aload_n 0, 1) := dk_42 (dk_at dksX7_told_7 5 rfl rfl)
theorem dX7_told_173 : decode cX7_told 173 = .ok (.getfield 140, 3) := dk_180 0 140 (dk_at dksX7_told_7 6 rfl rfl)
theorem dX7_told_176 : decode cX7_told 176 = .ok (.goto 7, 3) := dk_167 0 7 (dk_at dksX7_told_7 9 rfl rfl)
theorem dX7_told_179 : decode cX7_told 179 = .ok (.aload_n 0, 1) := dk_42 (dk_at dksX7_told_7 12 rfl rfl)
theorem dX7_told_180 : decode cX7_told 180 = .ok (.getfield 143, 3) := dk_180 0 143 (dk_at dksX7_told_7 13 rfl rfl)
theorem dX7_told_183 : decode cX7_told 183 = .ok (.ireturn, 1) := dk_172 (dk_at dksX7_told_7 16 rfl rfl)
abbrev cX7_worst : ByteArray := prog_12_method_34_code
def yX7_worst : MethodName := ⟨RX7, "worst", "(I)I"⟩
def dkwX7_worst_3 : List UInt8 := [167, 0, 4, 29, 62, 132, 4, 1, 167, 255, 198, 27, 154, 0, 7, 28, 167, 0, 4, 29, 172]
abbrev dktX7_worst_3 : List UInt8 := dkwX7_worst_3 ++ []
def dkwX7_worst_2 : List UInt8 := [21, 5, 29, 164, 0, 11, 21, 4, 184, 0, 197, 167, 0, 4, 28, 61, 21, 5, 29, 164, 0, 8, 21, 5]
abbrev dktX7_worst_2 : List UInt8 := dkwX7_worst_2 ++ dktX7_worst_3
def dkwX7_worst_1 : List UInt8 := [17, 2, 88, 162, 0, 56, 42, 42, 180, 0, 19, 16, 45, 46, 21, 4, 182, 0, 191, 184, 0, 194, 54, 5]
abbrev dktX7_worst_1 : List UInt8 := dkwX7_worst_1 ++ dktX7_worst_2
def dkwX7_worst_0 : List UInt8 := [42, 180, 0, 133, 154, 0, 5, 2, 172, 42, 3, 3, 182, 0, 188, 3, 61, 2, 62, 3, 54, 4, 21, 4]
abbrev dktX7_worst_0 : List UInt8 := dkwX7_worst_0 ++ dktX7_worst_1
theorem dksX7_worst_0 : cX7_worst.data.toList.drop 0 = dktX7_worst_0 := by decide +kernel
theorem dksX7_worst_1 : cX7_worst.data.toList.drop 24 = dktX7_worst_1 := dk_seg dksX7_worst_0 24 rfl rfl
theorem dksX7_worst_2 : cX7_worst.data.toList.drop 48 = dktX7_worst_2 := dk_seg dksX7_worst_1 24 rfl rfl
theorem dksX7_worst_3 : cX7_worst.data.toList.drop 72 = dktX7_worst_3 := dk_seg dksX7_worst_2 24 rfl rfl
theorem dX7_worst_0 : decode cX7_worst 0 = .ok (.aload_n 0, 1) := dk_42 (dk_at dksX7_worst_0 0 rfl rfl)
theorem dX7_worst_1 : decode cX7_worst 1 = .ok (.getfield 133, 3) := dk_180 0 133 (dk_at dksX7_worst_0 1 rfl rfl)
theorem dX7_worst_4 : decode cX7_worst 4 = .ok (.ifCond .ne 5, 3) := dk_154 0 5 (dk_at dksX7_worst_0 4 rfl rfl)
theorem dX7_worst_7 : decode cX7_worst 7 = .ok (.iconst (-1), 1) := dk_2 (dk_at dksX7_worst_0 7 rfl rfl)
theorem dX7_worst_8 : decode cX7_worst 8 = .ok (.ireturn, 1) := dk_172 (dk_at dksX7_worst_0 8 rfl rfl)
theorem dX7_worst_9 : decode cX7_worst 9 = .ok (.aload_n 0, 1) := dk_42 (dk_at dksX7_worst_0 9 rfl rfl)
theorem dX7_worst_10 : decode cX7_worst 10 = .ok (.iconst 0, 1) := dk_3 (dk_at dksX7_worst_0 10 rfl rfl)
theorem dX7_worst_11 : decode cX7_worst 11 = .ok (.iconst 0, 1) := dk_3 (dk_at dksX7_worst_0 11 rfl rfl)
theorem dX7_worst_12 : decode cX7_worst 12 = .ok (.invokevirtual 188, 3) := dk_182 0 188 (dk_at dksX7_worst_0 12 rfl rfl)
theorem dX7_worst_15 : decode cX7_worst 15 = .ok (.iconst 0, 1) := dk_3 (dk_at dksX7_worst_0 15 rfl rfl)
theorem dX7_worst_16 : decode cX7_worst 16 = .ok (.istore_n 2, 1) := dk_61 (dk_at dksX7_worst_0 16 rfl rfl)
theorem dX7_worst_17 : decode cX7_worst 17 = .ok (.iconst (-1), 1) := dk_2 (dk_at dksX7_worst_0 17 rfl rfl)
theorem dX7_worst_18 : decode cX7_worst 18 = .ok (.istore_n 3, 1) := dk_62 (dk_at dksX7_worst_0 18 rfl rfl)
theorem dX7_worst_19 : decode cX7_worst 19 = .ok (.iconst 0, 1) := dk_3 (dk_at dksX7_worst_0 19 rfl rfl)
theorem dX7_worst_20 : decode cX7_worst 20 = .ok (.istore 4, 2) := dk_54 4 (dk_at dksX7_worst_0 20 rfl rfl)
theorem dX7_worst_22 : decode cX7_worst 22 = .ok (.iload 4, 2) := dk_21 4 (dk_at dksX7_worst_0 22 rfl rfl)
theorem dX7_worst_24 : decode cX7_worst 24 = .ok (.sipush 600, 3) := dk_17 2 88 (dk_at dksX7_worst_1 0 rfl rfl)
theorem dX7_worst_27 : decode cX7_worst 27 = .ok (.if_icmp .ge 56, 3) := dk_162 0 56 (dk_at dksX7_worst_1 3 rfl rfl)
theorem dX7_worst_30 : decode cX7_worst 30 = .ok (.aload_n 0, 1) := dk_42 (dk_at dksX7_worst_1 6 rfl rfl)
theorem dX7_worst_31 : decode cX7_worst 31 = .ok (.aload_n 0, 1) := dk_42 (dk_at dksX7_worst_1 7 rfl rfl)
theorem dX7_worst_32 : decode cX7_worst 32 = .ok (.getfield 19, 3) := dk_180 0 19 (dk_at dksX7_worst_1 8 rfl rfl)
theorem dX7_worst_35 : decode cX7_worst 35 = .ok (.bipush 45, 2) := dk_16 45 (dk_at dksX7_worst_1 11 rfl rfl)
theorem dX7_worst_37 : decode cX7_worst 37 = .ok (.iaload, 1) := dk_46 (dk_at dksX7_worst_1 13 rfl rfl)
theorem dX7_worst_38 : decode cX7_worst 38 = .ok (.iload 4, 2) := dk_21 4 (dk_at dksX7_worst_1 14 rfl rfl)
theorem dX7_worst_40 : decode cX7_worst 40 = .ok (.invokevirtual 191, 3) := dk_182 0 191 (dk_at dksX7_worst_1 16 rfl rfl)
theorem dX7_worst_43 : decode cX7_worst 43 = .ok (.invokestatic 194, 3) := dk_184 0 194 (dk_at dksX7_worst_1 19 rfl rfl)
theorem dX7_worst_46 : decode cX7_worst 46 = .ok (.istore 5, 2) := dk_54 5 (dk_at dksX7_worst_1 22 rfl rfl)
theorem dX7_worst_48 : decode cX7_worst 48 = .ok (.iload 5, 2) := dk_21 5 (dk_at dksX7_worst_2 0 rfl rfl)
theorem dX7_worst_50 : decode cX7_worst 50 = .ok (.iload_n 3, 1) := dk_29 (dk_at dksX7_worst_2 2 rfl rfl)
theorem dX7_worst_51 : decode cX7_worst 51 = .ok (.if_icmp .le 11, 3) := dk_164 0 11 (dk_at dksX7_worst_2 3 rfl rfl)
theorem dX7_worst_54 : decode cX7_worst 54 = .ok (.iload 4, 2) := dk_21 4 (dk_at dksX7_worst_2 6 rfl rfl)
theorem dX7_worst_56 : decode cX7_worst 56 = .ok (.invokestatic 197, 3) := dk_184 0 197 (dk_at dksX7_worst_2 8 rfl rfl)
theorem dX7_worst_59 : decode cX7_worst 59 = .ok (.goto 4, 3) := dk_167 0 4 (dk_at dksX7_worst_2 11 rfl rfl)
theorem dX7_worst_62 : decode cX7_worst 62 = .ok (.iload_n 2, 1) := dk_28 (dk_at dksX7_worst_2 14 rfl rfl)
theorem dX7_worst_63 : decode cX7_worst 63 = .ok (.istore_n 2, 1) := dk_61 (dk_at dksX7_worst_2 15 rfl rfl)
theorem dX7_worst_64 : decode cX7_worst 64 = .ok (.iload 5, 2) := dk_21 5 (dk_at dksX7_worst_2 16 rfl rfl)
theorem dX7_worst_66 : decode cX7_worst 66 = .ok (.iload_n 3, 1) := dk_29 (dk_at dksX7_worst_2 18 rfl rfl)
theorem dX7_worst_67 : decode cX7_worst 67 = .ok (.if_icmp .le 8, 3) := dk_164 0 8 (dk_at dksX7_worst_2 19 rfl rfl)
theorem dX7_worst_70 : decode cX7_worst 70 = .ok (.iload 5, 2) := dk_21 5 (dk_at dksX7_worst_2 22 rfl rfl)
theorem dX7_worst_72 : decode cX7_worst 72 = .ok (.goto 4, 3) := dk_167 0 4 (dk_at dksX7_worst_3 0 rfl rfl)
theorem dX7_worst_75 : decode cX7_worst 75 = .ok (.iload_n 3, 1) := dk_29 (dk_at dksX7_worst_3 3 rfl rfl)
theorem dX7_worst_76 : decode cX7_worst 76 = .ok (.istore_n 3, 1) := dk_62 (dk_at dksX7_worst_3 4 rfl rfl)
theorem dX7_worst_77 : decode cX7_worst 77 = .ok (.iinc 4 1, 3) := dk_132 4 1 (dk_at dksX7_worst_3 5 rfl rfl)
theorem dX7_worst_80 : decode cX7_worst 80 = .ok (.goto (-58), 3) := dk_167 255 198 (dk_at dksX7_worst_3 8 rfl rfl)
theorem dX7_worst_83 : decode cX7_worst 83 = .ok (.iload_n 1, 1) := dk_27 (dk_at dksX7_worst_3 11 rfl rfl)
theorem dX7_worst_84 : decode cX7_worst 84 = .ok (.ifCond .ne 7, 3) := dk_154 0 7 (dk_at dksX7_worst_3 12 rfl rfl)
theorem dX7_worst_87 : decode cX7_worst 87 = .ok (.iload_n 2, 1) := dk_28 (dk_at dksX7_worst_3 15 rfl rfl)
theorem dX7_worst_88 : decode cX7_worst 88 = .ok (.goto 4, 3) := dk_167 0 4 (dk_at dksX7_worst_3 16 rfl rfl)
theorem dX7_worst_91 : decode cX7_worst 91 = .ok (.iload_n 3, 1) := dk_29 (dk_at dksX7_worst_3 19 rfl rfl)
theorem dX7_worst_92 : decode cX7_worst 92 = .ok (.ireturn, 1) := dk_172 (dk_at dksX7_worst_3 20 rfl rfl)
abbrev cX7_sets : ByteArray := prog_12_method_25_code
def yX7_sets : MethodName := ⟨RX7, "sets", "(II)V"⟩
def dkwX7_sets_3 : List UInt8 := [79, 42, 180, 0, 41, 29, 42, 29, 21, 4, 182, 0, 152, 79, 132, 3, 1, 167, 255, 190, 177]
abbrev dktX7_sets_3 : List UInt8 := dkwX7_sets_3 ++ []
def dkwX7_sets_2 : List UInt8 := [167, 0, 15, 21, 4, 28, 160, 0, 7, 27, 167, 0, 5, 21, 4, 54, 4, 42, 180, 0, 38, 21, 4, 29]
abbrev dktX7_sets_2 : List UInt8 := dkwX7_sets_2 ++ dktX7_sets_3
def dkwX7_sets_1 : List UInt8 := [42, 180, 0, 130, 162, 0, 64, 42, 180, 0, 19, 3, 29, 96, 46, 54, 4, 21, 4, 27, 160, 0, 7, 28]
abbrev dktX7_sets_1 : List UInt8 := dkwX7_sets_1 ++ dktX7_sets_2
def dkwX7_sets_0 : List UInt8 := [3, 62, 29, 16, 9, 162, 0, 16, 42, 180, 0, 38, 29, 2, 79, 132, 3, 1, 167, 255, 240, 3, 62, 29]
abbrev dktX7_sets_0 : List UInt8 := dkwX7_sets_0 ++ dktX7_sets_1
theorem dksX7_sets_0 : cX7_sets.data.toList.drop 0 = dktX7_sets_0 := by decide +kernel
theorem dksX7_sets_1 : cX7_sets.data.toList.drop 24 = dktX7_sets_1 := dk_seg dksX7_sets_0 24 rfl rfl
theorem dksX7_sets_2 : cX7_sets.data.toList.drop 48 = dktX7_sets_2 := dk_seg dksX7_sets_1 24 rfl rfl
theorem dksX7_sets_3 : cX7_sets.data.toList.drop 72 = dktX7_sets_3 := dk_seg dksX7_sets_2 24 rfl rfl
theorem dX7_sets_0 : decode cX7_sets 0 = .ok (.iconst 0, 1) := dk_3 (dk_at dksX7_sets_0 0 rfl rfl)
theorem dX7_sets_1 : decode cX7_sets 1 = .ok (.istore_n 3, 1) := dk_62 (dk_at dksX7_sets_0 1 rfl rfl)
theorem dX7_sets_2 : decode cX7_sets 2 = .ok (.iload_n 3, 1) := dk_29 (dk_at dksX7_sets_0 2 rfl rfl)
theorem dX7_sets_3 : decode cX7_sets 3 = .ok (.bipush 9, 2) := dk_16 9 (dk_at dksX7_sets_0 3 rfl rfl)
theorem dX7_sets_5 : decode cX7_sets 5 = .ok (.if_icmp .ge 16, 3) := dk_162 0 16 (dk_at dksX7_sets_0 5 rfl rfl)
theorem dX7_sets_8 : decode cX7_sets 8 = .ok (.aload_n 0, 1) := dk_42 (dk_at dksX7_sets_0 8 rfl rfl)
theorem dX7_sets_9 : decode cX7_sets 9 = .ok (.getfield 38, 3) := dk_180 0 38 (dk_at dksX7_sets_0 9 rfl rfl)
theorem dX7_sets_12 : decode cX7_sets 12 = .ok (.iload_n 3, 1) := dk_29 (dk_at dksX7_sets_0 12 rfl rfl)
theorem dX7_sets_13 : decode cX7_sets 13 = .ok (.iconst (-1), 1) := dk_2 (dk_at dksX7_sets_0 13 rfl rfl)
theorem dX7_sets_14 : decode cX7_sets 14 = .ok (.iastore, 1) := dk_79 (dk_at dksX7_sets_0 14 rfl rfl)
theorem dX7_sets_15 : decode cX7_sets 15 = .ok (.iinc 3 1, 3) := dk_132 3 1 (dk_at dksX7_sets_0 15 rfl rfl)
theorem dX7_sets_18 : decode cX7_sets 18 = .ok (.goto (-16), 3) := dk_167 255 240 (dk_at dksX7_sets_0 18 rfl rfl)
theorem dX7_sets_21 : decode cX7_sets 21 = .ok (.iconst 0, 1) := dk_3 (dk_at dksX7_sets_0 21 rfl rfl)
theorem dX7_sets_22 : decode cX7_sets 22 = .ok (.istore_n 3, 1) := dk_62 (dk_at dksX7_sets_0 22 rfl rfl)
theorem dX7_sets_23 : decode cX7_sets 23 = .ok (.iload_n 3, 1) := dk_29 (dk_at dksX7_sets_0 23 rfl rfl)
theorem dX7_sets_24 : decode cX7_sets 24 = .ok (.aload_n 0, 1) := dk_42 (dk_at dksX7_sets_1 0 rfl rfl)
theorem dX7_sets_25 : decode cX7_sets 25 = .ok (.getfield 130, 3) := dk_180 0 130 (dk_at dksX7_sets_1 1 rfl rfl)
theorem dX7_sets_28 : decode cX7_sets 28 = .ok (.if_icmp .ge 64, 3) := dk_162 0 64 (dk_at dksX7_sets_1 4 rfl rfl)
theorem dX7_sets_31 : decode cX7_sets 31 = .ok (.aload_n 0, 1) := dk_42 (dk_at dksX7_sets_1 7 rfl rfl)
theorem dX7_sets_32 : decode cX7_sets 32 = .ok (.getfield 19, 3) := dk_180 0 19 (dk_at dksX7_sets_1 8 rfl rfl)
theorem dX7_sets_35 : decode cX7_sets 35 = .ok (.iconst 0, 1) := dk_3 (dk_at dksX7_sets_1 11 rfl rfl)
theorem dX7_sets_36 : decode cX7_sets 36 = .ok (.iload_n 3, 1) := dk_29 (dk_at dksX7_sets_1 12 rfl rfl)
theorem dX7_sets_37 : decode cX7_sets 37 = .ok (.iadd, 1) := dk_96 (dk_at dksX7_sets_1 13 rfl rfl)
theorem dX7_sets_38 : decode cX7_sets 38 = .ok (.iaload, 1) := dk_46 (dk_at dksX7_sets_1 14 rfl rfl)
theorem dX7_sets_39 : decode cX7_sets 39 = .ok (.istore 4, 2) := dk_54 4 (dk_at dksX7_sets_1 15 rfl rfl)
theorem dX7_sets_41 : decode cX7_sets 41 = .ok (.iload 4, 2) := dk_21 4 (dk_at dksX7_sets_1 17 rfl rfl)
theorem dX7_sets_43 : decode cX7_sets 43 = .ok (.iload_n 1, 1) := dk_27 (dk_at dksX7_sets_1 19 rfl rfl)
theorem dX7_sets_44 : decode cX7_sets 44 = .ok (.if_icmp .ne 7, 3) := dk_160 0 7 (dk_at dksX7_sets_1 20 rfl rfl)
theorem dX7_sets_47 : decode cX7_sets 47 = .ok (.iload_n 2, 1) := dk_28 (dk_at dksX7_sets_1 23 rfl rfl)
theorem dX7_sets_48 : decode cX7_sets 48 = .ok (.goto 15, 3) := dk_167 0 15 (dk_at dksX7_sets_2 0 rfl rfl)
theorem dX7_sets_51 : decode cX7_sets 51 = .ok (.iload 4, 2) := dk_21 4 (dk_at dksX7_sets_2 3 rfl rfl)
theorem dX7_sets_53 : decode cX7_sets 53 = .ok (.iload_n 2, 1) := dk_28 (dk_at dksX7_sets_2 5 rfl rfl)
theorem dX7_sets_54 : decode cX7_sets 54 = .ok (.if_icmp .ne 7, 3) := dk_160 0 7 (dk_at dksX7_sets_2 6 rfl rfl)
theorem dX7_sets_57 : decode cX7_sets 57 = .ok (.iload_n 1, 1) := dk_27 (dk_at dksX7_sets_2 9 rfl rfl)
theorem dX7_sets_58 : decode cX7_sets 58 = .ok (.goto 5, 3) := dk_167 0 5 (dk_at dksX7_sets_2 10 rfl rfl)
theorem dX7_sets_61 : decode cX7_sets 61 = .ok (.iload 4, 2) := dk_21 4 (dk_at dksX7_sets_2 13 rfl rfl)
theorem dX7_sets_63 : decode cX7_sets 63 = .ok (.istore 4, 2) := dk_54 4 (dk_at dksX7_sets_2 15 rfl rfl)
theorem dX7_sets_65 : decode cX7_sets 65 = .ok (.aload_n 0, 1) := dk_42 (dk_at dksX7_sets_2 17 rfl rfl)
theorem dX7_sets_66 : decode cX7_sets 66 = .ok (.getfield 38, 3) := dk_180 0 38 (dk_at dksX7_sets_2 18 rfl rfl)
theorem dX7_sets_69 : decode cX7_sets 69 = .ok (.iload 4, 2) := dk_21 4 (dk_at dksX7_sets_2 21 rfl rfl)
theorem dX7_sets_71 : decode cX7_sets 71 = .ok (.iload_n 3, 1) := dk_29 (dk_at dksX7_sets_2 23 rfl rfl)
theorem dX7_sets_72 : decode cX7_sets 72 = .ok (.iastore, 1) := dk_79 (dk_at dksX7_sets_3 0 rfl rfl)
theorem dX7_sets_73 : decode cX7_sets 73 = .ok (.aload_n 0, 1) := dk_42 (dk_at dksX7_sets_3 1 rfl rfl)
theorem dX7_sets_74 : decode cX7_sets 74 = .ok (.getfield 41, 3) := dk_180 0 41 (dk_at dksX7_sets_3 2 rfl rfl)
theorem dX7_sets_77 : decode cX7_sets 77 = .ok (.iload_n 3, 1) := dk_29 (dk_at dksX7_sets_3 5 rfl rfl)
theorem dX7_sets_78 : decode cX7_sets 78 = .ok (.aload_n 0, 1) := dk_42 (dk_at dksX7_sets_3 6 rfl rfl)
theorem dX7_sets_79 : decode cX7_sets 79 = .ok (.iload_n 3, 1) := dk_29 (dk_at dksX7_sets_3 7 rfl rfl)
theorem dX7_sets_80 : decode cX7_sets 80 = .ok (.iload 4, 2) := dk_21 4 (dk_at dksX7_sets_3 8 rfl rfl)
theorem dX7_sets_82 : decode cX7_sets 82 = .ok (.invokevirtual 152, 3) := dk_182 0 152 (dk_at dksX7_sets_3 10 rfl rfl)
theorem dX7_sets_85 : decode cX7_sets 85 = .ok (.iastore, 1) := dk_79 (dk_at dksX7_sets_3 13 rfl rfl)
theorem dX7_sets_86 : decode cX7_sets 86 = .ok (.iinc 3 1, 3) := dk_132 3 1 (dk_at dksX7_sets_3 14 rfl rfl)
theorem dX7_sets_89 : decode cX7_sets 89 = .ok (.goto (-66), 3) := dk_167 255 190 (dk_at dksX7_sets_3 17 rfl rfl)
theorem dX7_sets_92 : decode cX7_sets 92 = .ok (.return_, 1) := dk_177 (dk_at dksX7_sets_3 20 rfl rfl)
abbrev cX7_bearsOn : ByteArray := prog_12_method_24_code
def yX7_bearsOn : MethodName := ⟨RX7, "bearsOn", "(II)I"⟩
def dkwX7_bearsOn_4 : List UInt8 := [21, 5, 172]
abbrev dktX7_bearsOn_4 : List UInt8 := dkwX7_bearsOn_4 ++ []
def dkwX7_bearsOn_3 : List UInt8 := [184, 0, 146, 154, 0, 7, 5, 167, 0, 4, 3, 96, 54, 5, 21, 5, 4, 162, 0, 7, 4, 167, 0, 5]
abbrev dktX7_bearsOn_3 : List UInt8 := dkwX7_bearsOn_3 ++ dktX7_bearsOn_4
def dkwX7_bearsOn_2 : List UInt8 := [160, 0, 10, 21, 4, 5, 108, 167, 0, 5, 21, 4, 100, 54, 5, 21, 5, 29, 5, 160, 0, 14, 28]
abbrev dktX7_bearsOn_2 : List UInt8 := dkwX7_bearsOn_2 ++ dktX7_bearsOn_3
def dkwX7_bearsOn_1 : List UInt8 := [160, 0, 14, 42, 180, 0, 16, 27, 46, 5, 108, 167, 0, 24, 42, 180, 0, 16, 27, 46, 29, 4]
abbrev dktX7_bearsOn_1 : List UInt8 := dkwX7_bearsOn_1 ++ dktX7_bearsOn_2
def dkwX7_bearsOn_0 : List UInt8 := [42, 180, 0, 19, 16, 27, 27, 96, 46, 62, 42, 180, 0, 19, 16, 36, 27, 96, 46, 54, 4, 29, 6]
abbrev dktX7_bearsOn_0 : List UInt8 := dkwX7_bearsOn_0 ++ dktX7_bearsOn_1
theorem dksX7_bearsOn_0 : cX7_bearsOn.data.toList.drop 0 = dktX7_bearsOn_0 := by decide +kernel
theorem dksX7_bearsOn_1 : cX7_bearsOn.data.toList.drop 23 = dktX7_bearsOn_1 := dk_seg dksX7_bearsOn_0 23 rfl rfl
theorem dksX7_bearsOn_2 : cX7_bearsOn.data.toList.drop 45 = dktX7_bearsOn_2 := dk_seg dksX7_bearsOn_1 22 rfl rfl
theorem dksX7_bearsOn_3 : cX7_bearsOn.data.toList.drop 68 = dktX7_bearsOn_3 := dk_seg dksX7_bearsOn_2 23 rfl rfl
theorem dksX7_bearsOn_4 : cX7_bearsOn.data.toList.drop 92 = dktX7_bearsOn_4 := dk_seg dksX7_bearsOn_3 24 rfl rfl
theorem dX7_bearsOn_0 : decode cX7_bearsOn 0 = .ok (.aload_n 0, 1) := dk_42 (dk_at dksX7_bearsOn_0 0 rfl rfl)
theorem dX7_bearsOn_1 : decode cX7_bearsOn 1 = .ok (.getfield 19, 3) := dk_180 0 19 (dk_at dksX7_bearsOn_0 1 rfl rfl)
theorem dX7_bearsOn_4 : decode cX7_bearsOn 4 = .ok (.bipush 27, 2) := dk_16 27 (dk_at dksX7_bearsOn_0 4 rfl rfl)
theorem dX7_bearsOn_6 : decode cX7_bearsOn 6 = .ok (.iload_n 1, 1) := dk_27 (dk_at dksX7_bearsOn_0 6 rfl rfl)
theorem dX7_bearsOn_7 : decode cX7_bearsOn 7 = .ok (.iadd, 1) := dk_96 (dk_at dksX7_bearsOn_0 7 rfl rfl)
theorem dX7_bearsOn_8 : decode cX7_bearsOn 8 = .ok (.iaload, 1) := dk_46 (dk_at dksX7_bearsOn_0 8 rfl rfl)
theorem dX7_bearsOn_9 : decode cX7_bearsOn 9 = .ok (.istore_n 3, 1) := dk_62 (dk_at dksX7_bearsOn_0 9 rfl rfl)
theorem dX7_bearsOn_10 : decode cX7_bearsOn 10 = .ok (.aload_n 0, 1) := dk_42 (dk_at dksX7_bearsOn_0 10 rfl rfl)
theorem dX7_bearsOn_11 : decode cX7_bearsOn 11 = .ok (.getfield 19, 3) := dk_180 0 19 (dk_at dksX7_bearsOn_0 11 rfl rfl)
theorem dX7_bearsOn_14 : decode cX7_bearsOn 14 = .ok (.bipush 36, 2) := dk_16 36 (dk_at dksX7_bearsOn_0 14 rfl rfl)
theorem dX7_bearsOn_16 : decode cX7_bearsOn 16 = .ok (.iload_n 1, 1) := dk_27 (dk_at dksX7_bearsOn_0 16 rfl rfl)
theorem dX7_bearsOn_17 : decode cX7_bearsOn 17 = .ok (.iadd, 1) := dk_96 (dk_at dksX7_bearsOn_0 17 rfl rfl)
theorem dX7_bearsOn_18 : decode cX7_bearsOn 18 = .ok (.iaload, 1) := dk_46 (dk_at dksX7_bearsOn_0 18 rfl rfl)
theorem dX7_bearsOn_19 : decode cX7_bearsOn 19 = .ok (.istore 4, 2) := dk_54 4 (dk_at dksX7_bearsOn_0 19 rfl rfl)
theorem dX7_bearsOn_21 : decode cX7_bearsOn 21 = .ok (.iload_n 3, 1) := dk_29 (dk_at dksX7_bearsOn_0 21 rfl rfl)
theorem dX7_bearsOn_22 : decode cX7_bearsOn 22 = .ok (.iconst 3, 1) := dk_6 (dk_at dksX7_bearsOn_0 22 rfl rfl)
theorem dX7_bearsOn_23 : decode cX7_bearsOn 23 = .ok (.if_icmp .ne 14, 3) := dk_160 0 14 (dk_at dksX7_bearsOn_1 0 rfl rfl)
theorem dX7_bearsOn_26 : decode cX7_bearsOn 26 = .ok (.aload_n 0, 1) := dk_42 (dk_at dksX7_bearsOn_1 3 rfl rfl)
theorem dX7_bearsOn_27 : decode cX7_bearsOn 27 = .ok (.getfield 16, 3) := dk_180 0 16 (dk_at dksX7_bearsOn_1 4 rfl rfl)
theorem dX7_bearsOn_30 : decode cX7_bearsOn 30 = .ok (.iload_n 1, 1) := dk_27 (dk_at dksX7_bearsOn_1 7 rfl rfl)
theorem dX7_bearsOn_31 : decode cX7_bearsOn 31 = .ok (.iaload, 1) := dk_46 (dk_at dksX7_bearsOn_1 8 rfl rfl)
theorem dX7_bearsOn_32 : decode cX7_bearsOn 32 = .ok (.iconst 2, 1) := dk_5 (dk_at dksX7_bearsOn_1 9 rfl rfl)
theorem dX7_bearsOn_33 : decode cX7_bearsOn 33 = .ok (.idiv, 1) := dk_108 (dk_at dksX7_bearsOn_1 10 rfl rfl)
theorem dX7_bearsOn_34 : decode cX7_bearsOn 34 = .ok (.goto 24, 3) := dk_167 0 24 (dk_at dksX7_bearsOn_1 11 rfl rfl)
theorem dX7_bearsOn_37 : decode cX7_bearsOn 37 = .ok (.aload_n 0, 1) := dk_42 (dk_at dksX7_bearsOn_1 14 rfl rfl)
theorem dX7_bearsOn_38 : decode cX7_bearsOn 38 = .ok (.getfield 16, 3) := dk_180 0 16 (dk_at dksX7_bearsOn_1 15 rfl rfl)
theorem dX7_bearsOn_41 : decode cX7_bearsOn 41 = .ok (.iload_n 1, 1) := dk_27 (dk_at dksX7_bearsOn_1 18 rfl rfl)
theorem dX7_bearsOn_42 : decode cX7_bearsOn 42 = .ok (.iaload, 1) := dk_46 (dk_at dksX7_bearsOn_1 19 rfl rfl)
theorem dX7_bearsOn_43 : decode cX7_bearsOn 43 = .ok (.iload_n 3, 1) := dk_29 (dk_at dksX7_bearsOn_1 20 rfl rfl)
theorem dX7_bearsOn_44 : decode cX7_bearsOn 44 = .ok (.iconst 1, 1) := dk_4 (dk_at dksX7_bearsOn_1 21 rfl rfl)
theorem dX7_bearsOn_45 : decode cX7_bearsOn 45 = .ok (.if_icmp .ne 10, 3) := dk_160 0 10 (dk_at dksX7_bearsOn_2 0 rfl rfl)
theorem dX7_bearsOn_48 : decode cX7_bearsOn 48 = .ok (.iload 4, 2) := dk_21 4 (dk_at dksX7_bearsOn_2 3 rfl rfl)
theorem dX7_bearsOn_50 : decode cX7_bearsOn 50 = .ok (.iconst 2, 1) := dk_5 (dk_at dksX7_bearsOn_2 5 rfl rfl)
theorem dX7_bearsOn_51 : decode cX7_bearsOn 51 = .ok (.idiv, 1) := dk_108 (dk_at dksX7_bearsOn_2 6 rfl rfl)
theorem dX7_bearsOn_52 : decode cX7_bearsOn 52 = .ok (.goto 5, 3) := dk_167 0 5 (dk_at dksX7_bearsOn_2 7 rfl rfl)
theorem dX7_bearsOn_55 : decode cX7_bearsOn 55 = .ok (.iload 4, 2) := dk_21 4 (dk_at dksX7_bearsOn_2 10 rfl rfl)
theorem dX7_bearsOn_57 : decode cX7_bearsOn 57 = .ok (.isub, 1) := dk_100 (dk_at dksX7_bearsOn_2 12 rfl rfl)
theorem dX7_bearsOn_58 : decode cX7_bearsOn 58 = .ok (.istore 5, 2) := dk_54 5 (dk_at dksX7_bearsOn_2 13 rfl rfl)
theorem dX7_bearsOn_60 : decode cX7_bearsOn 60 = .ok (.iload 5, 2) := dk_21 5 (dk_at dksX7_bearsOn_2 15 rfl rfl)
theorem dX7_bearsOn_62 : decode cX7_bearsOn 62 = .ok (.iload_n 3, 1) := dk_29 (dk_at dksX7_bearsOn_2 17 rfl rfl)
theorem dX7_bearsOn_63 : decode cX7_bearsOn 63 = .ok (.iconst 2, 1) := dk_5 (dk_at dksX7_bearsOn_2 18 rfl rfl)
theorem dX7_bearsOn_64 : decode cX7_bearsOn 64 = .ok (.if_icmp .ne 14, 3) := dk_160 0 14 (dk_at dksX7_bearsOn_2 19 rfl rfl)
theorem dX7_bearsOn_67 : decode cX7_bearsOn 67 = .ok (.iload_n 2, 1) := dk_28 (dk_at dksX7_bearsOn_2 22 rfl rfl)
theorem dX7_bearsOn_68 : decode cX7_bearsOn 68 = .ok (.invokestatic 146, 3) := dk_184 0 146 (dk_at dksX7_bearsOn_3 0 rfl rfl)
theorem dX7_bearsOn_71 : decode cX7_bearsOn 71 = .ok (.ifCond .ne 7, 3) := dk_154 0 7 (dk_at dksX7_bearsOn_3 3 rfl rfl)
theorem dX7_bearsOn_74 : decode cX7_bearsOn 74 = .ok (.iconst 2, 1) := dk_5 (dk_at dksX7_bearsOn_3 6 rfl rfl)
theorem dX7_bearsOn_75 : decode cX7_bearsOn 75 = .ok (.goto 4, 3) := dk_167 0 4 (dk_at dksX7_bearsOn_3 7 rfl rfl)
theorem dX7_bearsOn_78 : decode cX7_bearsOn 78 = .ok (.iconst 0, 1) := dk_3 (dk_at dksX7_bearsOn_3 10 rfl rfl)
theorem dX7_bearsOn_79 : decode cX7_bearsOn 79 = .ok (.iadd, 1) := dk_96 (dk_at dksX7_bearsOn_3 11 rfl rfl)
theorem dX7_bearsOn_80 : decode cX7_bearsOn 80 = .ok (.istore 5, 2) := dk_54 5 (dk_at dksX7_bearsOn_3 12 rfl rfl)
theorem dX7_bearsOn_82 : decode cX7_bearsOn 82 = .ok (.iload 5, 2) := dk_21 5 (dk_at dksX7_bearsOn_3 14 rfl rfl)
theorem dX7_bearsOn_84 : decode cX7_bearsOn 84 = .ok (.iconst 1, 1) := dk_4 (dk_at dksX7_bearsOn_3 16 rfl rfl)
theorem dX7_bearsOn_85 : decode cX7_bearsOn 85 = .ok (.if_icmp .ge 7, 3) := dk_162 0 7 (dk_at dksX7_bearsOn_3 17 rfl rfl)
theorem dX7_bearsOn_88 : decode cX7_bearsOn 88 = .ok (.iconst 1, 1) := dk_4 (dk_at dksX7_bearsOn_3 20 rfl rfl)
theorem dX7_bearsOn_89 : decode cX7_bearsOn 89 = .ok (.goto 5, 3) := dk_167 0 5 (dk_at dksX7_bearsOn_3 21 rfl rfl)
theorem dX7_bearsOn_92 : decode cX7_bearsOn 92 = .ok (.iload 5, 2) := dk_21 5 (dk_at dksX7_bearsOn_4 0 rfl rfl)
theorem dX7_bearsOn_94 : decode cX7_bearsOn 94 = .ok (.ireturn, 1) := dk_172 (dk_at dksX7_bearsOn_4 2 rfl rfl)
abbrev cX7_rowOf : ByteArray := prog_12_method_21_code
def yX7_rowOf : MethodName := ⟨RX7, "rowOf", "(I)I"⟩
def dkwX7_rowOf_1 : List UInt8 := [167, 0, 14, 26, 16, 8, 162, 0, 7, 6, 167, 0, 4, 7, 172]
abbrev dktX7_rowOf_1 : List UInt8 := dkwX7_rowOf_1 ++ []
def dkwX7_rowOf_0 : List UInt8 := [26, 154, 0, 7, 3, 167, 0, 33, 26, 6, 162, 0, 7, 4, 167, 0, 24, 26, 16, 6, 162, 0, 7, 5]
abbrev dktX7_rowOf_0 : List UInt8 := dkwX7_rowOf_0 ++ dktX7_rowOf_1
theorem dksX7_rowOf_0 : cX7_rowOf.data.toList.drop 0 = dktX7_rowOf_0 := by decide +kernel
theorem dksX7_rowOf_1 : cX7_rowOf.data.toList.drop 24 = dktX7_rowOf_1 := dk_seg dksX7_rowOf_0 24 rfl rfl
theorem dX7_rowOf_0 : decode cX7_rowOf 0 = .ok (.iload_n 0, 1) := dk_26 (dk_at dksX7_rowOf_0 0 rfl rfl)
theorem dX7_rowOf_1 : decode cX7_rowOf 1 = .ok (.ifCond .ne 7, 3) := dk_154 0 7 (dk_at dksX7_rowOf_0 1 rfl rfl)
theorem dX7_rowOf_4 : decode cX7_rowOf 4 = .ok (.iconst 0, 1) := dk_3 (dk_at dksX7_rowOf_0 4 rfl rfl)
theorem dX7_rowOf_5 : decode cX7_rowOf 5 = .ok (.goto 33, 3) := dk_167 0 33 (dk_at dksX7_rowOf_0 5 rfl rfl)
theorem dX7_rowOf_8 : decode cX7_rowOf 8 = .ok (.iload_n 0, 1) := dk_26 (dk_at dksX7_rowOf_0 8 rfl rfl)
theorem dX7_rowOf_9 : decode cX7_rowOf 9 = .ok (.iconst 3, 1) := dk_6 (dk_at dksX7_rowOf_0 9 rfl rfl)
theorem dX7_rowOf_10 : decode cX7_rowOf 10 = .ok (.if_icmp .ge 7, 3) := dk_162 0 7 (dk_at dksX7_rowOf_0 10 rfl rfl)
theorem dX7_rowOf_13 : decode cX7_rowOf 13 = .ok (.iconst 1, 1) := dk_4 (dk_at dksX7_rowOf_0 13 rfl rfl)
theorem dX7_rowOf_14 : decode cX7_rowOf 14 = .ok (.goto 24, 3) := dk_167 0 24 (dk_at dksX7_rowOf_0 14 rfl rfl)
theorem dX7_rowOf_17 : decode cX7_rowOf 17 = .ok (.iload_n 0, 1) := dk_26 (dk_at dksX7_rowOf_0 17 rfl rfl)
theorem dX7_rowOf_18 : decode cX7_rowOf 18 = .ok (.bipush 6, 2) := dk_16 6 (dk_at dksX7_rowOf_0 18 rfl rfl)
theorem dX7_rowOf_20 : decode cX7_rowOf 20 = .ok (.if_icmp .ge 7, 3) := dk_162 0 7 (dk_at dksX7_rowOf_0 20 rfl rfl)
theorem dX7_rowOf_23 : decode cX7_rowOf 23 = .ok (.iconst 2, 1) := dk_5 (dk_at dksX7_rowOf_0 23 rfl rfl)
theorem dX7_rowOf_24 : decode cX7_rowOf 24 = .ok (.goto 14, 3) := dk_167 0 14 (dk_at dksX7_rowOf_1 0 rfl rfl)
theorem dX7_rowOf_27 : decode cX7_rowOf 27 = .ok (.iload_n 0, 1) := dk_26 (dk_at dksX7_rowOf_1 3 rfl rfl)
theorem dX7_rowOf_28 : decode cX7_rowOf 28 = .ok (.bipush 8, 2) := dk_16 8 (dk_at dksX7_rowOf_1 4 rfl rfl)
theorem dX7_rowOf_30 : decode cX7_rowOf 30 = .ok (.if_icmp .ge 7, 3) := dk_162 0 7 (dk_at dksX7_rowOf_1 6 rfl rfl)
theorem dX7_rowOf_33 : decode cX7_rowOf 33 = .ok (.iconst 3, 1) := dk_6 (dk_at dksX7_rowOf_1 9 rfl rfl)
theorem dX7_rowOf_34 : decode cX7_rowOf 34 = .ok (.goto 4, 3) := dk_167 0 4 (dk_at dksX7_rowOf_1 10 rfl rfl)
theorem dX7_rowOf_37 : decode cX7_rowOf 37 = .ok (.iconst 4, 1) := dk_7 (dk_at dksX7_rowOf_1 13 rfl rfl)
theorem dX7_rowOf_38 : decode cX7_rowOf 38 = .ok (.ireturn, 1) := dk_172 (dk_at dksX7_rowOf_1 14 rfl rfl)
abbrev cX7_goesBy : ByteArray := prog_12_method_31_code
def yX7_goesBy : MethodName := ⟨RX7, "goesBy", "(II)I"⟩
def dkwX7_goesBy_0 : List UInt8 := [42, 27, 28, 16, 120, 108, 28, 16, 40, 108, 6, 112, 4, 28, 16, 40, 112, 96, 182, 0, 184, 172]
abbrev dktX7_goesBy_0 : List UInt8 := dkwX7_goesBy_0 ++ []
theorem dksX7_goesBy_0 : cX7_goesBy.data.toList.drop 0 = dktX7_goesBy_0 := by decide +kernel
theorem dX7_goesBy_0 : decode cX7_goesBy 0 = .ok (.aload_n 0, 1) := dk_42 (dk_at dksX7_goesBy_0 0 rfl rfl)
theorem dX7_goesBy_1 : decode cX7_goesBy 1 = .ok (.iload_n 1, 1) := dk_27 (dk_at dksX7_goesBy_0 1 rfl rfl)
theorem dX7_goesBy_2 : decode cX7_goesBy 2 = .ok (.iload_n 2, 1) := dk_28 (dk_at dksX7_goesBy_0 2 rfl rfl)
theorem dX7_goesBy_3 : decode cX7_goesBy 3 = .ok (.bipush 120, 2) := dk_16 120 (dk_at dksX7_goesBy_0 3 rfl rfl)
theorem dX7_goesBy_5 : decode cX7_goesBy 5 = .ok (.idiv, 1) := dk_108 (dk_at dksX7_goesBy_0 5 rfl rfl)
theorem dX7_goesBy_6 : decode cX7_goesBy 6 = .ok (.iload_n 2, 1) := dk_28 (dk_at dksX7_goesBy_0 6 rfl rfl)
theorem dX7_goesBy_7 : decode cX7_goesBy 7 = .ok (.bipush 40, 2) := dk_16 40 (dk_at dksX7_goesBy_0 7 rfl rfl)
theorem dX7_goesBy_9 : decode cX7_goesBy 9 = .ok (.idiv, 1) := dk_108 (dk_at dksX7_goesBy_0 9 rfl rfl)
theorem dX7_goesBy_10 : decode cX7_goesBy 10 = .ok (.iconst 3, 1) := dk_6 (dk_at dksX7_goesBy_0 10 rfl rfl)
theorem dX7_goesBy_11 : decode cX7_goesBy 11 = .ok (.irem, 1) := dk_112 (dk_at dksX7_goesBy_0 11 rfl rfl)
theorem dX7_goesBy_12 : decode cX7_goesBy 12 = .ok (.iconst 1, 1) := dk_4 (dk_at dksX7_goesBy_0 12 rfl rfl)
theorem dX7_goesBy_13 : decode cX7_goesBy 13 = .ok (.iload_n 2, 1) := dk_28 (dk_at dksX7_goesBy_0 13 rfl rfl)
theorem dX7_goesBy_14 : decode cX7_goesBy 14 = .ok (.bipush 40, 2) := dk_16 40 (dk_at dksX7_goesBy_0 14 rfl rfl)
theorem dX7_goesBy_16 : decode cX7_goesBy 16 = .ok (.irem, 1) := dk_112 (dk_at dksX7_goesBy_0 16 rfl rfl)
theorem dX7_goesBy_17 : decode cX7_goesBy 17 = .ok (.iadd, 1) := dk_96 (dk_at dksX7_goesBy_0 17 rfl rfl)
theorem dX7_goesBy_18 : decode cX7_goesBy 18 = .ok (.invokevirtual 184, 3) := dk_182 0 184 (dk_at dksX7_goesBy_0 18 rfl rfl)
theorem dX7_goesBy_21 : decode cX7_goesBy 21 = .ok (.ireturn, 1) := dk_172 (dk_at dksX7_goesBy_0 21 rfl rfl)
abbrev cX7_goes : ByteArray := prog_12_method_30_code
def yX7_goes : MethodName := ⟨RX7, "goes", "(IIII)I"⟩
def dkwX7_goes_9 : List UInt8 := [21, 5, 29, 4, 100, 96, 54, 5, 132, 7, 1, 167, 255, 97, 27, 42, 180, 0, 158, 2, 130, 126, 172]
abbrev dktX7_goes_9 : List UInt8 := dkwX7_goes_9 ++ []
def dkwX7_goes_8 : List UInt8 := [180, 0, 178, 2, 160, 0, 13, 21, 6, 157, 0, 8, 21, 7, 167, 0, 7, 42, 180, 0, 178, 181, 0, 178]
abbrev dktX7_goes_8 : List UInt8 := dkwX7_goes_8 ++ dktX7_goes_9
def dkwX7_goes_7 : List UInt8 := [182, 0, 174, 42, 21, 7, 181, 0, 178, 21, 6, 42, 180, 0, 137, 6, 108, 100, 54, 6, 42, 42]
abbrev dktX7_goes_7 : List UInt8 := dkwX7_goes_7 ++ dktX7_goes_8
def dkwX7_goes_6 : List UInt8 := [21, 6, 42, 180, 0, 41, 21, 9, 46, 5, 108, 4, 96, 100, 54, 6, 167, 0, 15, 42, 21, 9]
abbrev dktX7_goes_6 : List UInt8 := dkwX7_goes_6 ++ dktX7_goes_7
def dkwX7_goes_5 : List UInt8 := [153, 0, 54, 21, 6, 42, 180, 0, 41, 21, 9, 46, 161, 0, 30, 42, 21, 9, 21, 6, 182, 0, 181]
abbrev dktX7_goes_5 : List UInt8 := dkwX7_goes_5 ++ dktX7_goes_6
def dkwX7_goes_4 : List UInt8 := [180, 0, 38, 21, 8, 46, 54, 9, 21, 9, 2, 159, 0, 66, 42, 180, 0, 158, 21, 9, 184, 0, 170]
abbrev dktX7_goes_4 : List UInt8 := dkwX7_goes_4 ++ dktX7_goes_5
def dkwX7_goes_3 : List UInt8 := [160, 0, 151, 21, 7, 21, 5, 184, 0, 167, 54, 8, 21, 8, 2, 160, 0, 7, 2, 167, 0, 10, 42]
abbrev dktX7_goes_3 : List UInt8 := dkwX7_goes_3 ++ dktX7_goes_4
def dkwX7_goes_2 : List UInt8 := [167, 255, 229, 28, 54, 5, 21, 4, 54, 6, 3, 54, 7, 21, 7, 8, 162, 0, 159, 42, 180, 0, 178, 2]
abbrev dktX7_goes_2 : List UInt8 := dkwX7_goes_2 ++ dktX7_goes_3
def dkwX7_goes_1 : List UInt8 := [162, 0, 26, 42, 180, 0, 44, 21, 5, 3, 79, 42, 180, 0, 47, 21, 5, 16, 254, 79, 132, 5, 1]
abbrev dktX7_goes_1 : List UInt8 := dkwX7_goes_1 ++ dktX7_goes_2
def dkwX7_goes_0 : List UInt8 := [42, 27, 181, 0, 158, 42, 3, 181, 0, 155, 42, 2, 181, 0, 178, 3, 54, 5, 21, 5, 16, 9]
abbrev dktX7_goes_0 : List UInt8 := dkwX7_goes_0 ++ dktX7_goes_1
theorem dksX7_goes_0 : cX7_goes.data.toList.drop 0 = dktX7_goes_0 := by decide +kernel
theorem dksX7_goes_1 : cX7_goes.data.toList.drop 22 = dktX7_goes_1 := dk_seg dksX7_goes_0 22 rfl rfl
theorem dksX7_goes_2 : cX7_goes.data.toList.drop 45 = dktX7_goes_2 := dk_seg dksX7_goes_1 23 rfl rfl
theorem dksX7_goes_3 : cX7_goes.data.toList.drop 69 = dktX7_goes_3 := dk_seg dksX7_goes_2 24 rfl rfl
theorem dksX7_goes_4 : cX7_goes.data.toList.drop 92 = dktX7_goes_4 := dk_seg dksX7_goes_3 23 rfl rfl
theorem dksX7_goes_5 : cX7_goes.data.toList.drop 115 = dktX7_goes_5 := dk_seg dksX7_goes_4 23 rfl rfl
theorem dksX7_goes_6 : cX7_goes.data.toList.drop 138 = dktX7_goes_6 := dk_seg dksX7_goes_5 23 rfl rfl
theorem dksX7_goes_7 : cX7_goes.data.toList.drop 160 = dktX7_goes_7 := dk_seg dksX7_goes_6 22 rfl rfl
theorem dksX7_goes_8 : cX7_goes.data.toList.drop 182 = dktX7_goes_8 := dk_seg dksX7_goes_7 22 rfl rfl
theorem dksX7_goes_9 : cX7_goes.data.toList.drop 206 = dktX7_goes_9 := dk_seg dksX7_goes_8 24 rfl rfl
theorem dX7_goes_0 : decode cX7_goes 0 = .ok (.aload_n 0, 1) := dk_42 (dk_at dksX7_goes_0 0 rfl rfl)
theorem dX7_goes_1 : decode cX7_goes 1 = .ok (.iload_n 1, 1) := dk_27 (dk_at dksX7_goes_0 1 rfl rfl)
theorem dX7_goes_2 : decode cX7_goes 2 = .ok (.putfield 158, 3) := dk_181 0 158 (dk_at dksX7_goes_0 2 rfl rfl)
theorem dX7_goes_5 : decode cX7_goes 5 = .ok (.aload_n 0, 1) := dk_42 (dk_at dksX7_goes_0 5 rfl rfl)
theorem dX7_goes_6 : decode cX7_goes 6 = .ok (.iconst 0, 1) := dk_3 (dk_at dksX7_goes_0 6 rfl rfl)
theorem dX7_goes_7 : decode cX7_goes 7 = .ok (.putfield 155, 3) := dk_181 0 155 (dk_at dksX7_goes_0 7 rfl rfl)
theorem dX7_goes_10 : decode cX7_goes 10 = .ok (.aload_n 0, 1) := dk_42 (dk_at dksX7_goes_0 10 rfl rfl)
theorem dX7_goes_11 : decode cX7_goes 11 = .ok (.iconst (-1), 1) := dk_2 (dk_at dksX7_goes_0 11 rfl rfl)
theorem dX7_goes_12 : decode cX7_goes 12 = .ok (.putfield 178, 3) := dk_181 0 178 (dk_at dksX7_goes_0 12 rfl rfl)
theorem dX7_goes_15 : decode cX7_goes 15 = .ok (.iconst 0, 1) := dk_3 (dk_at dksX7_goes_0 15 rfl rfl)
theorem dX7_goes_16 : decode cX7_goes 16 = .ok (.istore 5, 2) := dk_54 5 (dk_at dksX7_goes_0 16 rfl rfl)
theorem dX7_goes_18 : decode cX7_goes 18 = .ok (.iload 5, 2) := dk_21 5 (dk_at dksX7_goes_0 18 rfl rfl)
theorem dX7_goes_20 : decode cX7_goes 20 = .ok (.bipush 9, 2) := dk_16 9 (dk_at dksX7_goes_0 20 rfl rfl)
theorem dX7_goes_22 : decode cX7_goes 22 = .ok (.if_icmp .ge 26, 3) := dk_162 0 26 (dk_at dksX7_goes_1 0 rfl rfl)
theorem dX7_goes_25 : decode cX7_goes 25 = .ok (.aload_n 0, 1) := dk_42 (dk_at dksX7_goes_1 3 rfl rfl)
theorem dX7_goes_26 : decode cX7_goes 26 = .ok (.getfield 44, 3) := dk_180 0 44 (dk_at dksX7_goes_1 4 rfl rfl)
theorem dX7_goes_29 : decode cX7_goes 29 = .ok (.iload 5, 2) := dk_21 5 (dk_at dksX7_goes_1 7 rfl rfl)
theorem dX7_goes_31 : decode cX7_goes 31 = .ok (.iconst 0, 1) := dk_3 (dk_at dksX7_goes_1 9 rfl rfl)
theorem dX7_goes_32 : decode cX7_goes 32 = .ok (.iastore, 1) := dk_79 (dk_at dksX7_goes_1 10 rfl rfl)
theorem dX7_goes_33 : decode cX7_goes 33 = .ok (.aload_n 0, 1) := dk_42 (dk_at dksX7_goes_1 11 rfl rfl)
theorem dX7_goes_34 : decode cX7_goes 34 = .ok (.getfield 47, 3) := dk_180 0 47 (dk_at dksX7_goes_1 12 rfl rfl)
theorem dX7_goes_37 : decode cX7_goes 37 = .ok (.iload 5, 2) := dk_21 5 (dk_at dksX7_goes_1 15 rfl rfl)
theorem dX7_goes_39 : decode cX7_goes 39 = .ok (.bipush (-2), 2) := dk_16 254 (dk_at dksX7_goes_1 17 rfl rfl)
theorem dX7_goes_41 : decode cX7_goes 41 = .ok (.iastore, 1) := dk_79 (dk_at dksX7_goes_1 19 rfl rfl)
theorem dX7_goes_42 : decode cX7_goes 42 = .ok (.iinc 5 1, 3) := dk_132 5 1 (dk_at dksX7_goes_1 20 rfl rfl)
theorem dX7_goes_45 : decode cX7_goes 45 = .ok (.goto (-27), 3) := dk_167 255 229 (dk_at dksX7_goes_2 0 rfl rfl)
theorem dX7_goes_48 : decode cX7_goes 48 = .ok (.iload_n 2, 1) := dk_28 (dk_at dksX7_goes_2 3 rfl rfl)
theorem dX7_goes_49 : decode cX7_goes 49 = .ok (.istore 5, 2) := dk_54 5 (dk_at dksX7_goes_2 4 rfl rfl)
theorem dX7_goes_51 : decode cX7_goes 51 = .ok (.iload 4, 2) := dk_21 4 (dk_at dksX7_goes_2 6 rfl rfl)
theorem dX7_goes_53 : decode cX7_goes 53 = .ok (.istore 6, 2) := dk_54 6 (dk_at dksX7_goes_2 8 rfl rfl)
theorem dX7_goes_55 : decode cX7_goes 55 = .ok (.iconst 0, 1) := dk_3 (dk_at dksX7_goes_2 10 rfl rfl)
theorem dX7_goes_56 : decode cX7_goes 56 = .ok (.istore 7, 2) := dk_54 7 (dk_at dksX7_goes_2 11 rfl rfl)
theorem dX7_goes_58 : decode cX7_goes 58 = .ok (.iload 7, 2) := dk_21 7 (dk_at dksX7_goes_2 13 rfl rfl)
theorem dX7_goes_60 : decode cX7_goes 60 = .ok (.iconst 5, 1) := dk_8 (dk_at dksX7_goes_2 15 rfl rfl)
theorem dX7_goes_61 : decode cX7_goes 61 = .ok (.if_icmp .ge 159, 3) := dk_162 0 159 (dk_at dksX7_goes_2 16 rfl rfl)
theorem dX7_goes_64 : decode cX7_goes 64 = .ok (.aload_n 0, 1) := dk_42 (dk_at dksX7_goes_2 19 rfl rfl)
theorem dX7_goes_65 : decode cX7_goes 65 = .ok (.getfield 178, 3) := dk_180 0 178 (dk_at dksX7_goes_2 20 rfl rfl)
theorem dX7_goes_68 : decode cX7_goes 68 = .ok (.iconst (-1), 1) := dk_2 (dk_at dksX7_goes_2 23 rfl rfl)
theorem dX7_goes_69 : decode cX7_goes 69 = .ok (.if_icmp .ne 151, 3) := dk_160 0 151 (dk_at dksX7_goes_3 0 rfl rfl)
theorem dX7_goes_72 : decode cX7_goes 72 = .ok (.iload 7, 2) := dk_21 7 (dk_at dksX7_goes_3 3 rfl rfl)
theorem dX7_goes_74 : decode cX7_goes 74 = .ok (.iload 5, 2) := dk_21 5 (dk_at dksX7_goes_3 5 rfl rfl)
theorem dX7_goes_76 : decode cX7_goes 76 = .ok (.invokestatic 167, 3) := dk_184 0 167 (dk_at dksX7_goes_3 7 rfl rfl)
theorem dX7_goes_79 : decode cX7_goes 79 = .ok (.istore 8, 2) := dk_54 8 (dk_at dksX7_goes_3 10 rfl rfl)
theorem dX7_goes_81 : decode cX7_goes 81 = .ok (.iload 8, 2) := dk_21 8 (dk_at dksX7_goes_3 12 rfl rfl)
theorem dX7_goes_83 : decode cX7_goes 83 = .ok (.iconst (-1), 1) := dk_2 (dk_at dksX7_goes_3 14 rfl rfl)
theorem dX7_goes_84 : decode cX7_goes 84 = .ok (.if_icmp .ne 7, 3) := dk_160 0 7 (dk_at dksX7_goes_3 15 rfl rfl)
theorem dX7_goes_87 : decode cX7_goes 87 = .ok (.iconst (-1), 1) := dk_2 (dk_at dksX7_goes_3 18 rfl rfl)
theorem dX7_goes_88 : decode cX7_goes 88 = .ok (.goto 10, 3) := dk_167 0 10 (dk_at dksX7_goes_3 19 rfl rfl)
theorem dX7_goes_91 : decode cX7_goes 91 = .ok (.aload_n 0, 1) := dk_42 (dk_at dksX7_goes_3 22 rfl rfl)
theorem dX7_goes_92 : decode cX7_goes 92 = .ok (.getfield 38, 3) := dk_180 0 38 (dk_at dksX7_goes_4 0 rfl rfl)
theorem dX7_goes_95 : decode cX7_goes 95 = .ok (.iload 8, 2) := dk_21 8 (dk_at dksX7_goes_4 3 rfl rfl)
theorem dX7_goes_97 : decode cX7_goes 97 = .ok (.iaload, 1) := dk_46 (dk_at dksX7_goes_4 5 rfl rfl)
theorem dX7_goes_98 : decode cX7_goes 98 = .ok (.istore 9, 2) := dk_54 9 (dk_at dksX7_goes_4 6 rfl rfl)
theorem dX7_goes_100 : decode cX7_goes 100 = .ok (.iload 9, 2) := dk_21 9 (dk_at dksX7_goes_4 8 rfl rfl)
theorem dX7_goes_102 : decode cX7_goes 102 = .ok (.iconst (-1), 1) := dk_2 (dk_at dksX7_goes_4 10 rfl rfl)
theorem dX7_goes_103 : decode cX7_goes 103 = .ok (.if_icmp .eq 66, 3) := dk_159 0 66 (dk_at dksX7_goes_4 11 rfl rfl)
theorem dX7_goes_106 : decode cX7_goes 106 = .ok (.aload_n 0, 1) := dk_42 (dk_at dksX7_goes_4 14 rfl rfl)
theorem dX7_goes_107 : decode cX7_goes 107 = .ok (.getfield 158, 3) := dk_180 0 158 (dk_at dksX7_goes_4 15 rfl rfl)
theorem dX7_goes_110 : decode cX7_goes 110 = .ok (.iload 9, 2) := dk_21 9 (dk_at dksX7_goes_4 18 rfl rfl)
theorem dX7_goes_112 : decode cX7_goes 112 = .ok (.invokestatic 170, 3) := dk_184 0 170 (dk_at dksX7_goes_4 20 rfl rfl)
theorem dX7_goes_115 : decode cX7_goes 115 = .ok (.ifCond .eq 54, 3) := dk_153 0 54 (dk_at dksX7_goes_5 0 rfl rfl)
theorem dX7_goes_118 : decode cX7_goes 118 = .ok (.iload 6, 2) := dk_21 6 (dk_at dksX7_goes_5 3 rfl rfl)
theorem dX7_goes_120 : decode cX7_goes 120 = .ok (.aload_n 0, 1) := dk_42 (dk_at dksX7_goes_5 5 rfl rfl)
theorem dX7_goes_121 : decode cX7_goes 121 = .ok (.getfield 41, 3) := dk_180 0 41 (dk_at dksX7_goes_5 6 rfl rfl)
theorem dX7_goes_124 : decode cX7_goes 124 = .ok (.iload 9, 2) := dk_21 9 (dk_at dksX7_goes_5 9 rfl rfl)
theorem dX7_goes_126 : decode cX7_goes 126 = .ok (.iaload, 1) := dk_46 (dk_at dksX7_goes_5 11 rfl rfl)
theorem dX7_goes_127 : decode cX7_goes 127 = .ok (.if_icmp .lt 30, 3) := dk_161 0 30 (dk_at dksX7_goes_5 12 rfl rfl)
theorem dX7_goes_130 : decode cX7_goes 130 = .ok (.aload_n 0, 1) := dk_42 (dk_at dksX7_goes_5 15 rfl rfl)
theorem dX7_goes_131 : decode cX7_goes 131 = .ok (.iload 9, 2) := dk_21 9 (dk_at dksX7_goes_5 16 rfl rfl)
theorem dX7_goes_133 : decode cX7_goes 133 = .ok (.iload 6, 2) := dk_21 6 (dk_at dksX7_goes_5 18 rfl rfl)
theorem dX7_goes_135 : decode cX7_goes 135 = .ok (.invokevirtual 181, 3) := dk_182 0 181 (dk_at dksX7_goes_5 20 rfl rfl)
theorem dX7_goes_138 : decode cX7_goes 138 = .ok (.iload 6, 2) := dk_21 6 (dk_at dksX7_goes_6 0 rfl rfl)
theorem dX7_goes_140 : decode cX7_goes 140 = .ok (.aload_n 0, 1) := dk_42 (dk_at dksX7_goes_6 2 rfl rfl)
theorem dX7_goes_141 : decode cX7_goes 141 = .ok (.getfield 41, 3) := dk_180 0 41 (dk_at dksX7_goes_6 3 rfl rfl)
theorem dX7_goes_144 : decode cX7_goes 144 = .ok (.iload 9, 2) := dk_21 9 (dk_at dksX7_goes_6 6 rfl rfl)
theorem dX7_goes_146 : decode cX7_goes 146 = .ok (.iaload, 1) := dk_46 (dk_at dksX7_goes_6 8 rfl rfl)
theorem dX7_goes_147 : decode cX7_goes 147 = .ok (.iconst 2, 1) := dk_5 (dk_at dksX7_goes_6 9 rfl rfl)
theorem dX7_goes_148 : decode cX7_goes 148 = .ok (.idiv, 1) := dk_108 (dk_at dksX7_goes_6 10 rfl rfl)
theorem dX7_goes_149 : decode cX7_goes 149 = .ok (.iconst 1, 1) := dk_4 (dk_at dksX7_goes_6 11 rfl rfl)
theorem dX7_goes_150 : decode cX7_goes 150 = .ok (.iadd, 1) := dk_96 (dk_at dksX7_goes_6 12 rfl rfl)
theorem dX7_goes_151 : decode cX7_goes 151 = .ok (.isub, 1) := dk_100 (dk_at dksX7_goes_6 13 rfl rfl)
theorem dX7_goes_152 : decode cX7_goes 152 = .ok (.istore 6, 2) := dk_54 6 (dk_at dksX7_goes_6 14 rfl rfl)
theorem dX7_goes_154 : decode cX7_goes 154 = .ok (.goto 15, 3) := dk_167 0 15 (dk_at dksX7_goes_6 16 rfl rfl)
theorem dX7_goes_157 : decode cX7_goes 157 = .ok (.aload_n 0, 1) := dk_42 (dk_at dksX7_goes_6 19 rfl rfl)
theorem dX7_goes_158 : decode cX7_goes 158 = .ok (.iload 9, 2) := dk_21 9 (dk_at dksX7_goes_6 20 rfl rfl)
theorem dX7_goes_160 : decode cX7_goes 160 = .ok (.invokevirtual 174, 3) := dk_182 0 174 (dk_at dksX7_goes_7 0 rfl rfl)
theorem dX7_goes_163 : decode cX7_goes 163 = .ok (.aload_n 0, 1) := dk_42 (dk_at dksX7_goes_7 3 rfl rfl)
theorem dX7_goes_164 : decode cX7_goes 164 = .ok (.iload 7, 2) := dk_21 7 (dk_at dksX7_goes_7 4 rfl rfl)
theorem dX7_goes_166 : decode cX7_goes 166 = .ok (.putfield 178, 3) := dk_181 0 178 (dk_at dksX7_goes_7 6 rfl rfl)
theorem dX7_goes_169 : decode cX7_goes 169 = .ok (.iload 6, 2) := dk_21 6 (dk_at dksX7_goes_7 9 rfl rfl)
theorem dX7_goes_171 : decode cX7_goes 171 = .ok (.aload_n 0, 1) := dk_42 (dk_at dksX7_goes_7 11 rfl rfl)
theorem dX7_goes_172 : decode cX7_goes 172 = .ok (.getfield 137, 3) := dk_180 0 137 (dk_at dksX7_goes_7 12 rfl rfl)
theorem dX7_goes_175 : decode cX7_goes 175 = .ok (.iconst 3, 1) := dk_6 (dk_at dksX7_goes_7 15 rfl rfl)
theorem dX7_goes_176 : decode cX7_goes 176 = .ok (.idiv, 1) := dk_108 (dk_at dksX7_goes_7 16 rfl rfl)
theorem dX7_goes_177 : decode cX7_goes 177 = .ok (.isub, 1) := dk_100 (dk_at dksX7_goes_7 17 rfl rfl)
theorem dX7_goes_178 : decode cX7_goes 178 = .ok (.istore 6, 2) := dk_54 6 (dk_at dksX7_goes_7 18 rfl rfl)
theorem dX7_goes_180 : decode cX7_goes 180 = .ok (.aload_n 0, 1) := dk_42 (dk_at dksX7_goes_7 20 rfl rfl)
theorem dX7_goes_181 : decode cX7_goes 181 = .ok (.aload_n 0, 1) := dk_42 (dk_at dksX7_goes_7 21 rfl rfl)
theorem dX7_goes_182 : decode cX7_goes 182 = .ok (.getfield 178, 3) := dk_180 0 178 (dk_at dksX7_goes_8 0 rfl rfl)
theorem dX7_goes_185 : decode cX7_goes 185 = .ok (.iconst (-1), 1) := dk_2 (dk_at dksX7_goes_8 3 rfl rfl)
theorem dX7_goes_186 : decode cX7_goes 186 = .ok (.if_icmp .ne 13, 3) := dk_160 0 13 (dk_at dksX7_goes_8 4 rfl rfl)
theorem dX7_goes_189 : decode cX7_goes 189 = .ok (.iload 6, 2) := dk_21 6 (dk_at dksX7_goes_8 7 rfl rfl)
theorem dX7_goes_191 : decode cX7_goes 191 = .ok (.ifCond .gt 8, 3) := dk_157 0 8 (dk_at dksX7_goes_8 9 rfl rfl)
theorem dX7_goes_194 : decode cX7_goes 194 = .ok (.iload 7, 2) := dk_21 7 (dk_at dksX7_goes_8 12 rfl rfl)
theorem dX7_goes_196 : decode cX7_goes 196 = .ok (.goto 7, 3) := dk_167 0 7 (dk_at dksX7_goes_8 14 rfl rfl)
theorem dX7_goes_199 : decode cX7_goes 199 = .ok (.aload_n 0, 1) := dk_42 (dk_at dksX7_goes_8 17 rfl rfl)
theorem dX7_goes_200 : decode cX7_goes 200 = .ok (.getfield 178, 3) := dk_180 0 178 (dk_at dksX7_goes_8 18 rfl rfl)
theorem dX7_goes_203 : decode cX7_goes 203 = .ok (.putfield 178, 3) := dk_181 0 178 (dk_at dksX7_goes_8 21 rfl rfl)
theorem dX7_goes_206 : decode cX7_goes 206 = .ok (.iload 5, 2) := dk_21 5 (dk_at dksX7_goes_9 0 rfl rfl)
theorem dX7_goes_208 : decode cX7_goes 208 = .ok (.iload_n 3, 1) := dk_29 (dk_at dksX7_goes_9 2 rfl rfl)
theorem dX7_goes_209 : decode cX7_goes 209 = .ok (.iconst 1, 1) := dk_4 (dk_at dksX7_goes_9 3 rfl rfl)
theorem dX7_goes_210 : decode cX7_goes 210 = .ok (.isub, 1) := dk_100 (dk_at dksX7_goes_9 4 rfl rfl)
theorem dX7_goes_211 : decode cX7_goes 211 = .ok (.iadd, 1) := dk_96 (dk_at dksX7_goes_9 5 rfl rfl)
theorem dX7_goes_212 : decode cX7_goes 212 = .ok (.istore 5, 2) := dk_54 5 (dk_at dksX7_goes_9 6 rfl rfl)
theorem dX7_goes_214 : decode cX7_goes 214 = .ok (.iinc 7 1, 3) := dk_132 7 1 (dk_at dksX7_goes_9 8 rfl rfl)
theorem dX7_goes_217 : decode cX7_goes 217 = .ok (.goto (-159), 3) := dk_167 255 97 (dk_at dksX7_goes_9 11 rfl rfl)
theorem dX7_goes_220 : decode cX7_goes 220 = .ok (.iload_n 1, 1) := dk_27 (dk_at dksX7_goes_9 14 rfl rfl)
theorem dX7_goes_221 : decode cX7_goes 221 = .ok (.aload_n 0, 1) := dk_42 (dk_at dksX7_goes_9 15 rfl rfl)
theorem dX7_goes_222 : decode cX7_goes 222 = .ok (.getfield 158, 3) := dk_180 0 158 (dk_at dksX7_goes_9 16 rfl rfl)
theorem dX7_goes_225 : decode cX7_goes 225 = .ok (.iconst (-1), 1) := dk_2 (dk_at dksX7_goes_9 19 rfl rfl)
theorem dX7_goes_226 : decode cX7_goes 226 = .ok (.ixor, 1) := dk_130 (dk_at dksX7_goes_9 20 rfl rfl)
theorem dX7_goes_227 : decode cX7_goes 227 = .ok (.iand, 1) := dk_126 (dk_at dksX7_goes_9 21 rfl rfl)
theorem dX7_goes_228 : decode cX7_goes 228 = .ok (.ireturn, 1) := dk_172 (dk_at dksX7_goes_9 22 rfl rfl)
abbrev cX7_plateAt : ByteArray := prog_12_method_23_code
def yX7_plateAt : MethodName := ⟨RX7, "plateAt", "(II)I"⟩
def dkwX7_plateAt_1 : List UInt8 := [28, 172, 132, 2, 1, 167, 255, 229, 2, 172]
abbrev dktX7_plateAt_1 : List UInt8 := dkwX7_plateAt_1 ++ []
def dkwX7_plateAt_0 : List UInt8 := [3, 61, 28, 16, 9, 162, 0, 27, 28, 184, 0, 146, 26, 160, 0, 13, 28, 184, 0, 149, 27, 160, 0, 5]
abbrev dktX7_plateAt_0 : List UInt8 := dkwX7_plateAt_0 ++ dktX7_plateAt_1
theorem dksX7_plateAt_0 : cX7_plateAt.data.toList.drop 0 = dktX7_plateAt_0 := by decide +kernel
theorem dksX7_plateAt_1 : cX7_plateAt.data.toList.drop 24 = dktX7_plateAt_1 := dk_seg dksX7_plateAt_0 24 rfl rfl
theorem dX7_plateAt_0 : decode cX7_plateAt 0 = .ok (.iconst 0, 1) := dk_3 (dk_at dksX7_plateAt_0 0 rfl rfl)
theorem dX7_plateAt_1 : decode cX7_plateAt 1 = .ok (.istore_n 2, 1) := dk_61 (dk_at dksX7_plateAt_0 1 rfl rfl)
theorem dX7_plateAt_2 : decode cX7_plateAt 2 = .ok (.iload_n 2, 1) := dk_28 (dk_at dksX7_plateAt_0 2 rfl rfl)
theorem dX7_plateAt_3 : decode cX7_plateAt 3 = .ok (.bipush 9, 2) := dk_16 9 (dk_at dksX7_plateAt_0 3 rfl rfl)
theorem dX7_plateAt_5 : decode cX7_plateAt 5 = .ok (.if_icmp .ge 27, 3) := dk_162 0 27 (dk_at dksX7_plateAt_0 5 rfl rfl)
theorem dX7_plateAt_8 : decode cX7_plateAt 8 = .ok (.iload_n 2, 1) := dk_28 (dk_at dksX7_plateAt_0 8 rfl rfl)
theorem dX7_plateAt_9 : decode cX7_plateAt 9 = .ok (.invokestatic 146, 3) := dk_184 0 146 (dk_at dksX7_plateAt_0 9 rfl rfl)
theorem dX7_plateAt_12 : decode cX7_plateAt 12 = .ok (.iload_n 0, 1) := dk_26 (dk_at dksX7_plateAt_0 12 rfl rfl)
theorem dX7_plateAt_13 : decode cX7_plateAt 13 = .ok (.if_icmp .ne 13, 3) := dk_160 0 13 (dk_at dksX7_plateAt_0 13 rfl rfl)
theorem dX7_plateAt_16 : decode cX7_plateAt 16 = .ok (.iload_n 2, 1) := dk_28 (dk_at dksX7_plateAt_0 16 rfl rfl)
theorem dX7_plateAt_17 : decode cX7_plateAt 17 = .ok (.invokestatic 149, 3) := dk_184 0 149 (dk_at dksX7_plateAt_0 17 rfl rfl)
theorem dX7_plateAt_20 : decode cX7_plateAt 20 = .ok (.iload_n 1, 1) := dk_27 (dk_at dksX7_plateAt_0 20 rfl rfl)
theorem dX7_plateAt_21 : decode cX7_plateAt 21 = .ok (.if_icmp .ne 5, 3) := dk_160 0 5 (dk_at dksX7_plateAt_0 21 rfl rfl)
theorem dX7_plateAt_24 : decode cX7_plateAt 24 = .ok (.iload_n 2, 1) := dk_28 (dk_at dksX7_plateAt_1 0 rfl rfl)
theorem dX7_plateAt_25 : decode cX7_plateAt 25 = .ok (.ireturn, 1) := dk_172 (dk_at dksX7_plateAt_1 1 rfl rfl)
theorem dX7_plateAt_26 : decode cX7_plateAt 26 = .ok (.iinc 2 1, 3) := dk_132 2 1 (dk_at dksX7_plateAt_1 2 rfl rfl)
theorem dX7_plateAt_29 : decode cX7_plateAt 29 = .ok (.goto (-27), 3) := dk_167 255 229 (dk_at dksX7_plateAt_1 5 rfl rfl)
theorem dX7_plateAt_32 : decode cX7_plateAt 32 = .ok (.iconst (-1), 1) := dk_2 (dk_at dksX7_plateAt_1 8 rfl rfl)
theorem dX7_plateAt_33 : decode cX7_plateAt 33 = .ok (.ireturn, 1) := dk_172 (dk_at dksX7_plateAt_1 9 rfl rfl)
abbrev cX7_columnOf : ByteArray := prog_12_method_22_code
def yX7_columnOf : MethodName := ⟨RX7, "columnOf", "(I)I"⟩
def dkwX7_columnOf_2 : List UInt8 := [172]
abbrev dktX7_columnOf_2 : List UInt8 := dkwX7_columnOf_2 ++ []
def dkwX7_columnOf_1 : List UInt8 := [167, 0, 24, 26, 16, 6, 162, 0, 12, 5, 26, 104, 16, 6, 100, 167, 0, 9, 5, 26, 104, 16, 11, 100]
abbrev dktX7_columnOf_1 : List UInt8 := dkwX7_columnOf_1 ++ dktX7_columnOf_2
def dkwX7_columnOf_0 : List UInt8 := [26, 153, 0, 9, 26, 16, 8, 160, 0, 7, 5, 167, 0, 37, 26, 6, 162, 0, 11, 5, 26, 104, 4, 100]
abbrev dktX7_columnOf_0 : List UInt8 := dkwX7_columnOf_0 ++ dktX7_columnOf_1
theorem dksX7_columnOf_0 : cX7_columnOf.data.toList.drop 0 = dktX7_columnOf_0 := by decide +kernel
theorem dksX7_columnOf_1 : cX7_columnOf.data.toList.drop 24 = dktX7_columnOf_1 := dk_seg dksX7_columnOf_0 24 rfl rfl
theorem dksX7_columnOf_2 : cX7_columnOf.data.toList.drop 48 = dktX7_columnOf_2 := dk_seg dksX7_columnOf_1 24 rfl rfl
theorem dX7_columnOf_0 : decode cX7_columnOf 0 = .ok (.iload_n 0, 1) := dk_26 (dk_at dksX7_columnOf_0 0 rfl rfl)
theorem dX7_columnOf_1 : decode cX7_columnOf 1 = .ok (.ifCond .eq 9, 3) := dk_153 0 9 (dk_at dksX7_columnOf_0 1 rfl rfl)
theorem dX7_columnOf_4 : decode cX7_columnOf 4 = .ok (.iload_n 0, 1) := dk_26 (dk_at dksX7_columnOf_0 4 rfl rfl)
theorem dX7_columnOf_5 : decode cX7_columnOf 5 = .ok (.bipush 8, 2) := dk_16 8 (dk_at dksX7_columnOf_0 5 rfl rfl)
theorem dX7_columnOf_7 : decode cX7_columnOf 7 = .ok (.if_icmp .ne 7, 3) := dk_160 0 7 (dk_at dksX7_columnOf_0 7 rfl rfl)
theorem dX7_columnOf_10 : decode cX7_columnOf 10 = .ok (.iconst 2, 1) := dk_5 (dk_at dksX7_columnOf_0 10 rfl rfl)
theorem dX7_columnOf_11 : decode cX7_columnOf 11 = .ok (.goto 37, 3) := dk_167 0 37 (dk_at dksX7_columnOf_0 11 rfl rfl)
theorem dX7_columnOf_14 : decode cX7_columnOf 14 = .ok (.iload_n 0, 1) := dk_26 (dk_at dksX7_columnOf_0 14 rfl rfl)
theorem dX7_columnOf_15 : decode cX7_columnOf 15 = .ok (.iconst 3, 1) := dk_6 (dk_at dksX7_columnOf_0 15 rfl rfl)
theorem dX7_columnOf_16 : decode cX7_columnOf 16 = .ok (.if_icmp .ge 11, 3) := dk_162 0 11 (dk_at dksX7_columnOf_0 16 rfl rfl)
theorem dX7_columnOf_19 : decode cX7_columnOf 19 = .ok (.iconst 2, 1) := dk_5 (dk_at dksX7_columnOf_0 19 rfl rfl)
theorem dX7_columnOf_20 : decode cX7_columnOf 20 = .ok (.iload_n 0, 1) := dk_26 (dk_at dksX7_columnOf_0 20 rfl rfl)
theorem dX7_columnOf_21 : decode cX7_columnOf 21 = .ok (.imul, 1) := dk_104 (dk_at dksX7_columnOf_0 21 rfl rfl)
theorem dX7_columnOf_22 : decode cX7_columnOf 22 = .ok (.iconst 1, 1) := dk_4 (dk_at dksX7_columnOf_0 22 rfl rfl)
theorem dX7_columnOf_23 : decode cX7_columnOf 23 = .ok (.isub, 1) := dk_100 (dk_at dksX7_columnOf_0 23 rfl rfl)
theorem dX7_columnOf_24 : decode cX7_columnOf 24 = .ok (.goto 24, 3) := dk_167 0 24 (dk_at dksX7_columnOf_1 0 rfl rfl)
theorem dX7_columnOf_27 : decode cX7_columnOf 27 = .ok (.iload_n 0, 1) := dk_26 (dk_at dksX7_columnOf_1 3 rfl rfl)
theorem dX7_columnOf_28 : decode cX7_columnOf 28 = .ok (.bipush 6, 2) := dk_16 6 (dk_at dksX7_columnOf_1 4 rfl rfl)
theorem dX7_columnOf_30 : decode cX7_columnOf 30 = .ok (.if_icmp .ge 12, 3) := dk_162 0 12 (dk_at dksX7_columnOf_1 6 rfl rfl)
theorem dX7_columnOf_33 : decode cX7_columnOf 33 = .ok (.iconst 2, 1) := dk_5 (dk_at dksX7_columnOf_1 9 rfl rfl)
theorem dX7_columnOf_34 : decode cX7_columnOf 34 = .ok (.iload_n 0, 1) := dk_26 (dk_at dksX7_columnOf_1 10 rfl rfl)
theorem dX7_columnOf_35 : decode cX7_columnOf 35 = .ok (.imul, 1) := dk_104 (dk_at dksX7_columnOf_1 11 rfl rfl)
theorem dX7_columnOf_36 : decode cX7_columnOf 36 = .ok (.bipush 6, 2) := dk_16 6 (dk_at dksX7_columnOf_1 12 rfl rfl)
theorem dX7_columnOf_38 : decode cX7_columnOf 38 = .ok (.isub, 1) := dk_100 (dk_at dksX7_columnOf_1 14 rfl rfl)
theorem dX7_columnOf_39 : decode cX7_columnOf 39 = .ok (.goto 9, 3) := dk_167 0 9 (dk_at dksX7_columnOf_1 15 rfl rfl)
theorem dX7_columnOf_42 : decode cX7_columnOf 42 = .ok (.iconst 2, 1) := dk_5 (dk_at dksX7_columnOf_1 18 rfl rfl)
theorem dX7_columnOf_43 : decode cX7_columnOf 43 = .ok (.iload_n 0, 1) := dk_26 (dk_at dksX7_columnOf_1 19 rfl rfl)
theorem dX7_columnOf_44 : decode cX7_columnOf 44 = .ok (.imul, 1) := dk_104 (dk_at dksX7_columnOf_1 20 rfl rfl)
theorem dX7_columnOf_45 : decode cX7_columnOf 45 = .ok (.bipush 11, 2) := dk_16 11 (dk_at dksX7_columnOf_1 21 rfl rfl)
theorem dX7_columnOf_47 : decode cX7_columnOf 47 = .ok (.isub, 1) := dk_100 (dk_at dksX7_columnOf_1 23 rfl rfl)
theorem dX7_columnOf_48 : decode cX7_columnOf 48 = .ok (.ireturn, 1) := dk_172 (dk_at dksX7_columnOf_2 0 rfl rfl)
abbrev cX7_has : ByteArray := prog_12_method_4_code
def yX7_has : MethodName := ⟨RX7, "has", "(II)Z"⟩
def dkwX7_has_0 : List UInt8 := [26, 27, 122, 4, 126, 4, 160, 0, 7, 4, 167, 0, 4, 3, 172]
abbrev dktX7_has_0 : List UInt8 := dkwX7_has_0 ++ []
theorem dksX7_has_0 : cX7_has.data.toList.drop 0 = dktX7_has_0 := by decide +kernel
theorem dX7_has_0 : decode cX7_has 0 = .ok (.iload_n 0, 1) := dk_26 (dk_at dksX7_has_0 0 rfl rfl)
theorem dX7_has_1 : decode cX7_has 1 = .ok (.iload_n 1, 1) := dk_27 (dk_at dksX7_has_0 1 rfl rfl)
theorem dX7_has_2 : decode cX7_has 2 = .ok (.ishr, 1) := dk_122 (dk_at dksX7_has_0 2 rfl rfl)
theorem dX7_has_3 : decode cX7_has 3 = .ok (.iconst 1, 1) := dk_4 (dk_at dksX7_has_0 3 rfl rfl)
theorem dX7_has_4 : decode cX7_has 4 = .ok (.iand, 1) := dk_126 (dk_at dksX7_has_0 4 rfl rfl)
theorem dX7_has_5 : decode cX7_has 5 = .ok (.iconst 1, 1) := dk_4 (dk_at dksX7_has_0 5 rfl rfl)
theorem dX7_has_6 : decode cX7_has 6 = .ok (.if_icmp .ne 7, 3) := dk_160 0 7 (dk_at dksX7_has_0 6 rfl rfl)
theorem dX7_has_9 : decode cX7_has 9 = .ok (.iconst 1, 1) := dk_4 (dk_at dksX7_has_0 9 rfl rfl)
theorem dX7_has_10 : decode cX7_has 10 = .ok (.goto 4, 3) := dk_167 0 4 (dk_at dksX7_has_0 10 rfl rfl)
theorem dX7_has_13 : decode cX7_has 13 = .ok (.iconst 0, 1) := dk_3 (dk_at dksX7_has_0 13 rfl rfl)
theorem dX7_has_14 : decode cX7_has 14 = .ok (.ireturn, 1) := dk_172 (dk_at dksX7_has_0 14 rfl rfl)
abbrev cX7_falls : ByteArray := prog_12_method_29_code
def yX7_falls : MethodName := ⟨RX7, "falls", "(II)V"⟩
def dkwX7_falls_8 : List UInt8 := [21, 6, 79, 42, 180, 0, 56, 29, 2, 79, 167, 0, 9, 42, 21, 7, 182, 0, 174, 167, 255, 79, 177]
abbrev dktX7_falls_8 : List UInt8 := dkwX7_falls_8 ++ []
def dkwX7_falls_7 : List UInt8 := [180, 0, 50, 29, 46, 182, 0, 161, 132, 3, 1, 42, 180, 0, 50, 29, 21, 7, 79, 42, 180, 0, 53, 29]
abbrev dktX7_falls_7 : List UInt8 := dkwX7_falls_7 ++ dktX7_falls_8
def dkwX7_falls_6 : List UInt8 := [153, 0, 67, 21, 6, 158, 0, 62, 21, 6, 42, 180, 0, 41, 21, 7, 46, 161, 0, 44, 42, 21, 7, 42]
abbrev dktX7_falls_6 : List UInt8 := dkwX7_falls_6 ++ dktX7_falls_7
def dkwX7_falls_5 : List UInt8 := [180, 0, 38, 21, 5, 46, 54, 7, 21, 7, 2, 159, 0, 79, 42, 180, 0, 158, 21, 7, 184, 0, 170]
abbrev dktX7_falls_5 : List UInt8 := dkwX7_falls_5 ++ dktX7_falls_6
def dkwX7_falls_4 : List UInt8 := [54, 6, 42, 180, 0, 56, 29, 92, 46, 5, 96, 79, 21, 5, 2, 160, 0, 7, 2, 167, 0, 10, 42]
abbrev dktX7_falls_4 : List UInt8 := dkwX7_falls_4 ++ dktX7_falls_5
def dkwX7_falls_3 : List UInt8 := [184, 0, 149, 42, 180, 0, 56, 29, 46, 96, 184, 0, 167, 54, 5, 42, 180, 0, 53, 29, 46, 5, 108]
abbrev dktX7_falls_3 : List UInt8 := dkwX7_falls_3 ++ dktX7_falls_4
def dkwX7_falls_2 : List UInt8 := [167, 255, 239, 42, 42, 180, 0, 50, 29, 46, 182, 0, 164, 54, 4, 21, 4, 184, 0, 146, 4, 96, 21, 4]
abbrev dktX7_falls_2 : List UInt8 := dkwX7_falls_2 ++ dktX7_falls_3
def dkwX7_falls_1 : List UInt8 := [3, 2, 79, 3, 62, 29, 155, 0, 179, 42, 180, 0, 56, 29, 46, 4, 164, 0, 9, 132, 3, 255]
abbrev dktX7_falls_1 : List UInt8 := dkwX7_falls_1 ++ dktX7_falls_2
def dkwX7_falls_0 : List UInt8 := [42, 27, 2, 182, 0, 161, 42, 180, 0, 50, 3, 27, 79, 42, 180, 0, 53, 3, 28, 79, 42, 180, 0, 56]
abbrev dktX7_falls_0 : List UInt8 := dkwX7_falls_0 ++ dktX7_falls_1
theorem dksX7_falls_0 : cX7_falls.data.toList.drop 0 = dktX7_falls_0 := by decide +kernel
theorem dksX7_falls_1 : cX7_falls.data.toList.drop 24 = dktX7_falls_1 := dk_seg dksX7_falls_0 24 rfl rfl
theorem dksX7_falls_2 : cX7_falls.data.toList.drop 46 = dktX7_falls_2 := dk_seg dksX7_falls_1 22 rfl rfl
theorem dksX7_falls_3 : cX7_falls.data.toList.drop 70 = dktX7_falls_3 := dk_seg dksX7_falls_2 24 rfl rfl
theorem dksX7_falls_4 : cX7_falls.data.toList.drop 93 = dktX7_falls_4 := dk_seg dksX7_falls_3 23 rfl rfl
theorem dksX7_falls_5 : cX7_falls.data.toList.drop 116 = dktX7_falls_5 := dk_seg dksX7_falls_4 23 rfl rfl
theorem dksX7_falls_6 : cX7_falls.data.toList.drop 139 = dktX7_falls_6 := dk_seg dksX7_falls_5 23 rfl rfl
theorem dksX7_falls_7 : cX7_falls.data.toList.drop 163 = dktX7_falls_7 := dk_seg dksX7_falls_6 24 rfl rfl
theorem dksX7_falls_8 : cX7_falls.data.toList.drop 187 = dktX7_falls_8 := dk_seg dksX7_falls_7 24 rfl rfl
theorem dX7_falls_0 : decode cX7_falls 0 = .ok (.aload_n 0, 1) := dk_42 (dk_at dksX7_falls_0 0 rfl rfl)
theorem dX7_falls_1 : decode cX7_falls 1 = .ok (.iload_n 1, 1) := dk_27 (dk_at dksX7_falls_0 1 rfl rfl)
theorem dX7_falls_2 : decode cX7_falls 2 = .ok (.iconst (-1), 1) := dk_2 (dk_at dksX7_falls_0 2 rfl rfl)
theorem dX7_falls_3 : decode cX7_falls 3 = .ok (.invokevirtual 161, 3) := dk_182 0 161 (dk_at dksX7_falls_0 3 rfl rfl)
theorem dX7_falls_6 : decode cX7_falls 6 = .ok (.aload_n 0, 1) := dk_42 (dk_at dksX7_falls_0 6 rfl rfl)
theorem dX7_falls_7 : decode cX7_falls 7 = .ok (.getfield 50, 3) := dk_180 0 50 (dk_at dksX7_falls_0 7 rfl rfl)
theorem dX7_falls_10 : decode cX7_falls 10 = .ok (.iconst 0, 1) := dk_3 (dk_at dksX7_falls_0 10 rfl rfl)
theorem dX7_falls_11 : decode cX7_falls 11 = .ok (.iload_n 1, 1) := dk_27 (dk_at dksX7_falls_0 11 rfl rfl)
theorem dX7_falls_12 : decode cX7_falls 12 = .ok (.iastore, 1) := dk_79 (dk_at dksX7_falls_0 12 rfl rfl)
theorem dX7_falls_13 : decode cX7_falls 13 = .ok (.aload_n 0, 1) := dk_42 (dk_at dksX7_falls_0 13 rfl rfl)
theorem dX7_falls_14 : decode cX7_falls 14 = .ok (.getfield 53, 3) := dk_180 0 53 (dk_at dksX7_falls_0 14 rfl rfl)
theorem dX7_falls_17 : decode cX7_falls 17 = .ok (.iconst 0, 1) := dk_3 (dk_at dksX7_falls_0 17 rfl rfl)
theorem dX7_falls_18 : decode cX7_falls 18 = .ok (.iload_n 2, 1) := dk_28 (dk_at dksX7_falls_0 18 rfl rfl)
theorem dX7_falls_19 : decode cX7_falls 19 = .ok (.iastore, 1) := dk_79 (dk_at dksX7_falls_0 19 rfl rfl)
theorem dX7_falls_20 : decode cX7_falls 20 = .ok (.aload_n 0, 1) := dk_42 (dk_at dksX7_falls_0 20 rfl rfl)
theorem dX7_falls_21 : decode cX7_falls 21 = .ok (.getfield 56, 3) := dk_180 0 56 (dk_at dksX7_falls_0 21 rfl rfl)
theorem dX7_falls_24 : decode cX7_falls 24 = .ok (.iconst 0, 1) := dk_3 (dk_at dksX7_falls_1 0 rfl rfl)
theorem dX7_falls_25 : decode cX7_falls 25 = .ok (.iconst (-1), 1) := dk_2 (dk_at dksX7_falls_1 1 rfl rfl)
theorem dX7_falls_26 : decode cX7_falls 26 = .ok (.iastore, 1) := dk_79 (dk_at dksX7_falls_1 2 rfl rfl)
theorem dX7_falls_27 : decode cX7_falls 27 = .ok (.iconst 0, 1) := dk_3 (dk_at dksX7_falls_1 3 rfl rfl)
theorem dX7_falls_28 : decode cX7_falls 28 = .ok (.istore_n 3, 1) := dk_62 (dk_at dksX7_falls_1 4 rfl rfl)
theorem dX7_falls_29 : decode cX7_falls 29 = .ok (.iload_n 3, 1) := dk_29 (dk_at dksX7_falls_1 5 rfl rfl)
theorem dX7_falls_30 : decode cX7_falls 30 = .ok (.ifCond .lt 179, 3) := dk_155 0 179 (dk_at dksX7_falls_1 6 rfl rfl)
theorem dX7_falls_33 : decode cX7_falls 33 = .ok (.aload_n 0, 1) := dk_42 (dk_at dksX7_falls_1 9 rfl rfl)
theorem dX7_falls_34 : decode cX7_falls 34 = .ok (.getfield 56, 3) := dk_180 0 56 (dk_at dksX7_falls_1 10 rfl rfl)
theorem dX7_falls_37 : decode cX7_falls 37 = .ok (.iload_n 3, 1) := dk_29 (dk_at dksX7_falls_1 13 rfl rfl)
theorem dX7_falls_38 : decode cX7_falls 38 = .ok (.iaload, 1) := dk_46 (dk_at dksX7_falls_1 14 rfl rfl)
theorem dX7_falls_39 : decode cX7_falls 39 = .ok (.iconst 1, 1) := dk_4 (dk_at dksX7_falls_1 15 rfl rfl)
theorem dX7_falls_40 : decode cX7_falls 40 = .ok (.if_icmp .le 9, 3) := dk_164 0 9 (dk_at dksX7_falls_1 16 rfl rfl)
theorem dX7_falls_43 : decode cX7_falls 43 = .ok (.iinc 3 (-1), 3) := dk_132 3 255 (dk_at dksX7_falls_1 19 rfl rfl)
theorem dX7_falls_46 : decode cX7_falls 46 = .ok (.goto (-17), 3) := dk_167 255 239 (dk_at dksX7_falls_2 0 rfl rfl)
theorem dX7_falls_49 : decode cX7_falls 49 = .ok (.aload_n 0, 1) := dk_42 (dk_at dksX7_falls_2 3 rfl rfl)
theorem dX7_falls_50 : decode cX7_falls 50 = .ok (.aload_n 0, 1) := dk_42 (dk_at dksX7_falls_2 4 rfl rfl)
theorem dX7_falls_51 : decode cX7_falls 51 = .ok (.getfield 50, 3) := dk_180 0 50 (dk_at dksX7_falls_2 5 rfl rfl)
theorem dX7_falls_54 : decode cX7_falls 54 = .ok (.iload_n 3, 1) := dk_29 (dk_at dksX7_falls_2 8 rfl rfl)
theorem dX7_falls_55 : decode cX7_falls 55 = .ok (.iaload, 1) := dk_46 (dk_at dksX7_falls_2 9 rfl rfl)
theorem dX7_falls_56 : decode cX7_falls 56 = .ok (.invokevirtual 164, 3) := dk_182 0 164 (dk_at dksX7_falls_2 10 rfl rfl)
theorem dX7_falls_59 : decode cX7_falls 59 = .ok (.istore 4, 2) := dk_54 4 (dk_at dksX7_falls_2 13 rfl rfl)
theorem dX7_falls_61 : decode cX7_falls 61 = .ok (.iload 4, 2) := dk_21 4 (dk_at dksX7_falls_2 15 rfl rfl)
theorem dX7_falls_63 : decode cX7_falls 63 = .ok (.invokestatic 146, 3) := dk_184 0 146 (dk_at dksX7_falls_2 17 rfl rfl)
theorem dX7_falls_66 : decode cX7_falls 66 = .ok (.iconst 1, 1) := dk_4 (dk_at dksX7_falls_2 20 rfl rfl)
theorem dX7_falls_67 : decode cX7_falls 67 = .ok (.iadd, 1) := dk_96 (dk_at dksX7_falls_2 21 rfl rfl)
theorem dX7_falls_68 : decode cX7_falls 68 = .ok (.iload 4, 2) := dk_21 4 (dk_at dksX7_falls_2 22 rfl rfl)
theorem dX7_falls_70 : decode cX7_falls 70 = .ok (.invokestatic 149, 3) := dk_184 0 149 (dk_at dksX7_falls_3 0 rfl rfl)
theorem dX7_falls_73 : decode cX7_falls 73 = .ok (.aload_n 0, 1) := dk_42 (dk_at dksX7_falls_3 3 rfl rfl)
theorem dX7_falls_74 : decode cX7_falls 74 = .ok (.getfield 56, 3) := dk_180 0 56 (dk_at dksX7_falls_3 4 rfl rfl)
theorem dX7_falls_77 : decode cX7_falls 77 = .ok (.iload_n 3, 1) := dk_29 (dk_at dksX7_falls_3 7 rfl rfl)
theorem dX7_falls_78 : decode cX7_falls 78 = .ok (.iaload, 1) := dk_46 (dk_at dksX7_falls_3 8 rfl rfl)
theorem dX7_falls_79 : decode cX7_falls 79 = .ok (.iadd, 1) := dk_96 (dk_at dksX7_falls_3 9 rfl rfl)
theorem dX7_falls_80 : decode cX7_falls 80 = .ok (.invokestatic 167, 3) := dk_184 0 167 (dk_at dksX7_falls_3 10 rfl rfl)
theorem dX7_falls_83 : decode cX7_falls 83 = .ok (.istore 5, 2) := dk_54 5 (dk_at dksX7_falls_3 13 rfl rfl)
theorem dX7_falls_85 : decode cX7_falls 85 = .ok (.aload_n 0, 1) := dk_42 (dk_at dksX7_falls_3 15 rfl rfl)
theorem dX7_falls_86 : decode cX7_falls 86 = .ok (.getfield 53, 3) := dk_180 0 53 (dk_at dksX7_falls_3 16 rfl rfl)
theorem dX7_falls_89 : decode cX7_falls 89 = .ok (.iload_n 3, 1) := dk_29 (dk_at dksX7_falls_3 19 rfl rfl)
theorem dX7_falls_90 : decode cX7_falls 90 = .ok (.iaload, 1) := dk_46 (dk_at dksX7_falls_3 20 rfl rfl)
theorem dX7_falls_91 : decode cX7_falls 91 = .ok (.iconst 2, 1) := dk_5 (dk_at dksX7_falls_3 21 rfl rfl)
theorem dX7_falls_92 : decode cX7_falls 92 = .ok (.idiv, 1) := dk_108 (dk_at dksX7_falls_3 22 rfl rfl)
theorem dX7_falls_93 : decode cX7_falls 93 = .ok (.istore 6, 2) := dk_54 6 (dk_at dksX7_falls_4 0 rfl rfl)
theorem dX7_falls_95 : decode cX7_falls 95 = .ok (.aload_n 0, 1) := dk_42 (dk_at dksX7_falls_4 2 rfl rfl)
theorem dX7_falls_96 : decode cX7_falls 96 = .ok (.getfield 56, 3) := dk_180 0 56 (dk_at dksX7_falls_4 3 rfl rfl)
theorem dX7_falls_99 : decode cX7_falls 99 = .ok (.iload_n 3, 1) := dk_29 (dk_at dksX7_falls_4 6 rfl rfl)
theorem dX7_falls_100 : decode cX7_falls 100 = .ok (.dup2, 1) := dk_92 (dk_at dksX7_falls_4 7 rfl rfl)
theorem dX7_falls_101 : decode cX7_falls 101 = .ok (.iaload, 1) := dk_46 (dk_at dksX7_falls_4 8 rfl rfl)
theorem dX7_falls_102 : decode cX7_falls 102 = .ok (.iconst 2, 1) := dk_5 (dk_at dksX7_falls_4 9 rfl rfl)
theorem dX7_falls_103 : decode cX7_falls 103 = .ok (.iadd, 1) := dk_96 (dk_at dksX7_falls_4 10 rfl rfl)
theorem dX7_falls_104 : decode cX7_falls 104 = .ok (.iastore, 1) := dk_79 (dk_at dksX7_falls_4 11 rfl rfl)
theorem dX7_falls_105 : decode cX7_falls 105 = .ok (.iload 5, 2) := dk_21 5 (dk_at dksX7_falls_4 12 rfl rfl)
theorem dX7_falls_107 : decode cX7_falls 107 = .ok (.iconst (-1), 1) := dk_2 (dk_at dksX7_falls_4 14 rfl rfl)
theorem dX7_falls_108 : decode cX7_falls 108 = .ok (.if_icmp .ne 7, 3) := dk_160 0 7 (dk_at dksX7_falls_4 15 rfl rfl)
theorem dX7_falls_111 : decode cX7_falls 111 = .ok (.iconst (-1), 1) := dk_2 (dk_at dksX7_falls_4 18 rfl rfl)
theorem dX7_falls_112 : decode cX7_falls 112 = .ok (.goto 10, 3) := dk_167 0 10 (dk_at dksX7_falls_4 19 rfl rfl)
theorem dX7_falls_115 : decode cX7_falls 115 = .ok (.aload_n 0, 1) := dk_42 (dk_at dksX7_falls_4 22 rfl rfl)
theorem dX7_falls_116 : decode cX7_falls 116 = .ok (.getfield 38, 3) := dk_180 0 38 (dk_at dksX7_falls_5 0 rfl rfl)
theorem dX7_falls_119 : decode cX7_falls 119 = .ok (.iload 5, 2) := dk_21 5 (dk_at dksX7_falls_5 3 rfl rfl)
theorem dX7_falls_121 : decode cX7_falls 121 = .ok (.iaload, 1) := dk_46 (dk_at dksX7_falls_5 5 rfl rfl)
theorem dX7_falls_122 : decode cX7_falls 122 = .ok (.istore 7, 2) := dk_54 7 (dk_at dksX7_falls_5 6 rfl rfl)
theorem dX7_falls_124 : decode cX7_falls 124 = .ok (.iload 7, 2) := dk_21 7 (dk_at dksX7_falls_5 8 rfl rfl)
theorem dX7_falls_126 : decode cX7_falls 126 = .ok (.iconst (-1), 1) := dk_2 (dk_at dksX7_falls_5 10 rfl rfl)
theorem dX7_falls_127 : decode cX7_falls 127 = .ok (.if_icmp .eq 79, 3) := dk_159 0 79 (dk_at dksX7_falls_5 11 rfl rfl)
theorem dX7_falls_130 : decode cX7_falls 130 = .ok (.aload_n 0, 1) := dk_42 (dk_at dksX7_falls_5 14 rfl rfl)
theorem dX7_falls_131 : decode cX7_falls 131 = .ok (.getfield 158, 3) := dk_180 0 158 (dk_at dksX7_falls_5 15 rfl rfl)
theorem dX7_falls_134 : decode cX7_falls 134 = .ok (.iload 7, 2) := dk_21 7 (dk_at dksX7_falls_5 18 rfl rfl)
theorem dX7_falls_136 : decode cX7_falls 136 = .ok (.invokestatic 170, 3) := dk_184 0 170 (dk_at dksX7_falls_5 20 rfl rfl)
theorem dX7_falls_139 : decode cX7_falls 139 = .ok (.ifCond .eq 67, 3) := dk_153 0 67 (dk_at dksX7_falls_6 0 rfl rfl)
theorem dX7_falls_142 : decode cX7_falls 142 = .ok (.iload 6, 2) := dk_21 6 (dk_at dksX7_falls_6 3 rfl rfl)
theorem dX7_falls_144 : decode cX7_falls 144 = .ok (.ifCond .le 62, 3) := dk_158 0 62 (dk_at dksX7_falls_6 5 rfl rfl)
theorem dX7_falls_147 : decode cX7_falls 147 = .ok (.iload 6, 2) := dk_21 6 (dk_at dksX7_falls_6 8 rfl rfl)
theorem dX7_falls_149 : decode cX7_falls 149 = .ok (.aload_n 0, 1) := dk_42 (dk_at dksX7_falls_6 10 rfl rfl)
theorem dX7_falls_150 : decode cX7_falls 150 = .ok (.getfield 41, 3) := dk_180 0 41 (dk_at dksX7_falls_6 11 rfl rfl)
theorem dX7_falls_153 : decode cX7_falls 153 = .ok (.iload 7, 2) := dk_21 7 (dk_at dksX7_falls_6 14 rfl rfl)
theorem dX7_falls_155 : decode cX7_falls 155 = .ok (.iaload, 1) := dk_46 (dk_at dksX7_falls_6 16 rfl rfl)
theorem dX7_falls_156 : decode cX7_falls 156 = .ok (.if_icmp .lt 44, 3) := dk_161 0 44 (dk_at dksX7_falls_6 17 rfl rfl)
theorem dX7_falls_159 : decode cX7_falls 159 = .ok (.aload_n 0, 1) := dk_42 (dk_at dksX7_falls_6 20 rfl rfl)
theorem dX7_falls_160 : decode cX7_falls 160 = .ok (.iload 7, 2) := dk_21 7 (dk_at dksX7_falls_6 21 rfl rfl)
theorem dX7_falls_162 : decode cX7_falls 162 = .ok (.aload_n 0, 1) := dk_42 (dk_at dksX7_falls_6 23 rfl rfl)
theorem dX7_falls_163 : decode cX7_falls 163 = .ok (.getfield 50, 3) := dk_180 0 50 (dk_at dksX7_falls_7 0 rfl rfl)
theorem dX7_falls_166 : decode cX7_falls 166 = .ok (.iload_n 3, 1) := dk_29 (dk_at dksX7_falls_7 3 rfl rfl)
theorem dX7_falls_167 : decode cX7_falls 167 = .ok (.iaload, 1) := dk_46 (dk_at dksX7_falls_7 4 rfl rfl)
theorem dX7_falls_168 : decode cX7_falls 168 = .ok (.invokevirtual 161, 3) := dk_182 0 161 (dk_at dksX7_falls_7 5 rfl rfl)
theorem dX7_falls_171 : decode cX7_falls 171 = .ok (.iinc 3 1, 3) := dk_132 3 1 (dk_at dksX7_falls_7 8 rfl rfl)
theorem dX7_falls_174 : decode cX7_falls 174 = .ok (.aload_n 0, 1) := dk_42 (dk_at dksX7_falls_7 11 rfl rfl)
theorem dX7_falls_175 : decode cX7_falls 175 = .ok (.getfield 50, 3) := dk_180 0 50 (dk_at dksX7_falls_7 12 rfl rfl)
theorem dX7_falls_178 : decode cX7_falls 178 = .ok (.iload_n 3, 1) := dk_29 (dk_at dksX7_falls_7 15 rfl rfl)
theorem dX7_falls_179 : decode cX7_falls 179 = .ok (.iload 7, 2) := dk_21 7 (dk_at dksX7_falls_7 16 rfl rfl)
theorem dX7_falls_181 : decode cX7_falls 181 = .ok (.iastore, 1) := dk_79 (dk_at dksX7_falls_7 18 rfl rfl)
theorem dX7_falls_182 : decode cX7_falls 182 = .ok (.aload_n 0, 1) := dk_42 (dk_at dksX7_falls_7 19 rfl rfl)
theorem dX7_falls_183 : decode cX7_falls 183 = .ok (.getfield 53, 3) := dk_180 0 53 (dk_at dksX7_falls_7 20 rfl rfl)
theorem dX7_falls_186 : decode cX7_falls 186 = .ok (.iload_n 3, 1) := dk_29 (dk_at dksX7_falls_7 23 rfl rfl)
theorem dX7_falls_187 : decode cX7_falls 187 = .ok (.iload 6, 2) := dk_21 6 (dk_at dksX7_falls_8 0 rfl rfl)
theorem dX7_falls_189 : decode cX7_falls 189 = .ok (.iastore, 1) := dk_79 (dk_at dksX7_falls_8 2 rfl rfl)
theorem dX7_falls_190 : decode cX7_falls 190 = .ok (.aload_n 0, 1) := dk_42 (dk_at dksX7_falls_8 3 rfl rfl)
theorem dX7_falls_191 : decode cX7_falls 191 = .ok (.getfield 56, 3) := dk_180 0 56 (dk_at dksX7_falls_8 4 rfl rfl)
theorem dX7_falls_194 : decode cX7_falls 194 = .ok (.iload_n 3, 1) := dk_29 (dk_at dksX7_falls_8 7 rfl rfl)
theorem dX7_falls_195 : decode cX7_falls 195 = .ok (.iconst (-1), 1) := dk_2 (dk_at dksX7_falls_8 8 rfl rfl)
theorem dX7_falls_196 : decode cX7_falls 196 = .ok (.iastore, 1) := dk_79 (dk_at dksX7_falls_8 9 rfl rfl)
theorem dX7_falls_197 : decode cX7_falls 197 = .ok (.goto 9, 3) := dk_167 0 9 (dk_at dksX7_falls_8 10 rfl rfl)
theorem dX7_falls_200 : decode cX7_falls 200 = .ok (.aload_n 0, 1) := dk_42 (dk_at dksX7_falls_8 13 rfl rfl)
theorem dX7_falls_201 : decode cX7_falls 201 = .ok (.iload 7, 2) := dk_21 7 (dk_at dksX7_falls_8 14 rfl rfl)
theorem dX7_falls_203 : decode cX7_falls 203 = .ok (.invokevirtual 174, 3) := dk_182 0 174 (dk_at dksX7_falls_8 16 rfl rfl)
theorem dX7_falls_206 : decode cX7_falls 206 = .ok (.goto (-177), 3) := dk_167 255 79 (dk_at dksX7_falls_8 19 rfl rfl)
theorem dX7_falls_209 : decode cX7_falls 209 = .ok (.return_, 1) := dk_177 (dk_at dksX7_falls_8 22 rfl rfl)
abbrev cX7_fallsNow : ByteArray := prog_12_method_27_code
def yX7_fallsNow : MethodName := ⟨RX7, "fallsNow", "(II)V"⟩
def dkwX7_fallsNow_0 : List UInt8 := [42, 89, 180, 0, 158, 4, 27, 120, 2, 130, 126, 181, 0, 158, 42, 180, 0, 47, 27, 28, 79, 177]
abbrev dktX7_fallsNow_0 : List UInt8 := dkwX7_fallsNow_0 ++ []
theorem dksX7_fallsNow_0 : cX7_fallsNow.data.toList.drop 0 = dktX7_fallsNow_0 := by decide +kernel
theorem dX7_fallsNow_0 : decode cX7_fallsNow 0 = .ok (.aload_n 0, 1) := dk_42 (dk_at dksX7_fallsNow_0 0 rfl rfl)
theorem dX7_fallsNow_1 : decode cX7_fallsNow 1 = .ok (.dup, 1) := dk_89 (dk_at dksX7_fallsNow_0 1 rfl rfl)
theorem dX7_fallsNow_2 : decode cX7_fallsNow 2 = .ok (.getfield 158, 3) := dk_180 0 158 (dk_at dksX7_fallsNow_0 2 rfl rfl)
theorem dX7_fallsNow_5 : decode cX7_fallsNow 5 = .ok (.iconst 1, 1) := dk_4 (dk_at dksX7_fallsNow_0 5 rfl rfl)
theorem dX7_fallsNow_6 : decode cX7_fallsNow 6 = .ok (.iload_n 1, 1) := dk_27 (dk_at dksX7_fallsNow_0 6 rfl rfl)
theorem dX7_fallsNow_7 : decode cX7_fallsNow 7 = .ok (.ishl, 1) := dk_120 (dk_at dksX7_fallsNow_0 7 rfl rfl)
theorem dX7_fallsNow_8 : decode cX7_fallsNow 8 = .ok (.iconst (-1), 1) := dk_2 (dk_at dksX7_fallsNow_0 8 rfl rfl)
theorem dX7_fallsNow_9 : decode cX7_fallsNow 9 = .ok (.ixor, 1) := dk_130 (dk_at dksX7_fallsNow_0 9 rfl rfl)
theorem dX7_fallsNow_10 : decode cX7_fallsNow 10 = .ok (.iand, 1) := dk_126 (dk_at dksX7_fallsNow_0 10 rfl rfl)
theorem dX7_fallsNow_11 : decode cX7_fallsNow 11 = .ok (.putfield 158, 3) := dk_181 0 158 (dk_at dksX7_fallsNow_0 11 rfl rfl)
theorem dX7_fallsNow_14 : decode cX7_fallsNow 14 = .ok (.aload_n 0, 1) := dk_42 (dk_at dksX7_fallsNow_0 14 rfl rfl)
theorem dX7_fallsNow_15 : decode cX7_fallsNow 15 = .ok (.getfield 47, 3) := dk_180 0 47 (dk_at dksX7_fallsNow_0 15 rfl rfl)
theorem dX7_fallsNow_18 : decode cX7_fallsNow 18 = .ok (.iload_n 1, 1) := dk_27 (dk_at dksX7_fallsNow_0 18 rfl rfl)
theorem dX7_fallsNow_19 : decode cX7_fallsNow 19 = .ok (.iload_n 2, 1) := dk_28 (dk_at dksX7_fallsNow_0 19 rfl rfl)
theorem dX7_fallsNow_20 : decode cX7_fallsNow 20 = .ok (.iastore, 1) := dk_79 (dk_at dksX7_fallsNow_0 20 rfl rfl)
theorem dX7_fallsNow_21 : decode cX7_fallsNow 21 = .ok (.return_, 1) := dk_177 (dk_at dksX7_fallsNow_0 21 rfl rfl)
abbrev cX7_plateOf : ByteArray := prog_12_method_28_code
def yX7_plateOf : MethodName := ⟨RX7, "plateOf", "(I)I"⟩
def dkwX7_plateOf_0 : List UInt8 := [3, 61, 42, 180, 0, 38, 28, 46, 27, 159, 0, 9, 132, 2, 1, 167, 255, 243, 28, 172]
abbrev dktX7_plateOf_0 : List UInt8 := dkwX7_plateOf_0 ++ []
theorem dksX7_plateOf_0 : cX7_plateOf.data.toList.drop 0 = dktX7_plateOf_0 := by decide +kernel
theorem dX7_plateOf_0 : decode cX7_plateOf 0 = .ok (.iconst 0, 1) := dk_3 (dk_at dksX7_plateOf_0 0 rfl rfl)
theorem dX7_plateOf_1 : decode cX7_plateOf 1 = .ok (.istore_n 2, 1) := dk_61 (dk_at dksX7_plateOf_0 1 rfl rfl)
theorem dX7_plateOf_2 : decode cX7_plateOf 2 = .ok (.aload_n 0, 1) := dk_42 (dk_at dksX7_plateOf_0 2 rfl rfl)
theorem dX7_plateOf_3 : decode cX7_plateOf 3 = .ok (.getfield 38, 3) := dk_180 0 38 (dk_at dksX7_plateOf_0 3 rfl rfl)
theorem dX7_plateOf_6 : decode cX7_plateOf 6 = .ok (.iload_n 2, 1) := dk_28 (dk_at dksX7_plateOf_0 6 rfl rfl)
theorem dX7_plateOf_7 : decode cX7_plateOf 7 = .ok (.iaload, 1) := dk_46 (dk_at dksX7_plateOf_0 7 rfl rfl)
theorem dX7_plateOf_8 : decode cX7_plateOf 8 = .ok (.iload_n 1, 1) := dk_27 (dk_at dksX7_plateOf_0 8 rfl rfl)
theorem dX7_plateOf_9 : decode cX7_plateOf 9 = .ok (.if_icmp .eq 9, 3) := dk_159 0 9 (dk_at dksX7_plateOf_0 9 rfl rfl)
theorem dX7_plateOf_12 : decode cX7_plateOf 12 = .ok (.iinc 2 1, 3) := dk_132 2 1 (dk_at dksX7_plateOf_0 12 rfl rfl)
theorem dX7_plateOf_15 : decode cX7_plateOf 15 = .ok (.goto (-13), 3) := dk_167 255 243 (dk_at dksX7_plateOf_0 15 rfl rfl)
theorem dX7_plateOf_18 : decode cX7_plateOf 18 = .ok (.iload_n 2, 1) := dk_28 (dk_at dksX7_plateOf_0 18 rfl rfl)
theorem dX7_plateOf_19 : decode cX7_plateOf 19 = .ok (.ireturn, 1) := dk_172 (dk_at dksX7_plateOf_0 19 rfl rfl)
abbrev cX7_rocksNow : ByteArray := prog_12_method_26_code
def yX7_rocksNow : MethodName := ⟨RX7, "rocksNow", "(I)V"⟩
def dkwX7_rocksNow_0 : List UInt8 := [42, 180, 0, 44, 27, 92, 46, 4, 96, 79, 42, 89, 180, 0, 155, 4, 96, 181, 0, 155, 177]
abbrev dktX7_rocksNow_0 : List UInt8 := dkwX7_rocksNow_0 ++ []
theorem dksX7_rocksNow_0 : cX7_rocksNow.data.toList.drop 0 = dktX7_rocksNow_0 := by decide +kernel
theorem dX7_rocksNow_0 : decode cX7_rocksNow 0 = .ok (.aload_n 0, 1) := dk_42 (dk_at dksX7_rocksNow_0 0 rfl rfl)
theorem dX7_rocksNow_1 : decode cX7_rocksNow 1 = .ok (.getfield 44, 3) := dk_180 0 44 (dk_at dksX7_rocksNow_0 1 rfl rfl)
theorem dX7_rocksNow_4 : decode cX7_rocksNow 4 = .ok (.iload_n 1, 1) := dk_27 (dk_at dksX7_rocksNow_0 4 rfl rfl)
theorem dX7_rocksNow_5 : decode cX7_rocksNow 5 = .ok (.dup2, 1) := dk_92 (dk_at dksX7_rocksNow_0 5 rfl rfl)
theorem dX7_rocksNow_6 : decode cX7_rocksNow 6 = .ok (.iaload, 1) := dk_46 (dk_at dksX7_rocksNow_0 6 rfl rfl)
theorem dX7_rocksNow_7 : decode cX7_rocksNow 7 = .ok (.iconst 1, 1) := dk_4 (dk_at dksX7_rocksNow_0 7 rfl rfl)
theorem dX7_rocksNow_8 : decode cX7_rocksNow 8 = .ok (.iadd, 1) := dk_96 (dk_at dksX7_rocksNow_0 8 rfl rfl)
theorem dX7_rocksNow_9 : decode cX7_rocksNow 9 = .ok (.iastore, 1) := dk_79 (dk_at dksX7_rocksNow_0 9 rfl rfl)
theorem dX7_rocksNow_10 : decode cX7_rocksNow 10 = .ok (.aload_n 0, 1) := dk_42 (dk_at dksX7_rocksNow_0 10 rfl rfl)
theorem dX7_rocksNow_11 : decode cX7_rocksNow 11 = .ok (.dup, 1) := dk_89 (dk_at dksX7_rocksNow_0 11 rfl rfl)
theorem dX7_rocksNow_12 : decode cX7_rocksNow 12 = .ok (.getfield 155, 3) := dk_180 0 155 (dk_at dksX7_rocksNow_0 12 rfl rfl)
theorem dX7_rocksNow_15 : decode cX7_rocksNow 15 = .ok (.iconst 1, 1) := dk_4 (dk_at dksX7_rocksNow_0 15 rfl rfl)
theorem dX7_rocksNow_16 : decode cX7_rocksNow 16 = .ok (.iadd, 1) := dk_96 (dk_at dksX7_rocksNow_0 16 rfl rfl)
theorem dX7_rocksNow_17 : decode cX7_rocksNow 17 = .ok (.putfield 155, 3) := dk_181 0 155 (dk_at dksX7_rocksNow_0 17 rfl rfl)
theorem dX7_rocksNow_20 : decode cX7_rocksNow 20 = .ok (.return_, 1) := dk_177 (dk_at dksX7_rocksNow_0 20 rfl rfl)
abbrev cX7_ones : ByteArray := prog_12_method_5_code
def yX7_ones : MethodName := ⟨RX7, "ones", "(I)I"⟩
def dkwX7_ones_1 : List UInt8 := [27, 172]
abbrev dktX7_ones_1 : List UInt8 := dkwX7_ones_1 ++ []
def dkwX7_ones_0 : List UInt8 := [3, 60, 3, 61, 28, 16, 9, 162, 0, 17, 27, 26, 28, 122, 4, 126, 96, 60, 132, 2, 1, 167, 255, 239]
abbrev dktX7_ones_0 : List UInt8 := dkwX7_ones_0 ++ dktX7_ones_1
theorem dksX7_ones_0 : cX7_ones.data.toList.drop 0 = dktX7_ones_0 := by decide +kernel
theorem dksX7_ones_1 : cX7_ones.data.toList.drop 24 = dktX7_ones_1 := dk_seg dksX7_ones_0 24 rfl rfl
theorem dX7_ones_0 : decode cX7_ones 0 = .ok (.iconst 0, 1) := dk_3 (dk_at dksX7_ones_0 0 rfl rfl)
theorem dX7_ones_1 : decode cX7_ones 1 = .ok (.istore_n 1, 1) := dk_60 (dk_at dksX7_ones_0 1 rfl rfl)
theorem dX7_ones_2 : decode cX7_ones 2 = .ok (.iconst 0, 1) := dk_3 (dk_at dksX7_ones_0 2 rfl rfl)
theorem dX7_ones_3 : decode cX7_ones 3 = .ok (.istore_n 2, 1) := dk_61 (dk_at dksX7_ones_0 3 rfl rfl)
theorem dX7_ones_4 : decode cX7_ones 4 = .ok (.iload_n 2, 1) := dk_28 (dk_at dksX7_ones_0 4 rfl rfl)
theorem dX7_ones_5 : decode cX7_ones 5 = .ok (.bipush 9, 2) := dk_16 9 (dk_at dksX7_ones_0 5 rfl rfl)
theorem dX7_ones_7 : decode cX7_ones 7 = .ok (.if_icmp .ge 17, 3) := dk_162 0 17 (dk_at dksX7_ones_0 7 rfl rfl)
theorem dX7_ones_10 : decode cX7_ones 10 = .ok (.iload_n 1, 1) := dk_27 (dk_at dksX7_ones_0 10 rfl rfl)
theorem dX7_ones_11 : decode cX7_ones 11 = .ok (.iload_n 0, 1) := dk_26 (dk_at dksX7_ones_0 11 rfl rfl)
theorem dX7_ones_12 : decode cX7_ones 12 = .ok (.iload_n 2, 1) := dk_28 (dk_at dksX7_ones_0 12 rfl rfl)
theorem dX7_ones_13 : decode cX7_ones 13 = .ok (.ishr, 1) := dk_122 (dk_at dksX7_ones_0 13 rfl rfl)
theorem dX7_ones_14 : decode cX7_ones 14 = .ok (.iconst 1, 1) := dk_4 (dk_at dksX7_ones_0 14 rfl rfl)
theorem dX7_ones_15 : decode cX7_ones 15 = .ok (.iand, 1) := dk_126 (dk_at dksX7_ones_0 15 rfl rfl)
theorem dX7_ones_16 : decode cX7_ones 16 = .ok (.iadd, 1) := dk_96 (dk_at dksX7_ones_0 16 rfl rfl)
theorem dX7_ones_17 : decode cX7_ones 17 = .ok (.istore_n 1, 1) := dk_60 (dk_at dksX7_ones_0 17 rfl rfl)
theorem dX7_ones_18 : decode cX7_ones 18 = .ok (.iinc 2 1, 3) := dk_132 2 1 (dk_at dksX7_ones_0 18 rfl rfl)
theorem dX7_ones_21 : decode cX7_ones 21 = .ok (.goto (-17), 3) := dk_167 255 239 (dk_at dksX7_ones_0 21 rfl rfl)
theorem dX7_ones_24 : decode cX7_ones 24 = .ok (.iload_n 1, 1) := dk_27 (dk_at dksX7_ones_1 0 rfl rfl)
theorem dX7_ones_25 : decode cX7_ones 25 = .ok (.ireturn, 1) := dk_172 (dk_at dksX7_ones_1 1 rfl rfl)
abbrev cX7_numberOf : ByteArray := prog_12_method_32_code
def yX7_numberOf : MethodName := ⟨RX7, "numberOf", "(I)I"⟩
def dkwX7_numberOf_1 : List UInt8 := [96, 172]
abbrev dktX7_numberOf_1 : List UInt8 := dkwX7_numberOf_1 ++ []
def dkwX7_numberOf_0 : List UInt8 := [17, 3, 232, 26, 16, 120, 108, 104, 16, 100, 26, 16, 40, 108, 6, 112, 104, 96, 4, 96, 26, 16, 40, 112]
abbrev dktX7_numberOf_0 : List UInt8 := dkwX7_numberOf_0 ++ dktX7_numberOf_1
theorem dksX7_numberOf_0 : cX7_numberOf.data.toList.drop 0 = dktX7_numberOf_0 := by decide +kernel
theorem dksX7_numberOf_1 : cX7_numberOf.data.toList.drop 24 = dktX7_numberOf_1 := dk_seg dksX7_numberOf_0 24 rfl rfl
theorem dX7_numberOf_0 : decode cX7_numberOf 0 = .ok (.sipush 1000, 3) := dk_17 3 232 (dk_at dksX7_numberOf_0 0 rfl rfl)
theorem dX7_numberOf_3 : decode cX7_numberOf 3 = .ok (.iload_n 0, 1) := dk_26 (dk_at dksX7_numberOf_0 3 rfl rfl)
theorem dX7_numberOf_4 : decode cX7_numberOf 4 = .ok (.bipush 120, 2) := dk_16 120 (dk_at dksX7_numberOf_0 4 rfl rfl)
theorem dX7_numberOf_6 : decode cX7_numberOf 6 = .ok (.idiv, 1) := dk_108 (dk_at dksX7_numberOf_0 6 rfl rfl)
theorem dX7_numberOf_7 : decode cX7_numberOf 7 = .ok (.imul, 1) := dk_104 (dk_at dksX7_numberOf_0 7 rfl rfl)
theorem dX7_numberOf_8 : decode cX7_numberOf 8 = .ok (.bipush 100, 2) := dk_16 100 (dk_at dksX7_numberOf_0 8 rfl rfl)
theorem dX7_numberOf_10 : decode cX7_numberOf 10 = .ok (.iload_n 0, 1) := dk_26 (dk_at dksX7_numberOf_0 10 rfl rfl)
theorem dX7_numberOf_11 : decode cX7_numberOf 11 = .ok (.bipush 40, 2) := dk_16 40 (dk_at dksX7_numberOf_0 11 rfl rfl)
theorem dX7_numberOf_13 : decode cX7_numberOf 13 = .ok (.idiv, 1) := dk_108 (dk_at dksX7_numberOf_0 13 rfl rfl)
theorem dX7_numberOf_14 : decode cX7_numberOf 14 = .ok (.iconst 3, 1) := dk_6 (dk_at dksX7_numberOf_0 14 rfl rfl)
theorem dX7_numberOf_15 : decode cX7_numberOf 15 = .ok (.irem, 1) := dk_112 (dk_at dksX7_numberOf_0 15 rfl rfl)
theorem dX7_numberOf_16 : decode cX7_numberOf 16 = .ok (.imul, 1) := dk_104 (dk_at dksX7_numberOf_0 16 rfl rfl)
theorem dX7_numberOf_17 : decode cX7_numberOf 17 = .ok (.iadd, 1) := dk_96 (dk_at dksX7_numberOf_0 17 rfl rfl)
theorem dX7_numberOf_18 : decode cX7_numberOf 18 = .ok (.iconst 1, 1) := dk_4 (dk_at dksX7_numberOf_0 18 rfl rfl)
theorem dX7_numberOf_19 : decode cX7_numberOf 19 = .ok (.iadd, 1) := dk_96 (dk_at dksX7_numberOf_0 19 rfl rfl)
theorem dX7_numberOf_20 : decode cX7_numberOf 20 = .ok (.iload_n 0, 1) := dk_26 (dk_at dksX7_numberOf_0 20 rfl rfl)
theorem dX7_numberOf_21 : decode cX7_numberOf 21 = .ok (.bipush 40, 2) := dk_16 40 (dk_at dksX7_numberOf_0 21 rfl rfl)
theorem dX7_numberOf_23 : decode cX7_numberOf 23 = .ok (.irem, 1) := dk_112 (dk_at dksX7_numberOf_0 23 rfl rfl)
theorem dX7_numberOf_24 : decode cX7_numberOf 24 = .ok (.iadd, 1) := dk_96 (dk_at dksX7_numberOf_1 0 rfl rfl)
theorem dX7_numberOf_25 : decode cX7_numberOf 25 = .ok (.ireturn, 1) := dk_172 (dk_at dksX7_numberOf_1 1 rfl rfl)
abbrev cX7_safest : ByteArray := prog_12_method_35_code
def yX7_safest : MethodName := ⟨RX7, "safest", "(I)I"⟩
def dkwX7_safest_6 : List UInt8 := [132, 4, 1, 167, 255, 152, 27, 154, 0, 7, 28, 167, 0, 4, 29, 172]
abbrev dktX7_safest_6 : List UInt8 := dkwX7_safest_6 ++ []
def dkwX7_safest_5 : List UInt8 := [162, 0, 8, 21, 4, 167, 0, 4, 28, 61, 21, 5, 29, 162, 0, 8, 21, 5, 167, 0, 4, 29, 62]
abbrev dktX7_safest_5 : List UInt8 := dkwX7_safest_5 ++ dktX7_safest_6
def dkwX7_safest_4 : List UInt8 := [184, 0, 170, 153, 0, 7, 4, 167, 0, 4, 3, 96, 54, 5, 132, 6, 1, 167, 255, 214, 21, 5, 29]
abbrev dktX7_safest_4 : List UInt8 := dkwX7_safest_4 ++ dktX7_safest_5
def dkwX7_safest_3 : List UInt8 := [17, 2, 88, 162, 0, 40, 21, 5, 42, 42, 180, 0, 19, 16, 45, 46, 21, 6, 182, 0, 191, 21, 4]
abbrev dktX7_safest_3 : List UInt8 := dkwX7_safest_3 ++ dktX7_safest_4
def dkwX7_safest_2 : List UInt8 := [180, 0, 19, 16, 45, 46, 21, 4, 184, 0, 170, 153, 0, 80, 3, 54, 5, 3, 54, 6, 21, 6]
abbrev dktX7_safest_2 : List UInt8 := dkwX7_safest_2 ++ dktX7_safest_3
def dkwX7_safest_1 : List UInt8 := [182, 0, 188, 2, 61, 17, 3, 232, 62, 3, 54, 4, 21, 4, 42, 180, 0, 130, 162, 0, 101, 42]
abbrev dktX7_safest_1 : List UInt8 := dkwX7_safest_1 ++ dktX7_safest_2
def dkwX7_safest_0 : List UInt8 := [42, 180, 0, 133, 153, 0, 13, 42, 180, 0, 19, 16, 45, 46, 154, 0, 5, 2, 172, 42, 3, 3]
abbrev dktX7_safest_0 : List UInt8 := dkwX7_safest_0 ++ dktX7_safest_1
theorem dksX7_safest_0 : cX7_safest.data.toList.drop 0 = dktX7_safest_0 := by decide +kernel
theorem dksX7_safest_1 : cX7_safest.data.toList.drop 22 = dktX7_safest_1 := dk_seg dksX7_safest_0 22 rfl rfl
theorem dksX7_safest_2 : cX7_safest.data.toList.drop 44 = dktX7_safest_2 := dk_seg dksX7_safest_1 22 rfl rfl
theorem dksX7_safest_3 : cX7_safest.data.toList.drop 66 = dktX7_safest_3 := dk_seg dksX7_safest_2 22 rfl rfl
theorem dksX7_safest_4 : cX7_safest.data.toList.drop 89 = dktX7_safest_4 := dk_seg dksX7_safest_3 23 rfl rfl
theorem dksX7_safest_5 : cX7_safest.data.toList.drop 112 = dktX7_safest_5 := dk_seg dksX7_safest_4 23 rfl rfl
theorem dksX7_safest_6 : cX7_safest.data.toList.drop 135 = dktX7_safest_6 := dk_seg dksX7_safest_5 23 rfl rfl
theorem dX7_safest_0 : decode cX7_safest 0 = .ok (.aload_n 0, 1) := dk_42 (dk_at dksX7_safest_0 0 rfl rfl)
theorem dX7_safest_1 : decode cX7_safest 1 = .ok (.getfield 133, 3) := dk_180 0 133 (dk_at dksX7_safest_0 1 rfl rfl)
theorem dX7_safest_4 : decode cX7_safest 4 = .ok (.ifCond .eq 13, 3) := dk_153 0 13 (dk_at dksX7_safest_0 4 rfl rfl)
theorem dX7_safest_7 : decode cX7_safest 7 = .ok (.aload_n 0, 1) := dk_42 (dk_at dksX7_safest_0 7 rfl rfl)
theorem dX7_safest_8 : decode cX7_safest 8 = .ok (.getfield 19, 3) := dk_180 0 19 (dk_at dksX7_safest_0 8 rfl rfl)
theorem dX7_safest_11 : decode cX7_safest 11 = .ok (.bipush 45, 2) := dk_16 45 (dk_at dksX7_safest_0 11 rfl rfl)
theorem dX7_safest_13 : decode cX7_safest 13 = .ok (.iaload, 1) := dk_46 (dk_at dksX7_safest_0 13 rfl rfl)
theorem dX7_safest_14 : decode cX7_safest 14 = .ok (.ifCond .ne 5, 3) := dk_154 0 5 (dk_at dksX7_safest_0 14 rfl rfl)
theorem dX7_safest_17 : decode cX7_safest 17 = .ok (.iconst (-1), 1) := dk_2 (dk_at dksX7_safest_0 17 rfl rfl)
theorem dX7_safest_18 : decode cX7_safest 18 = .ok (.ireturn, 1) := dk_172 (dk_at dksX7_safest_0 18 rfl rfl)
theorem dX7_safest_19 : decode cX7_safest 19 = .ok (.aload_n 0, 1) := dk_42 (dk_at dksX7_safest_0 19 rfl rfl)
theorem dX7_safest_20 : decode cX7_safest 20 = .ok (.iconst 0, 1) := dk_3 (dk_at dksX7_safest_0 20 rfl rfl)
theorem dX7_safest_21 : decode cX7_safest 21 = .ok (.iconst 0, 1) := dk_3 (dk_at dksX7_safest_0 21 rfl rfl)
theorem dX7_safest_22 : decode cX7_safest 22 = .ok (.invokevirtual 188, 3) := dk_182 0 188 (dk_at dksX7_safest_1 0 rfl rfl)
theorem dX7_safest_25 : decode cX7_safest 25 = .ok (.iconst (-1), 1) := dk_2 (dk_at dksX7_safest_1 3 rfl rfl)
theorem dX7_safest_26 : decode cX7_safest 26 = .ok (.istore_n 2, 1) := dk_61 (dk_at dksX7_safest_1 4 rfl rfl)
theorem dX7_safest_27 : decode cX7_safest 27 = .ok (.sipush 1000, 3) := dk_17 3 232 (dk_at dksX7_safest_1 5 rfl rfl)
theorem dX7_safest_30 : decode cX7_safest 30 = .ok (.istore_n 3, 1) := dk_62 (dk_at dksX7_safest_1 8 rfl rfl)
theorem dX7_safest_31 : decode cX7_safest 31 = .ok (.iconst 0, 1) := dk_3 (dk_at dksX7_safest_1 9 rfl rfl)
theorem dX7_safest_32 : decode cX7_safest 32 = .ok (.istore 4, 2) := dk_54 4 (dk_at dksX7_safest_1 10 rfl rfl)
theorem dX7_safest_34 : decode cX7_safest 34 = .ok (.iload 4, 2) := dk_21 4 (dk_at dksX7_safest_1 12 rfl rfl)
theorem dX7_safest_36 : decode cX7_safest 36 = .ok (.aload_n 0, 1) := dk_42 (dk_at dksX7_safest_1 14 rfl rfl)
theorem dX7_safest_37 : decode cX7_safest 37 = .ok (.getfield 130, 3) := dk_180 0 130 (dk_at dksX7_safest_1 15 rfl rfl)
theorem dX7_safest_40 : decode cX7_safest 40 = .ok (.if_icmp .ge 101, 3) := dk_162 0 101 (dk_at dksX7_safest_1 18 rfl rfl)
theorem dX7_safest_43 : decode cX7_safest 43 = .ok (.aload_n 0, 1) := dk_42 (dk_at dksX7_safest_1 21 rfl rfl)
theorem dX7_safest_44 : decode cX7_safest 44 = .ok (.getfield 19, 3) := dk_180 0 19 (dk_at dksX7_safest_2 0 rfl rfl)
theorem dX7_safest_47 : decode cX7_safest 47 = .ok (.bipush 45, 2) := dk_16 45 (dk_at dksX7_safest_2 3 rfl rfl)
theorem dX7_safest_49 : decode cX7_safest 49 = .ok (.iaload, 1) := dk_46 (dk_at dksX7_safest_2 5 rfl rfl)
theorem dX7_safest_50 : decode cX7_safest 50 = .ok (.iload 4, 2) := dk_21 4 (dk_at dksX7_safest_2 6 rfl rfl)
theorem dX7_safest_52 : decode cX7_safest 52 = .ok (.invokestatic 170, 3) := dk_184 0 170 (dk_at dksX7_safest_2 8 rfl rfl)
theorem dX7_safest_55 : decode cX7_safest 55 = .ok (.ifCond .eq 80, 3) := dk_153 0 80 (dk_at dksX7_safest_2 11 rfl rfl)
theorem dX7_safest_58 : decode cX7_safest 58 = .ok (.iconst 0, 1) := dk_3 (dk_at dksX7_safest_2 14 rfl rfl)
theorem dX7_safest_59 : decode cX7_safest 59 = .ok (.istore 5, 2) := dk_54 5 (dk_at dksX7_safest_2 15 rfl rfl)
theorem dX7_safest_61 : decode cX7_safest 61 = .ok (.iconst 0, 1) := dk_3 (dk_at dksX7_safest_2 17 rfl rfl)
theorem dX7_safest_62 : decode cX7_safest 62 = .ok (.istore 6, 2) := dk_54 6 (dk_at dksX7_safest_2 18 rfl rfl)
theorem dX7_safest_64 : decode cX7_safest 64 = .ok (.iload 6, 2) := dk_21 6 (dk_at dksX7_safest_2 20 rfl rfl)
theorem dX7_safest_66 : decode cX7_safest 66 = .ok (.sipush 600, 3) := dk_17 2 88 (dk_at dksX7_safest_3 0 rfl rfl)
theorem dX7_safest_69 : decode cX7_safest 69 = .ok (.if_icmp .ge 40, 3) := dk_162 0 40 (dk_at dksX7_safest_3 3 rfl rfl)
theorem dX7_safest_72 : decode cX7_safest 72 = .ok (.iload 5, 2) := dk_21 5 (dk_at dksX7_safest_3 6 rfl rfl)
theorem dX7_safest_74 : decode cX7_safest 74 = .ok (.aload_n 0, 1) := dk_42 (dk_at dksX7_safest_3 8 rfl rfl)
theorem dX7_safest_75 : decode cX7_safest 75 = .ok (.aload_n 0, 1) := dk_42 (dk_at dksX7_safest_3 9 rfl rfl)
theorem dX7_safest_76 : decode cX7_safest 76 = .ok (.getfield 19, 3) := dk_180 0 19 (dk_at dksX7_safest_3 10 rfl rfl)
theorem dX7_safest_79 : decode cX7_safest 79 = .ok (.bipush 45, 2) := dk_16 45 (dk_at dksX7_safest_3 13 rfl rfl)
theorem dX7_safest_81 : decode cX7_safest 81 = .ok (.iaload, 1) := dk_46 (dk_at dksX7_safest_3 15 rfl rfl)
theorem dX7_safest_82 : decode cX7_safest 82 = .ok (.iload 6, 2) := dk_21 6 (dk_at dksX7_safest_3 16 rfl rfl)
theorem dX7_safest_84 : decode cX7_safest 84 = .ok (.invokevirtual 191, 3) := dk_182 0 191 (dk_at dksX7_safest_3 18 rfl rfl)
theorem dX7_safest_87 : decode cX7_safest 87 = .ok (.iload 4, 2) := dk_21 4 (dk_at dksX7_safest_3 21 rfl rfl)
theorem dX7_safest_89 : decode cX7_safest 89 = .ok (.invokestatic 170, 3) := dk_184 0 170 (dk_at dksX7_safest_4 0 rfl rfl)
theorem dX7_safest_92 : decode cX7_safest 92 = .ok (.ifCond .eq 7, 3) := dk_153 0 7 (dk_at dksX7_safest_4 3 rfl rfl)
theorem dX7_safest_95 : decode cX7_safest 95 = .ok (.iconst 1, 1) := dk_4 (dk_at dksX7_safest_4 6 rfl rfl)
theorem dX7_safest_96 : decode cX7_safest 96 = .ok (.goto 4, 3) := dk_167 0 4 (dk_at dksX7_safest_4 7 rfl rfl)
theorem dX7_safest_99 : decode cX7_safest 99 = .ok (.iconst 0, 1) := dk_3 (dk_at dksX7_safest_4 10 rfl rfl)
theorem dX7_safest_100 : decode cX7_safest 100 = .ok (.iadd, 1) := dk_96 (dk_at dksX7_safest_4 11 rfl rfl)
theorem dX7_safest_101 : decode cX7_safest 101 = .ok (.istore 5, 2) := dk_54 5 (dk_at dksX7_safest_4 12 rfl rfl)
theorem dX7_safest_103 : decode cX7_safest 103 = .ok (.iinc 6 1, 3) := dk_132 6 1 (dk_at dksX7_safest_4 14 rfl rfl)
theorem dX7_safest_106 : decode cX7_safest 106 = .ok (.goto (-42), 3) := dk_167 255 214 (dk_at dksX7_safest_4 17 rfl rfl)
theorem dX7_safest_109 : decode cX7_safest 109 = .ok (.iload 5, 2) := dk_21 5 (dk_at dksX7_safest_4 20 rfl rfl)
theorem dX7_safest_111 : decode cX7_safest 111 = .ok (.iload_n 3, 1) := dk_29 (dk_at dksX7_safest_4 22 rfl rfl)
theorem dX7_safest_112 : decode cX7_safest 112 = .ok (.if_icmp .ge 8, 3) := dk_162 0 8 (dk_at dksX7_safest_5 0 rfl rfl)
theorem dX7_safest_115 : decode cX7_safest 115 = .ok (.iload 4, 2) := dk_21 4 (dk_at dksX7_safest_5 3 rfl rfl)
theorem dX7_safest_117 : decode cX7_safest 117 = .ok (.goto 4, 3) := dk_167 0 4 (dk_at dksX7_safest_5 5 rfl rfl)
theorem dX7_safest_120 : decode cX7_safest 120 = .ok (.iload_n 2, 1) := dk_28 (dk_at dksX7_safest_5 8 rfl rfl)
theorem dX7_safest_121 : decode cX7_safest 121 = .ok (.istore_n 2, 1) := dk_61 (dk_at dksX7_safest_5 9 rfl rfl)
theorem dX7_safest_122 : decode cX7_safest 122 = .ok (.iload 5, 2) := dk_21 5 (dk_at dksX7_safest_5 10 rfl rfl)
theorem dX7_safest_124 : decode cX7_safest 124 = .ok (.iload_n 3, 1) := dk_29 (dk_at dksX7_safest_5 12 rfl rfl)
theorem dX7_safest_125 : decode cX7_safest 125 = .ok (.if_icmp .ge 8, 3) := dk_162 0 8 (dk_at dksX7_safest_5 13 rfl rfl)
theorem dX7_safest_128 : decode cX7_safest 128 = .ok (.iload 5, 2) := dk_21 5 (dk_at dksX7_safest_5 16 rfl rfl)
theorem dX7_safest_130 : decode cX7_safest 130 = .ok (.goto 4, 3) := dk_167 0 4 (dk_at dksX7_safest_5 18 rfl rfl)
theorem dX7_safest_133 : decode cX7_safest 133 = .ok (.iload_n 3, 1) := dk_29 (dk_at dksX7_safest_5 21 rfl rfl)
theorem dX7_safest_134 : decode cX7_safest 134 = .ok (.istore_n 3, 1) := dk_62 (dk_at dksX7_safest_5 22 rfl rfl)
theorem dX7_safest_135 : decode cX7_safest 135 = .ok (.iinc 4 1, 3) := dk_132 4 1 (dk_at dksX7_safest_6 0 rfl rfl)
theorem dX7_safest_138 : decode cX7_safest 138 = .ok (.goto (-104), 3) := dk_167 255 152 (dk_at dksX7_safest_6 3 rfl rfl)
theorem dX7_safest_141 : decode cX7_safest 141 = .ok (.iload_n 1, 1) := dk_27 (dk_at dksX7_safest_6 6 rfl rfl)
theorem dX7_safest_142 : decode cX7_safest 142 = .ok (.ifCond .ne 7, 3) := dk_154 0 7 (dk_at dksX7_safest_6 7 rfl rfl)
theorem dX7_safest_145 : decode cX7_safest 145 = .ok (.iload_n 2, 1) := dk_28 (dk_at dksX7_safest_6 10 rfl rfl)
theorem dX7_safest_146 : decode cX7_safest 146 = .ok (.goto 4, 3) := dk_167 0 4 (dk_at dksX7_safest_6 11 rfl rfl)
theorem dX7_safest_149 : decode cX7_safest 149 = .ok (.iload_n 3, 1) := dk_29 (dk_at dksX7_safest_6 14 rfl rfl)
theorem dX7_safest_150 : decode cX7_safest 150 = .ok (.ireturn, 1) := dk_172 (dk_at dksX7_safest_6 15 rfl rfl)
abbrev cX7_firm : ByteArray := prog_12_method_36_code
def yX7_firm : MethodName := ⟨RX7, "firm", "()I"⟩
def dkwX7_firm_0 : List UInt8 := [42, 180, 0, 133, 154, 0, 5, 2, 172, 42, 3, 3, 182, 0, 200, 172]
abbrev dktX7_firm_0 : List UInt8 := dkwX7_firm_0 ++ []
theorem dksX7_firm_0 : cX7_firm.data.toList.drop 0 = dktX7_firm_0 := by decide +kernel
theorem dX7_firm_0 : decode cX7_firm 0 = .ok (.aload_n 0, 1) := dk_42 (dk_at dksX7_firm_0 0 rfl rfl)
theorem dX7_firm_1 : decode cX7_firm 1 = .ok (.getfield 133, 3) := dk_180 0 133 (dk_at dksX7_firm_0 1 rfl rfl)
theorem dX7_firm_4 : decode cX7_firm 4 = .ok (.ifCond .ne 5, 3) := dk_154 0 5 (dk_at dksX7_firm_0 4 rfl rfl)
theorem dX7_firm_7 : decode cX7_firm 7 = .ok (.iconst (-1), 1) := dk_2 (dk_at dksX7_firm_0 7 rfl rfl)
theorem dX7_firm_8 : decode cX7_firm 8 = .ok (.ireturn, 1) := dk_172 (dk_at dksX7_firm_0 8 rfl rfl)
theorem dX7_firm_9 : decode cX7_firm 9 = .ok (.aload_n 0, 1) := dk_42 (dk_at dksX7_firm_0 9 rfl rfl)
theorem dX7_firm_10 : decode cX7_firm 10 = .ok (.iconst 0, 1) := dk_3 (dk_at dksX7_firm_0 10 rfl rfl)
theorem dX7_firm_11 : decode cX7_firm 11 = .ok (.iconst 0, 1) := dk_3 (dk_at dksX7_firm_0 11 rfl rfl)
theorem dX7_firm_12 : decode cX7_firm 12 = .ok (.invokevirtual 200, 3) := dk_182 0 200 (dk_at dksX7_firm_0 12 rfl rfl)
theorem dX7_firm_15 : decode cX7_firm 15 = .ok (.ireturn, 1) := dk_172 (dk_at dksX7_firm_0 15 rfl rfl)
abbrev cX7_ballsFor : ByteArray := prog_12_method_56_code
def yX7_ballsFor : MethodName := ⟨RX7, "ballsFor", "(II)I"⟩
def dkwX7_ballsFor_3 : List UInt8 := [21, 4, 172]
abbrev dktX7_ballsFor_3 : List UInt8 := dkwX7_ballsFor_3 ++ []
def dkwX7_ballsFor_2 : List UInt8 := [167, 0, 5, 21, 4, 54, 4, 132, 3, 1, 132, 5, 1, 167, 255, 209, 28, 154, 0, 7, 29, 167, 0, 5]
abbrev dktX7_ballsFor_2 : List UInt8 := dkwX7_ballsFor_2 ++ dktX7_ballsFor_3
def dkwX7_ballsFor_1 : List UInt8 := [180, 0, 19, 16, 45, 46, 21, 5, 182, 0, 191, 27, 160, 0, 22, 29, 154, 0, 11, 21, 5, 184, 0, 197]
abbrev dktX7_ballsFor_1 : List UInt8 := dkwX7_ballsFor_1 ++ dktX7_ballsFor_2
def dkwX7_ballsFor_0 : List UInt8 := [42, 3, 3, 182, 0, 188, 3, 62, 2, 54, 4, 3, 54, 5, 21, 5, 17, 2, 88, 162, 0, 45, 42, 42]
abbrev dktX7_ballsFor_0 : List UInt8 := dkwX7_ballsFor_0 ++ dktX7_ballsFor_1
theorem dksX7_ballsFor_0 : cX7_ballsFor.data.toList.drop 0 = dktX7_ballsFor_0 := by decide +kernel
theorem dksX7_ballsFor_1 : cX7_ballsFor.data.toList.drop 24 = dktX7_ballsFor_1 := dk_seg dksX7_ballsFor_0 24 rfl rfl
theorem dksX7_ballsFor_2 : cX7_ballsFor.data.toList.drop 48 = dktX7_ballsFor_2 := dk_seg dksX7_ballsFor_1 24 rfl rfl
theorem dksX7_ballsFor_3 : cX7_ballsFor.data.toList.drop 72 = dktX7_ballsFor_3 := dk_seg dksX7_ballsFor_2 24 rfl rfl
theorem dX7_ballsFor_0 : decode cX7_ballsFor 0 = .ok (.aload_n 0, 1) := dk_42 (dk_at dksX7_ballsFor_0 0 rfl rfl)
theorem dX7_ballsFor_1 : decode cX7_ballsFor 1 = .ok (.iconst 0, 1) := dk_3 (dk_at dksX7_ballsFor_0 1 rfl rfl)
theorem dX7_ballsFor_2 : decode cX7_ballsFor 2 = .ok (.iconst 0, 1) := dk_3 (dk_at dksX7_ballsFor_0 2 rfl rfl)
theorem dX7_ballsFor_3 : decode cX7_ballsFor 3 = .ok (.invokevirtual 188, 3) := dk_182 0 188 (dk_at dksX7_ballsFor_0 3 rfl rfl)
theorem dX7_ballsFor_6 : decode cX7_ballsFor 6 = .ok (.iconst 0, 1) := dk_3 (dk_at dksX7_ballsFor_0 6 rfl rfl)
theorem dX7_ballsFor_7 : decode cX7_ballsFor 7 = .ok (.istore_n 3, 1) := dk_62 (dk_at dksX7_ballsFor_0 7 rfl rfl)
theorem dX7_ballsFor_8 : decode cX7_ballsFor 8 = .ok (.iconst (-1), 1) := dk_2 (dk_at dksX7_ballsFor_0 8 rfl rfl)
theorem dX7_ballsFor_9 : decode cX7_ballsFor 9 = .ok (.istore 4, 2) := dk_54 4 (dk_at dksX7_ballsFor_0 9 rfl rfl)
theorem dX7_ballsFor_11 : decode cX7_ballsFor 11 = .ok (.iconst 0, 1) := dk_3 (dk_at dksX7_ballsFor_0 11 rfl rfl)
theorem dX7_ballsFor_12 : decode cX7_ballsFor 12 = .ok (.istore 5, 2) := dk_54 5 (dk_at dksX7_ballsFor_0 12 rfl rfl)
theorem dX7_ballsFor_14 : decode cX7_ballsFor 14 = .ok (.iload 5, 2) := dk_21 5 (dk_at dksX7_ballsFor_0 14 rfl rfl)
theorem dX7_ballsFor_16 : decode cX7_ballsFor 16 = .ok (.sipush 600, 3) := dk_17 2 88 (dk_at dksX7_ballsFor_0 16 rfl rfl)
theorem dX7_ballsFor_19 : decode cX7_ballsFor 19 = .ok (.if_icmp .ge 45, 3) := dk_162 0 45 (dk_at dksX7_ballsFor_0 19 rfl rfl)
theorem dX7_ballsFor_22 : decode cX7_ballsFor 22 = .ok (.aload_n 0, 1) := dk_42 (dk_at dksX7_ballsFor_0 22 rfl rfl)
theorem dX7_ballsFor_23 : decode cX7_ballsFor 23 = .ok (.aload_n 0, 1) := dk_42 (dk_at dksX7_ballsFor_0 23 rfl rfl)
theorem dX7_ballsFor_24 : decode cX7_ballsFor 24 = .ok (.getfield 19, 3) := dk_180 0 19 (dk_at dksX7_ballsFor_1 0 rfl rfl)
theorem dX7_ballsFor_27 : decode cX7_ballsFor 27 = .ok (.bipush 45, 2) := dk_16 45 (dk_at dksX7_ballsFor_1 3 rfl rfl)
theorem dX7_ballsFor_29 : decode cX7_ballsFor 29 = .ok (.iaload, 1) := dk_46 (dk_at dksX7_ballsFor_1 5 rfl rfl)
theorem dX7_ballsFor_30 : decode cX7_ballsFor 30 = .ok (.iload 5, 2) := dk_21 5 (dk_at dksX7_ballsFor_1 6 rfl rfl)
theorem dX7_ballsFor_32 : decode cX7_ballsFor 32 = .ok (.invokevirtual 191, 3) := dk_182 0 191 (dk_at dksX7_ballsFor_1 8 rfl rfl)
theorem dX7_ballsFor_35 : decode cX7_ballsFor 35 = .ok (.iload_n 1, 1) := dk_27 (dk_at dksX7_ballsFor_1 11 rfl rfl)
theorem dX7_ballsFor_36 : decode cX7_ballsFor 36 = .ok (.if_icmp .ne 22, 3) := dk_160 0 22 (dk_at dksX7_ballsFor_1 12 rfl rfl)
theorem dX7_ballsFor_39 : decode cX7_ballsFor 39 = .ok (.iload_n 3, 1) := dk_29 (dk_at dksX7_ballsFor_1 15 rfl rfl)
theorem dX7_ballsFor_40 : decode cX7_ballsFor 40 = .ok (.ifCond .ne 11, 3) := dk_154 0 11 (dk_at dksX7_ballsFor_1 16 rfl rfl)
theorem dX7_ballsFor_43 : decode cX7_ballsFor 43 = .ok (.iload 5, 2) := dk_21 5 (dk_at dksX7_ballsFor_1 19 rfl rfl)
theorem dX7_ballsFor_45 : decode cX7_ballsFor 45 = .ok (.invokestatic 197, 3) := dk_184 0 197 (dk_at dksX7_ballsFor_1 21 rfl rfl)
theorem dX7_ballsFor_48 : decode cX7_ballsFor 48 = .ok (.goto 5, 3) := dk_167 0 5 (dk_at dksX7_ballsFor_2 0 rfl rfl)
theorem dX7_ballsFor_51 : decode cX7_ballsFor 51 = .ok (.iload 4, 2) := dk_21 4 (dk_at dksX7_ballsFor_2 3 rfl rfl)
theorem dX7_ballsFor_53 : decode cX7_ballsFor 53 = .ok (.istore 4, 2) := dk_54 4 (dk_at dksX7_ballsFor_2 5 rfl rfl)
theorem dX7_ballsFor_55 : decode cX7_ballsFor 55 = .ok (.iinc 3 1, 3) := dk_132 3 1 (dk_at dksX7_ballsFor_2 7 rfl rfl)
theorem dX7_ballsFor_58 : decode cX7_ballsFor 58 = .ok (.iinc 5 1, 3) := dk_132 5 1 (dk_at dksX7_ballsFor_2 10 rfl rfl)
theorem dX7_ballsFor_61 : decode cX7_ballsFor 61 = .ok (.goto (-47), 3) := dk_167 255 209 (dk_at dksX7_ballsFor_2 13 rfl rfl)
theorem dX7_ballsFor_64 : decode cX7_ballsFor 64 = .ok (.iload_n 2, 1) := dk_28 (dk_at dksX7_ballsFor_2 16 rfl rfl)
theorem dX7_ballsFor_65 : decode cX7_ballsFor 65 = .ok (.ifCond .ne 7, 3) := dk_154 0 7 (dk_at dksX7_ballsFor_2 17 rfl rfl)
theorem dX7_ballsFor_68 : decode cX7_ballsFor 68 = .ok (.iload_n 3, 1) := dk_29 (dk_at dksX7_ballsFor_2 20 rfl rfl)
theorem dX7_ballsFor_69 : decode cX7_ballsFor 69 = .ok (.goto 5, 3) := dk_167 0 5 (dk_at dksX7_ballsFor_2 21 rfl rfl)
theorem dX7_ballsFor_72 : decode cX7_ballsFor 72 = .ok (.iload 4, 2) := dk_21 4 (dk_at dksX7_ballsFor_3 0 rfl rfl)
theorem dX7_ballsFor_74 : decode cX7_ballsFor 74 = .ok (.ireturn, 1) := dk_172 (dk_at dksX7_ballsFor_3 2 rfl rfl)
abbrev cX7_talks : ByteArray := prog_12_method_37_code
def yX7_talks : MethodName := ⟨RX7, "talks", "()I"⟩
def dkwX7_talks_6 : List UInt8 := [132, 3, 1, 167, 255, 129, 132, 2, 1, 167, 255, 111, 27, 172]
abbrev dktX7_talks_6 : List UInt8 := dkwX7_talks_6 ++ []
def dkwX7_talks_5 : List UInt8 := [154, 0, 21, 42, 180, 0, 19, 16, 45, 46, 29, 184, 0, 170, 154, 0, 7, 4, 167, 0, 4, 3, 96, 60]
abbrev dktX7_talks_5 : List UInt8 := dkwX7_talks_5 ++ dktX7_talks_6
def dkwX7_talks_4 : List UInt8 := [167, 0, 4, 3, 54, 6, 27, 21, 6, 153, 0, 35, 42, 180, 0, 19, 16, 45, 46, 28, 184, 0, 170]
abbrev dktX7_talks_4 : List UInt8 := dkwX7_talks_4 ++ dktX7_talks_5
def dkwX7_talks_3 : List UInt8 := [100, 54, 5, 21, 4, 21, 4, 104, 4, 160, 0, 16, 21, 5, 21, 5, 104, 4, 160, 0, 7, 4]
abbrev dktX7_talks_3 : List UInt8 := dkwX7_talks_3 ++ dktX7_talks_4
def dkwX7_talks_2 : List UInt8 := [54, 4, 42, 180, 0, 19, 3, 28, 96, 46, 184, 0, 149, 42, 180, 0, 19, 3, 29, 96, 46, 184, 0, 149]
abbrev dktX7_talks_2 : List UInt8 := dkwX7_talks_2 ++ dktX7_talks_3
def dkwX7_talks_1 : List UInt8 := [42, 180, 0, 19, 3, 28, 96, 46, 184, 0, 146, 42, 180, 0, 19, 3, 29, 96, 46, 184, 0, 146, 100]
abbrev dktX7_talks_1 : List UInt8 := dkwX7_talks_1 ++ dktX7_talks_2
def dkwX7_talks_0 : List UInt8 := [3, 60, 3, 61, 28, 42, 180, 0, 130, 162, 0, 143, 28, 4, 96, 62, 29, 42, 180, 0, 130, 162, 0, 125]
abbrev dktX7_talks_0 : List UInt8 := dkwX7_talks_0 ++ dktX7_talks_1
theorem dksX7_talks_0 : cX7_talks.data.toList.drop 0 = dktX7_talks_0 := by decide +kernel
theorem dksX7_talks_1 : cX7_talks.data.toList.drop 24 = dktX7_talks_1 := dk_seg dksX7_talks_0 24 rfl rfl
theorem dksX7_talks_2 : cX7_talks.data.toList.drop 47 = dktX7_talks_2 := dk_seg dksX7_talks_1 23 rfl rfl
theorem dksX7_talks_3 : cX7_talks.data.toList.drop 71 = dktX7_talks_3 := dk_seg dksX7_talks_2 24 rfl rfl
theorem dksX7_talks_4 : cX7_talks.data.toList.drop 93 = dktX7_talks_4 := dk_seg dksX7_talks_3 22 rfl rfl
theorem dksX7_talks_5 : cX7_talks.data.toList.drop 116 = dktX7_talks_5 := dk_seg dksX7_talks_4 23 rfl rfl
theorem dksX7_talks_6 : cX7_talks.data.toList.drop 140 = dktX7_talks_6 := dk_seg dksX7_talks_5 24 rfl rfl
theorem dX7_talks_0 : decode cX7_talks 0 = .ok (.iconst 0, 1) := dk_3 (dk_at dksX7_talks_0 0 rfl rfl)
theorem dX7_talks_1 : decode cX7_talks 1 = .ok (.istore_n 1, 1) := dk_60 (dk_at dksX7_talks_0 1 rfl rfl)
theorem dX7_talks_2 : decode cX7_talks 2 = .ok (.iconst 0, 1) := dk_3 (dk_at dksX7_talks_0 2 rfl rfl)
theorem dX7_talks_3 : decode cX7_talks 3 = .ok (.istore_n 2, 1) := dk_61 (dk_at dksX7_talks_0 3 rfl rfl)
theorem dX7_talks_4 : decode cX7_talks 4 = .ok (.iload_n 2, 1) := dk_28 (dk_at dksX7_talks_0 4 rfl rfl)
theorem dX7_talks_5 : decode cX7_talks 5 = .ok (.aload_n 0, 1) := dk_42 (dk_at dksX7_talks_0 5 rfl rfl)
theorem dX7_talks_6 : decode cX7_talks 6 = .ok (.getfield 130, 3) := dk_180 0 130 (dk_at dksX7_talks_0 6 rfl rfl)
theorem dX7_talks_9 : decode cX7_talks 9 = .ok (.if_icmp .ge 143, 3) := dk_162 0 143 (dk_at dksX7_talks_0 9 rfl rfl)
theorem dX7_talks_12 : decode cX7_talks 12 = .ok (.iload_n 2, 1) := dk_28 (dk_at dksX7_talks_0 12 rfl rfl)
theorem dX7_talks_13 : decode cX7_talks 13 = .ok (.iconst 1, 1) := dk_4 (dk_at dksX7_talks_0 13 rfl rfl)
theorem dX7_talks_14 : decode cX7_talks 14 = .ok (.iadd, 1) := dk_96 (dk_at dksX7_talks_0 14 rfl rfl)
theorem dX7_talks_15 : decode cX7_talks 15 = .ok (.istore_n 3, 1) := dk_62 (dk_at dksX7_talks_0 15 rfl rfl)
theorem dX7_talks_16 : decode cX7_talks 16 = .ok (.iload_n 3, 1) := dk_29 (dk_at dksX7_talks_0 16 rfl rfl)
theorem dX7_talks_17 : decode cX7_talks 17 = .ok (.aload_n 0, 1) := dk_42 (dk_at dksX7_talks_0 17 rfl rfl)
theorem dX7_talks_18 : decode cX7_talks 18 = .ok (.getfield 130, 3) := dk_180 0 130 (dk_at dksX7_talks_0 18 rfl rfl)
theorem dX7_talks_21 : decode cX7_talks 21 = .ok (.if_icmp .ge 125, 3) := dk_162 0 125 (dk_at dksX7_talks_0 21 rfl rfl)
theorem dX7_talks_24 : decode cX7_talks 24 = .ok (.aload_n 0, 1) := dk_42 (dk_at dksX7_talks_1 0 rfl rfl)
theorem dX7_talks_25 : decode cX7_talks 25 = .ok (.getfield 19, 3) := dk_180 0 19 (dk_at dksX7_talks_1 1 rfl rfl)
theorem dX7_talks_28 : decode cX7_talks 28 = .ok (.iconst 0, 1) := dk_3 (dk_at dksX7_talks_1 4 rfl rfl)
theorem dX7_talks_29 : decode cX7_talks 29 = .ok (.iload_n 2, 1) := dk_28 (dk_at dksX7_talks_1 5 rfl rfl)
theorem dX7_talks_30 : decode cX7_talks 30 = .ok (.iadd, 1) := dk_96 (dk_at dksX7_talks_1 6 rfl rfl)
theorem dX7_talks_31 : decode cX7_talks 31 = .ok (.iaload, 1) := dk_46 (dk_at dksX7_talks_1 7 rfl rfl)
theorem dX7_talks_32 : decode cX7_talks 32 = .ok (.invokestatic 146, 3) := dk_184 0 146 (dk_at dksX7_talks_1 8 rfl rfl)
theorem dX7_talks_35 : decode cX7_talks 35 = .ok (.aload_n 0, 1) := dk_42 (dk_at dksX7_talks_1 11 rfl rfl)
theorem dX7_talks_36 : decode cX7_talks 36 = .ok (.getfield 19, 3) := dk_180 0 19 (dk_at dksX7_talks_1 12 rfl rfl)
theorem dX7_talks_39 : decode cX7_talks 39 = .ok (.iconst 0, 1) := dk_3 (dk_at dksX7_talks_1 15 rfl rfl)
theorem dX7_talks_40 : decode cX7_talks 40 = .ok (.iload_n 3, 1) := dk_29 (dk_at dksX7_talks_1 16 rfl rfl)
theorem dX7_talks_41 : decode cX7_talks 41 = .ok (.iadd, 1) := dk_96 (dk_at dksX7_talks_1 17 rfl rfl)
theorem dX7_talks_42 : decode cX7_talks 42 = .ok (.iaload, 1) := dk_46 (dk_at dksX7_talks_1 18 rfl rfl)
theorem dX7_talks_43 : decode cX7_talks 43 = .ok (.invokestatic 146, 3) := dk_184 0 146 (dk_at dksX7_talks_1 19 rfl rfl)
theorem dX7_talks_46 : decode cX7_talks 46 = .ok (.isub, 1) := dk_100 (dk_at dksX7_talks_1 22 rfl rfl)
theorem dX7_talks_47 : decode cX7_talks 47 = .ok (.istore 4, 2) := dk_54 4 (dk_at dksX7_talks_2 0 rfl rfl)
theorem dX7_talks_49 : decode cX7_talks 49 = .ok (.aload_n 0, 1) := dk_42 (dk_at dksX7_talks_2 2 rfl rfl)
theorem dX7_talks_50 : decode cX7_talks 50 = .ok (.getfield 19, 3) := dk_180 0 19 (dk_at dksX7_talks_2 3 rfl rfl)
theorem dX7_talks_53 : decode cX7_talks 53 = .ok (.iconst 0, 1) := dk_3 (dk_at dksX7_talks_2 6 rfl rfl)
theorem dX7_talks_54 : decode cX7_talks 54 = .ok (.iload_n 2, 1) := dk_28 (dk_at dksX7_talks_2 7 rfl rfl)
theorem dX7_talks_55 : decode cX7_talks 55 = .ok (.iadd, 1) := dk_96 (dk_at dksX7_talks_2 8 rfl rfl)
theorem dX7_talks_56 : decode cX7_talks 56 = .ok (.iaload, 1) := dk_46 (dk_at dksX7_talks_2 9 rfl rfl)
theorem dX7_talks_57 : decode cX7_talks 57 = .ok (.invokestatic 149, 3) := dk_184 0 149 (dk_at dksX7_talks_2 10 rfl rfl)
theorem dX7_talks_60 : decode cX7_talks 60 = .ok (.aload_n 0, 1) := dk_42 (dk_at dksX7_talks_2 13 rfl rfl)
theorem dX7_talks_61 : decode cX7_talks 61 = .ok (.getfield 19, 3) := dk_180 0 19 (dk_at dksX7_talks_2 14 rfl rfl)
theorem dX7_talks_64 : decode cX7_talks 64 = .ok (.iconst 0, 1) := dk_3 (dk_at dksX7_talks_2 17 rfl rfl)
theorem dX7_talks_65 : decode cX7_talks 65 = .ok (.iload_n 3, 1) := dk_29 (dk_at dksX7_talks_2 18 rfl rfl)
theorem dX7_talks_66 : decode cX7_talks 66 = .ok (.iadd, 1) := dk_96 (dk_at dksX7_talks_2 19 rfl rfl)
theorem dX7_talks_67 : decode cX7_talks 67 = .ok (.iaload, 1) := dk_46 (dk_at dksX7_talks_2 20 rfl rfl)
theorem dX7_talks_68 : decode cX7_talks 68 = .ok (.invokestatic 149, 3) := dk_184 0 149 (dk_at dksX7_talks_2 21 rfl rfl)
theorem dX7_talks_71 : decode cX7_talks 71 = .ok (.isub, 1) := dk_100 (dk_at dksX7_talks_3 0 rfl rfl)
theorem dX7_talks_72 : decode cX7_talks 72 = .ok (.istore 5, 2) := dk_54 5 (dk_at dksX7_talks_3 1 rfl rfl)
theorem dX7_talks_74 : decode cX7_talks 74 = .ok (.iload 4, 2) := dk_21 4 (dk_at dksX7_talks_3 3 rfl rfl)
theorem dX7_talks_76 : decode cX7_talks 76 = .ok (.iload 4, 2) := dk_21 4 (dk_at dksX7_talks_3 5 rfl rfl)
theorem dX7_talks_78 : decode cX7_talks 78 = .ok (.imul, 1) := dk_104 (dk_at dksX7_talks_3 7 rfl rfl)
theorem dX7_talks_79 : decode cX7_talks 79 = .ok (.iconst 1, 1) := dk_4 (dk_at dksX7_talks_3 8 rfl rfl)
theorem dX7_talks_80 : decode cX7_talks 80 = .ok (.if_icmp .ne 16, 3) := dk_160 0 16 (dk_at dksX7_talks_3 9 rfl rfl)
theorem dX7_talks_83 : decode cX7_talks 83 = .ok (.iload 5, 2) := dk_21 5 (dk_at dksX7_talks_3 12 rfl rfl)
theorem dX7_talks_85 : decode cX7_talks 85 = .ok (.iload 5, 2) := dk_21 5 (dk_at dksX7_talks_3 14 rfl rfl)
theorem dX7_talks_87 : decode cX7_talks 87 = .ok (.imul, 1) := dk_104 (dk_at dksX7_talks_3 16 rfl rfl)
theorem dX7_talks_88 : decode cX7_talks 88 = .ok (.iconst 1, 1) := dk_4 (dk_at dksX7_talks_3 17 rfl rfl)
theorem dX7_talks_89 : decode cX7_talks 89 = .ok (.if_icmp .ne 7, 3) := dk_160 0 7 (dk_at dksX7_talks_3 18 rfl rfl)
theorem dX7_talks_92 : decode cX7_talks 92 = .ok (.iconst 1, 1) := dk_4 (dk_at dksX7_talks_3 21 rfl rfl)
theorem dX7_talks_93 : decode cX7_talks 93 = .ok (.goto 4, 3) := dk_167 0 4 (dk_at dksX7_talks_4 0 rfl rfl)
theorem dX7_talks_96 : decode cX7_talks 96 = .ok (.iconst 0, 1) := dk_3 (dk_at dksX7_talks_4 3 rfl rfl)
theorem dX7_talks_97 : decode cX7_talks 97 = .ok (.istore 6, 2) := dk_54 6 (dk_at dksX7_talks_4 4 rfl rfl)
theorem dX7_talks_99 : decode cX7_talks 99 = .ok (.iload_n 1, 1) := dk_27 (dk_at dksX7_talks_4 6 rfl rfl)
theorem dX7_talks_100 : decode cX7_talks 100 = .ok (.iload 6, 2) := dk_21 6 (dk_at dksX7_talks_4 7 rfl rfl)
theorem dX7_talks_102 : decode cX7_talks 102 = .ok (.ifCond .eq 35, 3) := dk_153 0 35 (dk_at dksX7_talks_4 9 rfl rfl)
theorem dX7_talks_105 : decode cX7_talks 105 = .ok (.aload_n 0, 1) := dk_42 (dk_at dksX7_talks_4 12 rfl rfl)
theorem dX7_talks_106 : decode cX7_talks 106 = .ok (.getfield 19, 3) := dk_180 0 19 (dk_at dksX7_talks_4 13 rfl rfl)
theorem dX7_talks_109 : decode cX7_talks 109 = .ok (.bipush 45, 2) := dk_16 45 (dk_at dksX7_talks_4 16 rfl rfl)
theorem dX7_talks_111 : decode cX7_talks 111 = .ok (.iaload, 1) := dk_46 (dk_at dksX7_talks_4 18 rfl rfl)
theorem dX7_talks_112 : decode cX7_talks 112 = .ok (.iload_n 2, 1) := dk_28 (dk_at dksX7_talks_4 19 rfl rfl)
theorem dX7_talks_113 : decode cX7_talks 113 = .ok (.invokestatic 170, 3) := dk_184 0 170 (dk_at dksX7_talks_4 20 rfl rfl)
theorem dX7_talks_116 : decode cX7_talks 116 = .ok (.ifCond .ne 21, 3) := dk_154 0 21 (dk_at dksX7_talks_5 0 rfl rfl)
theorem dX7_talks_119 : decode cX7_talks 119 = .ok (.aload_n 0, 1) := dk_42 (dk_at dksX7_talks_5 3 rfl rfl)
theorem dX7_talks_120 : decode cX7_talks 120 = .ok (.getfield 19, 3) := dk_180 0 19 (dk_at dksX7_talks_5 4 rfl rfl)
theorem dX7_talks_123 : decode cX7_talks 123 = .ok (.bipush 45, 2) := dk_16 45 (dk_at dksX7_talks_5 7 rfl rfl)
theorem dX7_talks_125 : decode cX7_talks 125 = .ok (.iaload, 1) := dk_46 (dk_at dksX7_talks_5 9 rfl rfl)
theorem dX7_talks_126 : decode cX7_talks 126 = .ok (.iload_n 3, 1) := dk_29 (dk_at dksX7_talks_5 10 rfl rfl)
theorem dX7_talks_127 : decode cX7_talks 127 = .ok (.invokestatic 170, 3) := dk_184 0 170 (dk_at dksX7_talks_5 11 rfl rfl)
theorem dX7_talks_130 : decode cX7_talks 130 = .ok (.ifCond .ne 7, 3) := dk_154 0 7 (dk_at dksX7_talks_5 14 rfl rfl)
theorem dX7_talks_133 : decode cX7_talks 133 = .ok (.iconst 1, 1) := dk_4 (dk_at dksX7_talks_5 17 rfl rfl)
theorem dX7_talks_134 : decode cX7_talks 134 = .ok (.goto 4, 3) := dk_167 0 4 (dk_at dksX7_talks_5 18 rfl rfl)
theorem dX7_talks_137 : decode cX7_talks 137 = .ok (.iconst 0, 1) := dk_3 (dk_at dksX7_talks_5 21 rfl rfl)
theorem dX7_talks_138 : decode cX7_talks 138 = .ok (.iadd, 1) := dk_96 (dk_at dksX7_talks_5 22 rfl rfl)
theorem dX7_talks_139 : decode cX7_talks 139 = .ok (.istore_n 1, 1) := dk_60 (dk_at dksX7_talks_5 23 rfl rfl)
theorem dX7_talks_140 : decode cX7_talks 140 = .ok (.iinc 3 1, 3) := dk_132 3 1 (dk_at dksX7_talks_6 0 rfl rfl)
theorem dX7_talks_143 : decode cX7_talks 143 = .ok (.goto (-127), 3) := dk_167 255 129 (dk_at dksX7_talks_6 3 rfl rfl)
theorem dX7_talks_146 : decode cX7_talks 146 = .ok (.iinc 2 1, 3) := dk_132 2 1 (dk_at dksX7_talks_6 6 rfl rfl)
theorem dX7_talks_149 : decode cX7_talks 149 = .ok (.goto (-145), 3) := dk_167 255 111 (dk_at dksX7_talks_6 9 rfl rfl)
theorem dX7_talks_152 : decode cX7_talks 152 = .ok (.iload_n 1, 1) := dk_27 (dk_at dksX7_talks_6 12 rfl rfl)
theorem dX7_talks_153 : decode cX7_talks 153 = .ok (.ireturn, 1) := dk_172 (dk_at dksX7_talks_6 13 rfl rfl)
abbrev cX7_skittle : ByteArray := prog_12_method_40_code
def yX7_skittle : MethodName := ⟨RX7, "skittle", "(II)I"⟩
def dkwX7_skittle_7 : List UInt8 := [46, 182, 0, 152, 172]
abbrev dktX7_skittle_7 : List UInt8 := dkwX7_skittle_7 ++ []
def dkwX7_skittle_6 : List UInt8 := [172, 28, 16, 7, 160, 0, 11, 42, 27, 182, 0, 221, 167, 0, 16, 42, 27, 42, 180, 0, 19, 3, 27, 96]
abbrev dktX7_skittle_6 : List UInt8 := dkwX7_skittle_6 ++ dktX7_skittle_7
def dkwX7_skittle_5 : List UInt8 := [160, 0, 15, 42, 180, 0, 19, 16, 9, 27, 96, 46, 167, 0, 12, 42, 180, 0, 19, 16, 18, 27, 96, 46]
abbrev dktX7_skittle_5 : List UInt8 := dkwX7_skittle_5 ++ dktX7_skittle_6
def dkwX7_skittle_4 : List UInt8 := [162, 0, 49, 28, 7, 160, 0, 17, 42, 180, 0, 19, 16, 45, 46, 27, 122, 4, 126, 167, 0, 29, 28, 8]
abbrev dktX7_skittle_4 : List UInt8 := dkwX7_skittle_4 ++ dktX7_skittle_5
def dkwX7_skittle_3 : List UInt8 := [180, 0, 19, 16, 36, 27, 96, 46, 167, 0, 11, 42, 180, 0, 19, 3, 27, 96, 46, 172, 28, 16, 7]
abbrev dktX7_skittle_3 : List UInt8 := dkwX7_skittle_3 ++ dktX7_skittle_4
def dkwX7_skittle_2 : List UInt8 := [167, 0, 42, 28, 4, 160, 0, 12, 42, 180, 0, 16, 27, 46, 167, 0, 28, 28, 5, 160, 0, 15, 42]
abbrev dktX7_skittle_2 : List UInt8 := dkwX7_skittle_2 ++ dktX7_skittle_3
def dkwX7_skittle_1 : List UInt8 := [154, 0, 6, 18, 79, 172, 28, 7, 162, 0, 59, 28, 154, 0, 15, 42, 180, 0, 19, 16, 27, 27, 96, 46]
abbrev dktX7_skittle_1 : List UInt8 := dkwX7_skittle_1 ++ dktX7_skittle_2
def dkwX7_skittle_0 : List UInt8 := [42, 3, 181, 0, 72, 42, 27, 182, 0, 216, 154, 0, 6, 18, 220, 172, 28, 3, 16, 8, 184, 0, 75]
abbrev dktX7_skittle_0 : List UInt8 := dkwX7_skittle_0 ++ dktX7_skittle_1
theorem dksX7_skittle_0 : cX7_skittle.data.toList.drop 0 = dktX7_skittle_0 := by decide +kernel
theorem dksX7_skittle_1 : cX7_skittle.data.toList.drop 23 = dktX7_skittle_1 := dk_seg dksX7_skittle_0 23 rfl rfl
theorem dksX7_skittle_2 : cX7_skittle.data.toList.drop 47 = dktX7_skittle_2 := dk_seg dksX7_skittle_1 24 rfl rfl
theorem dksX7_skittle_3 : cX7_skittle.data.toList.drop 70 = dktX7_skittle_3 := dk_seg dksX7_skittle_2 23 rfl rfl
theorem dksX7_skittle_4 : cX7_skittle.data.toList.drop 93 = dktX7_skittle_4 := dk_seg dksX7_skittle_3 23 rfl rfl
theorem dksX7_skittle_5 : cX7_skittle.data.toList.drop 117 = dktX7_skittle_5 := dk_seg dksX7_skittle_4 24 rfl rfl
theorem dksX7_skittle_6 : cX7_skittle.data.toList.drop 141 = dktX7_skittle_6 := dk_seg dksX7_skittle_5 24 rfl rfl
theorem dksX7_skittle_7 : cX7_skittle.data.toList.drop 165 = dktX7_skittle_7 := dk_seg dksX7_skittle_6 24 rfl rfl
theorem dX7_skittle_0 : decode cX7_skittle 0 = .ok (.aload_n 0, 1) := dk_42 (dk_at dksX7_skittle_0 0 rfl rfl)
theorem dX7_skittle_1 : decode cX7_skittle 1 = .ok (.iconst 0, 1) := dk_3 (dk_at dksX7_skittle_0 1 rfl rfl)
theorem dX7_skittle_2 : decode cX7_skittle 2 = .ok (.putfield 72, 3) := dk_181 0 72 (dk_at dksX7_skittle_0 2 rfl rfl)
theorem dX7_skittle_5 : decode cX7_skittle 5 = .ok (.aload_n 0, 1) := dk_42 (dk_at dksX7_skittle_0 5 rfl rfl)
theorem dX7_skittle_6 : decode cX7_skittle 6 = .ok (.iload_n 1, 1) := dk_27 (dk_at dksX7_skittle_0 6 rfl rfl)
theorem dX7_skittle_7 : decode cX7_skittle 7 = .ok (.invokevirtual 216, 3) := dk_182 0 216 (dk_at dksX7_skittle_0 7 rfl rfl)
theorem dX7_skittle_10 : decode cX7_skittle 10 = .ok (.ifCond .ne 6, 3) := dk_154 0 6 (dk_at dksX7_skittle_0 10 rfl rfl)
theorem dX7_skittle_13 : decode cX7_skittle 13 = .ok (.ldc 220, 2) := dk_18 220 (dk_at dksX7_skittle_0 13 rfl rfl)
theorem dX7_skittle_15 : decode cX7_skittle 15 = .ok (.ireturn, 1) := dk_172 (dk_at dksX7_skittle_0 15 rfl rfl)
theorem dX7_skittle_16 : decode cX7_skittle 16 = .ok (.iload_n 2, 1) := dk_28 (dk_at dksX7_skittle_0 16 rfl rfl)
theorem dX7_skittle_17 : decode cX7_skittle 17 = .ok (.iconst 0, 1) := dk_3 (dk_at dksX7_skittle_0 17 rfl rfl)
theorem dX7_skittle_18 : decode cX7_skittle 18 = .ok (.bipush 8, 2) := dk_16 8 (dk_at dksX7_skittle_0 18 rfl rfl)
theorem dX7_skittle_20 : decode cX7_skittle 20 = .ok (.invokestatic 75, 3) := dk_184 0 75 (dk_at dksX7_skittle_0 20 rfl rfl)
theorem dX7_skittle_23 : decode cX7_skittle 23 = .ok (.ifCond .ne 6, 3) := dk_154 0 6 (dk_at dksX7_skittle_1 0 rfl rfl)
theorem dX7_skittle_26 : decode cX7_skittle 26 = .ok (.ldc 79, 2) := dk_18 79 (dk_at dksX7_skittle_1 3 rfl rfl)
theorem dX7_skittle_28 : decode cX7_skittle 28 = .ok (.ireturn, 1) := dk_172 (dk_at dksX7_skittle_1 5 rfl rfl)
theorem dX7_skittle_29 : decode cX7_skittle 29 = .ok (.iload_n 2, 1) := dk_28 (dk_at dksX7_skittle_1 6 rfl rfl)
theorem dX7_skittle_30 : decode cX7_skittle 30 = .ok (.iconst 4, 1) := dk_7 (dk_at dksX7_skittle_1 7 rfl rfl)
theorem dX7_skittle_31 : decode cX7_skittle 31 = .ok (.if_icmp .ge 59, 3) := dk_162 0 59 (dk_at dksX7_skittle_1 8 rfl rfl)
theorem dX7_skittle_34 : decode cX7_skittle 34 = .ok (.iload_n 2, 1) := dk_28 (dk_at dksX7_skittle_1 11 rfl rfl)
theorem dX7_skittle_35 : decode cX7_skittle 35 = .ok (.ifCond .ne 15, 3) := dk_154 0 15 (dk_at dksX7_skittle_1 12 rfl rfl)
theorem dX7_skittle_38 : decode cX7_skittle 38 = .ok (.aload_n 0, 1) := dk_42 (dk_at dksX7_skittle_1 15 rfl rfl)
theorem dX7_skittle_39 : decode cX7_skittle 39 = .ok (.getfield 19, 3) := dk_180 0 19 (dk_at dksX7_skittle_1 16 rfl rfl)
theorem dX7_skittle_42 : decode cX7_skittle 42 = .ok (.bipush 27, 2) := dk_16 27 (dk_at dksX7_skittle_1 19 rfl rfl)
theorem dX7_skittle_44 : decode cX7_skittle 44 = .ok (.iload_n 1, 1) := dk_27 (dk_at dksX7_skittle_1 21 rfl rfl)
theorem dX7_skittle_45 : decode cX7_skittle 45 = .ok (.iadd, 1) := dk_96 (dk_at dksX7_skittle_1 22 rfl rfl)
theorem dX7_skittle_46 : decode cX7_skittle 46 = .ok (.iaload, 1) := dk_46 (dk_at dksX7_skittle_1 23 rfl rfl)
theorem dX7_skittle_47 : decode cX7_skittle 47 = .ok (.goto 42, 3) := dk_167 0 42 (dk_at dksX7_skittle_2 0 rfl rfl)
theorem dX7_skittle_50 : decode cX7_skittle 50 = .ok (.iload_n 2, 1) := dk_28 (dk_at dksX7_skittle_2 3 rfl rfl)
theorem dX7_skittle_51 : decode cX7_skittle 51 = .ok (.iconst 1, 1) := dk_4 (dk_at dksX7_skittle_2 4 rfl rfl)
theorem dX7_skittle_52 : decode cX7_skittle 52 = .ok (.if_icmp .ne 12, 3) := dk_160 0 12 (dk_at dksX7_skittle_2 5 rfl rfl)
theorem dX7_skittle_55 : decode cX7_skittle 55 = .ok (.aload_n 0, 1) := dk_42 (dk_at dksX7_skittle_2 8 rfl rfl)
theorem dX7_skittle_56 : decode cX7_skittle 56 = .ok (.getfield 16, 3) := dk_180 0 16 (dk_at dksX7_skittle_2 9 rfl rfl)
theorem dX7_skittle_59 : decode cX7_skittle 59 = .ok (.iload_n 1, 1) := dk_27 (dk_at dksX7_skittle_2 12 rfl rfl)
theorem dX7_skittle_60 : decode cX7_skittle 60 = .ok (.iaload, 1) := dk_46 (dk_at dksX7_skittle_2 13 rfl rfl)
theorem dX7_skittle_61 : decode cX7_skittle 61 = .ok (.goto 28, 3) := dk_167 0 28 (dk_at dksX7_skittle_2 14 rfl rfl)
theorem dX7_skittle_64 : decode cX7_skittle 64 = .ok (.iload_n 2, 1) := dk_28 (dk_at dksX7_skittle_2 17 rfl rfl)
theorem dX7_skittle_65 : decode cX7_skittle 65 = .ok (.iconst 2, 1) := dk_5 (dk_at dksX7_skittle_2 18 rfl rfl)
theorem dX7_skittle_66 : decode cX7_skittle 66 = .ok (.if_icmp .ne 15, 3) := dk_160 0 15 (dk_at dksX7_skittle_2 19 rfl rfl)
theorem dX7_skittle_69 : decode cX7_skittle 69 = .ok (.aload_n 0, 1) := dk_42 (dk_at dksX7_skittle_2 22 rfl rfl)
theorem dX7_skittle_70 : decode cX7_skittle 70 = .ok (.getfield 19, 3) := dk_180 0 19 (dk_at dksX7_skittle_3 0 rfl rfl)
theorem dX7_skittle_73 : decode cX7_skittle 73 = .ok (.bipush 36, 2) := dk_16 36 (dk_at dksX7_skittle_3 3 rfl rfl)
theorem dX7_skittle_75 : decode cX7_skittle 75 = .ok (.iload_n 1, 1) := dk_27 (dk_at dksX7_skittle_3 5 rfl rfl)
theorem dX7_skittle_76 : decode cX7_skittle 76 = .ok (.iadd, 1) := dk_96 (dk_at dksX7_skittle_3 6 rfl rfl)
theorem dX7_skittle_77 : decode cX7_skittle 77 = .ok (.iaload, 1) := dk_46 (dk_at dksX7_skittle_3 7 rfl rfl)
theorem dX7_skittle_78 : decode cX7_skittle 78 = .ok (.goto 11, 3) := dk_167 0 11 (dk_at dksX7_skittle_3 8 rfl rfl)
theorem dX7_skittle_81 : decode cX7_skittle 81 = .ok (.aload_n 0, 1) := dk_42 (dk_at dksX7_skittle_3 11 rfl rfl)
theorem dX7_skittle_82 : decode cX7_skittle 82 = .ok (.getfield 19, 3) := dk_180 0 19 (dk_at dksX7_skittle_3 12 rfl rfl)
theorem dX7_skittle_85 : decode cX7_skittle 85 = .ok (.iconst 0, 1) := dk_3 (dk_at dksX7_skittle_3 15 rfl rfl)
theorem dX7_skittle_86 : decode cX7_skittle 86 = .ok (.iload_n 1, 1) := dk_27 (dk_at dksX7_skittle_3 16 rfl rfl)
theorem dX7_skittle_87 : decode cX7_skittle 87 = .ok (.iadd, 1) := dk_96 (dk_at dksX7_skittle_3 17 rfl rfl)
theorem dX7_skittle_88 : decode cX7_skittle 88 = .ok (.iaload, 1) := dk_46 (dk_at dksX7_skittle_3 18 rfl rfl)
theorem dX7_skittle_89 : decode cX7_skittle 89 = .ok (.ireturn, 1) := dk_172 (dk_at dksX7_skittle_3 19 rfl rfl)
theorem dX7_skittle_90 : decode cX7_skittle 90 = .ok (.iload_n 2, 1) := dk_28 (dk_at dksX7_skittle_3 20 rfl rfl)
theorem dX7_skittle_91 : decode cX7_skittle 91 = .ok (.bipush 7, 2) := dk_16 7 (dk_at dksX7_skittle_3 21 rfl rfl)
theorem dX7_skittle_93 : decode cX7_skittle 93 = .ok (.if_icmp .ge 49, 3) := dk_162 0 49 (dk_at dksX7_skittle_4 0 rfl rfl)
theorem dX7_skittle_96 : decode cX7_skittle 96 = .ok (.iload_n 2, 1) := dk_28 (dk_at dksX7_skittle_4 3 rfl rfl)
theorem dX7_skittle_97 : decode cX7_skittle 97 = .ok (.iconst 4, 1) := dk_7 (dk_at dksX7_skittle_4 4 rfl rfl)
theorem dX7_skittle_98 : decode cX7_skittle 98 = .ok (.if_icmp .ne 17, 3) := dk_160 0 17 (dk_at dksX7_skittle_4 5 rfl rfl)
theorem dX7_skittle_101 : decode cX7_skittle 101 = .ok (.aload_n 0, 1) := dk_42 (dk_at dksX7_skittle_4 8 rfl rfl)
theorem dX7_skittle_102 : decode cX7_skittle 102 = .ok (.getfield 19, 3) := dk_180 0 19 (dk_at dksX7_skittle_4 9 rfl rfl)
theorem dX7_skittle_105 : decode cX7_skittle 105 = .ok (.bipush 45, 2) := dk_16 45 (dk_at dksX7_skittle_4 12 rfl rfl)
theorem dX7_skittle_107 : decode cX7_skittle 107 = .ok (.iaload, 1) := dk_46 (dk_at dksX7_skittle_4 14 rfl rfl)
theorem dX7_skittle_108 : decode cX7_skittle 108 = .ok (.iload_n 1, 1) := dk_27 (dk_at dksX7_skittle_4 15 rfl rfl)
theorem dX7_skittle_109 : decode cX7_skittle 109 = .ok (.ishr, 1) := dk_122 (dk_at dksX7_skittle_4 16 rfl rfl)
theorem dX7_skittle_110 : decode cX7_skittle 110 = .ok (.iconst 1, 1) := dk_4 (dk_at dksX7_skittle_4 17 rfl rfl)
theorem dX7_skittle_111 : decode cX7_skittle 111 = .ok (.iand, 1) := dk_126 (dk_at dksX7_skittle_4 18 rfl rfl)
theorem dX7_skittle_112 : decode cX7_skittle 112 = .ok (.goto 29, 3) := dk_167 0 29 (dk_at dksX7_skittle_4 19 rfl rfl)
theorem dX7_skittle_115 : decode cX7_skittle 115 = .ok (.iload_n 2, 1) := dk_28 (dk_at dksX7_skittle_4 22 rfl rfl)
theorem dX7_skittle_116 : decode cX7_skittle 116 = .ok (.iconst 5, 1) := dk_8 (dk_at dksX7_skittle_4 23 rfl rfl)
theorem dX7_skittle_117 : decode cX7_skittle 117 = .ok (.if_icmp .ne 15, 3) := dk_160 0 15 (dk_at dksX7_skittle_5 0 rfl rfl)
theorem dX7_skittle_120 : decode cX7_skittle 120 = .ok (.aload_n 0, 1) := dk_42 (dk_at dksX7_skittle_5 3 rfl rfl)
theorem dX7_skittle_121 : decode cX7_skittle 121 = .ok (.getfield 19, 3) := dk_180 0 19 (dk_at dksX7_skittle_5 4 rfl rfl)
theorem dX7_skittle_124 : decode cX7_skittle 124 = .ok (.bipush 9, 2) := dk_16 9 (dk_at dksX7_skittle_5 7 rfl rfl)
theorem dX7_skittle_126 : decode cX7_skittle 126 = .ok (.iload_n 1, 1) := dk_27 (dk_at dksX7_skittle_5 9 rfl rfl)
theorem dX7_skittle_127 : decode cX7_skittle 127 = .ok (.iadd, 1) := dk_96 (dk_at dksX7_skittle_5 10 rfl rfl)
theorem dX7_skittle_128 : decode cX7_skittle 128 = .ok (.iaload, 1) := dk_46 (dk_at dksX7_skittle_5 11 rfl rfl)
theorem dX7_skittle_129 : decode cX7_skittle 129 = .ok (.goto 12, 3) := dk_167 0 12 (dk_at dksX7_skittle_5 12 rfl rfl)
theorem dX7_skittle_132 : decode cX7_skittle 132 = .ok (.aload_n 0, 1) := dk_42 (dk_at dksX7_skittle_5 15 rfl rfl)
theorem dX7_skittle_133 : decode cX7_skittle 133 = .ok (.getfield 19, 3) := dk_180 0 19 (dk_at dksX7_skittle_5 16 rfl rfl)
theorem dX7_skittle_136 : decode cX7_skittle 136 = .ok (.bipush 18, 2) := dk_16 18 (dk_at dksX7_skittle_5 19 rfl rfl)
theorem dX7_skittle_138 : decode cX7_skittle 138 = .ok (.iload_n 1, 1) := dk_27 (dk_at dksX7_skittle_5 21 rfl rfl)
theorem dX7_skittle_139 : decode cX7_skittle 139 = .ok (.iadd, 1) := dk_96 (dk_at dksX7_skittle_5 22 rfl rfl)
theorem dX7_skittle_140 : decode cX7_skittle 140 = .ok (.iaload, 1) := dk_46 (dk_at dksX7_skittle_5 23 rfl rfl)
theorem dX7_skittle_141 : decode cX7_skittle 141 = .ok (.ireturn, 1) := dk_172 (dk_at dksX7_skittle_6 0 rfl rfl)
theorem dX7_skittle_142 : decode cX7_skittle 142 = .ok (.iload_n 2, 1) := dk_28 (dk_at dksX7_skittle_6 1 rfl rfl)
theorem dX7_skittle_143 : decode cX7_skittle 143 = .ok (.bipush 7, 2) := dk_16 7 (dk_at dksX7_skittle_6 2 rfl rfl)
theorem dX7_skittle_145 : decode cX7_skittle 145 = .ok (.if_icmp .ne 11, 3) := dk_160 0 11 (dk_at dksX7_skittle_6 4 rfl rfl)
theorem dX7_skittle_148 : decode cX7_skittle 148 = .ok (.aload_n 0, 1) := dk_42 (dk_at dksX7_skittle_6 7 rfl rfl)
theorem dX7_skittle_149 : decode cX7_skittle 149 = .ok (.iload_n 1, 1) := dk_27 (dk_at dksX7_skittle_6 8 rfl rfl)
theorem dX7_skittle_150 : decode cX7_skittle 150 = .ok (.invokevirtual 221, 3) := dk_182 0 221 (dk_at dksX7_skittle_6 9 rfl rfl)
theorem dX7_skittle_153 : decode cX7_skittle 153 = .ok (.goto 16, 3) := dk_167 0 16 (dk_at dksX7_skittle_6 12 rfl rfl)
theorem dX7_skittle_156 : decode cX7_skittle 156 = .ok (.aload_n 0, 1) := dk_42 (dk_at dksX7_skittle_6 15 rfl rfl)
theorem dX7_skittle_157 : decode cX7_skittle 157 = .ok (.iload_n 1, 1) := dk_27 (dk_at dksX7_skittle_6 16 rfl rfl)
theorem dX7_skittle_158 : decode cX7_skittle 158 = .ok (.aload_n 0, 1) := dk_42 (dk_at dksX7_skittle_6 17 rfl rfl)
theorem dX7_skittle_159 : decode cX7_skittle 159 = .ok (.getfield 19, 3) := dk_180 0 19 (dk_at dksX7_skittle_6 18 rfl rfl)
theorem dX7_skittle_162 : decode cX7_skittle 162 = .ok (.iconst 0, 1) := dk_3 (dk_at dksX7_skittle_6 21 rfl rfl)
theorem dX7_skittle_163 : decode cX7_skittle 163 = .ok (.iload_n 1, 1) := dk_27 (dk_at dksX7_skittle_6 22 rfl rfl)
theorem dX7_skittle_164 : decode cX7_skittle 164 = .ok (.iadd, 1) := dk_96 (dk_at dksX7_skittle_6 23 rfl rfl)
theorem dX7_skittle_165 : decode cX7_skittle 165 = .ok (.iaload, 1) := dk_46 (dk_at dksX7_skittle_7 0 rfl rfl)
theorem dX7_skittle_166 : decode cX7_skittle 166 = .ok (.invokevirtual 152, 3) := dk_182 0 152 (dk_at dksX7_skittle_7 1 rfl rfl)
theorem dX7_skittle_169 : decode cX7_skittle 169 = .ok (.ireturn, 1) := dk_172 (dk_at dksX7_skittle_7 4 rfl rfl)
abbrev cX7_isSkittle : ByteArray := prog_12_method_18_code
def yX7_isSkittle : MethodName := ⟨RX7, "isSkittle", "(I)Z"⟩
def dkwX7_isSkittle_0 : List UInt8 := [27, 3, 42, 180, 0, 130, 4, 100, 184, 0, 75, 172]
abbrev dktX7_isSkittle_0 : List UInt8 := dkwX7_isSkittle_0 ++ []
theorem dksX7_isSkittle_0 : cX7_isSkittle.data.toList.drop 0 = dktX7_isSkittle_0 := by decide +kernel
theorem dX7_isSkittle_0 : decode cX7_isSkittle 0 = .ok (.iload_n 1, 1) := dk_27 (dk_at dksX7_isSkittle_0 0 rfl rfl)
theorem dX7_isSkittle_1 : decode cX7_isSkittle 1 = .ok (.iconst 0, 1) := dk_3 (dk_at dksX7_isSkittle_0 1 rfl rfl)
theorem dX7_isSkittle_2 : decode cX7_isSkittle 2 = .ok (.aload_n 0, 1) := dk_42 (dk_at dksX7_isSkittle_0 2 rfl rfl)
theorem dX7_isSkittle_3 : decode cX7_isSkittle 3 = .ok (.getfield 130, 3) := dk_180 0 130 (dk_at dksX7_isSkittle_0 3 rfl rfl)
theorem dX7_isSkittle_6 : decode cX7_isSkittle 6 = .ok (.iconst 1, 1) := dk_4 (dk_at dksX7_isSkittle_0 6 rfl rfl)
theorem dX7_isSkittle_7 : decode cX7_isSkittle 7 = .ok (.isub, 1) := dk_100 (dk_at dksX7_isSkittle_0 7 rfl rfl)
theorem dX7_isSkittle_8 : decode cX7_isSkittle 8 = .ok (.invokestatic 75, 3) := dk_184 0 75 (dk_at dksX7_isSkittle_0 8 rfl rfl)
theorem dX7_isSkittle_11 : decode cX7_isSkittle 11 = .ok (.ireturn, 1) := dk_172 (dk_at dksX7_isSkittle_0 11 rfl rfl)
abbrev cX7_firstTaker : ByteArray := prog_12_method_39_code
def yX7_firstTaker : MethodName := ⟨RX7, "firstTaker", "(I)I"⟩
def dkwX7_firstTaker_1 : List UInt8 := [180, 0, 19, 16, 18, 28, 96, 46, 61, 132, 3, 1, 167, 255, 224, 28, 172]
abbrev dktX7_firstTaker_1 : List UInt8 := dkwX7_firstTaker_1 ++ []
def dkwX7_firstTaker_0 : List UInt8 := [27, 61, 3, 62, 29, 16, 9, 162, 0, 32, 42, 180, 0, 19, 16, 18, 28, 96, 46, 2, 159, 0, 19, 42]
abbrev dktX7_firstTaker_0 : List UInt8 := dkwX7_firstTaker_0 ++ dktX7_firstTaker_1
theorem dksX7_firstTaker_0 : cX7_firstTaker.data.toList.drop 0 = dktX7_firstTaker_0 := by decide +kernel
theorem dksX7_firstTaker_1 : cX7_firstTaker.data.toList.drop 24 = dktX7_firstTaker_1 := dk_seg dksX7_firstTaker_0 24 rfl rfl
theorem dX7_firstTaker_0 : decode cX7_firstTaker 0 = .ok (.iload_n 1, 1) := dk_27 (dk_at dksX7_firstTaker_0 0 rfl rfl)
theorem dX7_firstTaker_1 : decode cX7_firstTaker 1 = .ok (.istore_n 2, 1) := dk_61 (dk_at dksX7_firstTaker_0 1 rfl rfl)
theorem dX7_firstTaker_2 : decode cX7_firstTaker 2 = .ok (.iconst 0, 1) := dk_3 (dk_at dksX7_firstTaker_0 2 rfl rfl)
theorem dX7_firstTaker_3 : decode cX7_firstTaker 3 = .ok (.istore_n 3, 1) := dk_62 (dk_at dksX7_firstTaker_0 3 rfl rfl)
theorem dX7_firstTaker_4 : decode cX7_firstTaker 4 = .ok (.iload_n 3, 1) := dk_29 (dk_at dksX7_firstTaker_0 4 rfl rfl)
theorem dX7_firstTaker_5 : decode cX7_firstTaker 5 = .ok (.bipush 9, 2) := dk_16 9 (dk_at dksX7_firstTaker_0 5 rfl rfl)
theorem dX7_firstTaker_7 : decode cX7_firstTaker 7 = .ok (.if_icmp .ge 32, 3) := dk_162 0 32 (dk_at dksX7_firstTaker_0 7 rfl rfl)
theorem dX7_firstTaker_10 : decode cX7_firstTaker 10 = .ok (.aload_n 0, 1) := dk_42 (dk_at dksX7_firstTaker_0 10 rfl rfl)
theorem dX7_firstTaker_11 : decode cX7_firstTaker 11 = .ok (.getfield 19, 3) := dk_180 0 19 (dk_at dksX7_firstTaker_0 11 rfl rfl)
theorem dX7_firstTaker_14 : decode cX7_firstTaker 14 = .ok (.bipush 18, 2) := dk_16 18 (dk_at dksX7_firstTaker_0 14 rfl rfl)
theorem dX7_firstTaker_16 : decode cX7_firstTaker 16 = .ok (.iload_n 2, 1) := dk_28 (dk_at dksX7_firstTaker_0 16 rfl rfl)
theorem dX7_firstTaker_17 : decode cX7_firstTaker 17 = .ok (.iadd, 1) := dk_96 (dk_at dksX7_firstTaker_0 17 rfl rfl)
theorem dX7_firstTaker_18 : decode cX7_firstTaker 18 = .ok (.iaload, 1) := dk_46 (dk_at dksX7_firstTaker_0 18 rfl rfl)
theorem dX7_firstTaker_19 : decode cX7_firstTaker 19 = .ok (.iconst (-1), 1) := dk_2 (dk_at dksX7_firstTaker_0 19 rfl rfl)
theorem dX7_firstTaker_20 : decode cX7_firstTaker 20 = .ok (.if_icmp .eq 19, 3) := dk_159 0 19 (dk_at dksX7_firstTaker_0 20 rfl rfl)
theorem dX7_firstTaker_23 : decode cX7_firstTaker 23 = .ok (.aload_n 0, 1) := dk_42 (dk_at dksX7_firstTaker_0 23 rfl rfl)
theorem dX7_firstTaker_24 : decode cX7_firstTaker 24 = .ok (.getfield 19, 3) := dk_180 0 19 (dk_at dksX7_firstTaker_1 0 rfl rfl)
theorem dX7_firstTaker_27 : decode cX7_firstTaker 27 = .ok (.bipush 18, 2) := dk_16 18 (dk_at dksX7_firstTaker_1 3 rfl rfl)
theorem dX7_firstTaker_29 : decode cX7_firstTaker 29 = .ok (.iload_n 2, 1) := dk_28 (dk_at dksX7_firstTaker_1 5 rfl rfl)
theorem dX7_firstTaker_30 : decode cX7_firstTaker 30 = .ok (.iadd, 1) := dk_96 (dk_at dksX7_firstTaker_1 6 rfl rfl)
theorem dX7_firstTaker_31 : decode cX7_firstTaker 31 = .ok (.iaload, 1) := dk_46 (dk_at dksX7_firstTaker_1 7 rfl rfl)
theorem dX7_firstTaker_32 : decode cX7_firstTaker 32 = .ok (.istore_n 2, 1) := dk_61 (dk_at dksX7_firstTaker_1 8 rfl rfl)
theorem dX7_firstTaker_33 : decode cX7_firstTaker 33 = .ok (.iinc 3 1, 3) := dk_132 3 1 (dk_at dksX7_firstTaker_1 9 rfl rfl)
theorem dX7_firstTaker_36 : decode cX7_firstTaker 36 = .ok (.goto (-32), 3) := dk_167 255 224 (dk_at dksX7_firstTaker_1 12 rfl rfl)
theorem dX7_firstTaker_39 : decode cX7_firstTaker 39 = .ok (.iload_n 2, 1) := dk_28 (dk_at dksX7_firstTaker_1 15 rfl rfl)
theorem dX7_firstTaker_40 : decode cX7_firstTaker 40 = .ok (.ireturn, 1) := dk_172 (dk_at dksX7_firstTaker_1 16 rfl rfl)
abbrev cX7_plate : ByteArray := prog_12_method_42_code
def yX7_plate : MethodName := ⟨RX7, "plate", "(I)I"⟩
def dkwX7_plate_0 : List UInt8 := [42, 3, 181, 0, 72, 27, 184, 0, 224, 153, 0, 11, 42, 27, 182, 0, 227, 167, 0, 5, 18, 220, 172]
abbrev dktX7_plate_0 : List UInt8 := dkwX7_plate_0 ++ []
theorem dksX7_plate_0 : cX7_plate.data.toList.drop 0 = dktX7_plate_0 := by decide +kernel
theorem dX7_plate_0 : decode cX7_plate 0 = .ok (.aload_n 0, 1) := dk_42 (dk_at dksX7_plate_0 0 rfl rfl)
theorem dX7_plate_1 : decode cX7_plate 1 = .ok (.iconst 0, 1) := dk_3 (dk_at dksX7_plate_0 1 rfl rfl)
theorem dX7_plate_2 : decode cX7_plate 2 = .ok (.putfield 72, 3) := dk_181 0 72 (dk_at dksX7_plate_0 2 rfl rfl)
theorem dX7_plate_5 : decode cX7_plate 5 = .ok (.iload_n 1, 1) := dk_27 (dk_at dksX7_plate_0 5 rfl rfl)
theorem dX7_plate_6 : decode cX7_plate 6 = .ok (.invokestatic 224, 3) := dk_184 0 224 (dk_at dksX7_plate_0 6 rfl rfl)
theorem dX7_plate_9 : decode cX7_plate 9 = .ok (.ifCond .eq 11, 3) := dk_153 0 11 (dk_at dksX7_plate_0 9 rfl rfl)
theorem dX7_plate_12 : decode cX7_plate 12 = .ok (.aload_n 0, 1) := dk_42 (dk_at dksX7_plate_0 12 rfl rfl)
theorem dX7_plate_13 : decode cX7_plate 13 = .ok (.iload_n 1, 1) := dk_27 (dk_at dksX7_plate_0 13 rfl rfl)
theorem dX7_plate_14 : decode cX7_plate 14 = .ok (.invokevirtual 227, 3) := dk_182 0 227 (dk_at dksX7_plate_0 14 rfl rfl)
theorem dX7_plate_17 : decode cX7_plate 17 = .ok (.goto 5, 3) := dk_167 0 5 (dk_at dksX7_plate_0 17 rfl rfl)
theorem dX7_plate_20 : decode cX7_plate 20 = .ok (.ldc 220, 2) := dk_18 220 (dk_at dksX7_plate_0 20 rfl rfl)
theorem dX7_plate_22 : decode cX7_plate 22 = .ok (.ireturn, 1) := dk_172 (dk_at dksX7_plate_0 22 rfl rfl)
abbrev cX7_isPlate : ByteArray := prog_12_method_20_code
def yX7_isPlate : MethodName := ⟨RX7, "isPlate", "(I)Z"⟩
def dkwX7_isPlate_0 : List UInt8 := [26, 3, 16, 8, 184, 0, 75, 172]
abbrev dktX7_isPlate_0 : List UInt8 := dkwX7_isPlate_0 ++ []
theorem dksX7_isPlate_0 : cX7_isPlate.data.toList.drop 0 = dktX7_isPlate_0 := by decide +kernel
theorem dX7_isPlate_0 : decode cX7_isPlate 0 = .ok (.iload_n 0, 1) := dk_26 (dk_at dksX7_isPlate_0 0 rfl rfl)
theorem dX7_isPlate_1 : decode cX7_isPlate 1 = .ok (.iconst 0, 1) := dk_3 (dk_at dksX7_isPlate_0 1 rfl rfl)
theorem dX7_isPlate_2 : decode cX7_isPlate 2 = .ok (.bipush 8, 2) := dk_16 8 (dk_at dksX7_isPlate_0 2 rfl rfl)
theorem dX7_isPlate_4 : decode cX7_isPlate 4 = .ok (.invokestatic 75, 3) := dk_184 0 75 (dk_at dksX7_isPlate_0 4 rfl rfl)
theorem dX7_isPlate_7 : decode cX7_isPlate 7 = .ok (.ireturn, 1) := dk_172 (dk_at dksX7_isPlate_0 7 rfl rfl)
abbrev cX7_whoOn : ByteArray := prog_12_method_41_code
def yX7_whoOn : MethodName := ⟨RX7, "whoOn", "(I)I"⟩
def dkwX7_whoOn_1 : List UInt8 := [29, 167, 0, 4, 28, 61, 132, 3, 1, 167, 255, 227, 28, 172]
abbrev dktX7_whoOn_1 : List UInt8 := dkwX7_whoOn_1 ++ []
def dkwX7_whoOn_0 : List UInt8 := [2, 61, 3, 62, 29, 42, 180, 0, 130, 162, 0, 27, 42, 180, 0, 19, 3, 29, 96, 46, 27, 160, 0, 7]
abbrev dktX7_whoOn_0 : List UInt8 := dkwX7_whoOn_0 ++ dktX7_whoOn_1
theorem dksX7_whoOn_0 : cX7_whoOn.data.toList.drop 0 = dktX7_whoOn_0 := by decide +kernel
theorem dksX7_whoOn_1 : cX7_whoOn.data.toList.drop 24 = dktX7_whoOn_1 := dk_seg dksX7_whoOn_0 24 rfl rfl
theorem dX7_whoOn_0 : decode cX7_whoOn 0 = .ok (.iconst (-1), 1) := dk_2 (dk_at dksX7_whoOn_0 0 rfl rfl)
theorem dX7_whoOn_1 : decode cX7_whoOn 1 = .ok (.istore_n 2, 1) := dk_61 (dk_at dksX7_whoOn_0 1 rfl rfl)
theorem dX7_whoOn_2 : decode cX7_whoOn 2 = .ok (.iconst 0, 1) := dk_3 (dk_at dksX7_whoOn_0 2 rfl rfl)
theorem dX7_whoOn_3 : decode cX7_whoOn 3 = .ok (.istore_n 3, 1) := dk_62 (dk_at dksX7_whoOn_0 3 rfl rfl)
theorem dX7_whoOn_4 : decode cX7_whoOn 4 = .ok (.iload_n 3, 1) := dk_29 (dk_at dksX7_whoOn_0 4 rfl rfl)
theorem dX7_whoOn_5 : decode cX7_whoOn 5 = .ok (.aload_n 0, 1) := dk_42 (dk_at dksX7_whoOn_0 5 rfl rfl)
theorem dX7_whoOn_6 : decode cX7_whoOn 6 = .ok (.getfield 130, 3) := dk_180 0 130 (dk_at dksX7_whoOn_0 6 rfl rfl)
theorem dX7_whoOn_9 : decode cX7_whoOn 9 = .ok (.if_icmp .ge 27, 3) := dk_162 0 27 (dk_at dksX7_whoOn_0 9 rfl rfl)
theorem dX7_whoOn_12 : decode cX7_whoOn 12 = .ok (.aload_n 0, 1) := dk_42 (dk_at dksX7_whoOn_0 12 rfl rfl)
theorem dX7_whoOn_13 : decode cX7_whoOn 13 = .ok (.getfield 19, 3) := dk_180 0 19 (dk_at dksX7_whoOn_0 13 rfl rfl)
theorem dX7_whoOn_16 : decode cX7_whoOn 16 = .ok (.iconst 0, 1) := dk_3 (dk_at dksX7_whoOn_0 16 rfl rfl)
theorem dX7_whoOn_17 : decode cX7_whoOn 17 = .ok (.iload_n 3, 1) := dk_29 (dk_at dksX7_whoOn_0 17 rfl rfl)
theorem dX7_whoOn_18 : decode cX7_whoOn 18 = .ok (.iadd, 1) := dk_96 (dk_at dksX7_whoOn_0 18 rfl rfl)
theorem dX7_whoOn_19 : decode cX7_whoOn 19 = .ok (.iaload, 1) := dk_46 (dk_at dksX7_whoOn_0 19 rfl rfl)
theorem dX7_whoOn_20 : decode cX7_whoOn 20 = .ok (.iload_n 1, 1) := dk_27 (dk_at dksX7_whoOn_0 20 rfl rfl)
theorem dX7_whoOn_21 : decode cX7_whoOn 21 = .ok (.if_icmp .ne 7, 3) := dk_160 0 7 (dk_at dksX7_whoOn_0 21 rfl rfl)
theorem dX7_whoOn_24 : decode cX7_whoOn 24 = .ok (.iload_n 3, 1) := dk_29 (dk_at dksX7_whoOn_1 0 rfl rfl)
theorem dX7_whoOn_25 : decode cX7_whoOn 25 = .ok (.goto 4, 3) := dk_167 0 4 (dk_at dksX7_whoOn_1 1 rfl rfl)
theorem dX7_whoOn_28 : decode cX7_whoOn 28 = .ok (.iload_n 2, 1) := dk_28 (dk_at dksX7_whoOn_1 4 rfl rfl)
theorem dX7_whoOn_29 : decode cX7_whoOn 29 = .ok (.istore_n 2, 1) := dk_61 (dk_at dksX7_whoOn_1 5 rfl rfl)
theorem dX7_whoOn_30 : decode cX7_whoOn 30 = .ok (.iinc 3 1, 3) := dk_132 3 1 (dk_at dksX7_whoOn_1 6 rfl rfl)
theorem dX7_whoOn_33 : decode cX7_whoOn 33 = .ok (.goto (-29), 3) := dk_167 255 227 (dk_at dksX7_whoOn_1 9 rfl rfl)
theorem dX7_whoOn_36 : decode cX7_whoOn 36 = .ok (.iload_n 2, 1) := dk_28 (dk_at dksX7_whoOn_1 12 rfl rfl)
theorem dX7_whoOn_37 : decode cX7_whoOn 37 = .ok (.ireturn, 1) := dk_172 (dk_at dksX7_whoOn_1 13 rfl rfl)
abbrev cX7_ball : ByteArray := prog_12_method_45_code
def yX7_ball : MethodName := ⟨RX7, "ball", "(III)I"⟩
def dkwX7_ball_1 : List UInt8 := [154, 0, 6, 18, 233, 172, 42, 182, 0, 234, 42, 27, 28, 29, 182, 0, 237, 172]
abbrev dktX7_ball_1 : List UInt8 := dkwX7_ball_1 ++ []
def dkwX7_ball_0 : List UInt8 := [42, 3, 181, 0, 72, 42, 27, 28, 29, 182, 0, 230, 154, 0, 6, 18, 79, 172, 42, 180, 0, 133]
abbrev dktX7_ball_0 : List UInt8 := dkwX7_ball_0 ++ dktX7_ball_1
theorem dksX7_ball_0 : cX7_ball.data.toList.drop 0 = dktX7_ball_0 := by decide +kernel
theorem dksX7_ball_1 : cX7_ball.data.toList.drop 22 = dktX7_ball_1 := dk_seg dksX7_ball_0 22 rfl rfl
theorem dX7_ball_0 : decode cX7_ball 0 = .ok (.aload_n 0, 1) := dk_42 (dk_at dksX7_ball_0 0 rfl rfl)
theorem dX7_ball_1 : decode cX7_ball 1 = .ok (.iconst 0, 1) := dk_3 (dk_at dksX7_ball_0 1 rfl rfl)
theorem dX7_ball_2 : decode cX7_ball 2 = .ok (.putfield 72, 3) := dk_181 0 72 (dk_at dksX7_ball_0 2 rfl rfl)
theorem dX7_ball_5 : decode cX7_ball 5 = .ok (.aload_n 0, 1) := dk_42 (dk_at dksX7_ball_0 5 rfl rfl)
theorem dX7_ball_6 : decode cX7_ball 6 = .ok (.iload_n 1, 1) := dk_27 (dk_at dksX7_ball_0 6 rfl rfl)
theorem dX7_ball_7 : decode cX7_ball 7 = .ok (.iload_n 2, 1) := dk_28 (dk_at dksX7_ball_0 7 rfl rfl)
theorem dX7_ball_8 : decode cX7_ball 8 = .ok (.iload_n 3, 1) := dk_29 (dk_at dksX7_ball_0 8 rfl rfl)
theorem dX7_ball_9 : decode cX7_ball 9 = .ok (.invokevirtual 230, 3) := dk_182 0 230 (dk_at dksX7_ball_0 9 rfl rfl)
theorem dX7_ball_12 : decode cX7_ball 12 = .ok (.ifCond .ne 6, 3) := dk_154 0 6 (dk_at dksX7_ball_0 12 rfl rfl)
theorem dX7_ball_15 : decode cX7_ball 15 = .ok (.ldc 79, 2) := dk_18 79 (dk_at dksX7_ball_0 15 rfl rfl)
theorem dX7_ball_17 : decode cX7_ball 17 = .ok (.ireturn, 1) := dk_172 (dk_at dksX7_ball_0 17 rfl rfl)
theorem dX7_ball_18 : decode cX7_ball 18 = .ok (.aload_n 0, 1) := dk_42 (dk_at dksX7_ball_0 18 rfl rfl)
theorem dX7_ball_19 : decode cX7_ball 19 = .ok (.getfield 133, 3) := dk_180 0 133 (dk_at dksX7_ball_0 19 rfl rfl)
theorem dX7_ball_22 : decode cX7_ball 22 = .ok (.ifCond .ne 6, 3) := dk_154 0 6 (dk_at dksX7_ball_1 0 rfl rfl)
theorem dX7_ball_25 : decode cX7_ball 25 = .ok (.ldc 233, 2) := dk_18 233 (dk_at dksX7_ball_1 3 rfl rfl)
theorem dX7_ball_27 : decode cX7_ball 27 = .ok (.ireturn, 1) := dk_172 (dk_at dksX7_ball_1 5 rfl rfl)
theorem dX7_ball_28 : decode cX7_ball 28 = .ok (.aload_n 0, 1) := dk_42 (dk_at dksX7_ball_1 6 rfl rfl)
theorem dX7_ball_29 : decode cX7_ball 29 = .ok (.invokevirtual 234, 3) := dk_182 0 234 (dk_at dksX7_ball_1 7 rfl rfl)
theorem dX7_ball_32 : decode cX7_ball 32 = .ok (.aload_n 0, 1) := dk_42 (dk_at dksX7_ball_1 10 rfl rfl)
theorem dX7_ball_33 : decode cX7_ball 33 = .ok (.iload_n 1, 1) := dk_27 (dk_at dksX7_ball_1 11 rfl rfl)
theorem dX7_ball_34 : decode cX7_ball 34 = .ok (.iload_n 2, 1) := dk_28 (dk_at dksX7_ball_1 12 rfl rfl)
theorem dX7_ball_35 : decode cX7_ball 35 = .ok (.iload_n 3, 1) := dk_29 (dk_at dksX7_ball_1 13 rfl rfl)
theorem dX7_ball_36 : decode cX7_ball 36 = .ok (.invokevirtual 237, 3) := dk_182 0 237 (dk_at dksX7_ball_1 14 rfl rfl)
theorem dX7_ball_39 : decode cX7_ball 39 = .ok (.ireturn, 1) := dk_172 (dk_at dksX7_ball_1 17 rfl rfl)
abbrev cX7_isBall : ByteArray := prog_12_method_33_code
def yX7_isBall : MethodName := ⟨RX7, "isBall", "(III)Z"⟩
def dkwX7_isBall_1 : List UInt8 := [184, 0, 75, 153, 0, 7, 4, 167, 0, 4, 3, 172]
abbrev dktX7_isBall_1 : List UInt8 := dkwX7_isBall_1 ++ []
def dkwX7_isBall_0 : List UInt8 := [27, 3, 7, 184, 0, 75, 153, 0, 26, 28, 3, 5, 184, 0, 75, 153, 0, 17, 29, 4, 16, 40]
abbrev dktX7_isBall_0 : List UInt8 := dkwX7_isBall_0 ++ dktX7_isBall_1
theorem dksX7_isBall_0 : cX7_isBall.data.toList.drop 0 = dktX7_isBall_0 := by decide +kernel
theorem dksX7_isBall_1 : cX7_isBall.data.toList.drop 22 = dktX7_isBall_1 := dk_seg dksX7_isBall_0 22 rfl rfl
theorem dX7_isBall_0 : decode cX7_isBall 0 = .ok (.iload_n 1, 1) := dk_27 (dk_at dksX7_isBall_0 0 rfl rfl)
theorem dX7_isBall_1 : decode cX7_isBall 1 = .ok (.iconst 0, 1) := dk_3 (dk_at dksX7_isBall_0 1 rfl rfl)
theorem dX7_isBall_2 : decode cX7_isBall 2 = .ok (.iconst 4, 1) := dk_7 (dk_at dksX7_isBall_0 2 rfl rfl)
theorem dX7_isBall_3 : decode cX7_isBall 3 = .ok (.invokestatic 75, 3) := dk_184 0 75 (dk_at dksX7_isBall_0 3 rfl rfl)
theorem dX7_isBall_6 : decode cX7_isBall 6 = .ok (.ifCond .eq 26, 3) := dk_153 0 26 (dk_at dksX7_isBall_0 6 rfl rfl)
theorem dX7_isBall_9 : decode cX7_isBall 9 = .ok (.iload_n 2, 1) := dk_28 (dk_at dksX7_isBall_0 9 rfl rfl)
theorem dX7_isBall_10 : decode cX7_isBall 10 = .ok (.iconst 0, 1) := dk_3 (dk_at dksX7_isBall_0 10 rfl rfl)
theorem dX7_isBall_11 : decode cX7_isBall 11 = .ok (.iconst 2, 1) := dk_5 (dk_at dksX7_isBall_0 11 rfl rfl)
theorem dX7_isBall_12 : decode cX7_isBall 12 = .ok (.invokestatic 75, 3) := dk_184 0 75 (dk_at dksX7_isBall_0 12 rfl rfl)
theorem dX7_isBall_15 : decode cX7_isBall 15 = .ok (.ifCond .eq 17, 3) := dk_153 0 17 (dk_at dksX7_isBall_0 15 rfl rfl)
theorem dX7_isBall_18 : decode cX7_isBall 18 = .ok (.iload_n 3, 1) := dk_29 (dk_at dksX7_isBall_0 18 rfl rfl)
theorem dX7_isBall_19 : decode cX7_isBall 19 = .ok (.iconst 1, 1) := dk_4 (dk_at dksX7_isBall_0 19 rfl rfl)
theorem dX7_isBall_20 : decode cX7_isBall 20 = .ok (.bipush 40, 2) := dk_16 40 (dk_at dksX7_isBall_0 20 rfl rfl)
theorem dX7_isBall_22 : decode cX7_isBall 22 = .ok (.invokestatic 75, 3) := dk_184 0 75 (dk_at dksX7_isBall_1 0 rfl rfl)
theorem dX7_isBall_25 : decode cX7_isBall 25 = .ok (.ifCond .eq 7, 3) := dk_153 0 7 (dk_at dksX7_isBall_1 3 rfl rfl)
theorem dX7_isBall_28 : decode cX7_isBall 28 = .ok (.iconst 1, 1) := dk_4 (dk_at dksX7_isBall_1 6 rfl rfl)
theorem dX7_isBall_29 : decode cX7_isBall 29 = .ok (.goto 4, 3) := dk_167 0 4 (dk_at dksX7_isBall_1 7 rfl rfl)
theorem dX7_isBall_32 : decode cX7_isBall 32 = .ok (.iconst 0, 1) := dk_3 (dk_at dksX7_isBall_1 10 rfl rfl)
theorem dX7_isBall_33 : decode cX7_isBall 33 = .ok (.ireturn, 1) := dk_172 (dk_at dksX7_isBall_1 11 rfl rfl)
abbrev cX7_notes : ByteArray := prog_12_method_43_code
def yX7_notes : MethodName := ⟨RX7, "notes", "()V"⟩
def dkwX7_notes_3 : List UInt8 := [79, 132, 1, 1, 167, 255, 227, 42, 89, 180, 0, 143, 4, 96, 181, 0, 143, 177]
abbrev dktX7_notes_3 : List UInt8 := dkwX7_notes_3 ++ []
def dkwX7_notes_2 : List UInt8 := [16, 49, 162, 0, 29, 42, 180, 0, 29, 16, 49, 42, 180, 0, 143, 104, 27, 96, 42, 180, 0, 19, 27, 46]
abbrev dktX7_notes_2 : List UInt8 := dkwX7_notes_2 ++ dktX7_notes_3
def dkwX7_notes_1 : List UInt8 := [180, 0, 29, 27, 16, 49, 96, 46, 79, 132, 1, 1, 167, 255, 231, 42, 16, 15, 181, 0, 143, 3, 60, 27]
abbrev dktX7_notes_1 : List UInt8 := dkwX7_notes_1 ++ dktX7_notes_2
def dkwX7_notes_0 : List UInt8 := [42, 180, 0, 143, 16, 16, 160, 0, 39, 3, 60, 27, 17, 2, 223, 162, 0, 24, 42, 180, 0, 29, 27, 42]
abbrev dktX7_notes_0 : List UInt8 := dkwX7_notes_0 ++ dktX7_notes_1
theorem dksX7_notes_0 : cX7_notes.data.toList.drop 0 = dktX7_notes_0 := by decide +kernel
theorem dksX7_notes_1 : cX7_notes.data.toList.drop 24 = dktX7_notes_1 := dk_seg dksX7_notes_0 24 rfl rfl
theorem dksX7_notes_2 : cX7_notes.data.toList.drop 48 = dktX7_notes_2 := dk_seg dksX7_notes_1 24 rfl rfl
theorem dksX7_notes_3 : cX7_notes.data.toList.drop 72 = dktX7_notes_3 := dk_seg dksX7_notes_2 24 rfl rfl
theorem dX7_notes_0 : decode cX7_notes 0 = .ok (.aload_n 0, 1) := dk_42 (dk_at dksX7_notes_0 0 rfl rfl)
theorem dX7_notes_1 : decode cX7_notes 1 = .ok (.getfield 143, 3) := dk_180 0 143 (dk_at dksX7_notes_0 1 rfl rfl)
theorem dX7_notes_4 : decode cX7_notes 4 = .ok (.bipush 16, 2) := dk_16 16 (dk_at dksX7_notes_0 4 rfl rfl)
theorem dX7_notes_6 : decode cX7_notes 6 = .ok (.if_icmp .ne 39, 3) := dk_160 0 39 (dk_at dksX7_notes_0 6 rfl rfl)
theorem dX7_notes_9 : decode cX7_notes 9 = .ok (.iconst 0, 1) := dk_3 (dk_at dksX7_notes_0 9 rfl rfl)
theorem dX7_notes_10 : decode cX7_notes 10 = .ok (.istore_n 1, 1) := dk_60 (dk_at dksX7_notes_0 10 rfl rfl)
theorem dX7_notes_11 : decode cX7_notes 11 = .ok (.iload_n 1, 1) := dk_27 (dk_at dksX7_notes_0 11 rfl rfl)
theorem dX7_notes_12 : decode cX7_notes 12 = .ok (.sipush 735, 3) := dk_17 2 223 (dk_at dksX7_notes_0 12 rfl rfl)
theorem dX7_notes_15 : decode cX7_notes 15 = .ok (.if_icmp .ge 24, 3) := dk_162 0 24 (dk_at dksX7_notes_0 15 rfl rfl)
theorem dX7_notes_18 : decode cX7_notes 18 = .ok (.aload_n 0, 1) := dk_42 (dk_at dksX7_notes_0 18 rfl rfl)
theorem dX7_notes_19 : decode cX7_notes 19 = .ok (.getfield 29, 3) := dk_180 0 29 (dk_at dksX7_notes_0 19 rfl rfl)
theorem dX7_notes_22 : decode cX7_notes 22 = .ok (.iload_n 1, 1) := dk_27 (dk_at dksX7_notes_0 22 rfl rfl)
theorem dX7_notes_23 : decode cX7_notes 23 = .ok (.aload_n 0, 1) := dk_42 (dk_at dksX7_notes_0 23 rfl rfl)
theorem dX7_notes_24 : decode cX7_notes 24 = .ok (.getfield 29, 3) := dk_180 0 29 (dk_at dksX7_notes_1 0 rfl rfl)
theorem dX7_notes_27 : decode cX7_notes 27 = .ok (.iload_n 1, 1) := dk_27 (dk_at dksX7_notes_1 3 rfl rfl)
theorem dX7_notes_28 : decode cX7_notes 28 = .ok (.bipush 49, 2) := dk_16 49 (dk_at dksX7_notes_1 4 rfl rfl)
theorem dX7_notes_30 : decode cX7_notes 30 = .ok (.iadd, 1) := dk_96 (dk_at dksX7_notes_1 6 rfl rfl)
theorem dX7_notes_31 : decode cX7_notes 31 = .ok (.iaload, 1) := dk_46 (dk_at dksX7_notes_1 7 rfl rfl)
theorem dX7_notes_32 : decode cX7_notes 32 = .ok (.iastore, 1) := dk_79 (dk_at dksX7_notes_1 8 rfl rfl)
theorem dX7_notes_33 : decode cX7_notes 33 = .ok (.iinc 1 1, 3) := dk_132 1 1 (dk_at dksX7_notes_1 9 rfl rfl)
theorem dX7_notes_36 : decode cX7_notes 36 = .ok (.goto (-25), 3) := dk_167 255 231 (dk_at dksX7_notes_1 12 rfl rfl)
theorem dX7_notes_39 : decode cX7_notes 39 = .ok (.aload_n 0, 1) := dk_42 (dk_at dksX7_notes_1 15 rfl rfl)
theorem dX7_notes_40 : decode cX7_notes 40 = .ok (.bipush 15, 2) := dk_16 15 (dk_at dksX7_notes_1 16 rfl rfl)
theorem dX7_notes_42 : decode cX7_notes 42 = .ok (.putfield 143, 3) := dk_181 0 143 (dk_at dksX7_notes_1 18 rfl rfl)
theorem dX7_notes_45 : decode cX7_notes 45 = .ok (.iconst 0, 1) := dk_3 (dk_at dksX7_notes_1 21 rfl rfl)
theorem dX7_notes_46 : decode cX7_notes 46 = .ok (.istore_n 1, 1) := dk_60 (dk_at dksX7_notes_1 22 rfl rfl)
theorem dX7_notes_47 : decode cX7_notes 47 = .ok (.iload_n 1, 1) := dk_27 (dk_at dksX7_notes_1 23 rfl rfl)
theorem dX7_notes_48 : decode cX7_notes 48 = .ok (.bipush 49, 2) := dk_16 49 (dk_at dksX7_notes_2 0 rfl rfl)
theorem dX7_notes_50 : decode cX7_notes 50 = .ok (.if_icmp .ge 29, 3) := dk_162 0 29 (dk_at dksX7_notes_2 2 rfl rfl)
theorem dX7_notes_53 : decode cX7_notes 53 = .ok (.aload_n 0, 1) := dk_42 (dk_at dksX7_notes_2 5 rfl rfl)
theorem dX7_notes_54 : decode cX7_notes 54 = .ok (.getfield 29, 3) := dk_180 0 29 (dk_at dksX7_notes_2 6 rfl rfl)
theorem dX7_notes_57 : decode cX7_notes 57 = .ok (.bipush 49, 2) := dk_16 49 (dk_at dksX7_notes_2 9 rfl rfl)
theorem dX7_notes_59 : decode cX7_notes 59 = .ok (.aload_n 0, 1) := dk_42 (dk_at dksX7_notes_2 11 rfl rfl)
theorem dX7_notes_60 : decode cX7_notes 60 = .ok (.getfield 143, 3) := dk_180 0 143 (dk_at dksX7_notes_2 12 rfl rfl)
theorem dX7_notes_63 : decode cX7_notes 63 = .ok (.imul, 1) := dk_104 (dk_at dksX7_notes_2 15 rfl rfl)
theorem dX7_notes_64 : decode cX7_notes 64 = .ok (.iload_n 1, 1) := dk_27 (dk_at dksX7_notes_2 16 rfl rfl)
theorem dX7_notes_65 : decode cX7_notes 65 = .ok (.iadd, 1) := dk_96 (dk_at dksX7_notes_2 17 rfl rfl)
theorem dX7_notes_66 : decode cX7_notes 66 = .ok (.aload_n 0, 1) := dk_42 (dk_at dksX7_notes_2 18 rfl rfl)
theorem dX7_notes_67 : decode cX7_notes 67 = .ok (.getfield 19, 3) := dk_180 0 19 (dk_at dksX7_notes_2 19 rfl rfl)
theorem dX7_notes_70 : decode cX7_notes 70 = .ok (.iload_n 1, 1) := dk_27 (dk_at dksX7_notes_2 22 rfl rfl)
theorem dX7_notes_71 : decode cX7_notes 71 = .ok (.iaload, 1) := dk_46 (dk_at dksX7_notes_2 23 rfl rfl)
theorem dX7_notes_72 : decode cX7_notes 72 = .ok (.iastore, 1) := dk_79 (dk_at dksX7_notes_3 0 rfl rfl)
theorem dX7_notes_73 : decode cX7_notes 73 = .ok (.iinc 1 1, 3) := dk_132 1 1 (dk_at dksX7_notes_3 1 rfl rfl)
theorem dX7_notes_76 : decode cX7_notes 76 = .ok (.goto (-29), 3) := dk_167 255 227 (dk_at dksX7_notes_3 4 rfl rfl)
theorem dX7_notes_79 : decode cX7_notes 79 = .ok (.aload_n 0, 1) := dk_42 (dk_at dksX7_notes_3 7 rfl rfl)
theorem dX7_notes_80 : decode cX7_notes 80 = .ok (.dup, 1) := dk_89 (dk_at dksX7_notes_3 8 rfl rfl)
theorem dX7_notes_81 : decode cX7_notes 81 = .ok (.getfield 143, 3) := dk_180 0 143 (dk_at dksX7_notes_3 9 rfl rfl)
theorem dX7_notes_84 : decode cX7_notes 84 = .ok (.iconst 1, 1) := dk_4 (dk_at dksX7_notes_3 12 rfl rfl)
theorem dX7_notes_85 : decode cX7_notes 85 = .ok (.iadd, 1) := dk_96 (dk_at dksX7_notes_3 13 rfl rfl)
theorem dX7_notes_86 : decode cX7_notes 86 = .ok (.putfield 143, 3) := dk_181 0 143 (dk_at dksX7_notes_3 14 rfl rfl)
theorem dX7_notes_89 : decode cX7_notes 89 = .ok (.return_, 1) := dk_177 (dk_at dksX7_notes_3 17 rfl rfl)
abbrev cX7_throwsBall : ByteArray := prog_12_method_44_code
def yX7_throwsBall : MethodName := ⟨RX7, "throwsBall", "(III)I"⟩
def dkwX7_throwsBall_8 : List UInt8 := [153, 0, 15, 21, 5, 17, 1, 255, 160, 0, 7, 4, 167, 0, 4, 3, 96, 79, 21, 5, 172]
abbrev dktX7_throwsBall_8 : List UInt8 := dkwX7_throwsBall_8 ++ []
def dkwX7_throwsBall_7 : List UInt8 := [167, 255, 158, 42, 180, 0, 19, 16, 46, 92, 46, 4, 96, 79, 42, 180, 0, 19, 16, 47, 92, 46, 21, 4]
abbrev dktX7_throwsBall_7 : List UInt8 := dkwX7_throwsBall_7 ++ dktX7_throwsBall_8
def dkwX7_throwsBall_6 : List UInt8 := [180, 0, 19, 16, 18, 21, 6, 96, 46, 167, 0, 10, 42, 180, 0, 47, 21, 6, 46, 79, 132, 6, 1]
abbrev dktX7_throwsBall_6 : List UInt8 := dkwX7_throwsBall_6 ++ dktX7_throwsBall_7
def dkwX7_throwsBall_5 : List UInt8 := [79, 42, 180, 0, 19, 16, 18, 21, 6, 96, 42, 180, 0, 47, 21, 6, 46, 16, 254, 160, 0, 16, 42]
abbrev dktX7_throwsBall_5 : List UInt8 := dkwX7_throwsBall_5 ++ dktX7_throwsBall_6
def dkwX7_throwsBall_4 : List UInt8 := [180, 0, 19, 16, 9, 21, 6, 96, 21, 7, 17, 39, 15, 164, 0, 9, 17, 39, 15, 167, 0, 5, 21, 7]
abbrev dktX7_throwsBall_4 : List UInt8 := dkwX7_throwsBall_4 ++ dktX7_throwsBall_5
def dkwX7_throwsBall_3 : List UInt8 := [162, 0, 97, 42, 180, 0, 19, 16, 9, 21, 6, 96, 46, 42, 180, 0, 44, 21, 6, 46, 96, 54, 7, 42]
abbrev dktX7_throwsBall_3 : List UInt8 := dkwX7_throwsBall_3 ++ dktX7_throwsBall_4
def dkwX7_throwsBall_2 : List UInt8 := [182, 0, 184, 54, 5, 42, 180, 0, 19, 16, 45, 42, 180, 0, 158, 79, 3, 54, 6, 21, 6, 16, 9]
abbrev dktX7_throwsBall_2 : List UInt8 := dkwX7_throwsBall_2 ++ dktX7_throwsBall_3
def dkwX7_throwsBall_1 : List UInt8 := [17, 1, 255, 160, 0, 7, 4, 167, 0, 4, 3, 54, 4, 42, 42, 180, 0, 19, 16, 45, 46, 27, 28, 29]
abbrev dktX7_throwsBall_1 : List UInt8 := dkwX7_throwsBall_1 ++ dktX7_throwsBall_2
def dkwX7_throwsBall_0 : List UInt8 := [42, 3, 3, 182, 0, 188, 42, 180, 0, 130, 16, 9, 160, 0, 20, 42, 180, 0, 19, 16, 45, 46]
abbrev dktX7_throwsBall_0 : List UInt8 := dkwX7_throwsBall_0 ++ dktX7_throwsBall_1
theorem dksX7_throwsBall_0 : cX7_throwsBall.data.toList.drop 0 = dktX7_throwsBall_0 := by decide +kernel
theorem dksX7_throwsBall_1 : cX7_throwsBall.data.toList.drop 22 = dktX7_throwsBall_1 := dk_seg dksX7_throwsBall_0 22 rfl rfl
theorem dksX7_throwsBall_2 : cX7_throwsBall.data.toList.drop 46 = dktX7_throwsBall_2 := dk_seg dksX7_throwsBall_1 24 rfl rfl
theorem dksX7_throwsBall_3 : cX7_throwsBall.data.toList.drop 69 = dktX7_throwsBall_3 := dk_seg dksX7_throwsBall_2 23 rfl rfl
theorem dksX7_throwsBall_4 : cX7_throwsBall.data.toList.drop 93 = dktX7_throwsBall_4 := dk_seg dksX7_throwsBall_3 24 rfl rfl
theorem dksX7_throwsBall_5 : cX7_throwsBall.data.toList.drop 117 = dktX7_throwsBall_5 := dk_seg dksX7_throwsBall_4 24 rfl rfl
theorem dksX7_throwsBall_6 : cX7_throwsBall.data.toList.drop 140 = dktX7_throwsBall_6 := dk_seg dksX7_throwsBall_5 23 rfl rfl
theorem dksX7_throwsBall_7 : cX7_throwsBall.data.toList.drop 163 = dktX7_throwsBall_7 := dk_seg dksX7_throwsBall_6 23 rfl rfl
theorem dksX7_throwsBall_8 : cX7_throwsBall.data.toList.drop 187 = dktX7_throwsBall_8 := dk_seg dksX7_throwsBall_7 24 rfl rfl
theorem dX7_throwsBall_0 : decode cX7_throwsBall 0 = .ok (.aload_n 0, 1) := dk_42 (dk_at dksX7_throwsBall_0 0 rfl rfl)
theorem dX7_throwsBall_1 : decode cX7_throwsBall 1 = .ok (.iconst 0, 1) := dk_3 (dk_at dksX7_throwsBall_0 1 rfl rfl)
theorem dX7_throwsBall_2 : decode cX7_throwsBall 2 = .ok (.iconst 0, 1) := dk_3 (dk_at dksX7_throwsBall_0 2 rfl rfl)
theorem dX7_throwsBall_3 : decode cX7_throwsBall 3 = .ok (.invokevirtual 188, 3) := dk_182 0 188 (dk_at dksX7_throwsBall_0 3 rfl rfl)
theorem dX7_throwsBall_6 : decode cX7_throwsBall 6 = .ok (.aload_n 0, 1) := dk_42 (dk_at dksX7_throwsBall_0 6 rfl rfl)
theorem dX7_throwsBall_7 : decode cX7_throwsBall 7 = .ok (.getfield 130, 3) := dk_180 0 130 (dk_at dksX7_throwsBall_0 7 rfl rfl)
theorem dX7_throwsBall_10 : decode cX7_throwsBall 10 = .ok (.bipush 9, 2) := dk_16 9 (dk_at dksX7_throwsBall_0 10 rfl rfl)
theorem dX7_throwsBall_12 : decode cX7_throwsBall 12 = .ok (.if_icmp .ne 20, 3) := dk_160 0 20 (dk_at dksX7_throwsBall_0 12 rfl rfl)
theorem dX7_throwsBall_15 : decode cX7_throwsBall 15 = .ok (.aload_n 0, 1) := dk_42 (dk_at dksX7_throwsBall_0 15 rfl rfl)
theorem dX7_throwsBall_16 : decode cX7_throwsBall 16 = .ok (.getfield 19, 3) := dk_180 0 19 (dk_at dksX7_throwsBall_0 16 rfl rfl)
theorem dX7_throwsBall_19 : decode cX7_throwsBall 19 = .ok (.bipush 45, 2) := dk_16 45 (dk_at dksX7_throwsBall_0 19 rfl rfl)
theorem dX7_throwsBall_21 : decode cX7_throwsBall 21 = .ok (.iaload, 1) := dk_46 (dk_at dksX7_throwsBall_0 21 rfl rfl)
theorem dX7_throwsBall_22 : decode cX7_throwsBall 22 = .ok (.sipush 511, 3) := dk_17 1 255 (dk_at dksX7_throwsBall_1 0 rfl rfl)
theorem dX7_throwsBall_25 : decode cX7_throwsBall 25 = .ok (.if_icmp .ne 7, 3) := dk_160 0 7 (dk_at dksX7_throwsBall_1 3 rfl rfl)
theorem dX7_throwsBall_28 : decode cX7_throwsBall 28 = .ok (.iconst 1, 1) := dk_4 (dk_at dksX7_throwsBall_1 6 rfl rfl)
theorem dX7_throwsBall_29 : decode cX7_throwsBall 29 = .ok (.goto 4, 3) := dk_167 0 4 (dk_at dksX7_throwsBall_1 7 rfl rfl)
theorem dX7_throwsBall_32 : decode cX7_throwsBall 32 = .ok (.iconst 0, 1) := dk_3 (dk_at dksX7_throwsBall_1 10 rfl rfl)
theorem dX7_throwsBall_33 : decode cX7_throwsBall 33 = .ok (.istore 4, 2) := dk_54 4 (dk_at dksX7_throwsBall_1 11 rfl rfl)
theorem dX7_throwsBall_35 : decode cX7_throwsBall 35 = .ok (.aload_n 0, 1) := dk_42 (dk_at dksX7_throwsBall_1 13 rfl rfl)
theorem dX7_throwsBall_36 : decode cX7_throwsBall 36 = .ok (.aload_n 0, 1) := dk_42 (dk_at dksX7_throwsBall_1 14 rfl rfl)
theorem dX7_throwsBall_37 : decode cX7_throwsBall 37 = .ok (.getfield 19, 3) := dk_180 0 19 (dk_at dksX7_throwsBall_1 15 rfl rfl)
theorem dX7_throwsBall_40 : decode cX7_throwsBall 40 = .ok (.bipush 45, 2) := dk_16 45 (dk_at dksX7_throwsBall_1 18 rfl rfl)
theorem dX7_throwsBall_42 : decode cX7_throwsBall 42 = .ok (.iaload, 1) := dk_46 (dk_at dksX7_throwsBall_1 20 rfl rfl)
theorem dX7_throwsBall_43 : decode cX7_throwsBall 43 = .ok (.iload_n 1, 1) := dk_27 (dk_at dksX7_throwsBall_1 21 rfl rfl)
theorem dX7_throwsBall_44 : decode cX7_throwsBall 44 = .ok (.iload_n 2, 1) := dk_28 (dk_at dksX7_throwsBall_1 22 rfl rfl)
theorem dX7_throwsBall_45 : decode cX7_throwsBall 45 = .ok (.iload_n 3, 1) := dk_29 (dk_at dksX7_throwsBall_1 23 rfl rfl)
theorem dX7_throwsBall_46 : decode cX7_throwsBall 46 = .ok (.invokevirtual 184, 3) := dk_182 0 184 (dk_at dksX7_throwsBall_2 0 rfl rfl)
theorem dX7_throwsBall_49 : decode cX7_throwsBall 49 = .ok (.istore 5, 2) := dk_54 5 (dk_at dksX7_throwsBall_2 3 rfl rfl)
theorem dX7_throwsBall_51 : decode cX7_throwsBall 51 = .ok (.aload_n 0, 1) := dk_42 (dk_at dksX7_throwsBall_2 5 rfl rfl)
theorem dX7_throwsBall_52 : decode cX7_throwsBall 52 = .ok (.getfield 19, 3) := dk_180 0 19 (dk_at dksX7_throwsBall_2 6 rfl rfl)
theorem dX7_throwsBall_55 : decode cX7_throwsBall 55 = .ok (.bipush 45, 2) := dk_16 45 (dk_at dksX7_throwsBall_2 9 rfl rfl)
theorem dX7_throwsBall_57 : decode cX7_throwsBall 57 = .ok (.aload_n 0, 1) := dk_42 (dk_at dksX7_throwsBall_2 11 rfl rfl)
theorem dX7_throwsBall_58 : decode cX7_throwsBall 58 = .ok (.getfield 158, 3) := dk_180 0 158 (dk_at dksX7_throwsBall_2 12 rfl rfl)
theorem dX7_throwsBall_61 : decode cX7_throwsBall 61 = .ok (.iastore, 1) := dk_79 (dk_at dksX7_throwsBall_2 15 rfl rfl)
theorem dX7_throwsBall_62 : decode cX7_throwsBall 62 = .ok (.iconst 0, 1) := dk_3 (dk_at dksX7_throwsBall_2 16 rfl rfl)
theorem dX7_throwsBall_63 : decode cX7_throwsBall 63 = .ok (.istore 6, 2) := dk_54 6 (dk_at dksX7_throwsBall_2 17 rfl rfl)
theorem dX7_throwsBall_65 : decode cX7_throwsBall 65 = .ok (.iload 6, 2) := dk_21 6 (dk_at dksX7_throwsBall_2 19 rfl rfl)
theorem dX7_throwsBall_67 : decode cX7_throwsBall 67 = .ok (.bipush 9, 2) := dk_16 9 (dk_at dksX7_throwsBall_2 21 rfl rfl)
theorem dX7_throwsBall_69 : decode cX7_throwsBall 69 = .ok (.if_icmp .ge 97, 3) := dk_162 0 97 (dk_at dksX7_throwsBall_3 0 rfl rfl)
theorem dX7_throwsBall_72 : decode cX7_throwsBall 72 = .ok (.aload_n 0, 1) := dk_42 (dk_at dksX7_throwsBall_3 3 rfl rfl)
theorem dX7_throwsBall_73 : decode cX7_throwsBall 73 = .ok (.getfield 19, 3) := dk_180 0 19 (dk_at dksX7_throwsBall_3 4 rfl rfl)
theorem dX7_throwsBall_76 : decode cX7_throwsBall 76 = .ok (.bipush 9, 2) := dk_16 9 (dk_at dksX7_throwsBall_3 7 rfl rfl)
theorem dX7_throwsBall_78 : decode cX7_throwsBall 78 = .ok (.iload 6, 2) := dk_21 6 (dk_at dksX7_throwsBall_3 9 rfl rfl)
theorem dX7_throwsBall_80 : decode cX7_throwsBall 80 = .ok (.iadd, 1) := dk_96 (dk_at dksX7_throwsBall_3 11 rfl rfl)
theorem dX7_throwsBall_81 : decode cX7_throwsBall 81 = .ok (.iaload, 1) := dk_46 (dk_at dksX7_throwsBall_3 12 rfl rfl)
theorem dX7_throwsBall_82 : decode cX7_throwsBall 82 = .ok (.aload_n 0, 1) := dk_42 (dk_at dksX7_throwsBall_3 13 rfl rfl)
theorem dX7_throwsBall_83 : decode cX7_throwsBall 83 = .ok (.getfield 44, 3) := dk_180 0 44 (dk_at dksX7_throwsBall_3 14 rfl rfl)
theorem dX7_throwsBall_86 : decode cX7_throwsBall 86 = .ok (.iload 6, 2) := dk_21 6 (dk_at dksX7_throwsBall_3 17 rfl rfl)
theorem dX7_throwsBall_88 : decode cX7_throwsBall 88 = .ok (.iaload, 1) := dk_46 (dk_at dksX7_throwsBall_3 19 rfl rfl)
theorem dX7_throwsBall_89 : decode cX7_throwsBall 89 = .ok (.iadd, 1) := dk_96 (dk_at dksX7_throwsBall_3 20 rfl rfl)
theorem dX7_throwsBall_90 : decode cX7_throwsBall 90 = .ok (.istore 7, 2) := dk_54 7 (dk_at dksX7_throwsBall_3 21 rfl rfl)
theorem dX7_throwsBall_92 : decode cX7_throwsBall 92 = .ok (.aload_n 0, 1) := dk_42 (dk_at dksX7_throwsBall_3 23 rfl rfl)
theorem dX7_throwsBall_93 : decode cX7_throwsBall 93 = .ok (.getfield 19, 3) := dk_180 0 19 (dk_at dksX7_throwsBall_4 0 rfl rfl)
theorem dX7_throwsBall_96 : decode cX7_throwsBall 96 = .ok (.bipush 9, 2) := dk_16 9 (dk_at dksX7_throwsBall_4 3 rfl rfl)
theorem dX7_throwsBall_98 : decode cX7_throwsBall 98 = .ok (.iload 6, 2) := dk_21 6 (dk_at dksX7_throwsBall_4 5 rfl rfl)
theorem dX7_throwsBall_100 : decode cX7_throwsBall 100 = .ok (.iadd, 1) := dk_96 (dk_at dksX7_throwsBall_4 7 rfl rfl)
theorem dX7_throwsBall_101 : decode cX7_throwsBall 101 = .ok (.iload 7, 2) := dk_21 7 (dk_at dksX7_throwsBall_4 8 rfl rfl)
theorem dX7_throwsBall_103 : decode cX7_throwsBall 103 = .ok (.sipush 9999, 3) := dk_17 39 15 (dk_at dksX7_throwsBall_4 10 rfl rfl)
theorem dX7_throwsBall_106 : decode cX7_throwsBall 106 = .ok (.if_icmp .le 9, 3) := dk_164 0 9 (dk_at dksX7_throwsBall_4 13 rfl rfl)
theorem dX7_throwsBall_109 : decode cX7_throwsBall 109 = .ok (.sipush 9999, 3) := dk_17 39 15 (dk_at dksX7_throwsBall_4 16 rfl rfl)
theorem dX7_throwsBall_112 : decode cX7_throwsBall 112 = .ok (.goto 5, 3) := dk_167 0 5 (dk_at dksX7_throwsBall_4 19 rfl rfl)
theorem dX7_throwsBall_115 : decode cX7_throwsBall 115 = .ok (.iload 7, 2) := dk_21 7 (dk_at dksX7_throwsBall_4 22 rfl rfl)
theorem dX7_throwsBall_117 : decode cX7_throwsBall 117 = .ok (.iastore, 1) := dk_79 (dk_at dksX7_throwsBall_5 0 rfl rfl)
theorem dX7_throwsBall_118 : decode cX7_throwsBall 118 = .ok (.aload_n 0, 1) := dk_42 (dk_at dksX7_throwsBall_5 1 rfl rfl)
theorem dX7_throwsBall_119 : decode cX7_throwsBall 119 = .ok (.getfield 19, 3) := dk_180 0 19 (dk_at dksX7_throwsBall_5 2 rfl rfl)
theorem dX7_throwsBall_122 : decode cX7_throwsBall 122 = .ok (.bipush 18, 2) := dk_16 18 (dk_at dksX7_throwsBall_5 5 rfl rfl)
theorem dX7_throwsBall_124 : decode cX7_throwsBall 124 = .ok (.iload 6, 2) := dk_21 6 (dk_at dksX7_throwsBall_5 7 rfl rfl)
theorem dX7_throwsBall_126 : decode cX7_throwsBall 126 = .ok (.iadd, 1) := dk_96 (dk_at dksX7_throwsBall_5 9 rfl rfl)
theorem dX7_throwsBall_127 : decode cX7_throwsBall 127 = .ok (.aload_n 0, 1) := dk_42 (dk_at dksX7_throwsBall_5 10 rfl rfl)
theorem dX7_throwsBall_128 : decode cX7_throwsBall 128 = .ok (.getfield 47, 3) := dk_180 0 47 (dk_at dksX7_throwsBall_5 11 rfl rfl)
theorem dX7_throwsBall_131 : decode cX7_throwsBall 131 = .ok (.iload 6, 2) := dk_21 6 (dk_at dksX7_throwsBall_5 14 rfl rfl)
theorem dX7_throwsBall_133 : decode cX7_throwsBall 133 = .ok (.iaload, 1) := dk_46 (dk_at dksX7_throwsBall_5 16 rfl rfl)
theorem dX7_throwsBall_134 : decode cX7_throwsBall 134 = .ok (.bipush (-2), 2) := dk_16 254 (dk_at dksX7_throwsBall_5 17 rfl rfl)
theorem dX7_throwsBall_136 : decode cX7_throwsBall 136 = .ok (.if_icmp .ne 16, 3) := dk_160 0 16 (dk_at dksX7_throwsBall_5 19 rfl rfl)
theorem dX7_throwsBall_139 : decode cX7_throwsBall 139 = .ok (.aload_n 0, 1) := dk_42 (dk_at dksX7_throwsBall_5 22 rfl rfl)
theorem dX7_throwsBall_140 : decode cX7_throwsBall 140 = .ok (.getfield 19, 3) := dk_180 0 19 (dk_at dksX7_throwsBall_6 0 rfl rfl)
theorem dX7_throwsBall_143 : decode cX7_throwsBall 143 = .ok (.bipush 18, 2) := dk_16 18 (dk_at dksX7_throwsBall_6 3 rfl rfl)
theorem dX7_throwsBall_145 : decode cX7_throwsBall 145 = .ok (.iload 6, 2) := dk_21 6 (dk_at dksX7_throwsBall_6 5 rfl rfl)
theorem dX7_throwsBall_147 : decode cX7_throwsBall 147 = .ok (.iadd, 1) := dk_96 (dk_at dksX7_throwsBall_6 7 rfl rfl)
theorem dX7_throwsBall_148 : decode cX7_throwsBall 148 = .ok (.iaload, 1) := dk_46 (dk_at dksX7_throwsBall_6 8 rfl rfl)
theorem dX7_throwsBall_149 : decode cX7_throwsBall 149 = .ok (.goto 10, 3) := dk_167 0 10 (dk_at dksX7_throwsBall_6 9 rfl rfl)
theorem dX7_throwsBall_152 : decode cX7_throwsBall 152 = .ok (.aload_n 0, 1) := dk_42 (dk_at dksX7_throwsBall_6 12 rfl rfl)
theorem dX7_throwsBall_153 : decode cX7_throwsBall 153 = .ok (.getfield 47, 3) := dk_180 0 47 (dk_at dksX7_throwsBall_6 13 rfl rfl)
theorem dX7_throwsBall_156 : decode cX7_throwsBall 156 = .ok (.iload 6, 2) := dk_21 6 (dk_at dksX7_throwsBall_6 16 rfl rfl)
theorem dX7_throwsBall_158 : decode cX7_throwsBall 158 = .ok (.iaload, 1) := dk_46 (dk_at dksX7_throwsBall_6 18 rfl rfl)
theorem dX7_throwsBall_159 : decode cX7_throwsBall 159 = .ok (.iastore, 1) := dk_79 (dk_at dksX7_throwsBall_6 19 rfl rfl)
theorem dX7_throwsBall_160 : decode cX7_throwsBall 160 = .ok (.iinc 6 1, 3) := dk_132 6 1 (dk_at dksX7_throwsBall_6 20 rfl rfl)
theorem dX7_throwsBall_163 : decode cX7_throwsBall 163 = .ok (.goto (-98), 3) := dk_167 255 158 (dk_at dksX7_throwsBall_7 0 rfl rfl)
theorem dX7_throwsBall_166 : decode cX7_throwsBall 166 = .ok (.aload_n 0, 1) := dk_42 (dk_at dksX7_throwsBall_7 3 rfl rfl)
theorem dX7_throwsBall_167 : decode cX7_throwsBall 167 = .ok (.getfield 19, 3) := dk_180 0 19 (dk_at dksX7_throwsBall_7 4 rfl rfl)
theorem dX7_throwsBall_170 : decode cX7_throwsBall 170 = .ok (.bipush 46, 2) := dk_16 46 (dk_at dksX7_throwsBall_7 7 rfl rfl)
theorem dX7_throwsBall_172 : decode cX7_throwsBall 172 = .ok (.dup2, 1) := dk_92 (dk_at dksX7_throwsBall_7 9 rfl rfl)
theorem dX7_throwsBall_173 : decode cX7_throwsBall 173 = .ok (.iaload, 1) := dk_46 (dk_at dksX7_throwsBall_7 10 rfl rfl)
theorem dX7_throwsBall_174 : decode cX7_throwsBall 174 = .ok (.iconst 1, 1) := dk_4 (dk_at dksX7_throwsBall_7 11 rfl rfl)
theorem dX7_throwsBall_175 : decode cX7_throwsBall 175 = .ok (.iadd, 1) := dk_96 (dk_at dksX7_throwsBall_7 12 rfl rfl)
theorem dX7_throwsBall_176 : decode cX7_throwsBall 176 = .ok (.iastore, 1) := dk_79 (dk_at dksX7_throwsBall_7 13 rfl rfl)
theorem dX7_throwsBall_177 : decode cX7_throwsBall 177 = .ok (.aload_n 0, 1) := dk_42 (dk_at dksX7_throwsBall_7 14 rfl rfl)
theorem dX7_throwsBall_178 : decode cX7_throwsBall 178 = .ok (.getfield 19, 3) := dk_180 0 19 (dk_at dksX7_throwsBall_7 15 rfl rfl)
theorem dX7_throwsBall_181 : decode cX7_throwsBall 181 = .ok (.bipush 47, 2) := dk_16 47 (dk_at dksX7_throwsBall_7 18 rfl rfl)
theorem dX7_throwsBall_183 : decode cX7_throwsBall 183 = .ok (.dup2, 1) := dk_92 (dk_at dksX7_throwsBall_7 20 rfl rfl)
theorem dX7_throwsBall_184 : decode cX7_throwsBall 184 = .ok (.iaload, 1) := dk_46 (dk_at dksX7_throwsBall_7 21 rfl rfl)
theorem dX7_throwsBall_185 : decode cX7_throwsBall 185 = .ok (.iload 4, 2) := dk_21 4 (dk_at dksX7_throwsBall_7 22 rfl rfl)
theorem dX7_throwsBall_187 : decode cX7_throwsBall 187 = .ok (.ifCond .eq 15, 3) := dk_153 0 15 (dk_at dksX7_throwsBall_8 0 rfl rfl)
theorem dX7_throwsBall_190 : decode cX7_throwsBall 190 = .ok (.iload 5, 2) := dk_21 5 (dk_at dksX7_throwsBall_8 3 rfl rfl)
theorem dX7_throwsBall_192 : decode cX7_throwsBall 192 = .ok (.sipush 511, 3) := dk_17 1 255 (dk_at dksX7_throwsBall_8 5 rfl rfl)
theorem dX7_throwsBall_195 : decode cX7_throwsBall 195 = .ok (.if_icmp .ne 7, 3) := dk_160 0 7 (dk_at dksX7_throwsBall_8 8 rfl rfl)
theorem dX7_throwsBall_198 : decode cX7_throwsBall 198 = .ok (.iconst 1, 1) := dk_4 (dk_at dksX7_throwsBall_8 11 rfl rfl)
theorem dX7_throwsBall_199 : decode cX7_throwsBall 199 = .ok (.goto 4, 3) := dk_167 0 4 (dk_at dksX7_throwsBall_8 12 rfl rfl)
theorem dX7_throwsBall_202 : decode cX7_throwsBall 202 = .ok (.iconst 0, 1) := dk_3 (dk_at dksX7_throwsBall_8 15 rfl rfl)
theorem dX7_throwsBall_203 : decode cX7_throwsBall 203 = .ok (.iadd, 1) := dk_96 (dk_at dksX7_throwsBall_8 16 rfl rfl)
theorem dX7_throwsBall_204 : decode cX7_throwsBall 204 = .ok (.iastore, 1) := dk_79 (dk_at dksX7_throwsBall_8 17 rfl rfl)
theorem dX7_throwsBall_205 : decode cX7_throwsBall 205 = .ok (.iload 5, 2) := dk_21 5 (dk_at dksX7_throwsBall_8 18 rfl rfl)
theorem dX7_throwsBall_207 : decode cX7_throwsBall 207 = .ok (.ireturn, 1) := dk_172 (dk_at dksX7_throwsBall_8 20 rfl rfl)
abbrev cX7_setUp : ByteArray := prog_12_method_46_code
def yX7_setUp : MethodName := ⟨RX7, "setUp", "()I"⟩
def dkwX7_setUp_2 : List UInt8 := [100, 79, 27, 172]
abbrev dktX7_setUp_2 : List UInt8 := dkwX7_setUp_2 ++ []
def dkwX7_setUp_1 : List UInt8 := [180, 0, 19, 16, 45, 46, 184, 0, 194, 100, 60, 42, 180, 0, 19, 16, 45, 4, 42, 180, 0, 130, 120, 4]
abbrev dktX7_setUp_1 : List UInt8 := dkwX7_setUp_1 ++ dktX7_setUp_2
def dkwX7_setUp_0 : List UInt8 := [42, 3, 181, 0, 72, 42, 180, 0, 133, 154, 0, 6, 18, 233, 172, 42, 182, 0, 234, 42, 180, 0, 130, 42]
abbrev dktX7_setUp_0 : List UInt8 := dkwX7_setUp_0 ++ dktX7_setUp_1
theorem dksX7_setUp_0 : cX7_setUp.data.toList.drop 0 = dktX7_setUp_0 := by decide +kernel
theorem dksX7_setUp_1 : cX7_setUp.data.toList.drop 24 = dktX7_setUp_1 := dk_seg dksX7_setUp_0 24 rfl rfl
theorem dksX7_setUp_2 : cX7_setUp.data.toList.drop 48 = dktX7_setUp_2 := dk_seg dksX7_setUp_1 24 rfl rfl
theorem dX7_setUp_0 : decode cX7_setUp 0 = .ok (.aload_n 0, 1) := dk_42 (dk_at dksX7_setUp_0 0 rfl rfl)
theorem dX7_setUp_1 : decode cX7_setUp 1 = .ok (.iconst 0, 1) := dk_3 (dk_at dksX7_setUp_0 1 rfl rfl)
theorem dX7_setUp_2 : decode cX7_setUp 2 = .ok (.putfield 72, 3) := dk_181 0 72 (dk_at dksX7_setUp_0 2 rfl rfl)
theorem dX7_setUp_5 : decode cX7_setUp 5 = .ok (.aload_n 0, 1) := dk_42 (dk_at dksX7_setUp_0 5 rfl rfl)
theorem dX7_setUp_6 : decode cX7_setUp 6 = .ok (.getfield 133, 3) := dk_180 0 133 (dk_at dksX7_setUp_0 6 rfl rfl)
theorem dX7_setUp_9 : decode cX7_setUp 9 = .ok (.ifCond .ne 6, 3) := dk_154 0 6 (dk_at dksX7_setUp_0 9 rfl rfl)
theorem dX7_setUp_12 : decode cX7_setUp 12 = .ok (.ldc 233, 2) := dk_18 233 (dk_at dksX7_setUp_0 12 rfl rfl)
theorem dX7_setUp_14 : decode cX7_setUp 14 = .ok (.ireturn, 1) := dk_172 (dk_at dksX7_setUp_0 14 rfl rfl)
theorem dX7_setUp_15 : decode cX7_setUp 15 = .ok (.aload_n 0, 1) := dk_42 (dk_at dksX7_setUp_0 15 rfl rfl)
theorem dX7_setUp_16 : decode cX7_setUp 16 = .ok (.invokevirtual 234, 3) := dk_182 0 234 (dk_at dksX7_setUp_0 16 rfl rfl)
theorem dX7_setUp_19 : decode cX7_setUp 19 = .ok (.aload_n 0, 1) := dk_42 (dk_at dksX7_setUp_0 19 rfl rfl)
theorem dX7_setUp_20 : decode cX7_setUp 20 = .ok (.getfield 130, 3) := dk_180 0 130 (dk_at dksX7_setUp_0 20 rfl rfl)
theorem dX7_setUp_23 : decode cX7_setUp 23 = .ok (.aload_n 0, 1) := dk_42 (dk_at dksX7_setUp_0 23 rfl rfl)
theorem dX7_setUp_24 : decode cX7_setUp 24 = .ok (.getfield 19, 3) := dk_180 0 19 (dk_at dksX7_setUp_1 0 rfl rfl)
theorem dX7_setUp_27 : decode cX7_setUp 27 = .ok (.bipush 45, 2) := dk_16 45 (dk_at dksX7_setUp_1 3 rfl rfl)
theorem dX7_setUp_29 : decode cX7_setUp 29 = .ok (.iaload, 1) := dk_46 (dk_at dksX7_setUp_1 5 rfl rfl)
theorem dX7_setUp_30 : decode cX7_setUp 30 = .ok (.invokestatic 194, 3) := dk_184 0 194 (dk_at dksX7_setUp_1 6 rfl rfl)
theorem dX7_setUp_33 : decode cX7_setUp 33 = .ok (.isub, 1) := dk_100 (dk_at dksX7_setUp_1 9 rfl rfl)
theorem dX7_setUp_34 : decode cX7_setUp 34 = .ok (.istore_n 1, 1) := dk_60 (dk_at dksX7_setUp_1 10 rfl rfl)
theorem dX7_setUp_35 : decode cX7_setUp 35 = .ok (.aload_n 0, 1) := dk_42 (dk_at dksX7_setUp_1 11 rfl rfl)
theorem dX7_setUp_36 : decode cX7_setUp 36 = .ok (.getfield 19, 3) := dk_180 0 19 (dk_at dksX7_setUp_1 12 rfl rfl)
theorem dX7_setUp_39 : decode cX7_setUp 39 = .ok (.bipush 45, 2) := dk_16 45 (dk_at dksX7_setUp_1 15 rfl rfl)
theorem dX7_setUp_41 : decode cX7_setUp 41 = .ok (.iconst 1, 1) := dk_4 (dk_at dksX7_setUp_1 17 rfl rfl)
theorem dX7_setUp_42 : decode cX7_setUp 42 = .ok (.aload_n 0, 1) := dk_42 (dk_at dksX7_setUp_1 18 rfl rfl)
theorem dX7_setUp_43 : decode cX7_setUp 43 = .ok (.getfield 130, 3) := dk_180 0 130 (dk_at dksX7_setUp_1 19 rfl rfl)
theorem dX7_setUp_46 : decode cX7_setUp 46 = .ok (.ishl, 1) := dk_120 (dk_at dksX7_setUp_1 22 rfl rfl)
theorem dX7_setUp_47 : decode cX7_setUp 47 = .ok (.iconst 1, 1) := dk_4 (dk_at dksX7_setUp_1 23 rfl rfl)
theorem dX7_setUp_48 : decode cX7_setUp 48 = .ok (.isub, 1) := dk_100 (dk_at dksX7_setUp_2 0 rfl rfl)
theorem dX7_setUp_49 : decode cX7_setUp 49 = .ok (.iastore, 1) := dk_79 (dk_at dksX7_setUp_2 1 rfl rfl)
theorem dX7_setUp_50 : decode cX7_setUp 50 = .ok (.iload_n 1, 1) := dk_27 (dk_at dksX7_setUp_2 2 rfl rfl)
theorem dX7_setUp_51 : decode cX7_setUp 51 = .ok (.ireturn, 1) := dk_172 (dk_at dksX7_setUp_2 3 rfl rfl)
abbrev cX7_lift : ByteArray := prog_12_method_47_code
def yX7_lift : MethodName := ⟨RX7, "lift", "(I)I"⟩
def dkwX7_lift_2 : List UInt8 := [128, 79, 42, 180, 0, 19, 16, 45, 46, 184, 0, 194, 172]
abbrev dktX7_lift_2 : List UInt8 := dkwX7_lift_2 ++ []
def dkwX7_lift_1 : List UInt8 := [184, 0, 170, 153, 0, 6, 18, 233, 172, 42, 182, 0, 234, 42, 180, 0, 19, 16, 45, 92, 46, 4, 27, 120]
abbrev dktX7_lift_1 : List UInt8 := dkwX7_lift_1 ++ dktX7_lift_2
def dkwX7_lift_0 : List UInt8 := [42, 3, 181, 0, 72, 42, 27, 182, 0, 216, 154, 0, 6, 18, 220, 172, 42, 180, 0, 19, 16, 45, 46, 27]
abbrev dktX7_lift_0 : List UInt8 := dkwX7_lift_0 ++ dktX7_lift_1
theorem dksX7_lift_0 : cX7_lift.data.toList.drop 0 = dktX7_lift_0 := by decide +kernel
theorem dksX7_lift_1 : cX7_lift.data.toList.drop 24 = dktX7_lift_1 := dk_seg dksX7_lift_0 24 rfl rfl
theorem dksX7_lift_2 : cX7_lift.data.toList.drop 48 = dktX7_lift_2 := dk_seg dksX7_lift_1 24 rfl rfl
theorem dX7_lift_0 : decode cX7_lift 0 = .ok (.aload_n 0, 1) := dk_42 (dk_at dksX7_lift_0 0 rfl rfl)
theorem dX7_lift_1 : decode cX7_lift 1 = .ok (.iconst 0, 1) := dk_3 (dk_at dksX7_lift_0 1 rfl rfl)
theorem dX7_lift_2 : decode cX7_lift 2 = .ok (.putfield 72, 3) := dk_181 0 72 (dk_at dksX7_lift_0 2 rfl rfl)
theorem dX7_lift_5 : decode cX7_lift 5 = .ok (.aload_n 0, 1) := dk_42 (dk_at dksX7_lift_0 5 rfl rfl)
theorem dX7_lift_6 : decode cX7_lift 6 = .ok (.iload_n 1, 1) := dk_27 (dk_at dksX7_lift_0 6 rfl rfl)
theorem dX7_lift_7 : decode cX7_lift 7 = .ok (.invokevirtual 216, 3) := dk_182 0 216 (dk_at dksX7_lift_0 7 rfl rfl)
theorem dX7_lift_10 : decode cX7_lift 10 = .ok (.ifCond .ne 6, 3) := dk_154 0 6 (dk_at dksX7_lift_0 10 rfl rfl)
theorem dX7_lift_13 : decode cX7_lift 13 = .ok (.ldc 220, 2) := dk_18 220 (dk_at dksX7_lift_0 13 rfl rfl)
theorem dX7_lift_15 : decode cX7_lift 15 = .ok (.ireturn, 1) := dk_172 (dk_at dksX7_lift_0 15 rfl rfl)
theorem dX7_lift_16 : decode cX7_lift 16 = .ok (.aload_n 0, 1) := dk_42 (dk_at dksX7_lift_0 16 rfl rfl)
theorem dX7_lift_17 : decode cX7_lift 17 = .ok (.getfield 19, 3) := dk_180 0 19 (dk_at dksX7_lift_0 17 rfl rfl)
theorem dX7_lift_20 : decode cX7_lift 20 = .ok (.bipush 45, 2) := dk_16 45 (dk_at dksX7_lift_0 20 rfl rfl)
theorem dX7_lift_22 : decode cX7_lift 22 = .ok (.iaload, 1) := dk_46 (dk_at dksX7_lift_0 22 rfl rfl)
theorem dX7_lift_23 : decode cX7_lift 23 = .ok (.iload_n 1, 1) := dk_27 (dk_at dksX7_lift_0 23 rfl rfl)
theorem dX7_lift_24 : decode cX7_lift 24 = .ok (.invokestatic 170, 3) := dk_184 0 170 (dk_at dksX7_lift_1 0 rfl rfl)
theorem dX7_lift_27 : decode cX7_lift 27 = .ok (.ifCond .eq 6, 3) := dk_153 0 6 (dk_at dksX7_lift_1 3 rfl rfl)
theorem dX7_lift_30 : decode cX7_lift 30 = .ok (.ldc 233, 2) := dk_18 233 (dk_at dksX7_lift_1 6 rfl rfl)
theorem dX7_lift_32 : decode cX7_lift 32 = .ok (.ireturn, 1) := dk_172 (dk_at dksX7_lift_1 8 rfl rfl)
theorem dX7_lift_33 : decode cX7_lift 33 = .ok (.aload_n 0, 1) := dk_42 (dk_at dksX7_lift_1 9 rfl rfl)
theorem dX7_lift_34 : decode cX7_lift 34 = .ok (.invokevirtual 234, 3) := dk_182 0 234 (dk_at dksX7_lift_1 10 rfl rfl)
theorem dX7_lift_37 : decode cX7_lift 37 = .ok (.aload_n 0, 1) := dk_42 (dk_at dksX7_lift_1 13 rfl rfl)
theorem dX7_lift_38 : decode cX7_lift 38 = .ok (.getfield 19, 3) := dk_180 0 19 (dk_at dksX7_lift_1 14 rfl rfl)
theorem dX7_lift_41 : decode cX7_lift 41 = .ok (.bipush 45, 2) := dk_16 45 (dk_at dksX7_lift_1 17 rfl rfl)
theorem dX7_lift_43 : decode cX7_lift 43 = .ok (.dup2, 1) := dk_92 (dk_at dksX7_lift_1 19 rfl rfl)
theorem dX7_lift_44 : decode cX7_lift 44 = .ok (.iaload, 1) := dk_46 (dk_at dksX7_lift_1 20 rfl rfl)
theorem dX7_lift_45 : decode cX7_lift 45 = .ok (.iconst 1, 1) := dk_4 (dk_at dksX7_lift_1 21 rfl rfl)
theorem dX7_lift_46 : decode cX7_lift 46 = .ok (.iload_n 1, 1) := dk_27 (dk_at dksX7_lift_1 22 rfl rfl)
theorem dX7_lift_47 : decode cX7_lift 47 = .ok (.ishl, 1) := dk_120 (dk_at dksX7_lift_1 23 rfl rfl)
theorem dX7_lift_48 : decode cX7_lift 48 = .ok (.ior, 1) := dk_128 (dk_at dksX7_lift_2 0 rfl rfl)
theorem dX7_lift_49 : decode cX7_lift 49 = .ok (.iastore, 1) := dk_79 (dk_at dksX7_lift_2 1 rfl rfl)
theorem dX7_lift_50 : decode cX7_lift 50 = .ok (.aload_n 0, 1) := dk_42 (dk_at dksX7_lift_2 2 rfl rfl)
theorem dX7_lift_51 : decode cX7_lift 51 = .ok (.getfield 19, 3) := dk_180 0 19 (dk_at dksX7_lift_2 3 rfl rfl)
theorem dX7_lift_54 : decode cX7_lift 54 = .ok (.bipush 45, 2) := dk_16 45 (dk_at dksX7_lift_2 6 rfl rfl)
theorem dX7_lift_56 : decode cX7_lift 56 = .ok (.iaload, 1) := dk_46 (dk_at dksX7_lift_2 8 rfl rfl)
theorem dX7_lift_57 : decode cX7_lift 57 = .ok (.invokestatic 194, 3) := dk_184 0 194 (dk_at dksX7_lift_2 9 rfl rfl)
theorem dX7_lift_60 : decode cX7_lift 60 = .ok (.ireturn, 1) := dk_172 (dk_at dksX7_lift_2 12 rfl rfl)
abbrev cX7_change : ByteArray := prog_12_method_49_code
def yX7_change : MethodName := ⟨RX7, "change", "(II)I"⟩
def dkwX7_change_1 : List UInt8 := [18, 220, 172, 42, 182, 0, 234, 42, 27, 28, 182, 0, 241, 42, 27, 182, 0, 227, 172]
abbrev dktX7_change_1 : List UInt8 := dkwX7_change_1 ++ []
def dkwX7_change_0 : List UInt8 := [42, 3, 181, 0, 72, 27, 184, 0, 224, 153, 0, 15, 28, 184, 0, 224, 153, 0, 8, 27, 28, 160, 0, 6]
abbrev dktX7_change_0 : List UInt8 := dkwX7_change_0 ++ dktX7_change_1
theorem dksX7_change_0 : cX7_change.data.toList.drop 0 = dktX7_change_0 := by decide +kernel
theorem dksX7_change_1 : cX7_change.data.toList.drop 24 = dktX7_change_1 := dk_seg dksX7_change_0 24 rfl rfl
theorem dX7_change_0 : decode cX7_change 0 = .ok (.aload_n 0, 1) := dk_42 (dk_at dksX7_change_0 0 rfl rfl)
theorem dX7_change_1 : decode cX7_change 1 = .ok (.iconst 0, 1) := dk_3 (dk_at dksX7_change_0 1 rfl rfl)
theorem dX7_change_2 : decode cX7_change 2 = .ok (.putfield 72, 3) := dk_181 0 72 (dk_at dksX7_change_0 2 rfl rfl)
theorem dX7_change_5 : decode cX7_change 5 = .ok (.iload_n 1, 1) := dk_27 (dk_at dksX7_change_0 5 rfl rfl)
theorem dX7_change_6 : decode cX7_change 6 = .ok (.invokestatic 224, 3) := dk_184 0 224 (dk_at dksX7_change_0 6 rfl rfl)
theorem dX7_change_9 : decode cX7_change 9 = .ok (.ifCond .eq 15, 3) := dk_153 0 15 (dk_at dksX7_change_0 9 rfl rfl)
theorem dX7_change_12 : decode cX7_change 12 = .ok (.iload_n 2, 1) := dk_28 (dk_at dksX7_change_0 12 rfl rfl)
theorem dX7_change_13 : decode cX7_change 13 = .ok (.invokestatic 224, 3) := dk_184 0 224 (dk_at dksX7_change_0 13 rfl rfl)
theorem dX7_change_16 : decode cX7_change 16 = .ok (.ifCond .eq 8, 3) := dk_153 0 8 (dk_at dksX7_change_0 16 rfl rfl)
theorem dX7_change_19 : decode cX7_change 19 = .ok (.iload_n 1, 1) := dk_27 (dk_at dksX7_change_0 19 rfl rfl)
theorem dX7_change_20 : decode cX7_change 20 = .ok (.iload_n 2, 1) := dk_28 (dk_at dksX7_change_0 20 rfl rfl)
theorem dX7_change_21 : decode cX7_change 21 = .ok (.if_icmp .ne 6, 3) := dk_160 0 6 (dk_at dksX7_change_0 21 rfl rfl)
theorem dX7_change_24 : decode cX7_change 24 = .ok (.ldc 220, 2) := dk_18 220 (dk_at dksX7_change_1 0 rfl rfl)
theorem dX7_change_26 : decode cX7_change 26 = .ok (.ireturn, 1) := dk_172 (dk_at dksX7_change_1 2 rfl rfl)
theorem dX7_change_27 : decode cX7_change 27 = .ok (.aload_n 0, 1) := dk_42 (dk_at dksX7_change_1 3 rfl rfl)
theorem dX7_change_28 : decode cX7_change 28 = .ok (.invokevirtual 234, 3) := dk_182 0 234 (dk_at dksX7_change_1 4 rfl rfl)
theorem dX7_change_31 : decode cX7_change 31 = .ok (.aload_n 0, 1) := dk_42 (dk_at dksX7_change_1 7 rfl rfl)
theorem dX7_change_32 : decode cX7_change 32 = .ok (.iload_n 1, 1) := dk_27 (dk_at dksX7_change_1 8 rfl rfl)
theorem dX7_change_33 : decode cX7_change 33 = .ok (.iload_n 2, 1) := dk_28 (dk_at dksX7_change_1 9 rfl rfl)
theorem dX7_change_34 : decode cX7_change 34 = .ok (.invokevirtual 241, 3) := dk_182 0 241 (dk_at dksX7_change_1 10 rfl rfl)
theorem dX7_change_37 : decode cX7_change 37 = .ok (.aload_n 0, 1) := dk_42 (dk_at dksX7_change_1 13 rfl rfl)
theorem dX7_change_38 : decode cX7_change 38 = .ok (.iload_n 1, 1) := dk_27 (dk_at dksX7_change_1 14 rfl rfl)
theorem dX7_change_39 : decode cX7_change 39 = .ok (.invokevirtual 227, 3) := dk_182 0 227 (dk_at dksX7_change_1 15 rfl rfl)
theorem dX7_change_42 : decode cX7_change 42 = .ok (.ireturn, 1) := dk_172 (dk_at dksX7_change_1 18 rfl rfl)
abbrev cX7_changes : ByteArray := prog_12_method_48_code
def yX7_changes : MethodName := ⟨RX7, "changes", "(II)V"⟩
def dkwX7_changes_1 : List UInt8 := [96, 28, 79, 21, 4, 2, 159, 0, 13, 42, 180, 0, 19, 3, 21, 4, 96, 27, 79, 177]
abbrev dktX7_changes_1 : List UInt8 := dkwX7_changes_1 ++ []
def dkwX7_changes_0 : List UInt8 := [42, 27, 182, 0, 227, 62, 42, 28, 182, 0, 227, 54, 4, 29, 2, 159, 0, 12, 42, 180, 0, 19, 3, 29]
abbrev dktX7_changes_0 : List UInt8 := dkwX7_changes_0 ++ dktX7_changes_1
theorem dksX7_changes_0 : cX7_changes.data.toList.drop 0 = dktX7_changes_0 := by decide +kernel
theorem dksX7_changes_1 : cX7_changes.data.toList.drop 24 = dktX7_changes_1 := dk_seg dksX7_changes_0 24 rfl rfl
theorem dX7_changes_0 : decode cX7_changes 0 = .ok (.aload_n 0, 1) := dk_42 (dk_at dksX7_changes_0 0 rfl rfl)
theorem dX7_changes_1 : decode cX7_changes 1 = .ok (.iload_n 1, 1) := dk_27 (dk_at dksX7_changes_0 1 rfl rfl)
theorem dX7_changes_2 : decode cX7_changes 2 = .ok (.invokevirtual 227, 3) := dk_182 0 227 (dk_at dksX7_changes_0 2 rfl rfl)
theorem dX7_changes_5 : decode cX7_changes 5 = .ok (.istore_n 3, 1) := dk_62 (dk_at dksX7_changes_0 5 rfl rfl)
theorem dX7_changes_6 : decode cX7_changes 6 = .ok (.aload_n 0, 1) := dk_42 (dk_at dksX7_changes_0 6 rfl rfl)
theorem dX7_changes_7 : decode cX7_changes 7 = .ok (.iload_n 2, 1) := dk_28 (dk_at dksX7_changes_0 7 rfl rfl)
theorem dX7_changes_8 : decode cX7_changes 8 = .ok (.invokevirtual 227, 3) := dk_182 0 227 (dk_at dksX7_changes_0 8 rfl rfl)
theorem dX7_changes_11 : decode cX7_changes 11 = .ok (.istore 4, 2) := dk_54 4 (dk_at dksX7_changes_0 11 rfl rfl)
theorem dX7_changes_13 : decode cX7_changes 13 = .ok (.iload_n 3, 1) := dk_29 (dk_at dksX7_changes_0 13 rfl rfl)
theorem dX7_changes_14 : decode cX7_changes 14 = .ok (.iconst (-1), 1) := dk_2 (dk_at dksX7_changes_0 14 rfl rfl)
theorem dX7_changes_15 : decode cX7_changes 15 = .ok (.if_icmp .eq 12, 3) := dk_159 0 12 (dk_at dksX7_changes_0 15 rfl rfl)
theorem dX7_changes_18 : decode cX7_changes 18 = .ok (.aload_n 0, 1) := dk_42 (dk_at dksX7_changes_0 18 rfl rfl)
theorem dX7_changes_19 : decode cX7_changes 19 = .ok (.getfield 19, 3) := dk_180 0 19 (dk_at dksX7_changes_0 19 rfl rfl)
theorem dX7_changes_22 : decode cX7_changes 22 = .ok (.iconst 0, 1) := dk_3 (dk_at dksX7_changes_0 22 rfl rfl)
theorem dX7_changes_23 : decode cX7_changes 23 = .ok (.iload_n 3, 1) := dk_29 (dk_at dksX7_changes_0 23 rfl rfl)
theorem dX7_changes_24 : decode cX7_changes 24 = .ok (.iadd, 1) := dk_96 (dk_at dksX7_changes_1 0 rfl rfl)
theorem dX7_changes_25 : decode cX7_changes 25 = .ok (.iload_n 2, 1) := dk_28 (dk_at dksX7_changes_1 1 rfl rfl)
theorem dX7_changes_26 : decode cX7_changes 26 = .ok (.iastore, 1) := dk_79 (dk_at dksX7_changes_1 2 rfl rfl)
theorem dX7_changes_27 : decode cX7_changes 27 = .ok (.iload 4, 2) := dk_21 4 (dk_at dksX7_changes_1 3 rfl rfl)
theorem dX7_changes_29 : decode cX7_changes 29 = .ok (.iconst (-1), 1) := dk_2 (dk_at dksX7_changes_1 5 rfl rfl)
theorem dX7_changes_30 : decode cX7_changes 30 = .ok (.if_icmp .eq 13, 3) := dk_159 0 13 (dk_at dksX7_changes_1 6 rfl rfl)
theorem dX7_changes_33 : decode cX7_changes 33 = .ok (.aload_n 0, 1) := dk_42 (dk_at dksX7_changes_1 9 rfl rfl)
theorem dX7_changes_34 : decode cX7_changes 34 = .ok (.getfield 19, 3) := dk_180 0 19 (dk_at dksX7_changes_1 10 rfl rfl)
theorem dX7_changes_37 : decode cX7_changes 37 = .ok (.iconst 0, 1) := dk_3 (dk_at dksX7_changes_1 13 rfl rfl)
theorem dX7_changes_38 : decode cX7_changes 38 = .ok (.iload 4, 2) := dk_21 4 (dk_at dksX7_changes_1 14 rfl rfl)
theorem dX7_changes_40 : decode cX7_changes 40 = .ok (.iadd, 1) := dk_96 (dk_at dksX7_changes_1 16 rfl rfl)
theorem dX7_changes_41 : decode cX7_changes 41 = .ok (.iload_n 1, 1) := dk_27 (dk_at dksX7_changes_1 17 rfl rfl)
theorem dX7_changes_42 : decode cX7_changes 42 = .ok (.iastore, 1) := dk_79 (dk_at dksX7_changes_1 18 rfl rfl)
theorem dX7_changes_43 : decode cX7_changes 43 = .ok (.return_, 1) := dk_177 (dk_at dksX7_changes_1 19 rfl rfl)
abbrev cX7_chip : ByteArray := prog_12_method_50_code
def yX7_chip : MethodName := ⟨RX7, "chip", "(II)I"⟩
def dkwX7_chip_2 : List UInt8 := [16, 36, 27, 96, 28, 79, 29, 172]
abbrev dktX7_chip_2 : List UInt8 := dkwX7_chip_2 ++ []
def dkwX7_chip_1 : List UInt8 := [154, 0, 6, 18, 79, 172, 42, 182, 0, 234, 42, 180, 0, 19, 16, 36, 27, 96, 46, 62, 42, 180, 0, 19]
abbrev dktX7_chip_1 : List UInt8 := dkwX7_chip_1 ++ dktX7_chip_2
def dkwX7_chip_0 : List UInt8 := [42, 3, 181, 0, 72, 42, 27, 182, 0, 216, 154, 0, 6, 18, 220, 172, 28, 3, 16, 9, 184, 0, 75]
abbrev dktX7_chip_0 : List UInt8 := dkwX7_chip_0 ++ dktX7_chip_1
theorem dksX7_chip_0 : cX7_chip.data.toList.drop 0 = dktX7_chip_0 := by decide +kernel
theorem dksX7_chip_1 : cX7_chip.data.toList.drop 23 = dktX7_chip_1 := dk_seg dksX7_chip_0 23 rfl rfl
theorem dksX7_chip_2 : cX7_chip.data.toList.drop 47 = dktX7_chip_2 := dk_seg dksX7_chip_1 24 rfl rfl
theorem dX7_chip_0 : decode cX7_chip 0 = .ok (.aload_n 0, 1) := dk_42 (dk_at dksX7_chip_0 0 rfl rfl)
theorem dX7_chip_1 : decode cX7_chip 1 = .ok (.iconst 0, 1) := dk_3 (dk_at dksX7_chip_0 1 rfl rfl)
theorem dX7_chip_2 : decode cX7_chip 2 = .ok (.putfield 72, 3) := dk_181 0 72 (dk_at dksX7_chip_0 2 rfl rfl)
theorem dX7_chip_5 : decode cX7_chip 5 = .ok (.aload_n 0, 1) := dk_42 (dk_at dksX7_chip_0 5 rfl rfl)
theorem dX7_chip_6 : decode cX7_chip 6 = .ok (.iload_n 1, 1) := dk_27 (dk_at dksX7_chip_0 6 rfl rfl)
theorem dX7_chip_7 : decode cX7_chip 7 = .ok (.invokevirtual 216, 3) := dk_182 0 216 (dk_at dksX7_chip_0 7 rfl rfl)
theorem dX7_chip_10 : decode cX7_chip 10 = .ok (.ifCond .ne 6, 3) := dk_154 0 6 (dk_at dksX7_chip_0 10 rfl rfl)
theorem dX7_chip_13 : decode cX7_chip 13 = .ok (.ldc 220, 2) := dk_18 220 (dk_at dksX7_chip_0 13 rfl rfl)
theorem dX7_chip_15 : decode cX7_chip 15 = .ok (.ireturn, 1) := dk_172 (dk_at dksX7_chip_0 15 rfl rfl)
theorem dX7_chip_16 : decode cX7_chip 16 = .ok (.iload_n 2, 1) := dk_28 (dk_at dksX7_chip_0 16 rfl rfl)
theorem dX7_chip_17 : decode cX7_chip 17 = .ok (.iconst 0, 1) := dk_3 (dk_at dksX7_chip_0 17 rfl rfl)
theorem dX7_chip_18 : decode cX7_chip 18 = .ok (.bipush 9, 2) := dk_16 9 (dk_at dksX7_chip_0 18 rfl rfl)
theorem dX7_chip_20 : decode cX7_chip 20 = .ok (.invokestatic 75, 3) := dk_184 0 75 (dk_at dksX7_chip_0 20 rfl rfl)
theorem dX7_chip_23 : decode cX7_chip 23 = .ok (.ifCond .ne 6, 3) := dk_154 0 6 (dk_at dksX7_chip_1 0 rfl rfl)
theorem dX7_chip_26 : decode cX7_chip 26 = .ok (.ldc 79, 2) := dk_18 79 (dk_at dksX7_chip_1 3 rfl rfl)
theorem dX7_chip_28 : decode cX7_chip 28 = .ok (.ireturn, 1) := dk_172 (dk_at dksX7_chip_1 5 rfl rfl)
theorem dX7_chip_29 : decode cX7_chip 29 = .ok (.aload_n 0, 1) := dk_42 (dk_at dksX7_chip_1 6 rfl rfl)
theorem dX7_chip_30 : decode cX7_chip 30 = .ok (.invokevirtual 234, 3) := dk_182 0 234 (dk_at dksX7_chip_1 7 rfl rfl)
theorem dX7_chip_33 : decode cX7_chip 33 = .ok (.aload_n 0, 1) := dk_42 (dk_at dksX7_chip_1 10 rfl rfl)
theorem dX7_chip_34 : decode cX7_chip 34 = .ok (.getfield 19, 3) := dk_180 0 19 (dk_at dksX7_chip_1 11 rfl rfl)
theorem dX7_chip_37 : decode cX7_chip 37 = .ok (.bipush 36, 2) := dk_16 36 (dk_at dksX7_chip_1 14 rfl rfl)
theorem dX7_chip_39 : decode cX7_chip 39 = .ok (.iload_n 1, 1) := dk_27 (dk_at dksX7_chip_1 16 rfl rfl)
theorem dX7_chip_40 : decode cX7_chip 40 = .ok (.iadd, 1) := dk_96 (dk_at dksX7_chip_1 17 rfl rfl)
theorem dX7_chip_41 : decode cX7_chip 41 = .ok (.iaload, 1) := dk_46 (dk_at dksX7_chip_1 18 rfl rfl)
theorem dX7_chip_42 : decode cX7_chip 42 = .ok (.istore_n 3, 1) := dk_62 (dk_at dksX7_chip_1 19 rfl rfl)
theorem dX7_chip_43 : decode cX7_chip 43 = .ok (.aload_n 0, 1) := dk_42 (dk_at dksX7_chip_1 20 rfl rfl)
theorem dX7_chip_44 : decode cX7_chip 44 = .ok (.getfield 19, 3) := dk_180 0 19 (dk_at dksX7_chip_1 21 rfl rfl)
theorem dX7_chip_47 : decode cX7_chip 47 = .ok (.bipush 36, 2) := dk_16 36 (dk_at dksX7_chip_2 0 rfl rfl)
theorem dX7_chip_49 : decode cX7_chip 49 = .ok (.iload_n 1, 1) := dk_27 (dk_at dksX7_chip_2 2 rfl rfl)
theorem dX7_chip_50 : decode cX7_chip 50 = .ok (.iadd, 1) := dk_96 (dk_at dksX7_chip_2 3 rfl rfl)
theorem dX7_chip_51 : decode cX7_chip 51 = .ok (.iload_n 2, 1) := dk_28 (dk_at dksX7_chip_2 4 rfl rfl)
theorem dX7_chip_52 : decode cX7_chip 52 = .ok (.iastore, 1) := dk_79 (dk_at dksX7_chip_2 5 rfl rfl)
theorem dX7_chip_53 : decode cX7_chip 53 = .ok (.iload_n 3, 1) := dk_29 (dk_at dksX7_chip_2 6 rfl rfl)
theorem dX7_chip_54 : decode cX7_chip 54 = .ok (.ireturn, 1) := dk_172 (dk_at dksX7_chip_2 7 rfl rfl)
abbrev cX7_replace : ByteArray := prog_12_method_51_code
def yX7_replace : MethodName := ⟨RX7, "replace", "(I)I"⟩
def dkwX7_replace_2 : List UInt8 := [28, 172]
abbrev dktX7_replace_2 : List UInt8 := dkwX7_replace_2 ++ []
def dkwX7_replace_1 : List UInt8 := [46, 61, 28, 6, 160, 0, 6, 18, 233, 172, 42, 182, 0, 234, 42, 180, 0, 19, 16, 27, 27, 96, 6, 79]
abbrev dktX7_replace_1 : List UInt8 := dkwX7_replace_1 ++ dktX7_replace_2
def dkwX7_replace_0 : List UInt8 := [42, 3, 181, 0, 72, 42, 27, 182, 0, 216, 154, 0, 6, 18, 220, 172, 42, 180, 0, 19, 16, 27, 27, 96]
abbrev dktX7_replace_0 : List UInt8 := dkwX7_replace_0 ++ dktX7_replace_1
theorem dksX7_replace_0 : cX7_replace.data.toList.drop 0 = dktX7_replace_0 := by decide +kernel
theorem dksX7_replace_1 : cX7_replace.data.toList.drop 24 = dktX7_replace_1 := dk_seg dksX7_replace_0 24 rfl rfl
theorem dksX7_replace_2 : cX7_replace.data.toList.drop 48 = dktX7_replace_2 := dk_seg dksX7_replace_1 24 rfl rfl
theorem dX7_replace_0 : decode cX7_replace 0 = .ok (.aload_n 0, 1) := dk_42 (dk_at dksX7_replace_0 0 rfl rfl)
theorem dX7_replace_1 : decode cX7_replace 1 = .ok (.iconst 0, 1) := dk_3 (dk_at dksX7_replace_0 1 rfl rfl)
theorem dX7_replace_2 : decode cX7_replace 2 = .ok (.putfield 72, 3) := dk_181 0 72 (dk_at dksX7_replace_0 2 rfl rfl)
theorem dX7_replace_5 : decode cX7_replace 5 = .ok (.aload_n 0, 1) := dk_42 (dk_at dksX7_replace_0 5 rfl rfl)
theorem dX7_replace_6 : decode cX7_replace 6 = .ok (.iload_n 1, 1) := dk_27 (dk_at dksX7_replace_0 6 rfl rfl)
theorem dX7_replace_7 : decode cX7_replace 7 = .ok (.invokevirtual 216, 3) := dk_182 0 216 (dk_at dksX7_replace_0 7 rfl rfl)
theorem dX7_replace_10 : decode cX7_replace 10 = .ok (.ifCond .ne 6, 3) := dk_154 0 6 (dk_at dksX7_replace_0 10 rfl rfl)
theorem dX7_replace_13 : decode cX7_replace 13 = .ok (.ldc 220, 2) := dk_18 220 (dk_at dksX7_replace_0 13 rfl rfl)
theorem dX7_replace_15 : decode cX7_replace 15 = .ok (.ireturn, 1) := dk_172 (dk_at dksX7_replace_0 15 rfl rfl)
theorem dX7_replace_16 : decode cX7_replace 16 = .ok (.aload_n 0, 1) := dk_42 (dk_at dksX7_replace_0 16 rfl rfl)
theorem dX7_replace_17 : decode cX7_replace 17 = .ok (.getfield 19, 3) := dk_180 0 19 (dk_at dksX7_replace_0 17 rfl rfl)
theorem dX7_replace_20 : decode cX7_replace 20 = .ok (.bipush 27, 2) := dk_16 27 (dk_at dksX7_replace_0 20 rfl rfl)
theorem dX7_replace_22 : decode cX7_replace 22 = .ok (.iload_n 1, 1) := dk_27 (dk_at dksX7_replace_0 22 rfl rfl)
theorem dX7_replace_23 : decode cX7_replace 23 = .ok (.iadd, 1) := dk_96 (dk_at dksX7_replace_0 23 rfl rfl)
theorem dX7_replace_24 : decode cX7_replace 24 = .ok (.iaload, 1) := dk_46 (dk_at dksX7_replace_1 0 rfl rfl)
theorem dX7_replace_25 : decode cX7_replace 25 = .ok (.istore_n 2, 1) := dk_61 (dk_at dksX7_replace_1 1 rfl rfl)
theorem dX7_replace_26 : decode cX7_replace 26 = .ok (.iload_n 2, 1) := dk_28 (dk_at dksX7_replace_1 2 rfl rfl)
theorem dX7_replace_27 : decode cX7_replace 27 = .ok (.iconst 3, 1) := dk_6 (dk_at dksX7_replace_1 3 rfl rfl)
theorem dX7_replace_28 : decode cX7_replace 28 = .ok (.if_icmp .ne 6, 3) := dk_160 0 6 (dk_at dksX7_replace_1 4 rfl rfl)
theorem dX7_replace_31 : decode cX7_replace 31 = .ok (.ldc 233, 2) := dk_18 233 (dk_at dksX7_replace_1 7 rfl rfl)
theorem dX7_replace_33 : decode cX7_replace 33 = .ok (.ireturn, 1) := dk_172 (dk_at dksX7_replace_1 9 rfl rfl)
theorem dX7_replace_34 : decode cX7_replace 34 = .ok (.aload_n 0, 1) := dk_42 (dk_at dksX7_replace_1 10 rfl rfl)
theorem dX7_replace_35 : decode cX7_replace 35 = .ok (.invokevirtual 234, 3) := dk_182 0 234 (dk_at dksX7_replace_1 11 rfl rfl)
theorem dX7_replace_38 : decode cX7_replace 38 = .ok (.aload_n 0, 1) := dk_42 (dk_at dksX7_replace_1 14 rfl rfl)
theorem dX7_replace_39 : decode cX7_replace 39 = .ok (.getfield 19, 3) := dk_180 0 19 (dk_at dksX7_replace_1 15 rfl rfl)
theorem dX7_replace_42 : decode cX7_replace 42 = .ok (.bipush 27, 2) := dk_16 27 (dk_at dksX7_replace_1 18 rfl rfl)
theorem dX7_replace_44 : decode cX7_replace 44 = .ok (.iload_n 1, 1) := dk_27 (dk_at dksX7_replace_1 20 rfl rfl)
theorem dX7_replace_45 : decode cX7_replace 45 = .ok (.iadd, 1) := dk_96 (dk_at dksX7_replace_1 21 rfl rfl)
theorem dX7_replace_46 : decode cX7_replace 46 = .ok (.iconst 3, 1) := dk_6 (dk_at dksX7_replace_1 22 rfl rfl)
theorem dX7_replace_47 : decode cX7_replace 47 = .ok (.iastore, 1) := dk_79 (dk_at dksX7_replace_1 23 rfl rfl)
theorem dX7_replace_48 : decode cX7_replace 48 = .ok (.iload_n 2, 1) := dk_28 (dk_at dksX7_replace_2 0 rfl rfl)
theorem dX7_replace_49 : decode cX7_replace 49 = .ok (.ireturn, 1) := dk_172 (dk_at dksX7_replace_2 1 rfl rfl)
abbrev cX7_drift : ByteArray := prog_12_method_53_code
def yX7_drift : MethodName := ⟨RX7, "drift", "(I)I"⟩
def dkwX7_drift_6 : List UInt8 := [21, 5, 182, 0, 241, 132, 2, 1, 167, 255, 145, 42, 180, 0, 19, 16, 45, 46, 172]
abbrev dktX7_drift_6 : List UInt8 := dkwX7_drift_6 ++ []
def dkwX7_drift_5 : List UInt8 := [182, 0, 251, 54, 4, 42, 16, 9, 182, 0, 251, 54, 5, 21, 4, 21, 5, 159, 0, 11, 42, 21, 4]
abbrev dktX7_drift_5 : List UInt8 := dkwX7_drift_5 ++ dktX7_drift_6
def dkwX7_drift_4 : List UInt8 := [160, 0, 21, 42, 180, 0, 19, 16, 45, 4, 42, 180, 0, 130, 120, 4, 100, 79, 167, 0, 34, 42, 16, 9]
abbrev dktX7_drift_4 : List UInt8 := dkwX7_drift_4 ++ dktX7_drift_5
def dkwX7_drift_3 : List UInt8 := [182, 0, 251, 96, 54, 6, 42, 21, 4, 21, 5, 21, 6, 182, 0, 237, 87, 167, 0, 57, 29, 5]
abbrev dktX7_drift_3 : List UInt8 := dkwX7_drift_3 ++ dktX7_drift_4
def dkwX7_drift_2 : List UInt8 := [5, 162, 0, 41, 42, 8, 182, 0, 251, 54, 4, 42, 6, 182, 0, 251, 54, 5, 4, 42, 16, 40]
abbrev dktX7_drift_2 : List UInt8 := dkwX7_drift_2 ++ dktX7_drift_3
def dkwX7_drift_1 : List UInt8 := [154, 0, 6, 18, 233, 172, 42, 182, 0, 234, 3, 61, 28, 27, 162, 0, 112, 42, 7, 182, 0, 251, 62, 29]
abbrev dktX7_drift_1 : List UInt8 := dkwX7_drift_1 ++ dktX7_drift_2
def dkwX7_drift_0 : List UInt8 := [42, 3, 181, 0, 72, 27, 4, 16, 30, 184, 0, 75, 154, 0, 6, 18, 79, 172, 42, 180, 0, 133]
abbrev dktX7_drift_0 : List UInt8 := dkwX7_drift_0 ++ dktX7_drift_1
theorem dksX7_drift_0 : cX7_drift.data.toList.drop 0 = dktX7_drift_0 := by decide +kernel
theorem dksX7_drift_1 : cX7_drift.data.toList.drop 22 = dktX7_drift_1 := dk_seg dksX7_drift_0 22 rfl rfl
theorem dksX7_drift_2 : cX7_drift.data.toList.drop 46 = dktX7_drift_2 := dk_seg dksX7_drift_1 24 rfl rfl
theorem dksX7_drift_3 : cX7_drift.data.toList.drop 68 = dktX7_drift_3 := dk_seg dksX7_drift_2 22 rfl rfl
theorem dksX7_drift_4 : cX7_drift.data.toList.drop 90 = dktX7_drift_4 := dk_seg dksX7_drift_3 22 rfl rfl
theorem dksX7_drift_5 : cX7_drift.data.toList.drop 114 = dktX7_drift_5 := dk_seg dksX7_drift_4 24 rfl rfl
theorem dksX7_drift_6 : cX7_drift.data.toList.drop 137 = dktX7_drift_6 := dk_seg dksX7_drift_5 23 rfl rfl
theorem dX7_drift_0 : decode cX7_drift 0 = .ok (.aload_n 0, 1) := dk_42 (dk_at dksX7_drift_0 0 rfl rfl)
theorem dX7_drift_1 : decode cX7_drift 1 = .ok (.iconst 0, 1) := dk_3 (dk_at dksX7_drift_0 1 rfl rfl)
theorem dX7_drift_2 : decode cX7_drift 2 = .ok (.putfield 72, 3) := dk_181 0 72 (dk_at dksX7_drift_0 2 rfl rfl)
theorem dX7_drift_5 : decode cX7_drift 5 = .ok (.iload_n 1, 1) := dk_27 (dk_at dksX7_drift_0 5 rfl rfl)
theorem dX7_drift_6 : decode cX7_drift 6 = .ok (.iconst 1, 1) := dk_4 (dk_at dksX7_drift_0 6 rfl rfl)
theorem dX7_drift_7 : decode cX7_drift 7 = .ok (.bipush 30, 2) := dk_16 30 (dk_at dksX7_drift_0 7 rfl rfl)
theorem dX7_drift_9 : decode cX7_drift 9 = .ok (.invokestatic 75, 3) := dk_184 0 75 (dk_at dksX7_drift_0 9 rfl rfl)
theorem dX7_drift_12 : decode cX7_drift 12 = .ok (.ifCond .ne 6, 3) := dk_154 0 6 (dk_at dksX7_drift_0 12 rfl rfl)
theorem dX7_drift_15 : decode cX7_drift 15 = .ok (.ldc 79, 2) := dk_18 79 (dk_at dksX7_drift_0 15 rfl rfl)
theorem dX7_drift_17 : decode cX7_drift 17 = .ok (.ireturn, 1) := dk_172 (dk_at dksX7_drift_0 17 rfl rfl)
theorem dX7_drift_18 : decode cX7_drift 18 = .ok (.aload_n 0, 1) := dk_42 (dk_at dksX7_drift_0 18 rfl rfl)
theorem dX7_drift_19 : decode cX7_drift 19 = .ok (.getfield 133, 3) := dk_180 0 133 (dk_at dksX7_drift_0 19 rfl rfl)
theorem dX7_drift_22 : decode cX7_drift 22 = .ok (.ifCond .ne 6, 3) := dk_154 0 6 (dk_at dksX7_drift_1 0 rfl rfl)
theorem dX7_drift_25 : decode cX7_drift 25 = .ok (.ldc 233, 2) := dk_18 233 (dk_at dksX7_drift_1 3 rfl rfl)
theorem dX7_drift_27 : decode cX7_drift 27 = .ok (.ireturn, 1) := dk_172 (dk_at dksX7_drift_1 5 rfl rfl)
theorem dX7_drift_28 : decode cX7_drift 28 = .ok (.aload_n 0, 1) := dk_42 (dk_at dksX7_drift_1 6 rfl rfl)
theorem dX7_drift_29 : decode cX7_drift 29 = .ok (.invokevirtual 234, 3) := dk_182 0 234 (dk_at dksX7_drift_1 7 rfl rfl)
theorem dX7_drift_32 : decode cX7_drift 32 = .ok (.iconst 0, 1) := dk_3 (dk_at dksX7_drift_1 10 rfl rfl)
theorem dX7_drift_33 : decode cX7_drift 33 = .ok (.istore_n 2, 1) := dk_61 (dk_at dksX7_drift_1 11 rfl rfl)
theorem dX7_drift_34 : decode cX7_drift 34 = .ok (.iload_n 2, 1) := dk_28 (dk_at dksX7_drift_1 12 rfl rfl)
theorem dX7_drift_35 : decode cX7_drift 35 = .ok (.iload_n 1, 1) := dk_27 (dk_at dksX7_drift_1 13 rfl rfl)
theorem dX7_drift_36 : decode cX7_drift 36 = .ok (.if_icmp .ge 112, 3) := dk_162 0 112 (dk_at dksX7_drift_1 14 rfl rfl)
theorem dX7_drift_39 : decode cX7_drift 39 = .ok (.aload_n 0, 1) := dk_42 (dk_at dksX7_drift_1 17 rfl rfl)
theorem dX7_drift_40 : decode cX7_drift 40 = .ok (.iconst 4, 1) := dk_7 (dk_at dksX7_drift_1 18 rfl rfl)
theorem dX7_drift_41 : decode cX7_drift 41 = .ok (.invokevirtual 251, 3) := dk_182 0 251 (dk_at dksX7_drift_1 19 rfl rfl)
theorem dX7_drift_44 : decode cX7_drift 44 = .ok (.istore_n 3, 1) := dk_62 (dk_at dksX7_drift_1 22 rfl rfl)
theorem dX7_drift_45 : decode cX7_drift 45 = .ok (.iload_n 3, 1) := dk_29 (dk_at dksX7_drift_1 23 rfl rfl)
theorem dX7_drift_46 : decode cX7_drift 46 = .ok (.iconst 2, 1) := dk_5 (dk_at dksX7_drift_2 0 rfl rfl)
theorem dX7_drift_47 : decode cX7_drift 47 = .ok (.if_icmp .ge 41, 3) := dk_162 0 41 (dk_at dksX7_drift_2 1 rfl rfl)
theorem dX7_drift_50 : decode cX7_drift 50 = .ok (.aload_n 0, 1) := dk_42 (dk_at dksX7_drift_2 4 rfl rfl)
theorem dX7_drift_51 : decode cX7_drift 51 = .ok (.iconst 5, 1) := dk_8 (dk_at dksX7_drift_2 5 rfl rfl)
theorem dX7_drift_52 : decode cX7_drift 52 = .ok (.invokevirtual 251, 3) := dk_182 0 251 (dk_at dksX7_drift_2 6 rfl rfl)
theorem dX7_drift_55 : decode cX7_drift 55 = .ok (.istore 4, 2) := dk_54 4 (dk_at dksX7_drift_2 9 rfl rfl)
theorem dX7_drift_57 : decode cX7_drift 57 = .ok (.aload_n 0, 1) := dk_42 (dk_at dksX7_drift_2 11 rfl rfl)
theorem dX7_drift_58 : decode cX7_drift 58 = .ok (.iconst 3, 1) := dk_6 (dk_at dksX7_drift_2 12 rfl rfl)
theorem dX7_drift_59 : decode cX7_drift 59 = .ok (.invokevirtual 251, 3) := dk_182 0 251 (dk_at dksX7_drift_2 13 rfl rfl)
theorem dX7_drift_62 : decode cX7_drift 62 = .ok (.istore 5, 2) := dk_54 5 (dk_at dksX7_drift_2 16 rfl rfl)
theorem dX7_drift_64 : decode cX7_drift 64 = .ok (.iconst 1, 1) := dk_4 (dk_at dksX7_drift_2 18 rfl rfl)
theorem dX7_drift_65 : decode cX7_drift 65 = .ok (.aload_n 0, 1) := dk_42 (dk_at dksX7_drift_2 19 rfl rfl)
theorem dX7_drift_66 : decode cX7_drift 66 = .ok (.bipush 40, 2) := dk_16 40 (dk_at dksX7_drift_2 20 rfl rfl)
theorem dX7_drift_68 : decode cX7_drift 68 = .ok (.invokevirtual 251, 3) := dk_182 0 251 (dk_at dksX7_drift_3 0 rfl rfl)
theorem dX7_drift_71 : decode cX7_drift 71 = .ok (.iadd, 1) := dk_96 (dk_at dksX7_drift_3 3 rfl rfl)
theorem dX7_drift_72 : decode cX7_drift 72 = .ok (.istore 6, 2) := dk_54 6 (dk_at dksX7_drift_3 4 rfl rfl)
theorem dX7_drift_74 : decode cX7_drift 74 = .ok (.aload_n 0, 1) := dk_42 (dk_at dksX7_drift_3 6 rfl rfl)
theorem dX7_drift_75 : decode cX7_drift 75 = .ok (.iload 4, 2) := dk_21 4 (dk_at dksX7_drift_3 7 rfl rfl)
theorem dX7_drift_77 : decode cX7_drift 77 = .ok (.iload 5, 2) := dk_21 5 (dk_at dksX7_drift_3 9 rfl rfl)
theorem dX7_drift_79 : decode cX7_drift 79 = .ok (.iload 6, 2) := dk_21 6 (dk_at dksX7_drift_3 11 rfl rfl)
theorem dX7_drift_81 : decode cX7_drift 81 = .ok (.invokevirtual 237, 3) := dk_182 0 237 (dk_at dksX7_drift_3 13 rfl rfl)
theorem dX7_drift_84 : decode cX7_drift 84 = .ok (.pop, 1) := dk_87 (dk_at dksX7_drift_3 16 rfl rfl)
theorem dX7_drift_85 : decode cX7_drift 85 = .ok (.goto 57, 3) := dk_167 0 57 (dk_at dksX7_drift_3 17 rfl rfl)
theorem dX7_drift_88 : decode cX7_drift 88 = .ok (.iload_n 3, 1) := dk_29 (dk_at dksX7_drift_3 20 rfl rfl)
theorem dX7_drift_89 : decode cX7_drift 89 = .ok (.iconst 2, 1) := dk_5 (dk_at dksX7_drift_3 21 rfl rfl)
theorem dX7_drift_90 : decode cX7_drift 90 = .ok (.if_icmp .ne 21, 3) := dk_160 0 21 (dk_at dksX7_drift_4 0 rfl rfl)
theorem dX7_drift_93 : decode cX7_drift 93 = .ok (.aload_n 0, 1) := dk_42 (dk_at dksX7_drift_4 3 rfl rfl)
theorem dX7_drift_94 : decode cX7_drift 94 = .ok (.getfield 19, 3) := dk_180 0 19 (dk_at dksX7_drift_4 4 rfl rfl)
theorem dX7_drift_97 : decode cX7_drift 97 = .ok (.bipush 45, 2) := dk_16 45 (dk_at dksX7_drift_4 7 rfl rfl)
theorem dX7_drift_99 : decode cX7_drift 99 = .ok (.iconst 1, 1) := dk_4 (dk_at dksX7_drift_4 9 rfl rfl)
theorem dX7_drift_100 : decode cX7_drift 100 = .ok (.aload_n 0, 1) := dk_42 (dk_at dksX7_drift_4 10 rfl rfl)
theorem dX7_drift_101 : decode cX7_drift 101 = .ok (.getfield 130, 3) := dk_180 0 130 (dk_at dksX7_drift_4 11 rfl rfl)
theorem dX7_drift_104 : decode cX7_drift 104 = .ok (.ishl, 1) := dk_120 (dk_at dksX7_drift_4 14 rfl rfl)
theorem dX7_drift_105 : decode cX7_drift 105 = .ok (.iconst 1, 1) := dk_4 (dk_at dksX7_drift_4 15 rfl rfl)
theorem dX7_drift_106 : decode cX7_drift 106 = .ok (.isub, 1) := dk_100 (dk_at dksX7_drift_4 16 rfl rfl)
theorem dX7_drift_107 : decode cX7_drift 107 = .ok (.iastore, 1) := dk_79 (dk_at dksX7_drift_4 17 rfl rfl)
theorem dX7_drift_108 : decode cX7_drift 108 = .ok (.goto 34, 3) := dk_167 0 34 (dk_at dksX7_drift_4 18 rfl rfl)
theorem dX7_drift_111 : decode cX7_drift 111 = .ok (.aload_n 0, 1) := dk_42 (dk_at dksX7_drift_4 21 rfl rfl)
theorem dX7_drift_112 : decode cX7_drift 112 = .ok (.bipush 9, 2) := dk_16 9 (dk_at dksX7_drift_4 22 rfl rfl)
theorem dX7_drift_114 : decode cX7_drift 114 = .ok (.invokevirtual 251, 3) := dk_182 0 251 (dk_at dksX7_drift_5 0 rfl rfl)
theorem dX7_drift_117 : decode cX7_drift 117 = .ok (.istore 4, 2) := dk_54 4 (dk_at dksX7_drift_5 3 rfl rfl)
theorem dX7_drift_119 : decode cX7_drift 119 = .ok (.aload_n 0, 1) := dk_42 (dk_at dksX7_drift_5 5 rfl rfl)
theorem dX7_drift_120 : decode cX7_drift 120 = .ok (.bipush 9, 2) := dk_16 9 (dk_at dksX7_drift_5 6 rfl rfl)
theorem dX7_drift_122 : decode cX7_drift 122 = .ok (.invokevirtual 251, 3) := dk_182 0 251 (dk_at dksX7_drift_5 8 rfl rfl)
theorem dX7_drift_125 : decode cX7_drift 125 = .ok (.istore 5, 2) := dk_54 5 (dk_at dksX7_drift_5 11 rfl rfl)
theorem dX7_drift_127 : decode cX7_drift 127 = .ok (.iload 4, 2) := dk_21 4 (dk_at dksX7_drift_5 13 rfl rfl)
theorem dX7_drift_129 : decode cX7_drift 129 = .ok (.iload 5, 2) := dk_21 5 (dk_at dksX7_drift_5 15 rfl rfl)
theorem dX7_drift_131 : decode cX7_drift 131 = .ok (.if_icmp .eq 11, 3) := dk_159 0 11 (dk_at dksX7_drift_5 17 rfl rfl)
theorem dX7_drift_134 : decode cX7_drift 134 = .ok (.aload_n 0, 1) := dk_42 (dk_at dksX7_drift_5 20 rfl rfl)
theorem dX7_drift_135 : decode cX7_drift 135 = .ok (.iload 4, 2) := dk_21 4 (dk_at dksX7_drift_5 21 rfl rfl)
theorem dX7_drift_137 : decode cX7_drift 137 = .ok (.iload 5, 2) := dk_21 5 (dk_at dksX7_drift_6 0 rfl rfl)
theorem dX7_drift_139 : decode cX7_drift 139 = .ok (.invokevirtual 241, 3) := dk_182 0 241 (dk_at dksX7_drift_6 2 rfl rfl)
theorem dX7_drift_142 : decode cX7_drift 142 = .ok (.iinc 2 1, 3) := dk_132 2 1 (dk_at dksX7_drift_6 5 rfl rfl)
theorem dX7_drift_145 : decode cX7_drift 145 = .ok (.goto (-111), 3) := dk_167 255 145 (dk_at dksX7_drift_6 8 rfl rfl)
theorem dX7_drift_148 : decode cX7_drift 148 = .ok (.aload_n 0, 1) := dk_42 (dk_at dksX7_drift_6 11 rfl rfl)
theorem dX7_drift_149 : decode cX7_drift 149 = .ok (.getfield 19, 3) := dk_180 0 19 (dk_at dksX7_drift_6 12 rfl rfl)
theorem dX7_drift_152 : decode cX7_drift 152 = .ok (.bipush 45, 2) := dk_16 45 (dk_at dksX7_drift_6 15 rfl rfl)
theorem dX7_drift_154 : decode cX7_drift 154 = .ok (.iaload, 1) := dk_46 (dk_at dksX7_drift_6 17 rfl rfl)
theorem dX7_drift_155 : decode cX7_drift 155 = .ok (.ireturn, 1) := dk_172 (dk_at dksX7_drift_6 18 rfl rfl)
abbrev cX7_draw : ByteArray := prog_12_method_52_code
def yX7_draw : MethodName := ⟨RX7, "draw", "(I)I"⟩
def dkwX7_draw_1 : List UInt8 := [180, 0, 19, 16, 48, 32, 136, 79, 42, 180, 0, 19, 16, 48, 46, 18, 250, 108, 27, 112, 172]
abbrev dktX7_draw_1 : List UInt8 := dkwX7_draw_1 ++ []
def dkwX7_draw_0 : List UInt8 := [42, 180, 0, 19, 16, 48, 46, 133, 65, 32, 20, 0, 244, 105, 20, 0, 246, 97, 20, 0, 248, 113, 65, 42]
abbrev dktX7_draw_0 : List UInt8 := dkwX7_draw_0 ++ dktX7_draw_1
theorem dksX7_draw_0 : cX7_draw.data.toList.drop 0 = dktX7_draw_0 := by decide +kernel
theorem dksX7_draw_1 : cX7_draw.data.toList.drop 24 = dktX7_draw_1 := dk_seg dksX7_draw_0 24 rfl rfl
theorem dX7_draw_0 : decode cX7_draw 0 = .ok (.aload_n 0, 1) := dk_42 (dk_at dksX7_draw_0 0 rfl rfl)
theorem dX7_draw_1 : decode cX7_draw 1 = .ok (.getfield 19, 3) := dk_180 0 19 (dk_at dksX7_draw_0 1 rfl rfl)
theorem dX7_draw_4 : decode cX7_draw 4 = .ok (.bipush 48, 2) := dk_16 48 (dk_at dksX7_draw_0 4 rfl rfl)
theorem dX7_draw_6 : decode cX7_draw 6 = .ok (.iaload, 1) := dk_46 (dk_at dksX7_draw_0 6 rfl rfl)
theorem dX7_draw_7 : decode cX7_draw 7 = .ok (.i2l, 1) := dk_133 (dk_at dksX7_draw_0 7 rfl rfl)
theorem dX7_draw_8 : decode cX7_draw 8 = .ok (.lstore_n 2, 1) := dk_65 (dk_at dksX7_draw_0 8 rfl rfl)
theorem dX7_draw_9 : decode cX7_draw 9 = .ok (.lload_n 2, 1) := dk_32 (dk_at dksX7_draw_0 9 rfl rfl)
theorem dX7_draw_10 : decode cX7_draw 10 = .ok (.ldc2_w 244, 3) := dk_20 0 244 (dk_at dksX7_draw_0 10 rfl rfl)
theorem dX7_draw_13 : decode cX7_draw 13 = .ok (.lmul, 1) := dk_105 (dk_at dksX7_draw_0 13 rfl rfl)
theorem dX7_draw_14 : decode cX7_draw 14 = .ok (.ldc2_w 246, 3) := dk_20 0 246 (dk_at dksX7_draw_0 14 rfl rfl)
theorem dX7_draw_17 : decode cX7_draw 17 = .ok (.ladd, 1) := dk_97 (dk_at dksX7_draw_0 17 rfl rfl)
theorem dX7_draw_18 : decode cX7_draw 18 = .ok (.ldc2_w 248, 3) := dk_20 0 248 (dk_at dksX7_draw_0 18 rfl rfl)
theorem dX7_draw_21 : decode cX7_draw 21 = .ok (.lrem, 1) := dk_113 (dk_at dksX7_draw_0 21 rfl rfl)
theorem dX7_draw_22 : decode cX7_draw 22 = .ok (.lstore_n 2, 1) := dk_65 (dk_at dksX7_draw_0 22 rfl rfl)
theorem dX7_draw_23 : decode cX7_draw 23 = .ok (.aload_n 0, 1) := dk_42 (dk_at dksX7_draw_0 23 rfl rfl)
theorem dX7_draw_24 : decode cX7_draw 24 = .ok (.getfield 19, 3) := dk_180 0 19 (dk_at dksX7_draw_1 0 rfl rfl)
theorem dX7_draw_27 : decode cX7_draw 27 = .ok (.bipush 48, 2) := dk_16 48 (dk_at dksX7_draw_1 3 rfl rfl)
theorem dX7_draw_29 : decode cX7_draw 29 = .ok (.lload_n 2, 1) := dk_32 (dk_at dksX7_draw_1 5 rfl rfl)
theorem dX7_draw_30 : decode cX7_draw 30 = .ok (.l2i, 1) := dk_136 (dk_at dksX7_draw_1 6 rfl rfl)
theorem dX7_draw_31 : decode cX7_draw 31 = .ok (.iastore, 1) := dk_79 (dk_at dksX7_draw_1 7 rfl rfl)
theorem dX7_draw_32 : decode cX7_draw 32 = .ok (.aload_n 0, 1) := dk_42 (dk_at dksX7_draw_1 8 rfl rfl)
theorem dX7_draw_33 : decode cX7_draw 33 = .ok (.getfield 19, 3) := dk_180 0 19 (dk_at dksX7_draw_1 9 rfl rfl)
theorem dX7_draw_36 : decode cX7_draw 36 = .ok (.bipush 48, 2) := dk_16 48 (dk_at dksX7_draw_1 12 rfl rfl)
theorem dX7_draw_38 : decode cX7_draw 38 = .ok (.iaload, 1) := dk_46 (dk_at dksX7_draw_1 14 rfl rfl)
theorem dX7_draw_39 : decode cX7_draw 39 = .ok (.ldc 250, 2) := dk_18 250 (dk_at dksX7_draw_1 15 rfl rfl)
theorem dX7_draw_41 : decode cX7_draw 41 = .ok (.idiv, 1) := dk_108 (dk_at dksX7_draw_1 17 rfl rfl)
theorem dX7_draw_42 : decode cX7_draw 42 = .ok (.iload_n 1, 1) := dk_27 (dk_at dksX7_draw_1 18 rfl rfl)
theorem dX7_draw_43 : decode cX7_draw 43 = .ok (.irem, 1) := dk_112 (dk_at dksX7_draw_1 19 rfl rfl)
theorem dX7_draw_44 : decode cX7_draw 44 = .ok (.ireturn, 1) := dk_172 (dk_at dksX7_draw_1 20 rfl rfl)
abbrev cX7_undo : ByteArray := prog_12_method_54_code
def yX7_undo : MethodName := ⟨RX7, "undo", "()I"⟩
def dkwX7_undo_2 : List UInt8 := [180, 0, 143, 104, 27, 96, 46, 79, 132, 1, 1, 167, 255, 227, 42, 180, 0, 143, 172]
abbrev dktX7_undo_2 : List UInt8 := dkwX7_undo_2 ++ []
def dkwX7_undo_1 : List UInt8 := [181, 0, 143, 3, 60, 27, 16, 48, 162, 0, 29, 42, 180, 0, 19, 27, 42, 180, 0, 29, 16, 49, 42]
abbrev dktX7_undo_1 : List UInt8 := dkwX7_undo_1 ++ dktX7_undo_2
def dkwX7_undo_0 : List UInt8 := [42, 3, 181, 0, 72, 42, 180, 0, 143, 154, 0, 6, 18, 233, 172, 42, 89, 180, 0, 143, 4, 100]
abbrev dktX7_undo_0 : List UInt8 := dkwX7_undo_0 ++ dktX7_undo_1
theorem dksX7_undo_0 : cX7_undo.data.toList.drop 0 = dktX7_undo_0 := by decide +kernel
theorem dksX7_undo_1 : cX7_undo.data.toList.drop 22 = dktX7_undo_1 := dk_seg dksX7_undo_0 22 rfl rfl
theorem dksX7_undo_2 : cX7_undo.data.toList.drop 45 = dktX7_undo_2 := dk_seg dksX7_undo_1 23 rfl rfl
theorem dX7_undo_0 : decode cX7_undo 0 = .ok (.aload_n 0, 1) := dk_42 (dk_at dksX7_undo_0 0 rfl rfl)
theorem dX7_undo_1 : decode cX7_undo 1 = .ok (.iconst 0, 1) := dk_3 (dk_at dksX7_undo_0 1 rfl rfl)
theorem dX7_undo_2 : decode cX7_undo 2 = .ok (.putfield 72, 3) := dk_181 0 72 (dk_at dksX7_undo_0 2 rfl rfl)
theorem dX7_undo_5 : decode cX7_undo 5 = .ok (.aload_n 0, 1) := dk_42 (dk_at dksX7_undo_0 5 rfl rfl)
theorem dX7_undo_6 : decode cX7_undo 6 = .ok (.getfield 143, 3) := dk_180 0 143 (dk_at dksX7_undo_0 6 rfl rfl)
theorem dX7_undo_9 : decode cX7_undo 9 = .ok (.ifCond .ne 6, 3) := dk_154 0 6 (dk_at dksX7_undo_0 9 rfl rfl)
theorem dX7_undo_12 : decode cX7_undo 12 = .ok (.ldc 233, 2) := dk_18 233 (dk_at dksX7_undo_0 12 rfl rfl)
theorem dX7_undo_14 : decode cX7_undo 14 = .ok (.ireturn, 1) := dk_172 (dk_at dksX7_undo_0 14 rfl rfl)
theorem dX7_undo_15 : decode cX7_undo 15 = .ok (.aload_n 0, 1) := dk_42 (dk_at dksX7_undo_0 15 rfl rfl)
theorem dX7_undo_16 : decode cX7_undo 16 = .ok (.dup, 1) := dk_89 (dk_at dksX7_undo_0 16 rfl rfl)
theorem dX7_undo_17 : decode cX7_undo 17 = .ok (.getfield 143, 3) := dk_180 0 143 (dk_at dksX7_undo_0 17 rfl rfl)
theorem dX7_undo_20 : decode cX7_undo 20 = .ok (.iconst 1, 1) := dk_4 (dk_at dksX7_undo_0 20 rfl rfl)
theorem dX7_undo_21 : decode cX7_undo 21 = .ok (.isub, 1) := dk_100 (dk_at dksX7_undo_0 21 rfl rfl)
theorem dX7_undo_22 : decode cX7_undo 22 = .ok (.putfield 143, 3) := dk_181 0 143 (dk_at dksX7_undo_1 0 rfl rfl)
theorem dX7_undo_25 : decode cX7_undo 25 = .ok (.iconst 0, 1) := dk_3 (dk_at dksX7_undo_1 3 rfl rfl)
theorem dX7_undo_26 : decode cX7_undo 26 = .ok (.istore_n 1, 1) := dk_60 (dk_at dksX7_undo_1 4 rfl rfl)
theorem dX7_undo_27 : decode cX7_undo 27 = .ok (.iload_n 1, 1) := dk_27 (dk_at dksX7_undo_1 5 rfl rfl)
theorem dX7_undo_28 : decode cX7_undo 28 = .ok (.bipush 48, 2) := dk_16 48 (dk_at dksX7_undo_1 6 rfl rfl)
theorem dX7_undo_30 : decode cX7_undo 30 = .ok (.if_icmp .ge 29, 3) := dk_162 0 29 (dk_at dksX7_undo_1 8 rfl rfl)
theorem dX7_undo_33 : decode cX7_undo 33 = .ok (.aload_n 0, 1) := dk_42 (dk_at dksX7_undo_1 11 rfl rfl)
theorem dX7_undo_34 : decode cX7_undo 34 = .ok (.getfield 19, 3) := dk_180 0 19 (dk_at dksX7_undo_1 12 rfl rfl)
theorem dX7_undo_37 : decode cX7_undo 37 = .ok (.iload_n 1, 1) := dk_27 (dk_at dksX7_undo_1 15 rfl rfl)
theorem dX7_undo_38 : decode cX7_undo 38 = .ok (.aload_n 0, 1) := dk_42 (dk_at dksX7_undo_1 16 rfl rfl)
theorem dX7_undo_39 : decode cX7_undo 39 = .ok (.getfield 29, 3) := dk_180 0 29 (dk_at dksX7_undo_1 17 rfl rfl)
theorem dX7_undo_42 : decode cX7_undo 42 = .ok (.bipush 49, 2) := dk_16 49 (dk_at dksX7_undo_1 20 rfl rfl)
theorem dX7_undo_44 : decode cX7_undo 44 = .ok (.aload_n 0, 1) := dk_42 (dk_at dksX7_undo_1 22 rfl rfl)
theorem dX7_undo_45 : decode cX7_undo 45 = .ok (.getfield 143, 3) := dk_180 0 143 (dk_at dksX7_undo_2 0 rfl rfl)
theorem dX7_undo_48 : decode cX7_undo 48 = .ok (.imul, 1) := dk_104 (dk_at dksX7_undo_2 3 rfl rfl)
theorem dX7_undo_49 : decode cX7_undo 49 = .ok (.iload_n 1, 1) := dk_27 (dk_at dksX7_undo_2 4 rfl rfl)
theorem dX7_undo_50 : decode cX7_undo 50 = .ok (.iadd, 1) := dk_96 (dk_at dksX7_undo_2 5 rfl rfl)
theorem dX7_undo_51 : decode cX7_undo 51 = .ok (.iaload, 1) := dk_46 (dk_at dksX7_undo_2 6 rfl rfl)
theorem dX7_undo_52 : decode cX7_undo 52 = .ok (.iastore, 1) := dk_79 (dk_at dksX7_undo_2 7 rfl rfl)
theorem dX7_undo_53 : decode cX7_undo 53 = .ok (.iinc 1 1, 3) := dk_132 1 1 (dk_at dksX7_undo_2 8 rfl rfl)
theorem dX7_undo_56 : decode cX7_undo 56 = .ok (.goto (-29), 3) := dk_167 255 227 (dk_at dksX7_undo_2 11 rfl rfl)
theorem dX7_undo_59 : decode cX7_undo 59 = .ok (.aload_n 0, 1) := dk_42 (dk_at dksX7_undo_2 14 rfl rfl)
theorem dX7_undo_60 : decode cX7_undo 60 = .ok (.getfield 143, 3) := dk_180 0 143 (dk_at dksX7_undo_2 15 rfl rfl)
theorem dX7_undo_63 : decode cX7_undo 63 = .ok (.ireturn, 1) := dk_172 (dk_at dksX7_undo_2 18 rfl rfl)
abbrev cX7_wouldFall : ByteArray := prog_12_method_55_code
def yX7_wouldFall : MethodName := ⟨RX7, "wouldFall", "(IIII)I"⟩
def dkwX7_wouldFall_3 : List UInt8 := [21, 4, 4, 160, 0, 10, 42, 180, 0, 155, 167, 0, 7, 42, 180, 0, 178, 172]
abbrev dktX7_wouldFall_3 : List UInt8 := dkwX7_wouldFall_3 ++ []
def dkwX7_wouldFall_2 : List UInt8 := [180, 0, 19, 16, 45, 46, 27, 28, 29, 182, 0, 184, 54, 5, 21, 4, 154, 0, 8, 21, 5, 167, 0, 20]
abbrev dktX7_wouldFall_2 : List UInt8 := dkwX7_wouldFall_2 ++ dktX7_wouldFall_3
def dkwX7_wouldFall_1 : List UInt8 := [154, 0, 6, 18, 79, 172, 42, 180, 0, 133, 154, 0, 6, 18, 233, 172, 42, 3, 3, 182, 0, 188, 42, 42]
abbrev dktX7_wouldFall_1 : List UInt8 := dkwX7_wouldFall_1 ++ dktX7_wouldFall_2
def dkwX7_wouldFall_0 : List UInt8 := [42, 3, 181, 0, 72, 42, 27, 28, 29, 182, 0, 230, 153, 0, 13, 21, 4, 3, 5, 184, 0, 75]
abbrev dktX7_wouldFall_0 : List UInt8 := dkwX7_wouldFall_0 ++ dktX7_wouldFall_1
theorem dksX7_wouldFall_0 : cX7_wouldFall.data.toList.drop 0 = dktX7_wouldFall_0 := by decide +kernel
theorem dksX7_wouldFall_1 : cX7_wouldFall.data.toList.drop 22 = dktX7_wouldFall_1 := dk_seg dksX7_wouldFall_0 22 rfl rfl
theorem dksX7_wouldFall_2 : cX7_wouldFall.data.toList.drop 46 = dktX7_wouldFall_2 := dk_seg dksX7_wouldFall_1 24 rfl rfl
theorem dksX7_wouldFall_3 : cX7_wouldFall.data.toList.drop 70 = dktX7_wouldFall_3 := dk_seg dksX7_wouldFall_2 24 rfl rfl
theorem dX7_wouldFall_0 : decode cX7_wouldFall 0 = .ok (.aload_n 0, 1) := dk_42 (dk_at dksX7_wouldFall_0 0 rfl rfl)
theorem dX7_wouldFall_1 : decode cX7_wouldFall 1 = .ok (.iconst 0, 1) := dk_3 (dk_at dksX7_wouldFall_0 1 rfl rfl)
theorem dX7_wouldFall_2 : decode cX7_wouldFall 2 = .ok (.putfield 72, 3) := dk_181 0 72 (dk_at dksX7_wouldFall_0 2 rfl rfl)
theorem dX7_wouldFall_5 : decode cX7_wouldFall 5 = .ok (.aload_n 0, 1) := dk_42 (dk_at dksX7_wouldFall_0 5 rfl rfl)
theorem dX7_wouldFall_6 : decode cX7_wouldFall 6 = .ok (.iload_n 1, 1) := dk_27 (dk_at dksX7_wouldFall_0 6 rfl rfl)
theorem dX7_wouldFall_7 : decode cX7_wouldFall 7 = .ok (.iload_n 2, 1) := dk_28 (dk_at dksX7_wouldFall_0 7 rfl rfl)
theorem dX7_wouldFall_8 : decode cX7_wouldFall 8 = .ok (.iload_n 3, 1) := dk_29 (dk_at dksX7_wouldFall_0 8 rfl rfl)
theorem dX7_wouldFall_9 : decode cX7_wouldFall 9 = .ok (.invokevirtual 230, 3) := dk_182 0 230 (dk_at dksX7_wouldFall_0 9 rfl rfl)
theorem dX7_wouldFall_12 : decode cX7_wouldFall 12 = .ok (.ifCond .eq 13, 3) := dk_153 0 13 (dk_at dksX7_wouldFall_0 12 rfl rfl)
theorem dX7_wouldFall_15 : decode cX7_wouldFall 15 = .ok (.iload 4, 2) := dk_21 4 (dk_at dksX7_wouldFall_0 15 rfl rfl)
theorem dX7_wouldFall_17 : decode cX7_wouldFall 17 = .ok (.iconst 0, 1) := dk_3 (dk_at dksX7_wouldFall_0 17 rfl rfl)
theorem dX7_wouldFall_18 : decode cX7_wouldFall 18 = .ok (.iconst 2, 1) := dk_5 (dk_at dksX7_wouldFall_0 18 rfl rfl)
theorem dX7_wouldFall_19 : decode cX7_wouldFall 19 = .ok (.invokestatic 75, 3) := dk_184 0 75 (dk_at dksX7_wouldFall_0 19 rfl rfl)
theorem dX7_wouldFall_22 : decode cX7_wouldFall 22 = .ok (.ifCond .ne 6, 3) := dk_154 0 6 (dk_at dksX7_wouldFall_1 0 rfl rfl)
theorem dX7_wouldFall_25 : decode cX7_wouldFall 25 = .ok (.ldc 79, 2) := dk_18 79 (dk_at dksX7_wouldFall_1 3 rfl rfl)
theorem dX7_wouldFall_27 : decode cX7_wouldFall 27 = .ok (.ireturn, 1) := dk_172 (dk_at dksX7_wouldFall_1 5 rfl rfl)
theorem dX7_wouldFall_28 : decode cX7_wouldFall 28 = .ok (.aload_n 0, 1) := dk_42 (dk_at dksX7_wouldFall_1 6 rfl rfl)
theorem dX7_wouldFall_29 : decode cX7_wouldFall 29 = .ok (.getfield 133, 3) := dk_180 0 133 (dk_at dksX7_wouldFall_1 7 rfl rfl)
theorem dX7_wouldFall_32 : decode cX7_wouldFall 32 = .ok (.ifCond .ne 6, 3) := dk_154 0 6 (dk_at dksX7_wouldFall_1 10 rfl rfl)
theorem dX7_wouldFall_35 : decode cX7_wouldFall 35 = .ok (.ldc 233, 2) := dk_18 233 (dk_at dksX7_wouldFall_1 13 rfl rfl)
theorem dX7_wouldFall_37 : decode cX7_wouldFall 37 = .ok (.ireturn, 1) := dk_172 (dk_at dksX7_wouldFall_1 15 rfl rfl)
theorem dX7_wouldFall_38 : decode cX7_wouldFall 38 = .ok (.aload_n 0, 1) := dk_42 (dk_at dksX7_wouldFall_1 16 rfl rfl)
theorem dX7_wouldFall_39 : decode cX7_wouldFall 39 = .ok (.iconst 0, 1) := dk_3 (dk_at dksX7_wouldFall_1 17 rfl rfl)
theorem dX7_wouldFall_40 : decode cX7_wouldFall 40 = .ok (.iconst 0, 1) := dk_3 (dk_at dksX7_wouldFall_1 18 rfl rfl)
theorem dX7_wouldFall_41 : decode cX7_wouldFall 41 = .ok (.invokevirtual 188, 3) := dk_182 0 188 (dk_at dksX7_wouldFall_1 19 rfl rfl)
theorem dX7_wouldFall_44 : decode cX7_wouldFall 44 = .ok (.aload_n 0, 1) := dk_42 (dk_at dksX7_wouldFall_1 22 rfl rfl)
theorem dX7_wouldFall_45 : decode cX7_wouldFall 45 = .ok (.aload_n 0, 1) := dk_42 (dk_at dksX7_wouldFall_1 23 rfl rfl)
theorem dX7_wouldFall_46 : decode cX7_wouldFall 46 = .ok (.getfield 19, 3) := dk_180 0 19 (dk_at dksX7_wouldFall_2 0 rfl rfl)
theorem dX7_wouldFall_49 : decode cX7_wouldFall 49 = .ok (.bipush 45, 2) := dk_16 45 (dk_at dksX7_wouldFall_2 3 rfl rfl)
theorem dX7_wouldFall_51 : decode cX7_wouldFall 51 = .ok (.iaload, 1) := dk_46 (dk_at dksX7_wouldFall_2 5 rfl rfl)
theorem dX7_wouldFall_52 : decode cX7_wouldFall 52 = .ok (.iload_n 1, 1) := dk_27 (dk_at dksX7_wouldFall_2 6 rfl rfl)
theorem dX7_wouldFall_53 : decode cX7_wouldFall 53 = .ok (.iload_n 2, 1) := dk_28 (dk_at dksX7_wouldFall_2 7 rfl rfl)
theorem dX7_wouldFall_54 : decode cX7_wouldFall 54 = .ok (.iload_n 3, 1) := dk_29 (dk_at dksX7_wouldFall_2 8 rfl rfl)
theorem dX7_wouldFall_55 : decode cX7_wouldFall 55 = .ok (.invokevirtual 184, 3) := dk_182 0 184 (dk_at dksX7_wouldFall_2 9 rfl rfl)
theorem dX7_wouldFall_58 : decode cX7_wouldFall 58 = .ok (.istore 5, 2) := dk_54 5 (dk_at dksX7_wouldFall_2 12 rfl rfl)
theorem dX7_wouldFall_60 : decode cX7_wouldFall 60 = .ok (.iload 4, 2) := dk_21 4 (dk_at dksX7_wouldFall_2 14 rfl rfl)
theorem dX7_wouldFall_62 : decode cX7_wouldFall 62 = .ok (.ifCond .ne 8, 3) := dk_154 0 8 (dk_at dksX7_wouldFall_2 16 rfl rfl)
theorem dX7_wouldFall_65 : decode cX7_wouldFall 65 = .ok (.iload 5, 2) := dk_21 5 (dk_at dksX7_wouldFall_2 19 rfl rfl)
theorem dX7_wouldFall_67 : decode cX7_wouldFall 67 = .ok (.goto 20, 3) := dk_167 0 20 (dk_at dksX7_wouldFall_2 21 rfl rfl)
theorem dX7_wouldFall_70 : decode cX7_wouldFall 70 = .ok (.iload 4, 2) := dk_21 4 (dk_at dksX7_wouldFall_3 0 rfl rfl)
theorem dX7_wouldFall_72 : decode cX7_wouldFall 72 = .ok (.iconst 1, 1) := dk_4 (dk_at dksX7_wouldFall_3 2 rfl rfl)
theorem dX7_wouldFall_73 : decode cX7_wouldFall 73 = .ok (.if_icmp .ne 10, 3) := dk_160 0 10 (dk_at dksX7_wouldFall_3 3 rfl rfl)
theorem dX7_wouldFall_76 : decode cX7_wouldFall 76 = .ok (.aload_n 0, 1) := dk_42 (dk_at dksX7_wouldFall_3 6 rfl rfl)
theorem dX7_wouldFall_77 : decode cX7_wouldFall 77 = .ok (.getfield 155, 3) := dk_180 0 155 (dk_at dksX7_wouldFall_3 7 rfl rfl)
theorem dX7_wouldFall_80 : decode cX7_wouldFall 80 = .ok (.goto 7, 3) := dk_167 0 7 (dk_at dksX7_wouldFall_3 10 rfl rfl)
theorem dX7_wouldFall_83 : decode cX7_wouldFall 83 = .ok (.aload_n 0, 1) := dk_42 (dk_at dksX7_wouldFall_3 13 rfl rfl)
theorem dX7_wouldFall_84 : decode cX7_wouldFall 84 = .ok (.getfield 178, 3) := dk_180 0 178 (dk_at dksX7_wouldFall_3 14 rfl rfl)
theorem dX7_wouldFall_87 : decode cX7_wouldFall 87 = .ok (.ireturn, 1) := dk_172 (dk_at dksX7_wouldFall_3 17 rfl rfl)
abbrev cX7_balls : ByteArray := prog_12_method_57_code
def yX7_balls : MethodName := ⟨RX7, "balls", "(II)I"⟩
def dkwX7_balls_2 : List UInt8 := [172]
abbrev dktX7_balls_2 : List UInt8 := dkwX7_balls_2 ++ []
def dkwX7_balls_1 : List UInt8 := [154, 0, 6, 18, 79, 172, 42, 180, 0, 133, 153, 0, 12, 42, 27, 28, 182, 0, 200, 167, 0, 5, 18, 233]
abbrev dktX7_balls_1 : List UInt8 := dkwX7_balls_1 ++ dktX7_balls_2
def dkwX7_balls_0 : List UInt8 := [42, 3, 181, 0, 72, 42, 27, 182, 0, 254, 154, 0, 6, 18, 220, 172, 28, 3, 4, 184, 0, 75]
abbrev dktX7_balls_0 : List UInt8 := dkwX7_balls_0 ++ dktX7_balls_1
theorem dksX7_balls_0 : cX7_balls.data.toList.drop 0 = dktX7_balls_0 := by decide +kernel
theorem dksX7_balls_1 : cX7_balls.data.toList.drop 22 = dktX7_balls_1 := dk_seg dksX7_balls_0 22 rfl rfl
theorem dksX7_balls_2 : cX7_balls.data.toList.drop 46 = dktX7_balls_2 := dk_seg dksX7_balls_1 24 rfl rfl
theorem dX7_balls_0 : decode cX7_balls 0 = .ok (.aload_n 0, 1) := dk_42 (dk_at dksX7_balls_0 0 rfl rfl)
theorem dX7_balls_1 : decode cX7_balls 1 = .ok (.iconst 0, 1) := dk_3 (dk_at dksX7_balls_0 1 rfl rfl)
theorem dX7_balls_2 : decode cX7_balls 2 = .ok (.putfield 72, 3) := dk_181 0 72 (dk_at dksX7_balls_0 2 rfl rfl)
theorem dX7_balls_5 : decode cX7_balls 5 = .ok (.aload_n 0, 1) := dk_42 (dk_at dksX7_balls_0 5 rfl rfl)
theorem dX7_balls_6 : decode cX7_balls 6 = .ok (.iload_n 1, 1) := dk_27 (dk_at dksX7_balls_0 6 rfl rfl)
theorem dX7_balls_7 : decode cX7_balls 7 = .ok (.invokevirtual 254, 3) := dk_182 0 254 (dk_at dksX7_balls_0 7 rfl rfl)
theorem dX7_balls_10 : decode cX7_balls 10 = .ok (.ifCond .ne 6, 3) := dk_154 0 6 (dk_at dksX7_balls_0 10 rfl rfl)
theorem dX7_balls_13 : decode cX7_balls 13 = .ok (.ldc 220, 2) := dk_18 220 (dk_at dksX7_balls_0 13 rfl rfl)
theorem dX7_balls_15 : decode cX7_balls 15 = .ok (.ireturn, 1) := dk_172 (dk_at dksX7_balls_0 15 rfl rfl)
theorem dX7_balls_16 : decode cX7_balls 16 = .ok (.iload_n 2, 1) := dk_28 (dk_at dksX7_balls_0 16 rfl rfl)
theorem dX7_balls_17 : decode cX7_balls 17 = .ok (.iconst 0, 1) := dk_3 (dk_at dksX7_balls_0 17 rfl rfl)
theorem dX7_balls_18 : decode cX7_balls 18 = .ok (.iconst 1, 1) := dk_4 (dk_at dksX7_balls_0 18 rfl rfl)
theorem dX7_balls_19 : decode cX7_balls 19 = .ok (.invokestatic 75, 3) := dk_184 0 75 (dk_at dksX7_balls_0 19 rfl rfl)
theorem dX7_balls_22 : decode cX7_balls 22 = .ok (.ifCond .ne 6, 3) := dk_154 0 6 (dk_at dksX7_balls_1 0 rfl rfl)
theorem dX7_balls_25 : decode cX7_balls 25 = .ok (.ldc 79, 2) := dk_18 79 (dk_at dksX7_balls_1 3 rfl rfl)
theorem dX7_balls_27 : decode cX7_balls 27 = .ok (.ireturn, 1) := dk_172 (dk_at dksX7_balls_1 5 rfl rfl)
theorem dX7_balls_28 : decode cX7_balls 28 = .ok (.aload_n 0, 1) := dk_42 (dk_at dksX7_balls_1 6 rfl rfl)
theorem dX7_balls_29 : decode cX7_balls 29 = .ok (.getfield 133, 3) := dk_180 0 133 (dk_at dksX7_balls_1 7 rfl rfl)
theorem dX7_balls_32 : decode cX7_balls 32 = .ok (.ifCond .eq 12, 3) := dk_153 0 12 (dk_at dksX7_balls_1 10 rfl rfl)
theorem dX7_balls_35 : decode cX7_balls 35 = .ok (.aload_n 0, 1) := dk_42 (dk_at dksX7_balls_1 13 rfl rfl)
theorem dX7_balls_36 : decode cX7_balls 36 = .ok (.iload_n 1, 1) := dk_27 (dk_at dksX7_balls_1 14 rfl rfl)
theorem dX7_balls_37 : decode cX7_balls 37 = .ok (.iload_n 2, 1) := dk_28 (dk_at dksX7_balls_1 15 rfl rfl)
theorem dX7_balls_38 : decode cX7_balls 38 = .ok (.invokevirtual 200, 3) := dk_182 0 200 (dk_at dksX7_balls_1 16 rfl rfl)
theorem dX7_balls_41 : decode cX7_balls 41 = .ok (.goto 5, 3) := dk_167 0 5 (dk_at dksX7_balls_1 19 rfl rfl)
theorem dX7_balls_44 : decode cX7_balls 44 = .ok (.ldc 233, 2) := dk_18 233 (dk_at dksX7_balls_1 22 rfl rfl)
theorem dX7_balls_46 : decode cX7_balls 46 = .ok (.ireturn, 1) := dk_172 (dk_at dksX7_balls_2 0 rfl rfl)
abbrev cX7_isSet : ByteArray := prog_12_method_19_code
def yX7_isSet : MethodName := ⟨RX7, "isSet", "(I)Z"⟩
def dkwX7_isSet_0 : List UInt8 := [27, 3, 4, 42, 180, 0, 130, 120, 4, 100, 184, 0, 75, 172]
abbrev dktX7_isSet_0 : List UInt8 := dkwX7_isSet_0 ++ []
theorem dksX7_isSet_0 : cX7_isSet.data.toList.drop 0 = dktX7_isSet_0 := by decide +kernel
theorem dX7_isSet_0 : decode cX7_isSet 0 = .ok (.iload_n 1, 1) := dk_27 (dk_at dksX7_isSet_0 0 rfl rfl)
theorem dX7_isSet_1 : decode cX7_isSet 1 = .ok (.iconst 0, 1) := dk_3 (dk_at dksX7_isSet_0 1 rfl rfl)
theorem dX7_isSet_2 : decode cX7_isSet 2 = .ok (.iconst 1, 1) := dk_4 (dk_at dksX7_isSet_0 2 rfl rfl)
theorem dX7_isSet_3 : decode cX7_isSet 3 = .ok (.aload_n 0, 1) := dk_42 (dk_at dksX7_isSet_0 3 rfl rfl)
theorem dX7_isSet_4 : decode cX7_isSet 4 = .ok (.getfield 130, 3) := dk_180 0 130 (dk_at dksX7_isSet_0 4 rfl rfl)
theorem dX7_isSet_7 : decode cX7_isSet 7 = .ok (.ishl, 1) := dk_120 (dk_at dksX7_isSet_0 7 rfl rfl)
theorem dX7_isSet_8 : decode cX7_isSet 8 = .ok (.iconst 1, 1) := dk_4 (dk_at dksX7_isSet_0 8 rfl rfl)
theorem dX7_isSet_9 : decode cX7_isSet 9 = .ok (.isub, 1) := dk_100 (dk_at dksX7_isSet_0 9 rfl rfl)
theorem dX7_isSet_10 : decode cX7_isSet 10 = .ok (.invokestatic 75, 3) := dk_184 0 75 (dk_at dksX7_isSet_0 10 rfl rfl)
theorem dX7_isSet_13 : decode cX7_isSet 13 = .ok (.ireturn, 1) := dk_172 (dk_at dksX7_isSet_0 13 rfl rfl)
abbrev cX7_spare : ByteArray := prog_12_method_58_code
def yX7_spare : MethodName := ⟨RX7, "spare", "(II)I"⟩
def dkwX7_spare_6 : List UInt8 := [132, 5, 1, 167, 255, 162, 29, 172]
abbrev dktX7_spare_6 : List UInt8 := dkwX7_spare_6 ++ []
def dkwX7_spare_5 : List UInt8 := [184, 0, 197, 167, 0, 4, 29, 62, 21, 8, 153, 0, 8, 21, 7, 167, 0, 5, 21, 4, 54, 4]
abbrev dktX7_spare_5 : List UInt8 := dkwX7_spare_5 ++ dktX7_spare_6
def dkwX7_spare_4 : List UInt8 := [154, 0, 14, 21, 7, 21, 4, 162, 0, 7, 4, 167, 0, 4, 3, 54, 8, 21, 8, 153, 0, 11, 21, 5]
abbrev dktX7_spare_4 : List UInt8 := dkwX7_spare_4 ++ dktX7_spare_5
def dkwX7_spare_3 : List UInt8 := [54, 6, 4, 21, 5, 16, 40, 112, 96, 54, 7, 27, 21, 6, 2, 130, 126, 154, 0, 21, 28, 21, 6, 126]
abbrev dktX7_spare_3 : List UInt8 := dkwX7_spare_3 ++ dktX7_spare_4
def dkwX7_spare_2 : List UInt8 := [54, 5, 21, 5, 17, 2, 88, 162, 0, 92, 42, 42, 180, 0, 19, 16, 45, 46, 21, 5, 182, 0, 191]
abbrev dktX7_spare_2 : List UInt8 := dkwX7_spare_2 ++ dktX7_spare_3
def dkwX7_spare_1 : List UInt8 := [42, 180, 0, 133, 154, 0, 6, 18, 233, 172, 42, 3, 3, 182, 0, 188, 2, 62, 16, 41, 54, 4, 3]
abbrev dktX7_spare_1 : List UInt8 := dkwX7_spare_1 ++ dktX7_spare_2
def dkwX7_spare_0 : List UInt8 := [42, 3, 181, 0, 72, 42, 27, 182, 0, 254, 153, 0, 11, 42, 28, 182, 0, 254, 154, 0, 6, 18, 220, 172]
abbrev dktX7_spare_0 : List UInt8 := dkwX7_spare_0 ++ dktX7_spare_1
theorem dksX7_spare_0 : cX7_spare.data.toList.drop 0 = dktX7_spare_0 := by decide +kernel
theorem dksX7_spare_1 : cX7_spare.data.toList.drop 24 = dktX7_spare_1 := dk_seg dksX7_spare_0 24 rfl rfl
theorem dksX7_spare_2 : cX7_spare.data.toList.drop 47 = dktX7_spare_2 := dk_seg dksX7_spare_1 23 rfl rfl
theorem dksX7_spare_3 : cX7_spare.data.toList.drop 70 = dktX7_spare_3 := dk_seg dksX7_spare_2 23 rfl rfl
theorem dksX7_spare_4 : cX7_spare.data.toList.drop 94 = dktX7_spare_4 := dk_seg dksX7_spare_3 24 rfl rfl
theorem dksX7_spare_5 : cX7_spare.data.toList.drop 118 = dktX7_spare_5 := dk_seg dksX7_spare_4 24 rfl rfl
theorem dksX7_spare_6 : cX7_spare.data.toList.drop 140 = dktX7_spare_6 := dk_seg dksX7_spare_5 22 rfl rfl
theorem dX7_spare_0 : decode cX7_spare 0 = .ok (.aload_n 0, 1) := dk_42 (dk_at dksX7_spare_0 0 rfl rfl)
theorem dX7_spare_1 : decode cX7_spare 1 = .ok (.iconst 0, 1) := dk_3 (dk_at dksX7_spare_0 1 rfl rfl)
theorem dX7_spare_2 : decode cX7_spare 2 = .ok (.putfield 72, 3) := dk_181 0 72 (dk_at dksX7_spare_0 2 rfl rfl)
theorem dX7_spare_5 : decode cX7_spare 5 = .ok (.aload_n 0, 1) := dk_42 (dk_at dksX7_spare_0 5 rfl rfl)
theorem dX7_spare_6 : decode cX7_spare 6 = .ok (.iload_n 1, 1) := dk_27 (dk_at dksX7_spare_0 6 rfl rfl)
theorem dX7_spare_7 : decode cX7_spare 7 = .ok (.invokevirtual 254, 3) := dk_182 0 254 (dk_at dksX7_spare_0 7 rfl rfl)
theorem dX7_spare_10 : decode cX7_spare 10 = .ok (.ifCond .eq 11, 3) := dk_153 0 11 (dk_at dksX7_spare_0 10 rfl rfl)
theorem dX7_spare_13 : decode cX7_spare 13 = .ok (.aload_n 0, 1) := dk_42 (dk_at dksX7_spare_0 13 rfl rfl)
theorem dX7_spare_14 : decode cX7_spare 14 = .ok (.iload_n 2, 1) := dk_28 (dk_at dksX7_spare_0 14 rfl rfl)
theorem dX7_spare_15 : decode cX7_spare 15 = .ok (.invokevirtual 254, 3) := dk_182 0 254 (dk_at dksX7_spare_0 15 rfl rfl)
theorem dX7_spare_18 : decode cX7_spare 18 = .ok (.ifCond .ne 6, 3) := dk_154 0 6 (dk_at dksX7_spare_0 18 rfl rfl)
theorem dX7_spare_21 : decode cX7_spare 21 = .ok (.ldc 220, 2) := dk_18 220 (dk_at dksX7_spare_0 21 rfl rfl)
theorem dX7_spare_23 : decode cX7_spare 23 = .ok (.ireturn, 1) := dk_172 (dk_at dksX7_spare_0 23 rfl rfl)
theorem dX7_spare_24 : decode cX7_spare 24 = .ok (.aload_n 0, 1) := dk_42 (dk_at dksX7_spare_1 0 rfl rfl)
theorem dX7_spare_25 : decode cX7_spare 25 = .ok (.getfield 133, 3) := dk_180 0 133 (dk_at dksX7_spare_1 1 rfl rfl)
theorem dX7_spare_28 : decode cX7_spare 28 = .ok (.ifCond .ne 6, 3) := dk_154 0 6 (dk_at dksX7_spare_1 4 rfl rfl)
theorem dX7_spare_31 : decode cX7_spare 31 = .ok (.ldc 233, 2) := dk_18 233 (dk_at dksX7_spare_1 7 rfl rfl)
theorem dX7_spare_33 : decode cX7_spare 33 = .ok (.ireturn, 1) := dk_172 (dk_at dksX7_spare_1 9 rfl rfl)
theorem dX7_spare_34 : decode cX7_spare 34 = .ok (.aload_n 0, 1) := dk_42 (dk_at dksX7_spare_1 10 rfl rfl)
theorem dX7_spare_35 : decode cX7_spare 35 = .ok (.iconst 0, 1) := dk_3 (dk_at dksX7_spare_1 11 rfl rfl)
theorem dX7_spare_36 : decode cX7_spare 36 = .ok (.iconst 0, 1) := dk_3 (dk_at dksX7_spare_1 12 rfl rfl)
theorem dX7_spare_37 : decode cX7_spare 37 = .ok (.invokevirtual 188, 3) := dk_182 0 188 (dk_at dksX7_spare_1 13 rfl rfl)
theorem dX7_spare_40 : decode cX7_spare 40 = .ok (.iconst (-1), 1) := dk_2 (dk_at dksX7_spare_1 16 rfl rfl)
theorem dX7_spare_41 : decode cX7_spare 41 = .ok (.istore_n 3, 1) := dk_62 (dk_at dksX7_spare_1 17 rfl rfl)
theorem dX7_spare_42 : decode cX7_spare 42 = .ok (.bipush 41, 2) := dk_16 41 (dk_at dksX7_spare_1 18 rfl rfl)
theorem dX7_spare_44 : decode cX7_spare 44 = .ok (.istore 4, 2) := dk_54 4 (dk_at dksX7_spare_1 20 rfl rfl)
theorem dX7_spare_46 : decode cX7_spare 46 = .ok (.iconst 0, 1) := dk_3 (dk_at dksX7_spare_1 22 rfl rfl)
theorem dX7_spare_47 : decode cX7_spare 47 = .ok (.istore 5, 2) := dk_54 5 (dk_at dksX7_spare_2 0 rfl rfl)
theorem dX7_spare_49 : decode cX7_spare 49 = .ok (.iload 5, 2) := dk_21 5 (dk_at dksX7_spare_2 2 rfl rfl)
theorem dX7_spare_51 : decode cX7_spare 51 = .ok (.sipush 600, 3) := dk_17 2 88 (dk_at dksX7_spare_2 4 rfl rfl)
theorem dX7_spare_54 : decode cX7_spare 54 = .ok (.if_icmp .ge 92, 3) := dk_162 0 92 (dk_at dksX7_spare_2 7 rfl rfl)
theorem dX7_spare_57 : decode cX7_spare 57 = .ok (.aload_n 0, 1) := dk_42 (dk_at dksX7_spare_2 10 rfl rfl)
theorem dX7_spare_58 : decode cX7_spare 58 = .ok (.aload_n 0, 1) := dk_42 (dk_at dksX7_spare_2 11 rfl rfl)
theorem dX7_spare_59 : decode cX7_spare 59 = .ok (.getfield 19, 3) := dk_180 0 19 (dk_at dksX7_spare_2 12 rfl rfl)
theorem dX7_spare_62 : decode cX7_spare 62 = .ok (.bipush 45, 2) := dk_16 45 (dk_at dksX7_spare_2 15 rfl rfl)
theorem dX7_spare_64 : decode cX7_spare 64 = .ok (.iaload, 1) := dk_46 (dk_at dksX7_spare_2 17 rfl rfl)
theorem dX7_spare_65 : decode cX7_spare 65 = .ok (.iload 5, 2) := dk_21 5 (dk_at dksX7_spare_2 18 rfl rfl)
theorem dX7_spare_67 : decode cX7_spare 67 = .ok (.invokevirtual 191, 3) := dk_182 0 191 (dk_at dksX7_spare_2 20 rfl rfl)
theorem dX7_spare_70 : decode cX7_spare 70 = .ok (.istore 6, 2) := dk_54 6 (dk_at dksX7_spare_3 0 rfl rfl)
theorem dX7_spare_72 : decode cX7_spare 72 = .ok (.iconst 1, 1) := dk_4 (dk_at dksX7_spare_3 2 rfl rfl)
theorem dX7_spare_73 : decode cX7_spare 73 = .ok (.iload 5, 2) := dk_21 5 (dk_at dksX7_spare_3 3 rfl rfl)
theorem dX7_spare_75 : decode cX7_spare 75 = .ok (.bipush 40, 2) := dk_16 40 (dk_at dksX7_spare_3 5 rfl rfl)
theorem dX7_spare_77 : decode cX7_spare 77 = .ok (.irem, 1) := dk_112 (dk_at dksX7_spare_3 7 rfl rfl)
theorem dX7_spare_78 : decode cX7_spare 78 = .ok (.iadd, 1) := dk_96 (dk_at dksX7_spare_3 8 rfl rfl)
theorem dX7_spare_79 : decode cX7_spare 79 = .ok (.istore 7, 2) := dk_54 7 (dk_at dksX7_spare_3 9 rfl rfl)
theorem dX7_spare_81 : decode cX7_spare 81 = .ok (.iload_n 1, 1) := dk_27 (dk_at dksX7_spare_3 11 rfl rfl)
theorem dX7_spare_82 : decode cX7_spare 82 = .ok (.iload 6, 2) := dk_21 6 (dk_at dksX7_spare_3 12 rfl rfl)
theorem dX7_spare_84 : decode cX7_spare 84 = .ok (.iconst (-1), 1) := dk_2 (dk_at dksX7_spare_3 14 rfl rfl)
theorem dX7_spare_85 : decode cX7_spare 85 = .ok (.ixor, 1) := dk_130 (dk_at dksX7_spare_3 15 rfl rfl)
theorem dX7_spare_86 : decode cX7_spare 86 = .ok (.iand, 1) := dk_126 (dk_at dksX7_spare_3 16 rfl rfl)
theorem dX7_spare_87 : decode cX7_spare 87 = .ok (.ifCond .ne 21, 3) := dk_154 0 21 (dk_at dksX7_spare_3 17 rfl rfl)
theorem dX7_spare_90 : decode cX7_spare 90 = .ok (.iload_n 2, 1) := dk_28 (dk_at dksX7_spare_3 20 rfl rfl)
theorem dX7_spare_91 : decode cX7_spare 91 = .ok (.iload 6, 2) := dk_21 6 (dk_at dksX7_spare_3 21 rfl rfl)
theorem dX7_spare_93 : decode cX7_spare 93 = .ok (.iand, 1) := dk_126 (dk_at dksX7_spare_3 23 rfl rfl)
theorem dX7_spare_94 : decode cX7_spare 94 = .ok (.ifCond .ne 14, 3) := dk_154 0 14 (dk_at dksX7_spare_4 0 rfl rfl)
theorem dX7_spare_97 : decode cX7_spare 97 = .ok (.iload 7, 2) := dk_21 7 (dk_at dksX7_spare_4 3 rfl rfl)
theorem dX7_spare_99 : decode cX7_spare 99 = .ok (.iload 4, 2) := dk_21 4 (dk_at dksX7_spare_4 5 rfl rfl)
theorem dX7_spare_101 : decode cX7_spare 101 = .ok (.if_icmp .ge 7, 3) := dk_162 0 7 (dk_at dksX7_spare_4 7 rfl rfl)
theorem dX7_spare_104 : decode cX7_spare 104 = .ok (.iconst 1, 1) := dk_4 (dk_at dksX7_spare_4 10 rfl rfl)
theorem dX7_spare_105 : decode cX7_spare 105 = .ok (.goto 4, 3) := dk_167 0 4 (dk_at dksX7_spare_4 11 rfl rfl)
theorem dX7_spare_108 : decode cX7_spare 108 = .ok (.iconst 0, 1) := dk_3 (dk_at dksX7_spare_4 14 rfl rfl)
theorem dX7_spare_109 : decode cX7_spare 109 = .ok (.istore 8, 2) := dk_54 8 (dk_at dksX7_spare_4 15 rfl rfl)
theorem dX7_spare_111 : decode cX7_spare 111 = .ok (.iload 8, 2) := dk_21 8 (dk_at dksX7_spare_4 17 rfl rfl)
theorem dX7_spare_113 : decode cX7_spare 113 = .ok (.ifCond .eq 11, 3) := dk_153 0 11 (dk_at dksX7_spare_4 19 rfl rfl)
theorem dX7_spare_116 : decode cX7_spare 116 = .ok (.iload 5, 2) := dk_21 5 (dk_at dksX7_spare_4 22 rfl rfl)
theorem dX7_spare_118 : decode cX7_spare 118 = .ok (.invokestatic 197, 3) := dk_184 0 197 (dk_at dksX7_spare_5 0 rfl rfl)
theorem dX7_spare_121 : decode cX7_spare 121 = .ok (.goto 4, 3) := dk_167 0 4 (dk_at dksX7_spare_5 3 rfl rfl)
theorem dX7_spare_124 : decode cX7_spare 124 = .ok (.iload_n 3, 1) := dk_29 (dk_at dksX7_spare_5 6 rfl rfl)
theorem dX7_spare_125 : decode cX7_spare 125 = .ok (.istore_n 3, 1) := dk_62 (dk_at dksX7_spare_5 7 rfl rfl)
theorem dX7_spare_126 : decode cX7_spare 126 = .ok (.iload 8, 2) := dk_21 8 (dk_at dksX7_spare_5 8 rfl rfl)
theorem dX7_spare_128 : decode cX7_spare 128 = .ok (.ifCond .eq 8, 3) := dk_153 0 8 (dk_at dksX7_spare_5 10 rfl rfl)
theorem dX7_spare_131 : decode cX7_spare 131 = .ok (.iload 7, 2) := dk_21 7 (dk_at dksX7_spare_5 13 rfl rfl)
theorem dX7_spare_133 : decode cX7_spare 133 = .ok (.goto 5, 3) := dk_167 0 5 (dk_at dksX7_spare_5 15 rfl rfl)
theorem dX7_spare_136 : decode cX7_spare 136 = .ok (.iload 4, 2) := dk_21 4 (dk_at dksX7_spare_5 18 rfl rfl)
theorem dX7_spare_138 : decode cX7_spare 138 = .ok (.istore 4, 2) := dk_54 4 (dk_at dksX7_spare_5 20 rfl rfl)
theorem dX7_spare_140 : decode cX7_spare 140 = .ok (.iinc 5 1, 3) := dk_132 5 1 (dk_at dksX7_spare_6 0 rfl rfl)
theorem dX7_spare_143 : decode cX7_spare 143 = .ok (.goto (-94), 3) := dk_167 255 162 (dk_at dksX7_spare_6 3 rfl rfl)
theorem dX7_spare_146 : decode cX7_spare 146 = .ok (.iload_n 3, 1) := dk_29 (dk_at dksX7_spare_6 6 rfl rfl)
theorem dX7_spare_147 : decode cX7_spare 147 = .ok (.ireturn, 1) := dk_172 (dk_at dksX7_spare_6 7 rfl rfl)
abbrev cX7_allDown : ByteArray := prog_12_method_59_code
def yX7_allDown : MethodName := ⟨RX7, "allDown", "(I)I"⟩
def dkwX7_allDown_13 : List UInt8 := [167, 0, 9, 42, 180, 0, 62, 3, 46, 172]
abbrev dktX7_allDown_13 : List UInt8 := dkwX7_allDown_13 ++ []
def dkwX7_allDown_12 : List UInt8 := [132, 5, 1, 167, 255, 113, 132, 3, 1, 167, 255, 61, 27, 154, 0, 12, 42, 180, 0, 59, 3, 46]
abbrev dktX7_allDown_12 : List UInt8 := dkwX7_allDown_12 ++ dktX7_allDown_13
def dkwX7_allDown_11 : List UInt8 := [160, 0, 24, 21, 7, 42, 180, 0, 62, 21, 6, 46, 162, 0, 12, 42, 180, 0, 62, 21, 6, 21, 7, 79]
abbrev dktX7_allDown_11 : List UInt8 := dkwX7_allDown_11 ++ dktX7_allDown_12
def dkwX7_allDown_10 : List UInt8 := [132, 2, 1, 167, 0, 43, 42, 180, 0, 59, 21, 6, 46, 42, 180, 0, 59, 21, 4, 46, 4, 96]
abbrev dktX7_allDown_10 : List UInt8 := dkwX7_allDown_10 ++ dktX7_allDown_11
def dkwX7_allDown_9 : List UInt8 := [21, 4, 46, 4, 96, 79, 42, 180, 0, 62, 21, 6, 21, 7, 79, 42, 180, 0, 65, 28, 21, 6, 79]
abbrev dktX7_allDown_9 : List UInt8 := dkwX7_allDown_9 ++ dktX7_allDown_10
def dkwX7_allDown_8 : List UInt8 := [54, 7, 42, 180, 0, 59, 21, 6, 46, 2, 160, 0, 42, 42, 180, 0, 59, 21, 6, 42, 180, 0, 59]
abbrev dktX7_allDown_8 : List UInt8 := dkwX7_allDown_8 ++ dktX7_allDown_9
def dkwX7_allDown_7 : List UInt8 := [180, 0, 59, 21, 4, 46, 154, 0, 11, 21, 5, 184, 0, 197, 167, 0, 10, 42, 180, 0, 62, 21, 4, 46]
abbrev dktX7_allDown_7 : List UInt8 := dkwX7_allDown_7 ++ dktX7_allDown_8
def dkwX7_allDown_6 : List UInt8 := [17, 2, 88, 162, 0, 141, 21, 4, 42, 21, 4, 21, 5, 182, 0, 191, 2, 130, 126, 54, 6, 42]
abbrev dktX7_allDown_6 : List UInt8 := dkwX7_allDown_6 ++ dktX7_allDown_7
def dkwX7_allDown_5 : List UInt8 := [42, 180, 0, 59, 3, 46, 162, 0, 166, 42, 180, 0, 65, 29, 46, 54, 4, 3, 54, 5, 21, 5]
abbrev dktX7_allDown_5 : List UInt8 := dkwX7_allDown_5 ++ dktX7_allDown_6
def dkwX7_allDown_4 : List UInt8 := [162, 0, 196, 42, 180, 0, 59, 3, 46, 2, 159, 0, 23, 42, 180, 0, 59, 42, 180, 0, 65, 29, 46, 46]
abbrev dktX7_allDown_4 : List UInt8 := dkwX7_allDown_4 ++ dktX7_allDown_5
def dkwX7_allDown_3 : List UInt8 := [46, 3, 79, 42, 180, 0, 65, 3, 42, 180, 0, 19, 16, 45, 46, 79, 4, 61, 3, 62, 29, 28]
abbrev dktX7_allDown_3 : List UInt8 := dkwX7_allDown_3 ++ dktX7_allDown_4
def dkwX7_allDown_2 : List UInt8 := [79, 42, 180, 0, 62, 28, 2, 79, 132, 2, 1, 167, 255, 232, 42, 180, 0, 59, 42, 180, 0, 19, 16, 45]
abbrev dktX7_allDown_2 : List UInt8 := dkwX7_allDown_2 ++ dktX7_allDown_3
def dkwX7_allDown_1 : List UInt8 := [18, 233, 172, 42, 3, 3, 182, 0, 188, 3, 61, 28, 17, 2, 0, 162, 0, 23, 42, 180, 0, 59, 28, 2]
abbrev dktX7_allDown_1 : List UInt8 := dkwX7_allDown_1 ++ dktX7_allDown_2
def dkwX7_allDown_0 : List UInt8 := [42, 3, 181, 0, 72, 27, 3, 4, 184, 0, 75, 154, 0, 6, 18, 79, 172, 42, 180, 0, 133, 154, 0, 6]
abbrev dktX7_allDown_0 : List UInt8 := dkwX7_allDown_0 ++ dktX7_allDown_1
theorem dksX7_allDown_0 : cX7_allDown.data.toList.drop 0 = dktX7_allDown_0 := by decide +kernel
theorem dksX7_allDown_1 : cX7_allDown.data.toList.drop 24 = dktX7_allDown_1 := dk_seg dksX7_allDown_0 24 rfl rfl
theorem dksX7_allDown_2 : cX7_allDown.data.toList.drop 48 = dktX7_allDown_2 := dk_seg dksX7_allDown_1 24 rfl rfl
theorem dksX7_allDown_3 : cX7_allDown.data.toList.drop 72 = dktX7_allDown_3 := dk_seg dksX7_allDown_2 24 rfl rfl
theorem dksX7_allDown_4 : cX7_allDown.data.toList.drop 94 = dktX7_allDown_4 := dk_seg dksX7_allDown_3 22 rfl rfl
theorem dksX7_allDown_5 : cX7_allDown.data.toList.drop 118 = dktX7_allDown_5 := dk_seg dksX7_allDown_4 24 rfl rfl
theorem dksX7_allDown_6 : cX7_allDown.data.toList.drop 140 = dktX7_allDown_6 := dk_seg dksX7_allDown_5 22 rfl rfl
theorem dksX7_allDown_7 : cX7_allDown.data.toList.drop 162 = dktX7_allDown_7 := dk_seg dksX7_allDown_6 22 rfl rfl
theorem dksX7_allDown_8 : cX7_allDown.data.toList.drop 186 = dktX7_allDown_8 := dk_seg dksX7_allDown_7 24 rfl rfl
theorem dksX7_allDown_9 : cX7_allDown.data.toList.drop 209 = dktX7_allDown_9 := dk_seg dksX7_allDown_8 23 rfl rfl
theorem dksX7_allDown_10 : cX7_allDown.data.toList.drop 232 = dktX7_allDown_10 := dk_seg dksX7_allDown_9 23 rfl rfl
theorem dksX7_allDown_11 : cX7_allDown.data.toList.drop 254 = dktX7_allDown_11 := dk_seg dksX7_allDown_10 22 rfl rfl
theorem dksX7_allDown_12 : cX7_allDown.data.toList.drop 278 = dktX7_allDown_12 := dk_seg dksX7_allDown_11 24 rfl rfl
theorem dksX7_allDown_13 : cX7_allDown.data.toList.drop 300 = dktX7_allDown_13 := dk_seg dksX7_allDown_12 22 rfl rfl
theorem dX7_allDown_0 : decode cX7_allDown 0 = .ok (.aload_n 0, 1) := dk_42 (dk_at dksX7_allDown_0 0 rfl rfl)
theorem dX7_allDown_1 : decode cX7_allDown 1 = .ok (.iconst 0, 1) := dk_3 (dk_at dksX7_allDown_0 1 rfl rfl)
theorem dX7_allDown_2 : decode cX7_allDown 2 = .ok (.putfield 72, 3) := dk_181 0 72 (dk_at dksX7_allDown_0 2 rfl rfl)
theorem dX7_allDown_5 : decode cX7_allDown 5 = .ok (.iload_n 1, 1) := dk_27 (dk_at dksX7_allDown_0 5 rfl rfl)
theorem dX7_allDown_6 : decode cX7_allDown 6 = .ok (.iconst 0, 1) := dk_3 (dk_at dksX7_allDown_0 6 rfl rfl)
theorem dX7_allDown_7 : decode cX7_allDown 7 = .ok (.iconst 1, 1) := dk_4 (dk_at dksX7_allDown_0 7 rfl rfl)
theorem dX7_allDown_8 : decode cX7_allDown 8 = .ok (.invokestatic 75, 3) := dk_184 0 75 (dk_at dksX7_allDown_0 8 rfl rfl)
theorem dX7_allDown_11 : decode cX7_allDown 11 = .ok (.ifCond .ne 6, 3) := dk_154 0 6 (dk_at dksX7_allDown_0 11 rfl rfl)
theorem dX7_allDown_14 : decode cX7_allDown 14 = .ok (.ldc 79, 2) := dk_18 79 (dk_at dksX7_allDown_0 14 rfl rfl)
theorem dX7_allDown_16 : decode cX7_allDown 16 = .ok (.ireturn, 1) := dk_172 (dk_at dksX7_allDown_0 16 rfl rfl)
theorem dX7_allDown_17 : decode cX7_allDown 17 = .ok (.aload_n 0, 1) := dk_42 (dk_at dksX7_allDown_0 17 rfl rfl)
theorem dX7_allDown_18 : decode cX7_allDown 18 = .ok (.getfield 133, 3) := dk_180 0 133 (dk_at dksX7_allDown_0 18 rfl rfl)
theorem dX7_allDown_21 : decode cX7_allDown 21 = .ok (.ifCond .ne 6, 3) := dk_154 0 6 (dk_at dksX7_allDown_0 21 rfl rfl)
theorem dX7_allDown_24 : decode cX7_allDown 24 = .ok (.ldc 233, 2) := dk_18 233 (dk_at dksX7_allDown_1 0 rfl rfl)
theorem dX7_allDown_26 : decode cX7_allDown 26 = .ok (.ireturn, 1) := dk_172 (dk_at dksX7_allDown_1 2 rfl rfl)
theorem dX7_allDown_27 : decode cX7_allDown 27 = .ok (.aload_n 0, 1) := dk_42 (dk_at dksX7_allDown_1 3 rfl rfl)
theorem dX7_allDown_28 : decode cX7_allDown 28 = .ok (.iconst 0, 1) := dk_3 (dk_at dksX7_allDown_1 4 rfl rfl)
theorem dX7_allDown_29 : decode cX7_allDown 29 = .ok (.iconst 0, 1) := dk_3 (dk_at dksX7_allDown_1 5 rfl rfl)
theorem dX7_allDown_30 : decode cX7_allDown 30 = .ok (.invokevirtual 188, 3) := dk_182 0 188 (dk_at dksX7_allDown_1 6 rfl rfl)
theorem dX7_allDown_33 : decode cX7_allDown 33 = .ok (.iconst 0, 1) := dk_3 (dk_at dksX7_allDown_1 9 rfl rfl)
theorem dX7_allDown_34 : decode cX7_allDown 34 = .ok (.istore_n 2, 1) := dk_61 (dk_at dksX7_allDown_1 10 rfl rfl)
theorem dX7_allDown_35 : decode cX7_allDown 35 = .ok (.iload_n 2, 1) := dk_28 (dk_at dksX7_allDown_1 11 rfl rfl)
theorem dX7_allDown_36 : decode cX7_allDown 36 = .ok (.sipush 512, 3) := dk_17 2 0 (dk_at dksX7_allDown_1 12 rfl rfl)
theorem dX7_allDown_39 : decode cX7_allDown 39 = .ok (.if_icmp .ge 23, 3) := dk_162 0 23 (dk_at dksX7_allDown_1 15 rfl rfl)
theorem dX7_allDown_42 : decode cX7_allDown 42 = .ok (.aload_n 0, 1) := dk_42 (dk_at dksX7_allDown_1 18 rfl rfl)
theorem dX7_allDown_43 : decode cX7_allDown 43 = .ok (.getfield 59, 3) := dk_180 0 59 (dk_at dksX7_allDown_1 19 rfl rfl)
theorem dX7_allDown_46 : decode cX7_allDown 46 = .ok (.iload_n 2, 1) := dk_28 (dk_at dksX7_allDown_1 22 rfl rfl)
theorem dX7_allDown_47 : decode cX7_allDown 47 = .ok (.iconst (-1), 1) := dk_2 (dk_at dksX7_allDown_1 23 rfl rfl)
theorem dX7_allDown_48 : decode cX7_allDown 48 = .ok (.iastore, 1) := dk_79 (dk_at dksX7_allDown_2 0 rfl rfl)
theorem dX7_allDown_49 : decode cX7_allDown 49 = .ok (.aload_n 0, 1) := dk_42 (dk_at dksX7_allDown_2 1 rfl rfl)
theorem dX7_allDown_50 : decode cX7_allDown 50 = .ok (.getfield 62, 3) := dk_180 0 62 (dk_at dksX7_allDown_2 2 rfl rfl)
theorem dX7_allDown_53 : decode cX7_allDown 53 = .ok (.iload_n 2, 1) := dk_28 (dk_at dksX7_allDown_2 5 rfl rfl)
theorem dX7_allDown_54 : decode cX7_allDown 54 = .ok (.iconst (-1), 1) := dk_2 (dk_at dksX7_allDown_2 6 rfl rfl)
theorem dX7_allDown_55 : decode cX7_allDown 55 = .ok (.iastore, 1) := dk_79 (dk_at dksX7_allDown_2 7 rfl rfl)
theorem dX7_allDown_56 : decode cX7_allDown 56 = .ok (.iinc 2 1, 3) := dk_132 2 1 (dk_at dksX7_allDown_2 8 rfl rfl)
theorem dX7_allDown_59 : decode cX7_allDown 59 = .ok (.goto (-24), 3) := dk_167 255 232 (dk_at dksX7_allDown_2 11 rfl rfl)
theorem dX7_allDown_62 : decode cX7_allDown 62 = .ok (.aload_n 0, 1) := dk_42 (dk_at dksX7_allDown_2 14 rfl rfl)
theorem dX7_allDown_63 : decode cX7_allDown 63 = .ok (.getfield 59, 3) := dk_180 0 59 (dk_at dksX7_allDown_2 15 rfl rfl)
theorem dX7_allDown_66 : decode cX7_allDown 66 = .ok (.aload_n 0, 1) := dk_42 (dk_at dksX7_allDown_2 18 rfl rfl)
theorem dX7_allDown_67 : decode cX7_allDown 67 = .ok (.getfield 19, 3) := dk_180 0 19 (dk_at dksX7_allDown_2 19 rfl rfl)
theorem dX7_allDown_70 : decode cX7_allDown 70 = .ok (.bipush 45, 2) := dk_16 45 (dk_at dksX7_allDown_2 22 rfl rfl)
theorem dX7_allDown_72 : decode cX7_allDown 72 = .ok (.iaload, 1) := dk_46 (dk_at dksX7_allDown_3 0 rfl rfl)
theorem dX7_allDown_73 : decode cX7_allDown 73 = .ok (.iconst 0, 1) := dk_3 (dk_at dksX7_allDown_3 1 rfl rfl)
theorem dX7_allDown_74 : decode cX7_allDown 74 = .ok (.iastore, 1) := dk_79 (dk_at dksX7_allDown_3 2 rfl rfl)
theorem dX7_allDown_75 : decode cX7_allDown 75 = .ok (.aload_n 0, 1) := dk_42 (dk_at dksX7_allDown_3 3 rfl rfl)
theorem dX7_allDown_76 : decode cX7_allDown 76 = .ok (.getfield 65, 3) := dk_180 0 65 (dk_at dksX7_allDown_3 4 rfl rfl)
theorem dX7_allDown_79 : decode cX7_allDown 79 = .ok (.iconst 0, 1) := dk_3 (dk_at dksX7_allDown_3 7 rfl rfl)
theorem dX7_allDown_80 : decode cX7_allDown 80 = .ok (.aload_n 0, 1) := dk_42 (dk_at dksX7_allDown_3 8 rfl rfl)
theorem dX7_allDown_81 : decode cX7_allDown 81 = .ok (.getfield 19, 3) := dk_180 0 19 (dk_at dksX7_allDown_3 9 rfl rfl)
theorem dX7_allDown_84 : decode cX7_allDown 84 = .ok (.bipush 45, 2) := dk_16 45 (dk_at dksX7_allDown_3 12 rfl rfl)
theorem dX7_allDown_86 : decode cX7_allDown 86 = .ok (.iaload, 1) := dk_46 (dk_at dksX7_allDown_3 14 rfl rfl)
theorem dX7_allDown_87 : decode cX7_allDown 87 = .ok (.iastore, 1) := dk_79 (dk_at dksX7_allDown_3 15 rfl rfl)
theorem dX7_allDown_88 : decode cX7_allDown 88 = .ok (.iconst 1, 1) := dk_4 (dk_at dksX7_allDown_3 16 rfl rfl)
theorem dX7_allDown_89 : decode cX7_allDown 89 = .ok (.istore_n 2, 1) := dk_61 (dk_at dksX7_allDown_3 17 rfl rfl)
theorem dX7_allDown_90 : decode cX7_allDown 90 = .ok (.iconst 0, 1) := dk_3 (dk_at dksX7_allDown_3 18 rfl rfl)
theorem dX7_allDown_91 : decode cX7_allDown 91 = .ok (.istore_n 3, 1) := dk_62 (dk_at dksX7_allDown_3 19 rfl rfl)
theorem dX7_allDown_92 : decode cX7_allDown 92 = .ok (.iload_n 3, 1) := dk_29 (dk_at dksX7_allDown_3 20 rfl rfl)
theorem dX7_allDown_93 : decode cX7_allDown 93 = .ok (.iload_n 2, 1) := dk_28 (dk_at dksX7_allDown_3 21 rfl rfl)
theorem dX7_allDown_94 : decode cX7_allDown 94 = .ok (.if_icmp .ge 196, 3) := dk_162 0 196 (dk_at dksX7_allDown_4 0 rfl rfl)
theorem dX7_allDown_97 : decode cX7_allDown 97 = .ok (.aload_n 0, 1) := dk_42 (dk_at dksX7_allDown_4 3 rfl rfl)
theorem dX7_allDown_98 : decode cX7_allDown 98 = .ok (.getfield 59, 3) := dk_180 0 59 (dk_at dksX7_allDown_4 4 rfl rfl)
theorem dX7_allDown_101 : decode cX7_allDown 101 = .ok (.iconst 0, 1) := dk_3 (dk_at dksX7_allDown_4 7 rfl rfl)
theorem dX7_allDown_102 : decode cX7_allDown 102 = .ok (.iaload, 1) := dk_46 (dk_at dksX7_allDown_4 8 rfl rfl)
theorem dX7_allDown_103 : decode cX7_allDown 103 = .ok (.iconst (-1), 1) := dk_2 (dk_at dksX7_allDown_4 9 rfl rfl)
theorem dX7_allDown_104 : decode cX7_allDown 104 = .ok (.if_icmp .eq 23, 3) := dk_159 0 23 (dk_at dksX7_allDown_4 10 rfl rfl)
theorem dX7_allDown_107 : decode cX7_allDown 107 = .ok (.aload_n 0, 1) := dk_42 (dk_at dksX7_allDown_4 13 rfl rfl)
theorem dX7_allDown_108 : decode cX7_allDown 108 = .ok (.getfield 59, 3) := dk_180 0 59 (dk_at dksX7_allDown_4 14 rfl rfl)
theorem dX7_allDown_111 : decode cX7_allDown 111 = .ok (.aload_n 0, 1) := dk_42 (dk_at dksX7_allDown_4 17 rfl rfl)
theorem dX7_allDown_112 : decode cX7_allDown 112 = .ok (.getfield 65, 3) := dk_180 0 65 (dk_at dksX7_allDown_4 18 rfl rfl)
theorem dX7_allDown_115 : decode cX7_allDown 115 = .ok (.iload_n 3, 1) := dk_29 (dk_at dksX7_allDown_4 21 rfl rfl)
theorem dX7_allDown_116 : decode cX7_allDown 116 = .ok (.iaload, 1) := dk_46 (dk_at dksX7_allDown_4 22 rfl rfl)
theorem dX7_allDown_117 : decode cX7_allDown 117 = .ok (.iaload, 1) := dk_46 (dk_at dksX7_allDown_4 23 rfl rfl)
theorem dX7_allDown_118 : decode cX7_allDown 118 = .ok (.aload_n 0, 1) := dk_42 (dk_at dksX7_allDown_5 0 rfl rfl)
theorem dX7_allDown_119 : decode cX7_allDown 119 = .ok (.getfield 59, 3) := dk_180 0 59 (dk_at dksX7_allDown_5 1 rfl rfl)
theorem dX7_allDown_122 : decode cX7_allDown 122 = .ok (.iconst 0, 1) := dk_3 (dk_at dksX7_allDown_5 4 rfl rfl)
theorem dX7_allDown_123 : decode cX7_allDown 123 = .ok (.iaload, 1) := dk_46 (dk_at dksX7_allDown_5 5 rfl rfl)
theorem dX7_allDown_124 : decode cX7_allDown 124 = .ok (.if_icmp .ge 166, 3) := dk_162 0 166 (dk_at dksX7_allDown_5 6 rfl rfl)
theorem dX7_allDown_127 : decode cX7_allDown 127 = .ok (.aload_n 0, 1) := dk_42 (dk_at dksX7_allDown_5 9 rfl rfl)
theorem dX7_allDown_128 : decode cX7_allDown 128 = .ok (.getfield 65, 3) := dk_180 0 65 (dk_at dksX7_allDown_5 10 rfl rfl)
theorem dX7_allDown_131 : decode cX7_allDown 131 = .ok (.iload_n 3, 1) := dk_29 (dk_at dksX7_allDown_5 13 rfl rfl)
theorem dX7_allDown_132 : decode cX7_allDown 132 = .ok (.iaload, 1) := dk_46 (dk_at dksX7_allDown_5 14 rfl rfl)
theorem dX7_allDown_133 : decode cX7_allDown 133 = .ok (.istore 4, 2) := dk_54 4 (dk_at dksX7_allDown_5 15 rfl rfl)
theorem dX7_allDown_135 : decode cX7_allDown 135 = .ok (.iconst 0, 1) := dk_3 (dk_at dksX7_allDown_5 17 rfl rfl)
theorem dX7_allDown_136 : decode cX7_allDown 136 = .ok (.istore 5, 2) := dk_54 5 (dk_at dksX7_allDown_5 18 rfl rfl)
theorem dX7_allDown_138 : decode cX7_allDown 138 = .ok (.iload 5, 2) := dk_21 5 (dk_at dksX7_allDown_5 20 rfl rfl)
theorem dX7_allDown_140 : decode cX7_allDown 140 = .ok (.sipush 600, 3) := dk_17 2 88 (dk_at dksX7_allDown_6 0 rfl rfl)
theorem dX7_allDown_143 : decode cX7_allDown 143 = .ok (.if_icmp .ge 141, 3) := dk_162 0 141 (dk_at dksX7_allDown_6 3 rfl rfl)
theorem dX7_allDown_146 : decode cX7_allDown 146 = .ok (.iload 4, 2) := dk_21 4 (dk_at dksX7_allDown_6 6 rfl rfl)
theorem dX7_allDown_148 : decode cX7_allDown 148 = .ok (.aload_n 0, 1) := dk_42 (dk_at dksX7_allDown_6 8 rfl rfl)
theorem dX7_allDown_149 : decode cX7_allDown 149 = .ok (.iload 4, 2) := dk_21 4 (dk_at dksX7_allDown_6 9 rfl rfl)
theorem dX7_allDown_151 : decode cX7_allDown 151 = .ok (.iload 5, 2) := dk_21 5 (dk_at dksX7_allDown_6 11 rfl rfl)
theorem dX7_allDown_153 : decode cX7_allDown 153 = .ok (.invokevirtual 191, 3) := dk_182 0 191 (dk_at dksX7_allDown_6 13 rfl rfl)
theorem dX7_allDown_156 : decode cX7_allDown 156 = .ok (.iconst (-1), 1) := dk_2 (dk_at dksX7_allDown_6 16 rfl rfl)
theorem dX7_allDown_157 : decode cX7_allDown 157 = .ok (.ixor, 1) := dk_130 (dk_at dksX7_allDown_6 17 rfl rfl)
theorem dX7_allDown_158 : decode cX7_allDown 158 = .ok (.iand, 1) := dk_126 (dk_at dksX7_allDown_6 18 rfl rfl)
theorem dX7_allDown_159 : decode cX7_allDown 159 = .ok (.istore 6, 2) := dk_54 6 (dk_at dksX7_allDown_6 19 rfl rfl)
theorem dX7_allDown_161 : decode cX7_allDown 161 = .ok (.aload_n 0, 1) := dk_42 (dk_at dksX7_allDown_6 21 rfl rfl)
theorem dX7_allDown_162 : decode cX7_allDown 162 = .ok (.getfield 59, 3) := dk_180 0 59 (dk_at dksX7_allDown_7 0 rfl rfl)
theorem dX7_allDown_165 : decode cX7_allDown 165 = .ok (.iload 4, 2) := dk_21 4 (dk_at dksX7_allDown_7 3 rfl rfl)
theorem dX7_allDown_167 : decode cX7_allDown 167 = .ok (.iaload, 1) := dk_46 (dk_at dksX7_allDown_7 5 rfl rfl)
theorem dX7_allDown_168 : decode cX7_allDown 168 = .ok (.ifCond .ne 11, 3) := dk_154 0 11 (dk_at dksX7_allDown_7 6 rfl rfl)
theorem dX7_allDown_171 : decode cX7_allDown 171 = .ok (.iload 5, 2) := dk_21 5 (dk_at dksX7_allDown_7 9 rfl rfl)
theorem dX7_allDown_173 : decode cX7_allDown 173 = .ok (.invokestatic 197, 3) := dk_184 0 197 (dk_at dksX7_allDown_7 11 rfl rfl)
theorem dX7_allDown_176 : decode cX7_allDown 176 = .ok (.goto 10, 3) := dk_167 0 10 (dk_at dksX7_allDown_7 14 rfl rfl)
theorem dX7_allDown_179 : decode cX7_allDown 179 = .ok (.aload_n 0, 1) := dk_42 (dk_at dksX7_allDown_7 17 rfl rfl)
theorem dX7_allDown_180 : decode cX7_allDown 180 = .ok (.getfield 62, 3) := dk_180 0 62 (dk_at dksX7_allDown_7 18 rfl rfl)
theorem dX7_allDown_183 : decode cX7_allDown 183 = .ok (.iload 4, 2) := dk_21 4 (dk_at dksX7_allDown_7 21 rfl rfl)
theorem dX7_allDown_185 : decode cX7_allDown 185 = .ok (.iaload, 1) := dk_46 (dk_at dksX7_allDown_7 23 rfl rfl)
theorem dX7_allDown_186 : decode cX7_allDown 186 = .ok (.istore 7, 2) := dk_54 7 (dk_at dksX7_allDown_8 0 rfl rfl)
theorem dX7_allDown_188 : decode cX7_allDown 188 = .ok (.aload_n 0, 1) := dk_42 (dk_at dksX7_allDown_8 2 rfl rfl)
theorem dX7_allDown_189 : decode cX7_allDown 189 = .ok (.getfield 59, 3) := dk_180 0 59 (dk_at dksX7_allDown_8 3 rfl rfl)
theorem dX7_allDown_192 : decode cX7_allDown 192 = .ok (.iload 6, 2) := dk_21 6 (dk_at dksX7_allDown_8 6 rfl rfl)
theorem dX7_allDown_194 : decode cX7_allDown 194 = .ok (.iaload, 1) := dk_46 (dk_at dksX7_allDown_8 8 rfl rfl)
theorem dX7_allDown_195 : decode cX7_allDown 195 = .ok (.iconst (-1), 1) := dk_2 (dk_at dksX7_allDown_8 9 rfl rfl)
theorem dX7_allDown_196 : decode cX7_allDown 196 = .ok (.if_icmp .ne 42, 3) := dk_160 0 42 (dk_at dksX7_allDown_8 10 rfl rfl)
theorem dX7_allDown_199 : decode cX7_allDown 199 = .ok (.aload_n 0, 1) := dk_42 (dk_at dksX7_allDown_8 13 rfl rfl)
theorem dX7_allDown_200 : decode cX7_allDown 200 = .ok (.getfield 59, 3) := dk_180 0 59 (dk_at dksX7_allDown_8 14 rfl rfl)
theorem dX7_allDown_203 : decode cX7_allDown 203 = .ok (.iload 6, 2) := dk_21 6 (dk_at dksX7_allDown_8 17 rfl rfl)
theorem dX7_allDown_205 : decode cX7_allDown 205 = .ok (.aload_n 0, 1) := dk_42 (dk_at dksX7_allDown_8 19 rfl rfl)
theorem dX7_allDown_206 : decode cX7_allDown 206 = .ok (.getfield 59, 3) := dk_180 0 59 (dk_at dksX7_allDown_8 20 rfl rfl)
theorem dX7_allDown_209 : decode cX7_allDown 209 = .ok (.iload 4, 2) := dk_21 4 (dk_at dksX7_allDown_9 0 rfl rfl)
theorem dX7_allDown_211 : decode cX7_allDown 211 = .ok (.iaload, 1) := dk_46 (dk_at dksX7_allDown_9 2 rfl rfl)
theorem dX7_allDown_212 : decode cX7_allDown 212 = .ok (.iconst 1, 1) := dk_4 (dk_at dksX7_allDown_9 3 rfl rfl)
theorem dX7_allDown_213 : decode cX7_allDown 213 = .ok (.iadd, 1) := dk_96 (dk_at dksX7_allDown_9 4 rfl rfl)
theorem dX7_allDown_214 : decode cX7_allDown 214 = .ok (.iastore, 1) := dk_79 (dk_at dksX7_allDown_9 5 rfl rfl)
theorem dX7_allDown_215 : decode cX7_allDown 215 = .ok (.aload_n 0, 1) := dk_42 (dk_at dksX7_allDown_9 6 rfl rfl)
theorem dX7_allDown_216 : decode cX7_allDown 216 = .ok (.getfield 62, 3) := dk_180 0 62 (dk_at dksX7_allDown_9 7 rfl rfl)
theorem dX7_allDown_219 : decode cX7_allDown 219 = .ok (.iload 6, 2) := dk_21 6 (dk_at dksX7_allDown_9 10 rfl rfl)
theorem dX7_allDown_221 : decode cX7_allDown 221 = .ok (.iload 7, 2) := dk_21 7 (dk_at dksX7_allDown_9 12 rfl rfl)
theorem dX7_allDown_223 : decode cX7_allDown 223 = .ok (.iastore, 1) := dk_79 (dk_at dksX7_allDown_9 14 rfl rfl)
theorem dX7_allDown_224 : decode cX7_allDown 224 = .ok (.aload_n 0, 1) := dk_42 (dk_at dksX7_allDown_9 15 rfl rfl)
theorem dX7_allDown_225 : decode cX7_allDown 225 = .ok (.getfield 65, 3) := dk_180 0 65 (dk_at dksX7_allDown_9 16 rfl rfl)
theorem dX7_allDown_228 : decode cX7_allDown 228 = .ok (.iload_n 2, 1) := dk_28 (dk_at dksX7_allDown_9 19 rfl rfl)
theorem dX7_allDown_229 : decode cX7_allDown 229 = .ok (.iload 6, 2) := dk_21 6 (dk_at dksX7_allDown_9 20 rfl rfl)
theorem dX7_allDown_231 : decode cX7_allDown 231 = .ok (.iastore, 1) := dk_79 (dk_at dksX7_allDown_9 22 rfl rfl)
theorem dX7_allDown_232 : decode cX7_allDown 232 = .ok (.iinc 2 1, 3) := dk_132 2 1 (dk_at dksX7_allDown_10 0 rfl rfl)
theorem dX7_allDown_235 : decode cX7_allDown 235 = .ok (.goto 43, 3) := dk_167 0 43 (dk_at dksX7_allDown_10 3 rfl rfl)
theorem dX7_allDown_238 : decode cX7_allDown 238 = .ok (.aload_n 0, 1) := dk_42 (dk_at dksX7_allDown_10 6 rfl rfl)
theorem dX7_allDown_239 : decode cX7_allDown 239 = .ok (.getfield 59, 3) := dk_180 0 59 (dk_at dksX7_allDown_10 7 rfl rfl)
theorem dX7_allDown_242 : decode cX7_allDown 242 = .ok (.iload 6, 2) := dk_21 6 (dk_at dksX7_allDown_10 10 rfl rfl)
theorem dX7_allDown_244 : decode cX7_allDown 244 = .ok (.iaload, 1) := dk_46 (dk_at dksX7_allDown_10 12 rfl rfl)
theorem dX7_allDown_245 : decode cX7_allDown 245 = .ok (.aload_n 0, 1) := dk_42 (dk_at dksX7_allDown_10 13 rfl rfl)
theorem dX7_allDown_246 : decode cX7_allDown 246 = .ok (.getfield 59, 3) := dk_180 0 59 (dk_at dksX7_allDown_10 14 rfl rfl)
theorem dX7_allDown_249 : decode cX7_allDown 249 = .ok (.iload 4, 2) := dk_21 4 (dk_at dksX7_allDown_10 17 rfl rfl)
theorem dX7_allDown_251 : decode cX7_allDown 251 = .ok (.iaload, 1) := dk_46 (dk_at dksX7_allDown_10 19 rfl rfl)
theorem dX7_allDown_252 : decode cX7_allDown 252 = .ok (.iconst 1, 1) := dk_4 (dk_at dksX7_allDown_10 20 rfl rfl)
theorem dX7_allDown_253 : decode cX7_allDown 253 = .ok (.iadd, 1) := dk_96 (dk_at dksX7_allDown_10 21 rfl rfl)
theorem dX7_allDown_254 : decode cX7_allDown 254 = .ok (.if_icmp .ne 24, 3) := dk_160 0 24 (dk_at dksX7_allDown_11 0 rfl rfl)
theorem dX7_allDown_257 : decode cX7_allDown 257 = .ok (.iload 7, 2) := dk_21 7 (dk_at dksX7_allDown_11 3 rfl rfl)
theorem dX7_allDown_259 : decode cX7_allDown 259 = .ok (.aload_n 0, 1) := dk_42 (dk_at dksX7_allDown_11 5 rfl rfl)
theorem dX7_allDown_260 : decode cX7_allDown 260 = .ok (.getfield 62, 3) := dk_180 0 62 (dk_at dksX7_allDown_11 6 rfl rfl)
theorem dX7_allDown_263 : decode cX7_allDown 263 = .ok (.iload 6, 2) := dk_21 6 (dk_at dksX7_allDown_11 9 rfl rfl)
theorem dX7_allDown_265 : decode cX7_allDown 265 = .ok (.iaload, 1) := dk_46 (dk_at dksX7_allDown_11 11 rfl rfl)
theorem dX7_allDown_266 : decode cX7_allDown 266 = .ok (.if_icmp .ge 12, 3) := dk_162 0 12 (dk_at dksX7_allDown_11 12 rfl rfl)
theorem dX7_allDown_269 : decode cX7_allDown 269 = .ok (.aload_n 0, 1) := dk_42 (dk_at dksX7_allDown_11 15 rfl rfl)
theorem dX7_allDown_270 : decode cX7_allDown 270 = .ok (.getfield 62, 3) := dk_180 0 62 (dk_at dksX7_allDown_11 16 rfl rfl)
theorem dX7_allDown_273 : decode cX7_allDown 273 = .ok (.iload 6, 2) := dk_21 6 (dk_at dksX7_allDown_11 19 rfl rfl)
theorem dX7_allDown_275 : decode cX7_allDown 275 = .ok (.iload 7, 2) := dk_21 7 (dk_at dksX7_allDown_11 21 rfl rfl)
theorem dX7_allDown_277 : decode cX7_allDown 277 = .ok (.iastore, 1) := dk_79 (dk_at dksX7_allDown_11 23 rfl rfl)
theorem dX7_allDown_278 : decode cX7_allDown 278 = .ok (.iinc 5 1, 3) := dk_132 5 1 (dk_at dksX7_allDown_12 0 rfl rfl)
theorem dX7_allDown_281 : decode cX7_allDown 281 = .ok (.goto (-143), 3) := dk_167 255 113 (dk_at dksX7_allDown_12 3 rfl rfl)
theorem dX7_allDown_284 : decode cX7_allDown 284 = .ok (.iinc 3 1, 3) := dk_132 3 1 (dk_at dksX7_allDown_12 6 rfl rfl)
theorem dX7_allDown_287 : decode cX7_allDown 287 = .ok (.goto (-195), 3) := dk_167 255 61 (dk_at dksX7_allDown_12 9 rfl rfl)
theorem dX7_allDown_290 : decode cX7_allDown 290 = .ok (.iload_n 1, 1) := dk_27 (dk_at dksX7_allDown_12 12 rfl rfl)
theorem dX7_allDown_291 : decode cX7_allDown 291 = .ok (.ifCond .ne 12, 3) := dk_154 0 12 (dk_at dksX7_allDown_12 13 rfl rfl)
theorem dX7_allDown_294 : decode cX7_allDown 294 = .ok (.aload_n 0, 1) := dk_42 (dk_at dksX7_allDown_12 16 rfl rfl)
theorem dX7_allDown_295 : decode cX7_allDown 295 = .ok (.getfield 59, 3) := dk_180 0 59 (dk_at dksX7_allDown_12 17 rfl rfl)
theorem dX7_allDown_298 : decode cX7_allDown 298 = .ok (.iconst 0, 1) := dk_3 (dk_at dksX7_allDown_12 20 rfl rfl)
theorem dX7_allDown_299 : decode cX7_allDown 299 = .ok (.iaload, 1) := dk_46 (dk_at dksX7_allDown_12 21 rfl rfl)
theorem dX7_allDown_300 : decode cX7_allDown 300 = .ok (.goto 9, 3) := dk_167 0 9 (dk_at dksX7_allDown_13 0 rfl rfl)
theorem dX7_allDown_303 : decode cX7_allDown 303 = .ok (.aload_n 0, 1) := dk_42 (dk_at dksX7_allDown_13 3 rfl rfl)
theorem dX7_allDown_304 : decode cX7_allDown 304 = .ok (.getfield 62, 3) := dk_180 0 62 (dk_at dksX7_allDown_13 4 rfl rfl)
theorem dX7_allDown_307 : decode cX7_allDown 307 = .ok (.iconst 0, 1) := dk_3 (dk_at dksX7_allDown_13 7 rfl rfl)
theorem dX7_allDown_308 : decode cX7_allDown 308 = .ok (.iaload, 1) := dk_46 (dk_at dksX7_allDown_13 8 rfl rfl)
theorem dX7_allDown_309 : decode cX7_allDown 309 = .ok (.ireturn, 1) := dk_172 (dk_at dksX7_allDown_13 9 rfl rfl)
abbrev cX7_mend : ByteArray := prog_12_method_60_code
def yX7_mend : MethodName := ⟨RX7, "mend", "(IIII)I"⟩
def dkwX7_mend_6 : List UInt8 := [132, 7, 1, 167, 255, 162, 21, 4, 154, 0, 8, 21, 5, 167, 0, 5, 21, 6, 172]
abbrev dktX7_mend_6 : List UInt8 := dkwX7_mend_6 ++ []
def dkwX7_mend_5 : List UInt8 := [21, 9, 21, 6, 162, 0, 8, 21, 9, 167, 0, 5, 21, 6, 54, 6, 132, 8, 1, 167, 255, 181]
abbrev dktX7_mend_5 : List UInt8 := dkwX7_mend_5 ++ dktX7_mend_6
def dkwX7_mend_4 : List UInt8 := [54, 9, 21, 9, 21, 6, 162, 0, 14, 16, 10, 21, 7, 104, 21, 8, 96, 167, 0, 5, 21, 5, 54, 5]
abbrev dktX7_mend_4 : List UInt8 := dkwX7_mend_4 ++ dktX7_mend_5
def dkwX7_mend_3 : List UInt8 := [21, 7, 21, 8, 182, 0, 188, 42, 42, 180, 0, 19, 16, 45, 46, 27, 28, 29, 182, 0, 184, 184, 0, 194]
abbrev dktX7_mend_3 : List UInt8 := dkwX7_mend_3 ++ dktX7_mend_4
def dkwX7_mend_2 : List UInt8 := [54, 7, 21, 7, 16, 9, 162, 0, 93, 21, 7, 4, 96, 54, 8, 21, 8, 16, 9, 162, 0, 74, 42]
abbrev dktX7_mend_2 : List UInt8 := dkwX7_mend_2 ++ dktX7_mend_3
def dkwX7_mend_1 : List UInt8 := [154, 0, 6, 18, 79, 172, 42, 180, 0, 133, 154, 0, 6, 18, 233, 172, 2, 54, 5, 16, 10, 54, 6, 3]
abbrev dktX7_mend_1 : List UInt8 := dkwX7_mend_1 ++ dktX7_mend_2
def dkwX7_mend_0 : List UInt8 := [42, 3, 181, 0, 72, 42, 27, 28, 29, 182, 0, 230, 153, 0, 13, 21, 4, 3, 4, 184, 0, 75]
abbrev dktX7_mend_0 : List UInt8 := dkwX7_mend_0 ++ dktX7_mend_1
theorem dksX7_mend_0 : cX7_mend.data.toList.drop 0 = dktX7_mend_0 := by decide +kernel
theorem dksX7_mend_1 : cX7_mend.data.toList.drop 22 = dktX7_mend_1 := dk_seg dksX7_mend_0 22 rfl rfl
theorem dksX7_mend_2 : cX7_mend.data.toList.drop 46 = dktX7_mend_2 := dk_seg dksX7_mend_1 24 rfl rfl
theorem dksX7_mend_3 : cX7_mend.data.toList.drop 69 = dktX7_mend_3 := dk_seg dksX7_mend_2 23 rfl rfl
theorem dksX7_mend_4 : cX7_mend.data.toList.drop 93 = dktX7_mend_4 := dk_seg dksX7_mend_3 24 rfl rfl
theorem dksX7_mend_5 : cX7_mend.data.toList.drop 117 = dktX7_mend_5 := dk_seg dksX7_mend_4 24 rfl rfl
theorem dksX7_mend_6 : cX7_mend.data.toList.drop 139 = dktX7_mend_6 := dk_seg dksX7_mend_5 22 rfl rfl
theorem dX7_mend_0 : decode cX7_mend 0 = .ok (.aload_n 0, 1) := dk_42 (dk_at dksX7_mend_0 0 rfl rfl)
theorem dX7_mend_1 : decode cX7_mend 1 = .ok (.iconst 0, 1) := dk_3 (dk_at dksX7_mend_0 1 rfl rfl)
theorem dX7_mend_2 : decode cX7_mend 2 = .ok (.putfield 72, 3) := dk_181 0 72 (dk_at dksX7_mend_0 2 rfl rfl)
theorem dX7_mend_5 : decode cX7_mend 5 = .ok (.aload_n 0, 1) := dk_42 (dk_at dksX7_mend_0 5 rfl rfl)
theorem dX7_mend_6 : decode cX7_mend 6 = .ok (.iload_n 1, 1) := dk_27 (dk_at dksX7_mend_0 6 rfl rfl)
theorem dX7_mend_7 : decode cX7_mend 7 = .ok (.iload_n 2, 1) := dk_28 (dk_at dksX7_mend_0 7 rfl rfl)
theorem dX7_mend_8 : decode cX7_mend 8 = .ok (.iload_n 3, 1) := dk_29 (dk_at dksX7_mend_0 8 rfl rfl)
theorem dX7_mend_9 : decode cX7_mend 9 = .ok (.invokevirtual 230, 3) := dk_182 0 230 (dk_at dksX7_mend_0 9 rfl rfl)
theorem dX7_mend_12 : decode cX7_mend 12 = .ok (.ifCond .eq 13, 3) := dk_153 0 13 (dk_at dksX7_mend_0 12 rfl rfl)
theorem dX7_mend_15 : decode cX7_mend 15 = .ok (.iload 4, 2) := dk_21 4 (dk_at dksX7_mend_0 15 rfl rfl)
theorem dX7_mend_17 : decode cX7_mend 17 = .ok (.iconst 0, 1) := dk_3 (dk_at dksX7_mend_0 17 rfl rfl)
theorem dX7_mend_18 : decode cX7_mend 18 = .ok (.iconst 1, 1) := dk_4 (dk_at dksX7_mend_0 18 rfl rfl)
theorem dX7_mend_19 : decode cX7_mend 19 = .ok (.invokestatic 75, 3) := dk_184 0 75 (dk_at dksX7_mend_0 19 rfl rfl)
theorem dX7_mend_22 : decode cX7_mend 22 = .ok (.ifCond .ne 6, 3) := dk_154 0 6 (dk_at dksX7_mend_1 0 rfl rfl)
theorem dX7_mend_25 : decode cX7_mend 25 = .ok (.ldc 79, 2) := dk_18 79 (dk_at dksX7_mend_1 3 rfl rfl)
theorem dX7_mend_27 : decode cX7_mend 27 = .ok (.ireturn, 1) := dk_172 (dk_at dksX7_mend_1 5 rfl rfl)
theorem dX7_mend_28 : decode cX7_mend 28 = .ok (.aload_n 0, 1) := dk_42 (dk_at dksX7_mend_1 6 rfl rfl)
theorem dX7_mend_29 : decode cX7_mend 29 = .ok (.getfield 133, 3) := dk_180 0 133 (dk_at dksX7_mend_1 7 rfl rfl)
theorem dX7_mend_32 : decode cX7_mend 32 = .ok (.ifCond .ne 6, 3) := dk_154 0 6 (dk_at dksX7_mend_1 10 rfl rfl)
theorem dX7_mend_35 : decode cX7_mend 35 = .ok (.ldc 233, 2) := dk_18 233 (dk_at dksX7_mend_1 13 rfl rfl)
theorem dX7_mend_37 : decode cX7_mend 37 = .ok (.ireturn, 1) := dk_172 (dk_at dksX7_mend_1 15 rfl rfl)
theorem dX7_mend_38 : decode cX7_mend 38 = .ok (.iconst (-1), 1) := dk_2 (dk_at dksX7_mend_1 16 rfl rfl)
theorem dX7_mend_39 : decode cX7_mend 39 = .ok (.istore 5, 2) := dk_54 5 (dk_at dksX7_mend_1 17 rfl rfl)
theorem dX7_mend_41 : decode cX7_mend 41 = .ok (.bipush 10, 2) := dk_16 10 (dk_at dksX7_mend_1 19 rfl rfl)
theorem dX7_mend_43 : decode cX7_mend 43 = .ok (.istore 6, 2) := dk_54 6 (dk_at dksX7_mend_1 21 rfl rfl)
theorem dX7_mend_45 : decode cX7_mend 45 = .ok (.iconst 0, 1) := dk_3 (dk_at dksX7_mend_1 23 rfl rfl)
theorem dX7_mend_46 : decode cX7_mend 46 = .ok (.istore 7, 2) := dk_54 7 (dk_at dksX7_mend_2 0 rfl rfl)
theorem dX7_mend_48 : decode cX7_mend 48 = .ok (.iload 7, 2) := dk_21 7 (dk_at dksX7_mend_2 2 rfl rfl)
theorem dX7_mend_50 : decode cX7_mend 50 = .ok (.bipush 9, 2) := dk_16 9 (dk_at dksX7_mend_2 4 rfl rfl)
theorem dX7_mend_52 : decode cX7_mend 52 = .ok (.if_icmp .ge 93, 3) := dk_162 0 93 (dk_at dksX7_mend_2 6 rfl rfl)
theorem dX7_mend_55 : decode cX7_mend 55 = .ok (.iload 7, 2) := dk_21 7 (dk_at dksX7_mend_2 9 rfl rfl)
theorem dX7_mend_57 : decode cX7_mend 57 = .ok (.iconst 1, 1) := dk_4 (dk_at dksX7_mend_2 11 rfl rfl)
theorem dX7_mend_58 : decode cX7_mend 58 = .ok (.iadd, 1) := dk_96 (dk_at dksX7_mend_2 12 rfl rfl)
theorem dX7_mend_59 : decode cX7_mend 59 = .ok (.istore 8, 2) := dk_54 8 (dk_at dksX7_mend_2 13 rfl rfl)
theorem dX7_mend_61 : decode cX7_mend 61 = .ok (.iload 8, 2) := dk_21 8 (dk_at dksX7_mend_2 15 rfl rfl)
theorem dX7_mend_63 : decode cX7_mend 63 = .ok (.bipush 9, 2) := dk_16 9 (dk_at dksX7_mend_2 17 rfl rfl)
theorem dX7_mend_65 : decode cX7_mend 65 = .ok (.if_icmp .ge 74, 3) := dk_162 0 74 (dk_at dksX7_mend_2 19 rfl rfl)
theorem dX7_mend_68 : decode cX7_mend 68 = .ok (.aload_n 0, 1) := dk_42 (dk_at dksX7_mend_2 22 rfl rfl)
theorem dX7_mend_69 : decode cX7_mend 69 = .ok (.iload 7, 2) := dk_21 7 (dk_at dksX7_mend_3 0 rfl rfl)
theorem dX7_mend_71 : decode cX7_mend 71 = .ok (.iload 8, 2) := dk_21 8 (dk_at dksX7_mend_3 2 rfl rfl)
theorem dX7_mend_73 : decode cX7_mend 73 = .ok (.invokevirtual 188, 3) := dk_182 0 188 (dk_at dksX7_mend_3 4 rfl rfl)
theorem dX7_mend_76 : decode cX7_mend 76 = .ok (.aload_n 0, 1) := dk_42 (dk_at dksX7_mend_3 7 rfl rfl)
theorem dX7_mend_77 : decode cX7_mend 77 = .ok (.aload_n 0, 1) := dk_42 (dk_at dksX7_mend_3 8 rfl rfl)
theorem dX7_mend_78 : decode cX7_mend 78 = .ok (.getfield 19, 3) := dk_180 0 19 (dk_at dksX7_mend_3 9 rfl rfl)
theorem dX7_mend_81 : decode cX7_mend 81 = .ok (.bipush 45, 2) := dk_16 45 (dk_at dksX7_mend_3 12 rfl rfl)
theorem dX7_mend_83 : decode cX7_mend 83 = .ok (.iaload, 1) := dk_46 (dk_at dksX7_mend_3 14 rfl rfl)
theorem dX7_mend_84 : decode cX7_mend 84 = .ok (.iload_n 1, 1) := dk_27 (dk_at dksX7_mend_3 15 rfl rfl)
theorem dX7_mend_85 : decode cX7_mend 85 = .ok (.iload_n 2, 1) := dk_28 (dk_at dksX7_mend_3 16 rfl rfl)
theorem dX7_mend_86 : decode cX7_mend 86 = .ok (.iload_n 3, 1) := dk_29 (dk_at dksX7_mend_3 17 rfl rfl)
theorem dX7_mend_87 : decode cX7_mend 87 = .ok (.invokevirtual 184, 3) := dk_182 0 184 (dk_at dksX7_mend_3 18 rfl rfl)
theorem dX7_mend_90 : decode cX7_mend 90 = .ok (.invokestatic 194, 3) := dk_184 0 194 (dk_at dksX7_mend_3 21 rfl rfl)
theorem dX7_mend_93 : decode cX7_mend 93 = .ok (.istore 9, 2) := dk_54 9 (dk_at dksX7_mend_4 0 rfl rfl)
theorem dX7_mend_95 : decode cX7_mend 95 = .ok (.iload 9, 2) := dk_21 9 (dk_at dksX7_mend_4 2 rfl rfl)
theorem dX7_mend_97 : decode cX7_mend 97 = .ok (.iload 6, 2) := dk_21 6 (dk_at dksX7_mend_4 4 rfl rfl)
theorem dX7_mend_99 : decode cX7_mend 99 = .ok (.if_icmp .ge 14, 3) := dk_162 0 14 (dk_at dksX7_mend_4 6 rfl rfl)
theorem dX7_mend_102 : decode cX7_mend 102 = .ok (.bipush 10, 2) := dk_16 10 (dk_at dksX7_mend_4 9 rfl rfl)
theorem dX7_mend_104 : decode cX7_mend 104 = .ok (.iload 7, 2) := dk_21 7 (dk_at dksX7_mend_4 11 rfl rfl)
theorem dX7_mend_106 : decode cX7_mend 106 = .ok (.imul, 1) := dk_104 (dk_at dksX7_mend_4 13 rfl rfl)
theorem dX7_mend_107 : decode cX7_mend 107 = .ok (.iload 8, 2) := dk_21 8 (dk_at dksX7_mend_4 14 rfl rfl)
theorem dX7_mend_109 : decode cX7_mend 109 = .ok (.iadd, 1) := dk_96 (dk_at dksX7_mend_4 16 rfl rfl)
theorem dX7_mend_110 : decode cX7_mend 110 = .ok (.goto 5, 3) := dk_167 0 5 (dk_at dksX7_mend_4 17 rfl rfl)
theorem dX7_mend_113 : decode cX7_mend 113 = .ok (.iload 5, 2) := dk_21 5 (dk_at dksX7_mend_4 20 rfl rfl)
theorem dX7_mend_115 : decode cX7_mend 115 = .ok (.istore 5, 2) := dk_54 5 (dk_at dksX7_mend_4 22 rfl rfl)
theorem dX7_mend_117 : decode cX7_mend 117 = .ok (.iload 9, 2) := dk_21 9 (dk_at dksX7_mend_5 0 rfl rfl)
theorem dX7_mend_119 : decode cX7_mend 119 = .ok (.iload 6, 2) := dk_21 6 (dk_at dksX7_mend_5 2 rfl rfl)
theorem dX7_mend_121 : decode cX7_mend 121 = .ok (.if_icmp .ge 8, 3) := dk_162 0 8 (dk_at dksX7_mend_5 4 rfl rfl)
theorem dX7_mend_124 : decode cX7_mend 124 = .ok (.iload 9, 2) := dk_21 9 (dk_at dksX7_mend_5 7 rfl rfl)
theorem dX7_mend_126 : decode cX7_mend 126 = .ok (.goto 5, 3) := dk_167 0 5 (dk_at dksX7_mend_5 9 rfl rfl)
theorem dX7_mend_129 : decode cX7_mend 129 = .ok (.iload 6, 2) := dk_21 6 (dk_at dksX7_mend_5 12 rfl rfl)
theorem dX7_mend_131 : decode cX7_mend 131 = .ok (.istore 6, 2) := dk_54 6 (dk_at dksX7_mend_5 14 rfl rfl)
theorem dX7_mend_133 : decode cX7_mend 133 = .ok (.iinc 8 1, 3) := dk_132 8 1 (dk_at dksX7_mend_5 16 rfl rfl)
theorem dX7_mend_136 : decode cX7_mend 136 = .ok (.goto (-75), 3) := dk_167 255 181 (dk_at dksX7_mend_5 19 rfl rfl)
theorem dX7_mend_139 : decode cX7_mend 139 = .ok (.iinc 7 1, 3) := dk_132 7 1 (dk_at dksX7_mend_6 0 rfl rfl)
theorem dX7_mend_142 : decode cX7_mend 142 = .ok (.goto (-94), 3) := dk_167 255 162 (dk_at dksX7_mend_6 3 rfl rfl)
theorem dX7_mend_145 : decode cX7_mend 145 = .ok (.iload 4, 2) := dk_21 4 (dk_at dksX7_mend_6 6 rfl rfl)
theorem dX7_mend_147 : decode cX7_mend 147 = .ok (.ifCond .ne 8, 3) := dk_154 0 8 (dk_at dksX7_mend_6 8 rfl rfl)
theorem dX7_mend_150 : decode cX7_mend 150 = .ok (.iload 5, 2) := dk_21 5 (dk_at dksX7_mend_6 11 rfl rfl)
theorem dX7_mend_152 : decode cX7_mend 152 = .ok (.goto 5, 3) := dk_167 0 5 (dk_at dksX7_mend_6 13 rfl rfl)
theorem dX7_mend_155 : decode cX7_mend 155 = .ok (.iload 6, 2) := dk_21 6 (dk_at dksX7_mend_6 16 rfl rfl)
theorem dX7_mend_157 : decode cX7_mend 157 = .ok (.ireturn, 1) := dk_172 (dk_at dksX7_mend_6 18 rfl rfl)
abbrev cX7_hand : ByteArray := prog_12_method_61_code
def yX7_hand : MethodName := ⟨RX7, "hand", "(I)I"⟩
def dkwX7_hand_3 : List UInt8 := [128, 61, 132, 3, 1, 167, 255, 217, 28, 172]
abbrev dktX7_hand_3 : List UInt8 := dkwX7_hand_3 ++ []
def dkwX7_hand_2 : List UInt8 := [180, 0, 19, 16, 45, 46, 29, 182, 0, 191, 27, 160, 0, 12, 4, 29, 16, 120, 108, 120, 167, 0, 4, 3]
abbrev dktX7_hand_2 : List UInt8 := dkwX7_hand_2 ++ dktX7_hand_3
def dkwX7_hand_1 : List UInt8 := [18, 233, 172, 42, 3, 3, 182, 0, 188, 3, 61, 3, 62, 29, 17, 2, 88, 162, 0, 38, 28, 42, 42]
abbrev dktX7_hand_1 : List UInt8 := dkwX7_hand_1 ++ dktX7_hand_2
def dkwX7_hand_0 : List UInt8 := [42, 3, 181, 0, 72, 42, 27, 182, 0, 254, 154, 0, 6, 18, 220, 172, 42, 180, 0, 133, 154, 0, 6]
abbrev dktX7_hand_0 : List UInt8 := dkwX7_hand_0 ++ dktX7_hand_1
theorem dksX7_hand_0 : cX7_hand.data.toList.drop 0 = dktX7_hand_0 := by decide +kernel
theorem dksX7_hand_1 : cX7_hand.data.toList.drop 23 = dktX7_hand_1 := dk_seg dksX7_hand_0 23 rfl rfl
theorem dksX7_hand_2 : cX7_hand.data.toList.drop 46 = dktX7_hand_2 := dk_seg dksX7_hand_1 23 rfl rfl
theorem dksX7_hand_3 : cX7_hand.data.toList.drop 70 = dktX7_hand_3 := dk_seg dksX7_hand_2 24 rfl rfl
theorem dX7_hand_0 : decode cX7_hand 0 = .ok (.aload_n 0, 1) := dk_42 (dk_at dksX7_hand_0 0 rfl rfl)
theorem dX7_hand_1 : decode cX7_hand 1 = .ok (.iconst 0, 1) := dk_3 (dk_at dksX7_hand_0 1 rfl rfl)
theorem dX7_hand_2 : decode cX7_hand 2 = .ok (.putfield 72, 3) := dk_181 0 72 (dk_at dksX7_hand_0 2 rfl rfl)
theorem dX7_hand_5 : decode cX7_hand 5 = .ok (.aload_n 0, 1) := dk_42 (dk_at dksX7_hand_0 5 rfl rfl)
theorem dX7_hand_6 : decode cX7_hand 6 = .ok (.iload_n 1, 1) := dk_27 (dk_at dksX7_hand_0 6 rfl rfl)
theorem dX7_hand_7 : decode cX7_hand 7 = .ok (.invokevirtual 254, 3) := dk_182 0 254 (dk_at dksX7_hand_0 7 rfl rfl)
theorem dX7_hand_10 : decode cX7_hand 10 = .ok (.ifCond .ne 6, 3) := dk_154 0 6 (dk_at dksX7_hand_0 10 rfl rfl)
theorem dX7_hand_13 : decode cX7_hand 13 = .ok (.ldc 220, 2) := dk_18 220 (dk_at dksX7_hand_0 13 rfl rfl)
theorem dX7_hand_15 : decode cX7_hand 15 = .ok (.ireturn, 1) := dk_172 (dk_at dksX7_hand_0 15 rfl rfl)
theorem dX7_hand_16 : decode cX7_hand 16 = .ok (.aload_n 0, 1) := dk_42 (dk_at dksX7_hand_0 16 rfl rfl)
theorem dX7_hand_17 : decode cX7_hand 17 = .ok (.getfield 133, 3) := dk_180 0 133 (dk_at dksX7_hand_0 17 rfl rfl)
theorem dX7_hand_20 : decode cX7_hand 20 = .ok (.ifCond .ne 6, 3) := dk_154 0 6 (dk_at dksX7_hand_0 20 rfl rfl)
theorem dX7_hand_23 : decode cX7_hand 23 = .ok (.ldc 233, 2) := dk_18 233 (dk_at dksX7_hand_1 0 rfl rfl)
theorem dX7_hand_25 : decode cX7_hand 25 = .ok (.ireturn, 1) := dk_172 (dk_at dksX7_hand_1 2 rfl rfl)
theorem dX7_hand_26 : decode cX7_hand 26 = .ok (.aload_n 0, 1) := dk_42 (dk_at dksX7_hand_1 3 rfl rfl)
theorem dX7_hand_27 : decode cX7_hand 27 = .ok (.iconst 0, 1) := dk_3 (dk_at dksX7_hand_1 4 rfl rfl)
theorem dX7_hand_28 : decode cX7_hand 28 = .ok (.iconst 0, 1) := dk_3 (dk_at dksX7_hand_1 5 rfl rfl)
theorem dX7_hand_29 : decode cX7_hand 29 = .ok (.invokevirtual 188, 3) := dk_182 0 188 (dk_at dksX7_hand_1 6 rfl rfl)
theorem dX7_hand_32 : decode cX7_hand 32 = .ok (.iconst 0, 1) := dk_3 (dk_at dksX7_hand_1 9 rfl rfl)
theorem dX7_hand_33 : decode cX7_hand 33 = .ok (.istore_n 2, 1) := dk_61 (dk_at dksX7_hand_1 10 rfl rfl)
theorem dX7_hand_34 : decode cX7_hand 34 = .ok (.iconst 0, 1) := dk_3 (dk_at dksX7_hand_1 11 rfl rfl)
theorem dX7_hand_35 : decode cX7_hand 35 = .ok (.istore_n 3, 1) := dk_62 (dk_at dksX7_hand_1 12 rfl rfl)
theorem dX7_hand_36 : decode cX7_hand 36 = .ok (.iload_n 3, 1) := dk_29 (dk_at dksX7_hand_1 13 rfl rfl)
theorem dX7_hand_37 : decode cX7_hand 37 = .ok (.sipush 600, 3) := dk_17 2 88 (dk_at dksX7_hand_1 14 rfl rfl)
theorem dX7_hand_40 : decode cX7_hand 40 = .ok (.if_icmp .ge 38, 3) := dk_162 0 38 (dk_at dksX7_hand_1 17 rfl rfl)
theorem dX7_hand_43 : decode cX7_hand 43 = .ok (.iload_n 2, 1) := dk_28 (dk_at dksX7_hand_1 20 rfl rfl)
theorem dX7_hand_44 : decode cX7_hand 44 = .ok (.aload_n 0, 1) := dk_42 (dk_at dksX7_hand_1 21 rfl rfl)
theorem dX7_hand_45 : decode cX7_hand 45 = .ok (.aload_n 0, 1) := dk_42 (dk_at dksX7_hand_1 22 rfl rfl)
theorem dX7_hand_46 : decode cX7_hand 46 = .ok (.getfield 19, 3) := dk_180 0 19 (dk_at dksX7_hand_2 0 rfl rfl)
theorem dX7_hand_49 : decode cX7_hand 49 = .ok (.bipush 45, 2) := dk_16 45 (dk_at dksX7_hand_2 3 rfl rfl)
theorem dX7_hand_51 : decode cX7_hand 51 = .ok (.iaload, 1) := dk_46 (dk_at dksX7_hand_2 5 rfl rfl)
theorem dX7_hand_52 : decode cX7_hand 52 = .ok (.iload_n 3, 1) := dk_29 (dk_at dksX7_hand_2 6 rfl rfl)
theorem dX7_hand_53 : decode cX7_hand 53 = .ok (.invokevirtual 191, 3) := dk_182 0 191 (dk_at dksX7_hand_2 7 rfl rfl)
theorem dX7_hand_56 : decode cX7_hand 56 = .ok (.iload_n 1, 1) := dk_27 (dk_at dksX7_hand_2 10 rfl rfl)
theorem dX7_hand_57 : decode cX7_hand 57 = .ok (.if_icmp .ne 12, 3) := dk_160 0 12 (dk_at dksX7_hand_2 11 rfl rfl)
theorem dX7_hand_60 : decode cX7_hand 60 = .ok (.iconst 1, 1) := dk_4 (dk_at dksX7_hand_2 14 rfl rfl)
theorem dX7_hand_61 : decode cX7_hand 61 = .ok (.iload_n 3, 1) := dk_29 (dk_at dksX7_hand_2 15 rfl rfl)
theorem dX7_hand_62 : decode cX7_hand 62 = .ok (.bipush 120, 2) := dk_16 120 (dk_at dksX7_hand_2 16 rfl rfl)
theorem dX7_hand_64 : decode cX7_hand 64 = .ok (.idiv, 1) := dk_108 (dk_at dksX7_hand_2 18 rfl rfl)
theorem dX7_hand_65 : decode cX7_hand 65 = .ok (.ishl, 1) := dk_120 (dk_at dksX7_hand_2 19 rfl rfl)
theorem dX7_hand_66 : decode cX7_hand 66 = .ok (.goto 4, 3) := dk_167 0 4 (dk_at dksX7_hand_2 20 rfl rfl)
theorem dX7_hand_69 : decode cX7_hand 69 = .ok (.iconst 0, 1) := dk_3 (dk_at dksX7_hand_2 23 rfl rfl)
theorem dX7_hand_70 : decode cX7_hand 70 = .ok (.ior, 1) := dk_128 (dk_at dksX7_hand_3 0 rfl rfl)
theorem dX7_hand_71 : decode cX7_hand 71 = .ok (.istore_n 2, 1) := dk_61 (dk_at dksX7_hand_3 1 rfl rfl)
theorem dX7_hand_72 : decode cX7_hand 72 = .ok (.iinc 3 1, 3) := dk_132 3 1 (dk_at dksX7_hand_3 2 rfl rfl)
theorem dX7_hand_75 : decode cX7_hand 75 = .ok (.goto (-39), 3) := dk_167 255 217 (dk_at dksX7_hand_3 5 rfl rfl)
theorem dX7_hand_78 : decode cX7_hand 78 = .ok (.iload_n 2, 1) := dk_28 (dk_at dksX7_hand_3 8 rfl rfl)
theorem dX7_hand_79 : decode cX7_hand 79 = .ok (.ireturn, 1) := dk_172 (dk_at dksX7_hand_3 9 rfl rfl)
abbrev cX7_ask : ByteArray := prog_12_method_62_code
def yX7_ask : MethodName := ⟨RX7, "ask", "(I)I"⟩
def dkwX7_ask_6 : List UInt8 := [61, 21, 6, 29, 162, 0, 8, 21, 6, 167, 0, 4, 29, 62, 132, 4, 1, 167, 255, 141, 28, 172]
abbrev dktX7_ask_6 : List UInt8 := dkwX7_ask_6 ++ []
def dkwX7_ask_5 : List UInt8 := [21, 5, 167, 0, 8, 16, 120, 21, 5, 100, 54, 6, 21, 6, 29, 162, 0, 8, 21, 4, 167, 0, 4, 28]
abbrev dktX7_ask_5 : List UInt8 := dkwX7_ask_5 ++ dktX7_ask_6
def dkwX7_ask_4 : List UInt8 := [167, 0, 4, 3, 96, 54, 5, 132, 6, 1, 167, 255, 210, 21, 5, 16, 120, 21, 5, 100, 164, 0, 8]
abbrev dktX7_ask_4 : List UInt8 := dkwX7_ask_4 ++ dktX7_ask_5
def dkwX7_ask_3 : List UInt8 := [16, 45, 46, 16, 120, 27, 104, 21, 6, 96, 182, 0, 191, 21, 4, 184, 0, 170, 153, 0, 7, 4]
abbrev dktX7_ask_3 : List UInt8 := dkwX7_ask_3 ++ dktX7_ask_4
def dkwX7_ask_2 : List UInt8 := [162, 0, 112, 3, 54, 5, 3, 54, 6, 21, 6, 16, 120, 162, 0, 45, 21, 5, 42, 42, 180, 0, 19]
abbrev dktX7_ask_2 : List UInt8 := dkwX7_ask_2 ++ dktX7_ask_3
def dkwX7_ask_1 : List UInt8 := [18, 233, 172, 42, 3, 3, 182, 0, 188, 2, 61, 16, 120, 62, 3, 54, 4, 21, 4, 42, 180, 0, 130]
abbrev dktX7_ask_1 : List UInt8 := dkwX7_ask_1 ++ dktX7_ask_2
def dkwX7_ask_0 : List UInt8 := [42, 3, 181, 0, 72, 27, 3, 7, 184, 0, 75, 154, 0, 6, 18, 79, 172, 42, 180, 0, 133, 154, 0, 6]
abbrev dktX7_ask_0 : List UInt8 := dkwX7_ask_0 ++ dktX7_ask_1
theorem dksX7_ask_0 : cX7_ask.data.toList.drop 0 = dktX7_ask_0 := by decide +kernel
theorem dksX7_ask_1 : cX7_ask.data.toList.drop 24 = dktX7_ask_1 := dk_seg dksX7_ask_0 24 rfl rfl
theorem dksX7_ask_2 : cX7_ask.data.toList.drop 47 = dktX7_ask_2 := dk_seg dksX7_ask_1 23 rfl rfl
theorem dksX7_ask_3 : cX7_ask.data.toList.drop 70 = dktX7_ask_3 := dk_seg dksX7_ask_2 23 rfl rfl
theorem dksX7_ask_4 : cX7_ask.data.toList.drop 92 = dktX7_ask_4 := dk_seg dksX7_ask_3 22 rfl rfl
theorem dksX7_ask_5 : cX7_ask.data.toList.drop 115 = dktX7_ask_5 := dk_seg dksX7_ask_4 23 rfl rfl
theorem dksX7_ask_6 : cX7_ask.data.toList.drop 139 = dktX7_ask_6 := dk_seg dksX7_ask_5 24 rfl rfl
theorem dX7_ask_0 : decode cX7_ask 0 = .ok (.aload_n 0, 1) := dk_42 (dk_at dksX7_ask_0 0 rfl rfl)
theorem dX7_ask_1 : decode cX7_ask 1 = .ok (.iconst 0, 1) := dk_3 (dk_at dksX7_ask_0 1 rfl rfl)
theorem dX7_ask_2 : decode cX7_ask 2 = .ok (.putfield 72, 3) := dk_181 0 72 (dk_at dksX7_ask_0 2 rfl rfl)
theorem dX7_ask_5 : decode cX7_ask 5 = .ok (.iload_n 1, 1) := dk_27 (dk_at dksX7_ask_0 5 rfl rfl)
theorem dX7_ask_6 : decode cX7_ask 6 = .ok (.iconst 0, 1) := dk_3 (dk_at dksX7_ask_0 6 rfl rfl)
theorem dX7_ask_7 : decode cX7_ask 7 = .ok (.iconst 4, 1) := dk_7 (dk_at dksX7_ask_0 7 rfl rfl)
theorem dX7_ask_8 : decode cX7_ask 8 = .ok (.invokestatic 75, 3) := dk_184 0 75 (dk_at dksX7_ask_0 8 rfl rfl)
theorem dX7_ask_11 : decode cX7_ask 11 = .ok (.ifCond .ne 6, 3) := dk_154 0 6 (dk_at dksX7_ask_0 11 rfl rfl)
theorem dX7_ask_14 : decode cX7_ask 14 = .ok (.ldc 79, 2) := dk_18 79 (dk_at dksX7_ask_0 14 rfl rfl)
theorem dX7_ask_16 : decode cX7_ask 16 = .ok (.ireturn, 1) := dk_172 (dk_at dksX7_ask_0 16 rfl rfl)
theorem dX7_ask_17 : decode cX7_ask 17 = .ok (.aload_n 0, 1) := dk_42 (dk_at dksX7_ask_0 17 rfl rfl)
theorem dX7_ask_18 : decode cX7_ask 18 = .ok (.getfield 133, 3) := dk_180 0 133 (dk_at dksX7_ask_0 18 rfl rfl)
theorem dX7_ask_21 : decode cX7_ask 21 = .ok (.ifCond .ne 6, 3) := dk_154 0 6 (dk_at dksX7_ask_0 21 rfl rfl)
theorem dX7_ask_24 : decode cX7_ask 24 = .ok (.ldc 233, 2) := dk_18 233 (dk_at dksX7_ask_1 0 rfl rfl)
theorem dX7_ask_26 : decode cX7_ask 26 = .ok (.ireturn, 1) := dk_172 (dk_at dksX7_ask_1 2 rfl rfl)
theorem dX7_ask_27 : decode cX7_ask 27 = .ok (.aload_n 0, 1) := dk_42 (dk_at dksX7_ask_1 3 rfl rfl)
theorem dX7_ask_28 : decode cX7_ask 28 = .ok (.iconst 0, 1) := dk_3 (dk_at dksX7_ask_1 4 rfl rfl)
theorem dX7_ask_29 : decode cX7_ask 29 = .ok (.iconst 0, 1) := dk_3 (dk_at dksX7_ask_1 5 rfl rfl)
theorem dX7_ask_30 : decode cX7_ask 30 = .ok (.invokevirtual 188, 3) := dk_182 0 188 (dk_at dksX7_ask_1 6 rfl rfl)
theorem dX7_ask_33 : decode cX7_ask 33 = .ok (.iconst (-1), 1) := dk_2 (dk_at dksX7_ask_1 9 rfl rfl)
theorem dX7_ask_34 : decode cX7_ask 34 = .ok (.istore_n 2, 1) := dk_61 (dk_at dksX7_ask_1 10 rfl rfl)
theorem dX7_ask_35 : decode cX7_ask 35 = .ok (.bipush 120, 2) := dk_16 120 (dk_at dksX7_ask_1 11 rfl rfl)
theorem dX7_ask_37 : decode cX7_ask 37 = .ok (.istore_n 3, 1) := dk_62 (dk_at dksX7_ask_1 13 rfl rfl)
theorem dX7_ask_38 : decode cX7_ask 38 = .ok (.iconst 0, 1) := dk_3 (dk_at dksX7_ask_1 14 rfl rfl)
theorem dX7_ask_39 : decode cX7_ask 39 = .ok (.istore 4, 2) := dk_54 4 (dk_at dksX7_ask_1 15 rfl rfl)
theorem dX7_ask_41 : decode cX7_ask 41 = .ok (.iload 4, 2) := dk_21 4 (dk_at dksX7_ask_1 17 rfl rfl)
theorem dX7_ask_43 : decode cX7_ask 43 = .ok (.aload_n 0, 1) := dk_42 (dk_at dksX7_ask_1 19 rfl rfl)
theorem dX7_ask_44 : decode cX7_ask 44 = .ok (.getfield 130, 3) := dk_180 0 130 (dk_at dksX7_ask_1 20 rfl rfl)
theorem dX7_ask_47 : decode cX7_ask 47 = .ok (.if_icmp .ge 112, 3) := dk_162 0 112 (dk_at dksX7_ask_2 0 rfl rfl)
theorem dX7_ask_50 : decode cX7_ask 50 = .ok (.iconst 0, 1) := dk_3 (dk_at dksX7_ask_2 3 rfl rfl)
theorem dX7_ask_51 : decode cX7_ask 51 = .ok (.istore 5, 2) := dk_54 5 (dk_at dksX7_ask_2 4 rfl rfl)
theorem dX7_ask_53 : decode cX7_ask 53 = .ok (.iconst 0, 1) := dk_3 (dk_at dksX7_ask_2 6 rfl rfl)
theorem dX7_ask_54 : decode cX7_ask 54 = .ok (.istore 6, 2) := dk_54 6 (dk_at dksX7_ask_2 7 rfl rfl)
theorem dX7_ask_56 : decode cX7_ask 56 = .ok (.iload 6, 2) := dk_21 6 (dk_at dksX7_ask_2 9 rfl rfl)
theorem dX7_ask_58 : decode cX7_ask 58 = .ok (.bipush 120, 2) := dk_16 120 (dk_at dksX7_ask_2 11 rfl rfl)
theorem dX7_ask_60 : decode cX7_ask 60 = .ok (.if_icmp .ge 45, 3) := dk_162 0 45 (dk_at dksX7_ask_2 13 rfl rfl)
theorem dX7_ask_63 : decode cX7_ask 63 = .ok (.iload 5, 2) := dk_21 5 (dk_at dksX7_ask_2 16 rfl rfl)
theorem dX7_ask_65 : decode cX7_ask 65 = .ok (.aload_n 0, 1) := dk_42 (dk_at dksX7_ask_2 18 rfl rfl)
theorem dX7_ask_66 : decode cX7_ask 66 = .ok (.aload_n 0, 1) := dk_42 (dk_at dksX7_ask_2 19 rfl rfl)
theorem dX7_ask_67 : decode cX7_ask 67 = .ok (.getfield 19, 3) := dk_180 0 19 (dk_at dksX7_ask_2 20 rfl rfl)
theorem dX7_ask_70 : decode cX7_ask 70 = .ok (.bipush 45, 2) := dk_16 45 (dk_at dksX7_ask_3 0 rfl rfl)
theorem dX7_ask_72 : decode cX7_ask 72 = .ok (.iaload, 1) := dk_46 (dk_at dksX7_ask_3 2 rfl rfl)
theorem dX7_ask_73 : decode cX7_ask 73 = .ok (.bipush 120, 2) := dk_16 120 (dk_at dksX7_ask_3 3 rfl rfl)
theorem dX7_ask_75 : decode cX7_ask 75 = .ok (.iload_n 1, 1) := dk_27 (dk_at dksX7_ask_3 5 rfl rfl)
theorem dX7_ask_76 : decode cX7_ask 76 = .ok (.imul, 1) := dk_104 (dk_at dksX7_ask_3 6 rfl rfl)
theorem dX7_ask_77 : decode cX7_ask 77 = .ok (.iload 6, 2) := dk_21 6 (dk_at dksX7_ask_3 7 rfl rfl)
theorem dX7_ask_79 : decode cX7_ask 79 = .ok (.iadd, 1) := dk_96 (dk_at dksX7_ask_3 9 rfl rfl)
theorem dX7_ask_80 : decode cX7_ask 80 = .ok (.invokevirtual 191, 3) := dk_182 0 191 (dk_at dksX7_ask_3 10 rfl rfl)
theorem dX7_ask_83 : decode cX7_ask 83 = .ok (.iload 4, 2) := dk_21 4 (dk_at dksX7_ask_3 13 rfl rfl)
theorem dX7_ask_85 : decode cX7_ask 85 = .ok (.invokestatic 170, 3) := dk_184 0 170 (dk_at dksX7_ask_3 15 rfl rfl)
theorem dX7_ask_88 : decode cX7_ask 88 = .ok (.ifCond .eq 7, 3) := dk_153 0 7 (dk_at dksX7_ask_3 18 rfl rfl)
theorem dX7_ask_91 : decode cX7_ask 91 = .ok (.iconst 1, 1) := dk_4 (dk_at dksX7_ask_3 21 rfl rfl)
theorem dX7_ask_92 : decode cX7_ask 92 = .ok (.goto 4, 3) := dk_167 0 4 (dk_at dksX7_ask_4 0 rfl rfl)
theorem dX7_ask_95 : decode cX7_ask 95 = .ok (.iconst 0, 1) := dk_3 (dk_at dksX7_ask_4 3 rfl rfl)
theorem dX7_ask_96 : decode cX7_ask 96 = .ok (.iadd, 1) := dk_96 (dk_at dksX7_ask_4 4 rfl rfl)
theorem dX7_ask_97 : decode cX7_ask 97 = .ok (.istore 5, 2) := dk_54 5 (dk_at dksX7_ask_4 5 rfl rfl)
theorem dX7_ask_99 : decode cX7_ask 99 = .ok (.iinc 6 1, 3) := dk_132 6 1 (dk_at dksX7_ask_4 7 rfl rfl)
theorem dX7_ask_102 : decode cX7_ask 102 = .ok (.goto (-46), 3) := dk_167 255 210 (dk_at dksX7_ask_4 10 rfl rfl)
theorem dX7_ask_105 : decode cX7_ask 105 = .ok (.iload 5, 2) := dk_21 5 (dk_at dksX7_ask_4 13 rfl rfl)
theorem dX7_ask_107 : decode cX7_ask 107 = .ok (.bipush 120, 2) := dk_16 120 (dk_at dksX7_ask_4 15 rfl rfl)
theorem dX7_ask_109 : decode cX7_ask 109 = .ok (.iload 5, 2) := dk_21 5 (dk_at dksX7_ask_4 17 rfl rfl)
theorem dX7_ask_111 : decode cX7_ask 111 = .ok (.isub, 1) := dk_100 (dk_at dksX7_ask_4 19 rfl rfl)
theorem dX7_ask_112 : decode cX7_ask 112 = .ok (.if_icmp .le 8, 3) := dk_164 0 8 (dk_at dksX7_ask_4 20 rfl rfl)
theorem dX7_ask_115 : decode cX7_ask 115 = .ok (.iload 5, 2) := dk_21 5 (dk_at dksX7_ask_5 0 rfl rfl)
theorem dX7_ask_117 : decode cX7_ask 117 = .ok (.goto 8, 3) := dk_167 0 8 (dk_at dksX7_ask_5 2 rfl rfl)
theorem dX7_ask_120 : decode cX7_ask 120 = .ok (.bipush 120, 2) := dk_16 120 (dk_at dksX7_ask_5 5 rfl rfl)
theorem dX7_ask_122 : decode cX7_ask 122 = .ok (.iload 5, 2) := dk_21 5 (dk_at dksX7_ask_5 7 rfl rfl)
theorem dX7_ask_124 : decode cX7_ask 124 = .ok (.isub, 1) := dk_100 (dk_at dksX7_ask_5 9 rfl rfl)
theorem dX7_ask_125 : decode cX7_ask 125 = .ok (.istore 6, 2) := dk_54 6 (dk_at dksX7_ask_5 10 rfl rfl)
theorem dX7_ask_127 : decode cX7_ask 127 = .ok (.iload 6, 2) := dk_21 6 (dk_at dksX7_ask_5 12 rfl rfl)
theorem dX7_ask_129 : decode cX7_ask 129 = .ok (.iload_n 3, 1) := dk_29 (dk_at dksX7_ask_5 14 rfl rfl)
theorem dX7_ask_130 : decode cX7_ask 130 = .ok (.if_icmp .ge 8, 3) := dk_162 0 8 (dk_at dksX7_ask_5 15 rfl rfl)
theorem dX7_ask_133 : decode cX7_ask 133 = .ok (.iload 4, 2) := dk_21 4 (dk_at dksX7_ask_5 18 rfl rfl)
theorem dX7_ask_135 : decode cX7_ask 135 = .ok (.goto 4, 3) := dk_167 0 4 (dk_at dksX7_ask_5 20 rfl rfl)
theorem dX7_ask_138 : decode cX7_ask 138 = .ok (.iload_n 2, 1) := dk_28 (dk_at dksX7_ask_5 23 rfl rfl)
theorem dX7_ask_139 : decode cX7_ask 139 = .ok (.istore_n 2, 1) := dk_61 (dk_at dksX7_ask_6 0 rfl rfl)
theorem dX7_ask_140 : decode cX7_ask 140 = .ok (.iload 6, 2) := dk_21 6 (dk_at dksX7_ask_6 1 rfl rfl)
theorem dX7_ask_142 : decode cX7_ask 142 = .ok (.iload_n 3, 1) := dk_29 (dk_at dksX7_ask_6 3 rfl rfl)
theorem dX7_ask_143 : decode cX7_ask 143 = .ok (.if_icmp .ge 8, 3) := dk_162 0 8 (dk_at dksX7_ask_6 4 rfl rfl)
theorem dX7_ask_146 : decode cX7_ask 146 = .ok (.iload 6, 2) := dk_21 6 (dk_at dksX7_ask_6 7 rfl rfl)
theorem dX7_ask_148 : decode cX7_ask 148 = .ok (.goto 4, 3) := dk_167 0 4 (dk_at dksX7_ask_6 9 rfl rfl)
theorem dX7_ask_151 : decode cX7_ask 151 = .ok (.iload_n 3, 1) := dk_29 (dk_at dksX7_ask_6 12 rfl rfl)
theorem dX7_ask_152 : decode cX7_ask 152 = .ok (.istore_n 3, 1) := dk_62 (dk_at dksX7_ask_6 13 rfl rfl)
theorem dX7_ask_153 : decode cX7_ask 153 = .ok (.iinc 4 1, 3) := dk_132 4 1 (dk_at dksX7_ask_6 14 rfl rfl)
theorem dX7_ask_156 : decode cX7_ask 156 = .ok (.goto (-115), 3) := dk_167 255 141 (dk_at dksX7_ask_6 17 rfl rfl)
theorem dX7_ask_159 : decode cX7_ask 159 = .ok (.iload_n 2, 1) := dk_28 (dk_at dksX7_ask_6 20 rfl rfl)
theorem dX7_ask_160 : decode cX7_ask 160 = .ok (.ireturn, 1) := dk_172 (dk_at dksX7_ask_6 21 rfl rfl)
abbrev cX7_calm : ByteArray := prog_12_method_63_code
def yX7_calm : MethodName := ⟨RX7, "calm", "(II)I"⟩
def dkwX7_calm_2 : List UInt8 := [20, 1, 3, 109, 66, 132, 5, 1, 167, 255, 238, 33, 136, 172]
abbrev dktX7_calm_2 : List UInt8 := dkwX7_calm_2 ++ []
def dkwX7_calm_1 : List UInt8 := [154, 0, 6, 18, 79, 172, 20, 1, 1, 66, 3, 54, 5, 21, 5, 27, 162, 0, 18, 33, 28, 133, 105]
abbrev dktX7_calm_1 : List UInt8 := dkwX7_calm_1 ++ dktX7_calm_2
def dkwX7_calm_0 : List UInt8 := [42, 3, 181, 0, 72, 27, 3, 16, 60, 184, 0, 75, 153, 0, 13, 28, 3, 16, 100, 184, 0, 75]
abbrev dktX7_calm_0 : List UInt8 := dkwX7_calm_0 ++ dktX7_calm_1
theorem dksX7_calm_0 : cX7_calm.data.toList.drop 0 = dktX7_calm_0 := by decide +kernel
theorem dksX7_calm_1 : cX7_calm.data.toList.drop 22 = dktX7_calm_1 := dk_seg dksX7_calm_0 22 rfl rfl
theorem dksX7_calm_2 : cX7_calm.data.toList.drop 45 = dktX7_calm_2 := dk_seg dksX7_calm_1 23 rfl rfl
theorem dX7_calm_0 : decode cX7_calm 0 = .ok (.aload_n 0, 1) := dk_42 (dk_at dksX7_calm_0 0 rfl rfl)
theorem dX7_calm_1 : decode cX7_calm 1 = .ok (.iconst 0, 1) := dk_3 (dk_at dksX7_calm_0 1 rfl rfl)
theorem dX7_calm_2 : decode cX7_calm 2 = .ok (.putfield 72, 3) := dk_181 0 72 (dk_at dksX7_calm_0 2 rfl rfl)
theorem dX7_calm_5 : decode cX7_calm 5 = .ok (.iload_n 1, 1) := dk_27 (dk_at dksX7_calm_0 5 rfl rfl)
theorem dX7_calm_6 : decode cX7_calm 6 = .ok (.iconst 0, 1) := dk_3 (dk_at dksX7_calm_0 6 rfl rfl)
theorem dX7_calm_7 : decode cX7_calm 7 = .ok (.bipush 60, 2) := dk_16 60 (dk_at dksX7_calm_0 7 rfl rfl)
theorem dX7_calm_9 : decode cX7_calm 9 = .ok (.invokestatic 75, 3) := dk_184 0 75 (dk_at dksX7_calm_0 9 rfl rfl)
theorem dX7_calm_12 : decode cX7_calm 12 = .ok (.ifCond .eq 13, 3) := dk_153 0 13 (dk_at dksX7_calm_0 12 rfl rfl)
theorem dX7_calm_15 : decode cX7_calm 15 = .ok (.iload_n 2, 1) := dk_28 (dk_at dksX7_calm_0 15 rfl rfl)
theorem dX7_calm_16 : decode cX7_calm 16 = .ok (.iconst 0, 1) := dk_3 (dk_at dksX7_calm_0 16 rfl rfl)
theorem dX7_calm_17 : decode cX7_calm 17 = .ok (.bipush 100, 2) := dk_16 100 (dk_at dksX7_calm_0 17 rfl rfl)
theorem dX7_calm_19 : decode cX7_calm 19 = .ok (.invokestatic 75, 3) := dk_184 0 75 (dk_at dksX7_calm_0 19 rfl rfl)
theorem dX7_calm_22 : decode cX7_calm 22 = .ok (.ifCond .ne 6, 3) := dk_154 0 6 (dk_at dksX7_calm_1 0 rfl rfl)
theorem dX7_calm_25 : decode cX7_calm 25 = .ok (.ldc 79, 2) := dk_18 79 (dk_at dksX7_calm_1 3 rfl rfl)
theorem dX7_calm_27 : decode cX7_calm 27 = .ok (.ireturn, 1) := dk_172 (dk_at dksX7_calm_1 5 rfl rfl)
theorem dX7_calm_28 : decode cX7_calm 28 = .ok (.ldc2_w 257, 3) := dk_20 1 1 (dk_at dksX7_calm_1 6 rfl rfl)
theorem dX7_calm_31 : decode cX7_calm 31 = .ok (.lstore_n 3, 1) := dk_66 (dk_at dksX7_calm_1 9 rfl rfl)
theorem dX7_calm_32 : decode cX7_calm 32 = .ok (.iconst 0, 1) := dk_3 (dk_at dksX7_calm_1 10 rfl rfl)
theorem dX7_calm_33 : decode cX7_calm 33 = .ok (.istore 5, 2) := dk_54 5 (dk_at dksX7_calm_1 11 rfl rfl)
theorem dX7_calm_35 : decode cX7_calm 35 = .ok (.iload 5, 2) := dk_21 5 (dk_at dksX7_calm_1 13 rfl rfl)
theorem dX7_calm_37 : decode cX7_calm 37 = .ok (.iload_n 1, 1) := dk_27 (dk_at dksX7_calm_1 15 rfl rfl)
theorem dX7_calm_38 : decode cX7_calm 38 = .ok (.if_icmp .ge 18, 3) := dk_162 0 18 (dk_at dksX7_calm_1 16 rfl rfl)
theorem dX7_calm_41 : decode cX7_calm 41 = .ok (.lload_n 3, 1) := dk_33 (dk_at dksX7_calm_1 19 rfl rfl)
theorem dX7_calm_42 : decode cX7_calm 42 = .ok (.iload_n 2, 1) := dk_28 (dk_at dksX7_calm_1 20 rfl rfl)
theorem dX7_calm_43 : decode cX7_calm 43 = .ok (.i2l, 1) := dk_133 (dk_at dksX7_calm_1 21 rfl rfl)
theorem dX7_calm_44 : decode cX7_calm 44 = .ok (.lmul, 1) := dk_105 (dk_at dksX7_calm_1 22 rfl rfl)
theorem dX7_calm_45 : decode cX7_calm 45 = .ok (.ldc2_w 259, 3) := dk_20 1 3 (dk_at dksX7_calm_2 0 rfl rfl)
theorem dX7_calm_48 : decode cX7_calm 48 = .ok (.ldiv, 1) := dk_109 (dk_at dksX7_calm_2 3 rfl rfl)
theorem dX7_calm_49 : decode cX7_calm 49 = .ok (.lstore_n 3, 1) := dk_66 (dk_at dksX7_calm_2 4 rfl rfl)
theorem dX7_calm_50 : decode cX7_calm 50 = .ok (.iinc 5 1, 3) := dk_132 5 1 (dk_at dksX7_calm_2 5 rfl rfl)
theorem dX7_calm_53 : decode cX7_calm 53 = .ok (.goto (-18), 3) := dk_167 255 238 (dk_at dksX7_calm_2 8 rfl rfl)
theorem dX7_calm_56 : decode cX7_calm 56 = .ok (.lload_n 3, 1) := dk_33 (dk_at dksX7_calm_2 11 rfl rfl)
theorem dX7_calm_57 : decode cX7_calm 57 = .ok (.l2i, 1) := dk_136 (dk_at dksX7_calm_2 12 rfl rfl)
theorem dX7_calm_58 : decode cX7_calm 58 = .ok (.ireturn, 1) := dk_172 (dk_at dksX7_calm_2 13 rfl rfl)
abbrev cX7_write : ByteArray := prog_12_method_64_code
def yX7_write : MethodName := ⟨RX7, "write", "(IZ)I"⟩
def dkwX7_write_2 : List UInt8 := [28, 84, 42, 89, 180, 0, 140, 4, 96, 181, 0, 140, 42, 180, 0, 140, 172]
abbrev dktX7_write_2 : List UInt8 := dkwX7_write_2 ++ []
def dkwX7_write_1 : List UInt8 := [160, 0, 6, 18, 83, 172, 42, 180, 0, 32, 42, 180, 0, 140, 27, 79, 42, 180, 0, 35, 42, 180, 0, 140]
abbrev dktX7_write_1 : List UInt8 := dkwX7_write_1 ++ dktX7_write_2
def dkwX7_write_0 : List UInt8 := [42, 3, 181, 0, 72, 42, 27, 182, 0, 216, 154, 0, 6, 18, 220, 172, 42, 180, 0, 140, 16, 15]
abbrev dktX7_write_0 : List UInt8 := dkwX7_write_0 ++ dktX7_write_1
theorem dksX7_write_0 : cX7_write.data.toList.drop 0 = dktX7_write_0 := by decide +kernel
theorem dksX7_write_1 : cX7_write.data.toList.drop 22 = dktX7_write_1 := dk_seg dksX7_write_0 22 rfl rfl
theorem dksX7_write_2 : cX7_write.data.toList.drop 46 = dktX7_write_2 := dk_seg dksX7_write_1 24 rfl rfl
theorem dX7_write_0 : decode cX7_write 0 = .ok (.aload_n 0, 1) := dk_42 (dk_at dksX7_write_0 0 rfl rfl)
theorem dX7_write_1 : decode cX7_write 1 = .ok (.iconst 0, 1) := dk_3 (dk_at dksX7_write_0 1 rfl rfl)
theorem dX7_write_2 : decode cX7_write 2 = .ok (.putfield 72, 3) := dk_181 0 72 (dk_at dksX7_write_0 2 rfl rfl)
theorem dX7_write_5 : decode cX7_write 5 = .ok (.aload_n 0, 1) := dk_42 (dk_at dksX7_write_0 5 rfl rfl)
theorem dX7_write_6 : decode cX7_write 6 = .ok (.iload_n 1, 1) := dk_27 (dk_at dksX7_write_0 6 rfl rfl)
theorem dX7_write_7 : decode cX7_write 7 = .ok (.invokevirtual 216, 3) := dk_182 0 216 (dk_at dksX7_write_0 7 rfl rfl)
theorem dX7_write_10 : decode cX7_write 10 = .ok (.ifCond .ne 6, 3) := dk_154 0 6 (dk_at dksX7_write_0 10 rfl rfl)
theorem dX7_write_13 : decode cX7_write 13 = .ok (.ldc 220, 2) := dk_18 220 (dk_at dksX7_write_0 13 rfl rfl)
theorem dX7_write_15 : decode cX7_write 15 = .ok (.ireturn, 1) := dk_172 (dk_at dksX7_write_0 15 rfl rfl)
theorem dX7_write_16 : decode cX7_write 16 = .ok (.aload_n 0, 1) := dk_42 (dk_at dksX7_write_0 16 rfl rfl)
theorem dX7_write_17 : decode cX7_write 17 = .ok (.getfield 140, 3) := dk_180 0 140 (dk_at dksX7_write_0 17 rfl rfl)
theorem dX7_write_20 : decode cX7_write 20 = .ok (.bipush 15, 2) := dk_16 15 (dk_at dksX7_write_0 20 rfl rfl)
theorem dX7_write_22 : decode cX7_write 22 = .ok (.if_icmp .ne 6, 3) := dk_160 0 6 (dk_at dksX7_write_1 0 rfl rfl)
theorem dX7_write_25 : decode cX7_write 25 = .ok (.ldc 83, 2) := dk_18 83 (dk_at dksX7_write_1 3 rfl rfl)
theorem dX7_write_27 : decode cX7_write 27 = .ok (.ireturn, 1) := dk_172 (dk_at dksX7_write_1 5 rfl rfl)
theorem dX7_write_28 : decode cX7_write 28 = .ok (.aload_n 0, 1) := dk_42 (dk_at dksX7_write_1 6 rfl rfl)
theorem dX7_write_29 : decode cX7_write 29 = .ok (.getfield 32, 3) := dk_180 0 32 (dk_at dksX7_write_1 7 rfl rfl)
theorem dX7_write_32 : decode cX7_write 32 = .ok (.aload_n 0, 1) := dk_42 (dk_at dksX7_write_1 10 rfl rfl)
theorem dX7_write_33 : decode cX7_write 33 = .ok (.getfield 140, 3) := dk_180 0 140 (dk_at dksX7_write_1 11 rfl rfl)
theorem dX7_write_36 : decode cX7_write 36 = .ok (.iload_n 1, 1) := dk_27 (dk_at dksX7_write_1 14 rfl rfl)
theorem dX7_write_37 : decode cX7_write 37 = .ok (.iastore, 1) := dk_79 (dk_at dksX7_write_1 15 rfl rfl)
theorem dX7_write_38 : decode cX7_write 38 = .ok (.aload_n 0, 1) := dk_42 (dk_at dksX7_write_1 16 rfl rfl)
theorem dX7_write_39 : decode cX7_write 39 = .ok (.getfield 35, 3) := dk_180 0 35 (dk_at dksX7_write_1 17 rfl rfl)
theorem dX7_write_42 : decode cX7_write 42 = .ok (.aload_n 0, 1) := dk_42 (dk_at dksX7_write_1 20 rfl rfl)
theorem dX7_write_43 : decode cX7_write 43 = .ok (.getfield 140, 3) := dk_180 0 140 (dk_at dksX7_write_1 21 rfl rfl)
theorem dX7_write_46 : decode cX7_write 46 = .ok (.iload_n 2, 1) := dk_28 (dk_at dksX7_write_2 0 rfl rfl)
theorem dX7_write_47 : decode cX7_write 47 = .ok (.bastore, 1) := dk_84 (dk_at dksX7_write_2 1 rfl rfl)
theorem dX7_write_48 : decode cX7_write 48 = .ok (.aload_n 0, 1) := dk_42 (dk_at dksX7_write_2 2 rfl rfl)
theorem dX7_write_49 : decode cX7_write 49 = .ok (.dup, 1) := dk_89 (dk_at dksX7_write_2 3 rfl rfl)
theorem dX7_write_50 : decode cX7_write 50 = .ok (.getfield 140, 3) := dk_180 0 140 (dk_at dksX7_write_2 4 rfl rfl)
theorem dX7_write_53 : decode cX7_write 53 = .ok (.iconst 1, 1) := dk_4 (dk_at dksX7_write_2 7 rfl rfl)
theorem dX7_write_54 : decode cX7_write 54 = .ok (.iadd, 1) := dk_96 (dk_at dksX7_write_2 8 rfl rfl)
theorem dX7_write_55 : decode cX7_write 55 = .ok (.putfield 140, 3) := dk_181 0 140 (dk_at dksX7_write_2 9 rfl rfl)
theorem dX7_write_58 : decode cX7_write 58 = .ok (.aload_n 0, 1) := dk_42 (dk_at dksX7_write_2 12 rfl rfl)
theorem dX7_write_59 : decode cX7_write 59 = .ok (.getfield 140, 3) := dk_180 0 140 (dk_at dksX7_write_2 13 rfl rfl)
theorem dX7_write_62 : decode cX7_write 62 = .ok (.ireturn, 1) := dk_172 (dk_at dksX7_write_2 16 rfl rfl)
abbrev cX7_tear : ByteArray := prog_12_method_65_code
def yX7_tear : MethodName := ⟨RX7, "tear", "()I"⟩
def dkwX7_tear_0 : List UInt8 := [42, 3, 181, 0, 72, 42, 180, 0, 140, 60, 42, 3, 181, 0, 140, 27, 172]
abbrev dktX7_tear_0 : List UInt8 := dkwX7_tear_0 ++ []
theorem dksX7_tear_0 : cX7_tear.data.toList.drop 0 = dktX7_tear_0 := by decide +kernel
theorem dX7_tear_0 : decode cX7_tear 0 = .ok (.aload_n 0, 1) := dk_42 (dk_at dksX7_tear_0 0 rfl rfl)
theorem dX7_tear_1 : decode cX7_tear 1 = .ok (.iconst 0, 1) := dk_3 (dk_at dksX7_tear_0 1 rfl rfl)
theorem dX7_tear_2 : decode cX7_tear 2 = .ok (.putfield 72, 3) := dk_181 0 72 (dk_at dksX7_tear_0 2 rfl rfl)
theorem dX7_tear_5 : decode cX7_tear 5 = .ok (.aload_n 0, 1) := dk_42 (dk_at dksX7_tear_0 5 rfl rfl)
theorem dX7_tear_6 : decode cX7_tear 6 = .ok (.getfield 140, 3) := dk_180 0 140 (dk_at dksX7_tear_0 6 rfl rfl)
theorem dX7_tear_9 : decode cX7_tear 9 = .ok (.istore_n 1, 1) := dk_60 (dk_at dksX7_tear_0 9 rfl rfl)
theorem dX7_tear_10 : decode cX7_tear 10 = .ok (.aload_n 0, 1) := dk_42 (dk_at dksX7_tear_0 10 rfl rfl)
theorem dX7_tear_11 : decode cX7_tear 11 = .ok (.iconst 0, 1) := dk_3 (dk_at dksX7_tear_0 11 rfl rfl)
theorem dX7_tear_12 : decode cX7_tear 12 = .ok (.putfield 140, 3) := dk_181 0 140 (dk_at dksX7_tear_0 12 rfl rfl)
theorem dX7_tear_15 : decode cX7_tear 15 = .ok (.iload_n 1, 1) := dk_27 (dk_at dksX7_tear_0 15 rfl rfl)
theorem dX7_tear_16 : decode cX7_tear 16 = .ok (.ireturn, 1) := dk_172 (dk_at dksX7_tear_0 16 rfl rfl)
abbrev cX7_judge : ByteArray := prog_12_method_66_code
def yX7_judge : MethodName := ⟨RX7, "judge", "()I"⟩
def dkwX7_judge_2 : List UInt8 := [167, 255, 218, 2, 172]
abbrev dktX7_judge_2 : List UInt8 := dkwX7_judge_2 ++ []
def dkwX7_judge_1 : List UInt8 := [180, 0, 32, 27, 46, 184, 0, 170, 42, 180, 0, 35, 27, 51, 159, 0, 5, 27, 172, 132, 1, 1]
abbrev dktX7_judge_1 : List UInt8 := dkwX7_judge_1 ++ dktX7_judge_2
def dkwX7_judge_0 : List UInt8 := [42, 3, 181, 0, 72, 3, 60, 27, 42, 180, 0, 140, 162, 0, 36, 42, 180, 0, 19, 16, 45, 46, 42]
abbrev dktX7_judge_0 : List UInt8 := dkwX7_judge_0 ++ dktX7_judge_1
theorem dksX7_judge_0 : cX7_judge.data.toList.drop 0 = dktX7_judge_0 := by decide +kernel
theorem dksX7_judge_1 : cX7_judge.data.toList.drop 23 = dktX7_judge_1 := dk_seg dksX7_judge_0 23 rfl rfl
theorem dksX7_judge_2 : cX7_judge.data.toList.drop 45 = dktX7_judge_2 := dk_seg dksX7_judge_1 22 rfl rfl
theorem dX7_judge_0 : decode cX7_judge 0 = .ok (.aload_n 0, 1) := dk_42 (dk_at dksX7_judge_0 0 rfl rfl)
theorem dX7_judge_1 : decode cX7_judge 1 = .ok (.iconst 0, 1) := dk_3 (dk_at dksX7_judge_0 1 rfl rfl)
theorem dX7_judge_2 : decode cX7_judge 2 = .ok (.putfield 72, 3) := dk_181 0 72 (dk_at dksX7_judge_0 2 rfl rfl)
theorem dX7_judge_5 : decode cX7_judge 5 = .ok (.iconst 0, 1) := dk_3 (dk_at dksX7_judge_0 5 rfl rfl)
theorem dX7_judge_6 : decode cX7_judge 6 = .ok (.istore_n 1, 1) := dk_60 (dk_at dksX7_judge_0 6 rfl rfl)
theorem dX7_judge_7 : decode cX7_judge 7 = .ok (.iload_n 1, 1) := dk_27 (dk_at dksX7_judge_0 7 rfl rfl)
theorem dX7_judge_8 : decode cX7_judge 8 = .ok (.aload_n 0, 1) := dk_42 (dk_at dksX7_judge_0 8 rfl rfl)
theorem dX7_judge_9 : decode cX7_judge 9 = .ok (.getfield 140, 3) := dk_180 0 140 (dk_at dksX7_judge_0 9 rfl rfl)
theorem dX7_judge_12 : decode cX7_judge 12 = .ok (.if_icmp .ge 36, 3) := dk_162 0 36 (dk_at dksX7_judge_0 12 rfl rfl)
theorem dX7_judge_15 : decode cX7_judge 15 = .ok (.aload_n 0, 1) := dk_42 (dk_at dksX7_judge_0 15 rfl rfl)
theorem dX7_judge_16 : decode cX7_judge 16 = .ok (.getfield 19, 3) := dk_180 0 19 (dk_at dksX7_judge_0 16 rfl rfl)
theorem dX7_judge_19 : decode cX7_judge 19 = .ok (.bipush 45, 2) := dk_16 45 (dk_at dksX7_judge_0 19 rfl rfl)
theorem dX7_judge_21 : decode cX7_judge 21 = .ok (.iaload, 1) := dk_46 (dk_at dksX7_judge_0 21 rfl rfl)
theorem dX7_judge_22 : decode cX7_judge 22 = .ok (.aload_n 0, 1) := dk_42 (dk_at dksX7_judge_0 22 rfl rfl)
theorem dX7_judge_23 : decode cX7_judge 23 = .ok (.getfield 32, 3) := dk_180 0 32 (dk_at dksX7_judge_1 0 rfl rfl)
theorem dX7_judge_26 : decode cX7_judge 26 = .ok (.iload_n 1, 1) := dk_27 (dk_at dksX7_judge_1 3 rfl rfl)
theorem dX7_judge_27 : decode cX7_judge 27 = .ok (.iaload, 1) := dk_46 (dk_at dksX7_judge_1 4 rfl rfl)
theorem dX7_judge_28 : decode cX7_judge 28 = .ok (.invokestatic 170, 3) := dk_184 0 170 (dk_at dksX7_judge_1 5 rfl rfl)
theorem dX7_judge_31 : decode cX7_judge 31 = .ok (.aload_n 0, 1) := dk_42 (dk_at dksX7_judge_1 8 rfl rfl)
theorem dX7_judge_32 : decode cX7_judge 32 = .ok (.getfield 35, 3) := dk_180 0 35 (dk_at dksX7_judge_1 9 rfl rfl)
theorem dX7_judge_35 : decode cX7_judge 35 = .ok (.iload_n 1, 1) := dk_27 (dk_at dksX7_judge_1 12 rfl rfl)
theorem dX7_judge_36 : decode cX7_judge 36 = .ok (.baload, 1) := dk_51 (dk_at dksX7_judge_1 13 rfl rfl)
theorem dX7_judge_37 : decode cX7_judge 37 = .ok (.if_icmp .eq 5, 3) := dk_159 0 5 (dk_at dksX7_judge_1 14 rfl rfl)
theorem dX7_judge_40 : decode cX7_judge 40 = .ok (.iload_n 1, 1) := dk_27 (dk_at dksX7_judge_1 17 rfl rfl)
theorem dX7_judge_41 : decode cX7_judge 41 = .ok (.ireturn, 1) := dk_172 (dk_at dksX7_judge_1 18 rfl rfl)
theorem dX7_judge_42 : decode cX7_judge 42 = .ok (.iinc 1 1, 3) := dk_132 1 1 (dk_at dksX7_judge_1 19 rfl rfl)
theorem dX7_judge_45 : decode cX7_judge 45 = .ok (.goto (-38), 3) := dk_167 255 218 (dk_at dksX7_judge_2 0 rfl rfl)
theorem dX7_judge_48 : decode cX7_judge 48 = .ok (.iconst (-1), 1) := dk_2 (dk_at dksX7_judge_2 3 rfl rfl)
theorem dX7_judge_49 : decode cX7_judge 49 = .ok (.ireturn, 1) := dk_172 (dk_at dksX7_judge_2 4 rfl rfl)
abbrev cX7_seed : ByteArray := prog_12_method_67_code
def yX7_seed : MethodName := ⟨RX7, "seed", "(I)I"⟩
def dkwX7_seed_1 : List UInt8 := [16, 48, 27, 79, 28, 172]
abbrev dktX7_seed_1 : List UInt8 := dkwX7_seed_1 ++ []
def dkwX7_seed_0 : List UInt8 := [42, 3, 181, 0, 72, 27, 156, 0, 6, 18, 79, 172, 42, 180, 0, 19, 16, 48, 46, 61, 42, 180, 0, 19]
abbrev dktX7_seed_0 : List UInt8 := dkwX7_seed_0 ++ dktX7_seed_1
theorem dksX7_seed_0 : cX7_seed.data.toList.drop 0 = dktX7_seed_0 := by decide +kernel
theorem dksX7_seed_1 : cX7_seed.data.toList.drop 24 = dktX7_seed_1 := dk_seg dksX7_seed_0 24 rfl rfl
theorem dX7_seed_0 : decode cX7_seed 0 = .ok (.aload_n 0, 1) := dk_42 (dk_at dksX7_seed_0 0 rfl rfl)
theorem dX7_seed_1 : decode cX7_seed 1 = .ok (.iconst 0, 1) := dk_3 (dk_at dksX7_seed_0 1 rfl rfl)
theorem dX7_seed_2 : decode cX7_seed 2 = .ok (.putfield 72, 3) := dk_181 0 72 (dk_at dksX7_seed_0 2 rfl rfl)
theorem dX7_seed_5 : decode cX7_seed 5 = .ok (.iload_n 1, 1) := dk_27 (dk_at dksX7_seed_0 5 rfl rfl)
theorem dX7_seed_6 : decode cX7_seed 6 = .ok (.ifCond .ge 6, 3) := dk_156 0 6 (dk_at dksX7_seed_0 6 rfl rfl)
theorem dX7_seed_9 : decode cX7_seed 9 = .ok (.ldc 79, 2) := dk_18 79 (dk_at dksX7_seed_0 9 rfl rfl)
theorem dX7_seed_11 : decode cX7_seed 11 = .ok (.ireturn, 1) := dk_172 (dk_at dksX7_seed_0 11 rfl rfl)
theorem dX7_seed_12 : decode cX7_seed 12 = .ok (.aload_n 0, 1) := dk_42 (dk_at dksX7_seed_0 12 rfl rfl)
theorem dX7_seed_13 : decode cX7_seed 13 = .ok (.getfield 19, 3) := dk_180 0 19 (dk_at dksX7_seed_0 13 rfl rfl)
theorem dX7_seed_16 : decode cX7_seed 16 = .ok (.bipush 48, 2) := dk_16 48 (dk_at dksX7_seed_0 16 rfl rfl)
theorem dX7_seed_18 : decode cX7_seed 18 = .ok (.iaload, 1) := dk_46 (dk_at dksX7_seed_0 18 rfl rfl)
theorem dX7_seed_19 : decode cX7_seed 19 = .ok (.istore_n 2, 1) := dk_61 (dk_at dksX7_seed_0 19 rfl rfl)
theorem dX7_seed_20 : decode cX7_seed 20 = .ok (.aload_n 0, 1) := dk_42 (dk_at dksX7_seed_0 20 rfl rfl)
theorem dX7_seed_21 : decode cX7_seed 21 = .ok (.getfield 19, 3) := dk_180 0 19 (dk_at dksX7_seed_0 21 rfl rfl)
theorem dX7_seed_24 : decode cX7_seed 24 = .ok (.bipush 48, 2) := dk_16 48 (dk_at dksX7_seed_1 0 rfl rfl)
theorem dX7_seed_26 : decode cX7_seed 26 = .ok (.iload_n 1, 1) := dk_27 (dk_at dksX7_seed_1 2 rfl rfl)
theorem dX7_seed_27 : decode cX7_seed 27 = .ok (.iastore, 1) := dk_79 (dk_at dksX7_seed_1 3 rfl rfl)
theorem dX7_seed_28 : decode cX7_seed 28 = .ok (.iload_n 2, 1) := dk_28 (dk_at dksX7_seed_1 4 rfl rfl)
theorem dX7_seed_29 : decode cX7_seed 29 = .ok (.ireturn, 1) := dk_172 (dk_at dksX7_seed_1 5 rfl rfl)
abbrev cX7_keep : ByteArray := prog_12_method_68_code
def yX7_keep : MethodName := ⟨RX7, "keep", "(I)I"⟩
def dkwX7_keep_2 : List UInt8 := [167, 255, 230, 42, 180, 0, 25, 27, 4, 84, 42, 3, 181, 0, 143, 4, 172]
abbrev dktX7_keep_2 : List UInt8 := dkwX7_keep_2 ++ []
def dkwX7_keep_1 : List UInt8 := [162, 0, 26, 42, 180, 0, 22, 16, 49, 27, 104, 28, 96, 42, 180, 0, 19, 28, 46, 79, 132, 2, 1]
abbrev dktX7_keep_1 : List UInt8 := dkwX7_keep_1 ++ dktX7_keep_2
def dkwX7_keep_0 : List UInt8 := [42, 3, 181, 0, 72, 27, 3, 4, 184, 0, 75, 154, 0, 6, 18, 220, 172, 3, 61, 28, 16, 49]
abbrev dktX7_keep_0 : List UInt8 := dkwX7_keep_0 ++ dktX7_keep_1
theorem dksX7_keep_0 : cX7_keep.data.toList.drop 0 = dktX7_keep_0 := by decide +kernel
theorem dksX7_keep_1 : cX7_keep.data.toList.drop 22 = dktX7_keep_1 := dk_seg dksX7_keep_0 22 rfl rfl
theorem dksX7_keep_2 : cX7_keep.data.toList.drop 45 = dktX7_keep_2 := dk_seg dksX7_keep_1 23 rfl rfl
theorem dX7_keep_0 : decode cX7_keep 0 = .ok (.aload_n 0, 1) := dk_42 (dk_at dksX7_keep_0 0 rfl rfl)
theorem dX7_keep_1 : decode cX7_keep 1 = .ok (.iconst 0, 1) := dk_3 (dk_at dksX7_keep_0 1 rfl rfl)
theorem dX7_keep_2 : decode cX7_keep 2 = .ok (.putfield 72, 3) := dk_181 0 72 (dk_at dksX7_keep_0 2 rfl rfl)
theorem dX7_keep_5 : decode cX7_keep 5 = .ok (.iload_n 1, 1) := dk_27 (dk_at dksX7_keep_0 5 rfl rfl)
theorem dX7_keep_6 : decode cX7_keep 6 = .ok (.iconst 0, 1) := dk_3 (dk_at dksX7_keep_0 6 rfl rfl)
theorem dX7_keep_7 : decode cX7_keep 7 = .ok (.iconst 1, 1) := dk_4 (dk_at dksX7_keep_0 7 rfl rfl)
theorem dX7_keep_8 : decode cX7_keep 8 = .ok (.invokestatic 75, 3) := dk_184 0 75 (dk_at dksX7_keep_0 8 rfl rfl)
theorem dX7_keep_11 : decode cX7_keep 11 = .ok (.ifCond .ne 6, 3) := dk_154 0 6 (dk_at dksX7_keep_0 11 rfl rfl)
theorem dX7_keep_14 : decode cX7_keep 14 = .ok (.ldc 220, 2) := dk_18 220 (dk_at dksX7_keep_0 14 rfl rfl)
theorem dX7_keep_16 : decode cX7_keep 16 = .ok (.ireturn, 1) := dk_172 (dk_at dksX7_keep_0 16 rfl rfl)
theorem dX7_keep_17 : decode cX7_keep 17 = .ok (.iconst 0, 1) := dk_3 (dk_at dksX7_keep_0 17 rfl rfl)
theorem dX7_keep_18 : decode cX7_keep 18 = .ok (.istore_n 2, 1) := dk_61 (dk_at dksX7_keep_0 18 rfl rfl)
theorem dX7_keep_19 : decode cX7_keep 19 = .ok (.iload_n 2, 1) := dk_28 (dk_at dksX7_keep_0 19 rfl rfl)
theorem dX7_keep_20 : decode cX7_keep 20 = .ok (.bipush 49, 2) := dk_16 49 (dk_at dksX7_keep_0 20 rfl rfl)
theorem dX7_keep_22 : decode cX7_keep 22 = .ok (.if_icmp .ge 26, 3) := dk_162 0 26 (dk_at dksX7_keep_1 0 rfl rfl)
theorem dX7_keep_25 : decode cX7_keep 25 = .ok (.aload_n 0, 1) := dk_42 (dk_at dksX7_keep_1 3 rfl rfl)
theorem dX7_keep_26 : decode cX7_keep 26 = .ok (.getfield 22, 3) := dk_180 0 22 (dk_at dksX7_keep_1 4 rfl rfl)
theorem dX7_keep_29 : decode cX7_keep 29 = .ok (.bipush 49, 2) := dk_16 49 (dk_at dksX7_keep_1 7 rfl rfl)
theorem dX7_keep_31 : decode cX7_keep 31 = .ok (.iload_n 1, 1) := dk_27 (dk_at dksX7_keep_1 9 rfl rfl)
theorem dX7_keep_32 : decode cX7_keep 32 = .ok (.imul, 1) := dk_104 (dk_at dksX7_keep_1 10 rfl rfl)
theorem dX7_keep_33 : decode cX7_keep 33 = .ok (.iload_n 2, 1) := dk_28 (dk_at dksX7_keep_1 11 rfl rfl)
theorem dX7_keep_34 : decode cX7_keep 34 = .ok (.iadd, 1) := dk_96 (dk_at dksX7_keep_1 12 rfl rfl)
theorem dX7_keep_35 : decode cX7_keep 35 = .ok (.aload_n 0, 1) := dk_42 (dk_at dksX7_keep_1 13 rfl rfl)
theorem dX7_keep_36 : decode cX7_keep 36 = .ok (.getfield 19, 3) := dk_180 0 19 (dk_at dksX7_keep_1 14 rfl rfl)
theorem dX7_keep_39 : decode cX7_keep 39 = .ok (.iload_n 2, 1) := dk_28 (dk_at dksX7_keep_1 17 rfl rfl)
theorem dX7_keep_40 : decode cX7_keep 40 = .ok (.iaload, 1) := dk_46 (dk_at dksX7_keep_1 18 rfl rfl)
theorem dX7_keep_41 : decode cX7_keep 41 = .ok (.iastore, 1) := dk_79 (dk_at dksX7_keep_1 19 rfl rfl)
theorem dX7_keep_42 : decode cX7_keep 42 = .ok (.iinc 2 1, 3) := dk_132 2 1 (dk_at dksX7_keep_1 20 rfl rfl)
theorem dX7_keep_45 : decode cX7_keep 45 = .ok (.goto (-26), 3) := dk_167 255 230 (dk_at dksX7_keep_2 0 rfl rfl)
theorem dX7_keep_48 : decode cX7_keep 48 = .ok (.aload_n 0, 1) := dk_42 (dk_at dksX7_keep_2 3 rfl rfl)
theorem dX7_keep_49 : decode cX7_keep 49 = .ok (.getfield 25, 3) := dk_180 0 25 (dk_at dksX7_keep_2 4 rfl rfl)
theorem dX7_keep_52 : decode cX7_keep 52 = .ok (.iload_n 1, 1) := dk_27 (dk_at dksX7_keep_2 7 rfl rfl)
theorem dX7_keep_53 : decode cX7_keep 53 = .ok (.iconst 1, 1) := dk_4 (dk_at dksX7_keep_2 8 rfl rfl)
theorem dX7_keep_54 : decode cX7_keep 54 = .ok (.bastore, 1) := dk_84 (dk_at dksX7_keep_2 9 rfl rfl)
theorem dX7_keep_55 : decode cX7_keep 55 = .ok (.aload_n 0, 1) := dk_42 (dk_at dksX7_keep_2 10 rfl rfl)
theorem dX7_keep_56 : decode cX7_keep 56 = .ok (.iconst 0, 1) := dk_3 (dk_at dksX7_keep_2 11 rfl rfl)
theorem dX7_keep_57 : decode cX7_keep 57 = .ok (.putfield 143, 3) := dk_181 0 143 (dk_at dksX7_keep_2 12 rfl rfl)
theorem dX7_keep_60 : decode cX7_keep 60 = .ok (.iconst 1, 1) := dk_4 (dk_at dksX7_keep_2 15 rfl rfl)
theorem dX7_keep_61 : decode cX7_keep 61 = .ok (.ireturn, 1) := dk_172 (dk_at dksX7_keep_2 16 rfl rfl)
abbrev cX7_goBack : ByteArray := prog_12_method_69_code
def yX7_goBack : MethodName := ⟨RX7, "goBack", "(I)I"⟩
def dkwX7_goBack_2 : List UInt8 := [16, 49, 27, 104, 28, 96, 46, 79, 132, 2, 1, 167, 255, 230, 42, 3, 181, 0, 143, 4, 172]
abbrev dktX7_goBack_2 : List UInt8 := dkwX7_goBack_2 ++ []
def dkwX7_goBack_1 : List UInt8 := [154, 0, 6, 18, 233, 172, 3, 61, 28, 16, 49, 162, 0, 26, 42, 180, 0, 19, 28, 42, 180, 0, 22]
abbrev dktX7_goBack_1 : List UInt8 := dkwX7_goBack_1 ++ dktX7_goBack_2
def dkwX7_goBack_0 : List UInt8 := [42, 3, 181, 0, 72, 27, 3, 4, 184, 0, 75, 154, 0, 6, 18, 220, 172, 42, 180, 0, 25, 27, 51]
abbrev dktX7_goBack_0 : List UInt8 := dkwX7_goBack_0 ++ dktX7_goBack_1
theorem dksX7_goBack_0 : cX7_goBack.data.toList.drop 0 = dktX7_goBack_0 := by decide +kernel
theorem dksX7_goBack_1 : cX7_goBack.data.toList.drop 23 = dktX7_goBack_1 := dk_seg dksX7_goBack_0 23 rfl rfl
theorem dksX7_goBack_2 : cX7_goBack.data.toList.drop 46 = dktX7_goBack_2 := dk_seg dksX7_goBack_1 23 rfl rfl
theorem dX7_goBack_0 : decode cX7_goBack 0 = .ok (.aload_n 0, 1) := dk_42 (dk_at dksX7_goBack_0 0 rfl rfl)
theorem dX7_goBack_1 : decode cX7_goBack 1 = .ok (.iconst 0, 1) := dk_3 (dk_at dksX7_goBack_0 1 rfl rfl)
theorem dX7_goBack_2 : decode cX7_goBack 2 = .ok (.putfield 72, 3) := dk_181 0 72 (dk_at dksX7_goBack_0 2 rfl rfl)
theorem dX7_goBack_5 : decode cX7_goBack 5 = .ok (.iload_n 1, 1) := dk_27 (dk_at dksX7_goBack_0 5 rfl rfl)
theorem dX7_goBack_6 : decode cX7_goBack 6 = .ok (.iconst 0, 1) := dk_3 (dk_at dksX7_goBack_0 6 rfl rfl)
theorem dX7_goBack_7 : decode cX7_goBack 7 = .ok (.iconst 1, 1) := dk_4 (dk_at dksX7_goBack_0 7 rfl rfl)
theorem dX7_goBack_8 : decode cX7_goBack 8 = .ok (.invokestatic 75, 3) := dk_184 0 75 (dk_at dksX7_goBack_0 8 rfl rfl)
theorem dX7_goBack_11 : decode cX7_goBack 11 = .ok (.ifCond .ne 6, 3) := dk_154 0 6 (dk_at dksX7_goBack_0 11 rfl rfl)
theorem dX7_goBack_14 : decode cX7_goBack 14 = .ok (.ldc 220, 2) := dk_18 220 (dk_at dksX7_goBack_0 14 rfl rfl)
theorem dX7_goBack_16 : decode cX7_goBack 16 = .ok (.ireturn, 1) := dk_172 (dk_at dksX7_goBack_0 16 rfl rfl)
theorem dX7_goBack_17 : decode cX7_goBack 17 = .ok (.aload_n 0, 1) := dk_42 (dk_at dksX7_goBack_0 17 rfl rfl)
theorem dX7_goBack_18 : decode cX7_goBack 18 = .ok (.getfield 25, 3) := dk_180 0 25 (dk_at dksX7_goBack_0 18 rfl rfl)
theorem dX7_goBack_21 : decode cX7_goBack 21 = .ok (.iload_n 1, 1) := dk_27 (dk_at dksX7_goBack_0 21 rfl rfl)
theorem dX7_goBack_22 : decode cX7_goBack 22 = .ok (.baload, 1) := dk_51 (dk_at dksX7_goBack_0 22 rfl rfl)
theorem dX7_goBack_23 : decode cX7_goBack 23 = .ok (.ifCond .ne 6, 3) := dk_154 0 6 (dk_at dksX7_goBack_1 0 rfl rfl)
theorem dX7_goBack_26 : decode cX7_goBack 26 = .ok (.ldc 233, 2) := dk_18 233 (dk_at dksX7_goBack_1 3 rfl rfl)
theorem dX7_goBack_28 : decode cX7_goBack 28 = .ok (.ireturn, 1) := dk_172 (dk_at dksX7_goBack_1 5 rfl rfl)
theorem dX7_goBack_29 : decode cX7_goBack 29 = .ok (.iconst 0, 1) := dk_3 (dk_at dksX7_goBack_1 6 rfl rfl)
theorem dX7_goBack_30 : decode cX7_goBack 30 = .ok (.istore_n 2, 1) := dk_61 (dk_at dksX7_goBack_1 7 rfl rfl)
theorem dX7_goBack_31 : decode cX7_goBack 31 = .ok (.iload_n 2, 1) := dk_28 (dk_at dksX7_goBack_1 8 rfl rfl)
theorem dX7_goBack_32 : decode cX7_goBack 32 = .ok (.bipush 49, 2) := dk_16 49 (dk_at dksX7_goBack_1 9 rfl rfl)
theorem dX7_goBack_34 : decode cX7_goBack 34 = .ok (.if_icmp .ge 26, 3) := dk_162 0 26 (dk_at dksX7_goBack_1 11 rfl rfl)
theorem dX7_goBack_37 : decode cX7_goBack 37 = .ok (.aload_n 0, 1) := dk_42 (dk_at dksX7_goBack_1 14 rfl rfl)
theorem dX7_goBack_38 : decode cX7_goBack 38 = .ok (.getfield 19, 3) := dk_180 0 19 (dk_at dksX7_goBack_1 15 rfl rfl)
theorem dX7_goBack_41 : decode cX7_goBack 41 = .ok (.iload_n 2, 1) := dk_28 (dk_at dksX7_goBack_1 18 rfl rfl)
theorem dX7_goBack_42 : decode cX7_goBack 42 = .ok (.aload_n 0, 1) := dk_42 (dk_at dksX7_goBack_1 19 rfl rfl)
theorem dX7_goBack_43 : decode cX7_goBack 43 = .ok (.getfield 22, 3) := dk_180 0 22 (dk_at dksX7_goBack_1 20 rfl rfl)
theorem dX7_goBack_46 : decode cX7_goBack 46 = .ok (.bipush 49, 2) := dk_16 49 (dk_at dksX7_goBack_2 0 rfl rfl)
theorem dX7_goBack_48 : decode cX7_goBack 48 = .ok (.iload_n 1, 1) := dk_27 (dk_at dksX7_goBack_2 2 rfl rfl)
theorem dX7_goBack_49 : decode cX7_goBack 49 = .ok (.imul, 1) := dk_104 (dk_at dksX7_goBack_2 3 rfl rfl)
theorem dX7_goBack_50 : decode cX7_goBack 50 = .ok (.iload_n 2, 1) := dk_28 (dk_at dksX7_goBack_2 4 rfl rfl)
theorem dX7_goBack_51 : decode cX7_goBack 51 = .ok (.iadd, 1) := dk_96 (dk_at dksX7_goBack_2 5 rfl rfl)
theorem dX7_goBack_52 : decode cX7_goBack 52 = .ok (.iaload, 1) := dk_46 (dk_at dksX7_goBack_2 6 rfl rfl)
theorem dX7_goBack_53 : decode cX7_goBack 53 = .ok (.iastore, 1) := dk_79 (dk_at dksX7_goBack_2 7 rfl rfl)
theorem dX7_goBack_54 : decode cX7_goBack 54 = .ok (.iinc 2 1, 3) := dk_132 2 1 (dk_at dksX7_goBack_2 8 rfl rfl)
theorem dX7_goBack_57 : decode cX7_goBack 57 = .ok (.goto (-26), 3) := dk_167 255 230 (dk_at dksX7_goBack_2 11 rfl rfl)
theorem dX7_goBack_60 : decode cX7_goBack 60 = .ok (.aload_n 0, 1) := dk_42 (dk_at dksX7_goBack_2 14 rfl rfl)
theorem dX7_goBack_61 : decode cX7_goBack 61 = .ok (.iconst 0, 1) := dk_3 (dk_at dksX7_goBack_2 15 rfl rfl)
theorem dX7_goBack_62 : decode cX7_goBack 62 = .ok (.putfield 143, 3) := dk_181 0 143 (dk_at dksX7_goBack_2 16 rfl rfl)
theorem dX7_goBack_65 : decode cX7_goBack 65 = .ok (.iconst 1, 1) := dk_4 (dk_at dksX7_goBack_2 19 rfl rfl)
theorem dX7_goBack_66 : decode cX7_goBack 66 = .ok (.ireturn, 1) := dk_172 (dk_at dksX7_goBack_2 20 rfl rfl)
theorem q65 : (Jvm.Cond.initialized "SkittleGentryModel") ∈ lw_all := lw_g (lw_at lw_m1 10 rfl) rfl
theorem q682 : (Jvm.Cond.instantiable "SkittleGentryModel" (35 : Nat)) ∈ lw_all := lw_g (lw_at lw_m3 147 rfl) rfl
theorem q684 : (Jvm.Cond.instanceMethod ({ cls := "SkittleGentryModel", name := "<init>", desc := "()V" } : Jvm.MethodName)) ∈ lw_all := lw_g (lw_at lw_m3 149 rfl) rfl
theorem q685 : (Jvm.Cond.code ({ cls := "SkittleGentryModel", name := "<init>", desc := "()V" } : Jvm.MethodName) prog_12_method_1_code (2 : Nat) (Option.none : Option Jvm.ClassFile.FieldType)) ∈ lw_all := lw_g (lw_at lw_m3 150 rfl) rfl
theorem q686 : (Jvm.Cond.methodLink "SkittleGentryModel" (1 : Nat) ({ cls := "java/lang/Object", name := "<init>", desc := "()V" } : Jvm.MethodName)) ∈ lw_all := lw_g (lw_at lw_m3 151 rfl) rfl
theorem q687 : (Jvm.Cond.fieldLink "SkittleGentryModel" (72 : Nat) "SkittleGentryModel" "thrown" "I") ∈ lw_all := lw_g (lw_at lw_m3 152 rfl) rfl
theorem q688 : (Jvm.Cond.fieldLink "SkittleGentryModel" (7 : Nat) "SkittleGentryModel" "text" "[I") ∈ lw_all := lw_g (lw_at lw_m3 153 rfl) rfl
theorem q689 : (Jvm.Cond.fieldLink "SkittleGentryModel" (80 : Nat) "SkittleGentryModel" "typed" "I") ∈ lw_all := lw_g (lw_at lw_m3 154 rfl) rfl
theorem q690 : (Jvm.Cond.fieldLink "SkittleGentryModel" (84 : Nat) "SkittleGentryModel" "at" "I") ∈ lw_all := lw_g (lw_at lw_m3 155 rfl) rfl
theorem q691 : (Jvm.Cond.fieldLink "SkittleGentryModel" (91 : Nat) "SkittleGentryModel" "kindOfFault" "I") ∈ lw_all := lw_g (lw_at lw_m3 156 rfl) rfl
theorem q692 : (Jvm.Cond.fieldLink "SkittleGentryModel" (98 : Nat) "SkittleGentryModel" "place" "I") ∈ lw_all := lw_g (lw_at lw_m3 157 rfl) rfl
theorem q693 : (Jvm.Cond.fieldLink "SkittleGentryModel" (68 : Nat) "SkittleGentryModel" "faultAt" "I") ∈ lw_all := lw_g (lw_at lw_m3 158 rfl) rfl
theorem q694 : (Jvm.Cond.fieldLink "SkittleGentryModel" (133 : Nat) "SkittleGentryModel" "isCounty" "Z") ∈ lw_all := lw_g (lw_at lw_m3 159 rfl) rfl
theorem q695 : (Jvm.Cond.fieldLink "SkittleGentryModel" (137 : Nat) "SkittleGentryModel" "floor" "I") ∈ lw_all := lw_g (lw_at lw_m3 160 rfl) rfl
theorem q696 : (Jvm.Cond.fieldLink "SkittleGentryModel" (130 : Nat) "SkittleGentryModel" "many" "I") ∈ lw_all := lw_g (lw_at lw_m3 161 rfl) rfl
theorem q697 : (Jvm.Cond.fieldLink "SkittleGentryModel" (115 : Nat) "SkittleGentryModel" "floorTold" "I") ∈ lw_all := lw_g (lw_at lw_m3 162 rfl) rfl
theorem q698 : (Jvm.Cond.fieldLink "SkittleGentryModel" (108 : Nat) "SkittleGentryModel" "manyTold" "I") ∈ lw_all := lw_g (lw_at lw_m3 163 rfl) rfl
theorem q699 : (Jvm.Cond.fieldLink "SkittleGentryModel" (13 : Nat) "SkittleGentryModel" "draft" "[I") ∈ lw_all := lw_g (lw_at lw_m3 164 rfl) rfl
theorem q700 : (Jvm.Cond.fieldLink "SkittleGentryModel" (16 : Nat) "SkittleGentryModel" "weight" "[I") ∈ lw_all := lw_g (lw_at lw_m3 165 rfl) rfl
theorem q701 : (Jvm.Cond.fieldLink "SkittleGentryModel" (19 : Nat) "SkittleGentryModel" "s" "[I") ∈ lw_all := lw_g (lw_at lw_m3 166 rfl) rfl
theorem q702 : (Jvm.Cond.fieldLink "SkittleGentryModel" (22 : Nat) "SkittleGentryModel" "kept" "[I") ∈ lw_all := lw_g (lw_at lw_m3 167 rfl) rfl
theorem q703 : (Jvm.Cond.fieldLink "SkittleGentryModel" (25 : Nat) "SkittleGentryModel" "isKept" "[Z") ∈ lw_all := lw_g (lw_at lw_m3 168 rfl) rfl
theorem q704 : (Jvm.Cond.fieldLink "SkittleGentryModel" (29 : Nat) "SkittleGentryModel" "undos" "[I") ∈ lw_all := lw_g (lw_at lw_m3 169 rfl) rfl
theorem q705 : (Jvm.Cond.fieldLink "SkittleGentryModel" (143 : Nat) "SkittleGentryModel" "undoMany" "I") ∈ lw_all := lw_g (lw_at lw_m3 170 rfl) rfl
theorem q706 : (Jvm.Cond.fieldLink "SkittleGentryModel" (32 : Nat) "SkittleGentryModel" "bookOf" "[I") ∈ lw_all := lw_g (lw_at lw_m3 171 rfl) rfl
theorem q707 : (Jvm.Cond.fieldLink "SkittleGentryModel" (35 : Nat) "SkittleGentryModel" "book" "[Z") ∈ lw_all := lw_g (lw_at lw_m3 172 rfl) rfl
theorem q708 : (Jvm.Cond.fieldLink "SkittleGentryModel" (140 : Nat) "SkittleGentryModel" "bookMany" "I") ∈ lw_all := lw_g (lw_at lw_m3 173 rfl) rfl
theorem q709 : (Jvm.Cond.fieldLink "SkittleGentryModel" (38 : Nat) "SkittleGentryModel" "on" "[I") ∈ lw_all := lw_g (lw_at lw_m3 174 rfl) rfl
theorem q710 : (Jvm.Cond.fieldLink "SkittleGentryModel" (41 : Nat) "SkittleGentryModel" "bear" "[I") ∈ lw_all := lw_g (lw_at lw_m3 175 rfl) rfl
theorem q711 : (Jvm.Cond.fieldLink "SkittleGentryModel" (44 : Nat) "SkittleGentryModel" "rocks" "[I") ∈ lw_all := lw_g (lw_at lw_m3 176 rfl) rfl
theorem q712 : (Jvm.Cond.fieldLink "SkittleGentryModel" (47 : Nat) "SkittleGentryModel" "taker" "[I") ∈ lw_all := lw_g (lw_at lw_m3 177 rfl) rfl
theorem q713 : (Jvm.Cond.fieldLink "SkittleGentryModel" (158 : Nat) "SkittleGentryModel" "up" "I") ∈ lw_all := lw_g (lw_at lw_m3 178 rfl) rfl
theorem q714 : (Jvm.Cond.fieldLink "SkittleGentryModel" (155 : Nat) "SkittleGentryModel" "rockMany" "I") ∈ lw_all := lw_g (lw_at lw_m3 179 rfl) rfl
theorem q715 : (Jvm.Cond.fieldLink "SkittleGentryModel" (178 : Nat) "SkittleGentryModel" "stays" "I") ∈ lw_all := lw_g (lw_at lw_m3 180 rfl) rfl
theorem q716 : (Jvm.Cond.fieldLink "SkittleGentryModel" (50 : Nat) "SkittleGentryModel" "striker" "[I") ∈ lw_all := lw_g (lw_at lw_m3 181 rfl) rfl
theorem q717 : (Jvm.Cond.fieldLink "SkittleGentryModel" (53 : Nat) "SkittleGentryModel" "strength" "[I") ∈ lw_all := lw_g (lw_at lw_m3 182 rfl) rfl
theorem q718 : (Jvm.Cond.fieldLink "SkittleGentryModel" (56 : Nat) "SkittleGentryModel" "side" "[I") ∈ lw_all := lw_g (lw_at lw_m3 183 rfl) rfl
theorem q719 : (Jvm.Cond.fieldLink "SkittleGentryModel" (59 : Nat) "SkittleGentryModel" "far" "[I") ∈ lw_all := lw_g (lw_at lw_m3 184 rfl) rfl
theorem q720 : (Jvm.Cond.fieldLink "SkittleGentryModel" (62 : Nat) "SkittleGentryModel" "firstBy" "[I") ∈ lw_all := lw_g (lw_at lw_m3 185 rfl) rfl
theorem q721 : (Jvm.Cond.fieldLink "SkittleGentryModel" (65 : Nat) "SkittleGentryModel" "queue" "[I") ∈ lw_all := lw_g (lw_at lw_m3 186 rfl) rfl
theorem q722 : (Jvm.Cond.lays "SkittleGentryModel" "SkittleGentryModel" "thrown" "I") ∈ lw_all := lw_g (lw_at lw_m3 187 rfl) rfl
theorem q723 : (Jvm.Cond.soleField "SkittleGentryModel" "thrown") ∈ lw_all := lw_g (lw_at lw_m3 188 rfl) rfl
theorem q724 : (Jvm.Cond.laysFinal "SkittleGentryModel" "SkittleGentryModel" "text" "[I") ∈ lw_all := lw_g (lw_at lw_m3 189 rfl) rfl
theorem q725 : (Jvm.Cond.soleField "SkittleGentryModel" "text") ∈ lw_all := lw_g (lw_at lw_m3 190 rfl) rfl
theorem q726 : (Jvm.Cond.lays "SkittleGentryModel" "SkittleGentryModel" "typed" "I") ∈ lw_all := lw_g (lw_at lw_m3 191 rfl) rfl
theorem q727 : (Jvm.Cond.soleField "SkittleGentryModel" "typed") ∈ lw_all := lw_g (lw_at lw_m3 192 rfl) rfl
theorem q728 : (Jvm.Cond.lays "SkittleGentryModel" "SkittleGentryModel" "at" "I") ∈ lw_all := lw_g (lw_at lw_m3 193 rfl) rfl
theorem q729 : (Jvm.Cond.soleField "SkittleGentryModel" "at") ∈ lw_all := lw_g (lw_at lw_m3 194 rfl) rfl
theorem q730 : (Jvm.Cond.lays "SkittleGentryModel" "SkittleGentryModel" "kindOfFault" "I") ∈ lw_all := lw_g (lw_at lw_m3 195 rfl) rfl
theorem q731 : (Jvm.Cond.soleField "SkittleGentryModel" "kindOfFault") ∈ lw_all := lw_g (lw_at lw_m3 196 rfl) rfl
theorem q732 : (Jvm.Cond.lays "SkittleGentryModel" "SkittleGentryModel" "place" "I") ∈ lw_all := lw_g (lw_at lw_m3 197 rfl) rfl
theorem q733 : (Jvm.Cond.soleField "SkittleGentryModel" "place") ∈ lw_all := lw_g (lw_at lw_m3 198 rfl) rfl
theorem q734 : (Jvm.Cond.lays "SkittleGentryModel" "SkittleGentryModel" "faultAt" "I") ∈ lw_all := lw_g (lw_at lw_m3 199 rfl) rfl
theorem q735 : (Jvm.Cond.soleField "SkittleGentryModel" "faultAt") ∈ lw_all := lw_g (lw_at lw_m3 200 rfl) rfl
theorem q736 : (Jvm.Cond.lays "SkittleGentryModel" "SkittleGentryModel" "isCounty" "Z") ∈ lw_all := lw_g (lw_at lw_m3 201 rfl) rfl
theorem q737 : (Jvm.Cond.soleField "SkittleGentryModel" "isCounty") ∈ lw_all := lw_g (lw_at lw_m3 202 rfl) rfl
theorem q738 : (Jvm.Cond.lays "SkittleGentryModel" "SkittleGentryModel" "floor" "I") ∈ lw_all := lw_g (lw_at lw_m3 203 rfl) rfl
theorem q739 : (Jvm.Cond.soleField "SkittleGentryModel" "floor") ∈ lw_all := lw_g (lw_at lw_m3 204 rfl) rfl
theorem q740 : (Jvm.Cond.lays "SkittleGentryModel" "SkittleGentryModel" "many" "I") ∈ lw_all := lw_g (lw_at lw_m3 205 rfl) rfl
theorem q741 : (Jvm.Cond.soleField "SkittleGentryModel" "many") ∈ lw_all := lw_g (lw_at lw_m3 206 rfl) rfl
theorem q742 : (Jvm.Cond.lays "SkittleGentryModel" "SkittleGentryModel" "floorTold" "I") ∈ lw_all := lw_g (lw_at lw_m3 207 rfl) rfl
theorem q743 : (Jvm.Cond.soleField "SkittleGentryModel" "floorTold") ∈ lw_all := lw_g (lw_at lw_m3 208 rfl) rfl
theorem q744 : (Jvm.Cond.lays "SkittleGentryModel" "SkittleGentryModel" "manyTold" "I") ∈ lw_all := lw_g (lw_at lw_m3 209 rfl) rfl
theorem q745 : (Jvm.Cond.soleField "SkittleGentryModel" "manyTold") ∈ lw_all := lw_g (lw_at lw_m3 210 rfl) rfl
theorem q746 : (Jvm.Cond.laysFinal "SkittleGentryModel" "SkittleGentryModel" "draft" "[I") ∈ lw_all := lw_g (lw_at lw_m3 211 rfl) rfl
theorem q747 : (Jvm.Cond.soleField "SkittleGentryModel" "draft") ∈ lw_all := lw_g (lw_at lw_m3 212 rfl) rfl
theorem q748 : (Jvm.Cond.laysFinal "SkittleGentryModel" "SkittleGentryModel" "weight" "[I") ∈ lw_all := lw_g (lw_at lw_m3 213 rfl) rfl
theorem q749 : (Jvm.Cond.soleField "SkittleGentryModel" "weight") ∈ lw_all := lw_g (lw_at lw_m3 214 rfl) rfl
theorem q750 : (Jvm.Cond.laysFinal "SkittleGentryModel" "SkittleGentryModel" "s" "[I") ∈ lw_all := lw_g (lw_at lw_m3 215 rfl) rfl
theorem q751 : (Jvm.Cond.soleField "SkittleGentryModel" "s") ∈ lw_all := lw_g (lw_at lw_m3 216 rfl) rfl
theorem q752 : (Jvm.Cond.laysFinal "SkittleGentryModel" "SkittleGentryModel" "kept" "[I") ∈ lw_all := lw_g (lw_at lw_m3 217 rfl) rfl
theorem q753 : (Jvm.Cond.soleField "SkittleGentryModel" "kept") ∈ lw_all := lw_g (lw_at lw_m3 218 rfl) rfl
theorem q754 : (Jvm.Cond.laysFinal "SkittleGentryModel" "SkittleGentryModel" "isKept" "[Z") ∈ lw_all := lw_g (lw_at lw_m3 219 rfl) rfl
theorem q755 : (Jvm.Cond.soleField "SkittleGentryModel" "isKept") ∈ lw_all := lw_g (lw_at lw_m3 220 rfl) rfl
theorem q756 : (Jvm.Cond.laysFinal "SkittleGentryModel" "SkittleGentryModel" "undos" "[I") ∈ lw_all := lw_g (lw_at lw_m3 221 rfl) rfl
theorem q757 : (Jvm.Cond.soleField "SkittleGentryModel" "undos") ∈ lw_all := lw_g (lw_at lw_m3 222 rfl) rfl
theorem q758 : (Jvm.Cond.lays "SkittleGentryModel" "SkittleGentryModel" "undoMany" "I") ∈ lw_all := lw_g (lw_at lw_m3 223 rfl) rfl
theorem q759 : (Jvm.Cond.soleField "SkittleGentryModel" "undoMany") ∈ lw_all := lw_g (lw_at lw_m3 224 rfl) rfl
theorem q760 : (Jvm.Cond.laysFinal "SkittleGentryModel" "SkittleGentryModel" "bookOf" "[I") ∈ lw_all := lw_g (lw_at lw_m3 225 rfl) rfl
theorem q761 : (Jvm.Cond.soleField "SkittleGentryModel" "bookOf") ∈ lw_all := lw_g (lw_at lw_m3 226 rfl) rfl
theorem q762 : (Jvm.Cond.laysFinal "SkittleGentryModel" "SkittleGentryModel" "book" "[Z") ∈ lw_all := lw_g (lw_at lw_m3 227 rfl) rfl
theorem q763 : (Jvm.Cond.soleField "SkittleGentryModel" "book") ∈ lw_all := lw_g (lw_at lw_m3 228 rfl) rfl
theorem q764 : (Jvm.Cond.lays "SkittleGentryModel" "SkittleGentryModel" "bookMany" "I") ∈ lw_all := lw_g (lw_at lw_m3 229 rfl) rfl
theorem q765 : (Jvm.Cond.soleField "SkittleGentryModel" "bookMany") ∈ lw_all := lw_g (lw_at lw_m3 230 rfl) rfl
theorem q766 : (Jvm.Cond.laysFinal "SkittleGentryModel" "SkittleGentryModel" "on" "[I") ∈ lw_all := lw_g (lw_at lw_m3 231 rfl) rfl
theorem q767 : (Jvm.Cond.soleField "SkittleGentryModel" "on") ∈ lw_all := lw_g (lw_at lw_m3 232 rfl) rfl
theorem q768 : (Jvm.Cond.laysFinal "SkittleGentryModel" "SkittleGentryModel" "bear" "[I") ∈ lw_all := lw_g (lw_at lw_m3 233 rfl) rfl
theorem q769 : (Jvm.Cond.soleField "SkittleGentryModel" "bear") ∈ lw_all := lw_g (lw_at lw_m3 234 rfl) rfl
theorem q770 : (Jvm.Cond.laysFinal "SkittleGentryModel" "SkittleGentryModel" "rocks" "[I") ∈ lw_all := lw_g (lw_at lw_m3 235 rfl) rfl
theorem q771 : (Jvm.Cond.soleField "SkittleGentryModel" "rocks") ∈ lw_all := lw_g (lw_at lw_m3 236 rfl) rfl
theorem q772 : (Jvm.Cond.laysFinal "SkittleGentryModel" "SkittleGentryModel" "taker" "[I") ∈ lw_all := lw_g (lw_at lw_m3 237 rfl) rfl
theorem q773 : (Jvm.Cond.soleField "SkittleGentryModel" "taker") ∈ lw_all := lw_g (lw_at lw_m3 238 rfl) rfl
theorem q774 : (Jvm.Cond.lays "SkittleGentryModel" "SkittleGentryModel" "up" "I") ∈ lw_all := lw_g (lw_at lw_m3 239 rfl) rfl
theorem q775 : (Jvm.Cond.soleField "SkittleGentryModel" "up") ∈ lw_all := lw_g (lw_at lw_m4 0 rfl) rfl
theorem q776 : (Jvm.Cond.lays "SkittleGentryModel" "SkittleGentryModel" "rockMany" "I") ∈ lw_all := lw_g (lw_at lw_m4 1 rfl) rfl
theorem q777 : (Jvm.Cond.soleField "SkittleGentryModel" "rockMany") ∈ lw_all := lw_g (lw_at lw_m4 2 rfl) rfl
theorem q778 : (Jvm.Cond.lays "SkittleGentryModel" "SkittleGentryModel" "stays" "I") ∈ lw_all := lw_g (lw_at lw_m4 3 rfl) rfl
theorem q779 : (Jvm.Cond.soleField "SkittleGentryModel" "stays") ∈ lw_all := lw_g (lw_at lw_m4 4 rfl) rfl
theorem q780 : (Jvm.Cond.laysFinal "SkittleGentryModel" "SkittleGentryModel" "striker" "[I") ∈ lw_all := lw_g (lw_at lw_m4 5 rfl) rfl
theorem q781 : (Jvm.Cond.soleField "SkittleGentryModel" "striker") ∈ lw_all := lw_g (lw_at lw_m4 6 rfl) rfl
theorem q782 : (Jvm.Cond.laysFinal "SkittleGentryModel" "SkittleGentryModel" "strength" "[I") ∈ lw_all := lw_g (lw_at lw_m4 7 rfl) rfl
theorem q783 : (Jvm.Cond.soleField "SkittleGentryModel" "strength") ∈ lw_all := lw_g (lw_at lw_m4 8 rfl) rfl
theorem q784 : (Jvm.Cond.laysFinal "SkittleGentryModel" "SkittleGentryModel" "side" "[I") ∈ lw_all := lw_g (lw_at lw_m4 9 rfl) rfl
theorem q785 : (Jvm.Cond.soleField "SkittleGentryModel" "side") ∈ lw_all := lw_g (lw_at lw_m4 10 rfl) rfl
theorem q786 : (Jvm.Cond.laysFinal "SkittleGentryModel" "SkittleGentryModel" "far" "[I") ∈ lw_all := lw_g (lw_at lw_m4 11 rfl) rfl
theorem q787 : (Jvm.Cond.soleField "SkittleGentryModel" "far") ∈ lw_all := lw_g (lw_at lw_m4 12 rfl) rfl
theorem q788 : (Jvm.Cond.laysFinal "SkittleGentryModel" "SkittleGentryModel" "firstBy" "[I") ∈ lw_all := lw_g (lw_at lw_m4 13 rfl) rfl
theorem q789 : (Jvm.Cond.soleField "SkittleGentryModel" "firstBy") ∈ lw_all := lw_g (lw_at lw_m4 14 rfl) rfl
theorem q790 : (Jvm.Cond.laysFinal "SkittleGentryModel" "SkittleGentryModel" "queue" "[I") ∈ lw_all := lw_g (lw_at lw_m4 15 rfl) rfl
theorem q791 : (Jvm.Cond.soleField "SkittleGentryModel" "queue") ∈ lw_all := lw_g (lw_at lw_m4 16 rfl) rfl
theorem q792 : (Jvm.Cond.superclass "SkittleGentryModel" "java/lang/Object") ∈ lw_all := lw_g (lw_at lw_m4 17 rfl) rfl
theorem q794 : (Jvm.Cond.instanceMethod ({ cls := "SkittleGentryModel", name := "feed", desc := "(I)I" } : Jvm.MethodName)) ∈ lw_all := lw_g (lw_at lw_m4 19 rfl) rfl
theorem q795 : (Jvm.Cond.selects "SkittleGentryModel" ({ cls := "SkittleGentryModel", name := "feed", desc := "(I)I" } : Jvm.MethodName) ({ cls := "SkittleGentryModel", name := "feed", desc := "(I)I" } : Jvm.MethodName)) ∈ lw_all := lw_g (lw_at lw_m4 20 rfl) rfl
theorem q796 : (Jvm.Cond.code ({ cls := "SkittleGentryModel", name := "feed", desc := "(I)I" } : Jvm.MethodName) prog_12_method_6_code (2 : Nat) (Option.some Jvm.ClassFile.FieldType.int)) ∈ lw_all := lw_g (lw_at lw_m4 21 rfl) rfl
theorem q797 : (Jvm.Cond.methodLink "SkittleGentryModel" (75 : Nat) ({ cls := "SkittleGentryModel", name := "in", desc := "(III)Z" } : Jvm.MethodName)) ∈ lw_all := lw_g (lw_at lw_m4 22 rfl) rfl
theorem q798 : (Jvm.Cond.static ({ cls := "SkittleGentryModel", name := "in", desc := "(III)Z" } : Jvm.MethodName)) ∈ lw_all := lw_g (lw_at lw_m4 23 rfl) rfl
theorem q799 : (Jvm.Cond.code ({ cls := "SkittleGentryModel", name := "in", desc := "(III)Z" } : Jvm.MethodName) prog_12_method_3_code (3 : Nat) (Option.some Jvm.ClassFile.FieldType.boolean)) ∈ lw_all := lw_g (lw_at lw_m4 24 rfl) rfl
theorem q800 : (Jvm.Cond.constant "SkittleGentryModel" (79 : Nat) (-1000000002 : Int32)) ∈ lw_all := lw_g (lw_at lw_m4 25 rfl) rfl
theorem q801 : (Jvm.Cond.constant "SkittleGentryModel" (83 : Nat) (-1000000004 : Int32)) ∈ lw_all := lw_g (lw_at lw_m4 26 rfl) rfl
theorem q803 : (Jvm.Cond.instanceMethod ({ cls := "SkittleGentryModel", name := "county", desc := "()I" } : Jvm.MethodName)) ∈ lw_all := lw_g (lw_at lw_m4 28 rfl) rfl
theorem q804 : (Jvm.Cond.selects "SkittleGentryModel" ({ cls := "SkittleGentryModel", name := "county", desc := "()I" } : Jvm.MethodName) ({ cls := "SkittleGentryModel", name := "county", desc := "()I" } : Jvm.MethodName)) ∈ lw_all := lw_g (lw_at lw_m4 29 rfl) rfl
theorem q805 : (Jvm.Cond.code ({ cls := "SkittleGentryModel", name := "county", desc := "()I" } : Jvm.MethodName) prog_12_method_15_code (1 : Nat) (Option.some Jvm.ClassFile.FieldType.int)) ∈ lw_all := lw_g (lw_at lw_m4 30 rfl) rfl
theorem q806 : (Jvm.Cond.methodLink "SkittleGentryModel" (124 : Nat) ({ cls := "SkittleGentryModel", name := "reads", desc := "()V" } : Jvm.MethodName)) ∈ lw_all := lw_g (lw_at lw_m4 31 rfl) rfl
theorem q807 : (Jvm.Cond.privateMethod ({ cls := "SkittleGentryModel", name := "reads", desc := "()V" } : Jvm.MethodName)) ∈ lw_tbl := lw_at lw_m4 32 rfl
theorem q808 : (Jvm.Cond.instanceMethod ({ cls := "SkittleGentryModel", name := "reads", desc := "()V" } : Jvm.MethodName)) ∈ lw_all := lw_g (lw_at lw_m4 33 rfl) rfl
theorem q809 : (Jvm.Cond.code ({ cls := "SkittleGentryModel", name := "reads", desc := "()V" } : Jvm.MethodName) prog_12_method_14_code (4 : Nat) (Option.none : Option Jvm.ClassFile.FieldType)) ∈ lw_all := lw_g (lw_at lw_m4 34 rfl) rfl
theorem q810 : (Jvm.Cond.methodLink "SkittleGentryModel" (101 : Nat) ({ cls := "SkittleGentryModel", name := "blanks", desc := "()V" } : Jvm.MethodName)) ∈ lw_all := lw_g (lw_at lw_m4 35 rfl) rfl
theorem q811 : (Jvm.Cond.privateMethod ({ cls := "SkittleGentryModel", name := "blanks", desc := "()V" } : Jvm.MethodName)) ∈ lw_tbl := lw_at lw_m4 36 rfl
theorem q812 : (Jvm.Cond.instanceMethod ({ cls := "SkittleGentryModel", name := "blanks", desc := "()V" } : Jvm.MethodName)) ∈ lw_all := lw_g (lw_at lw_m4 37 rfl) rfl
theorem q813 : (Jvm.Cond.code ({ cls := "SkittleGentryModel", name := "blanks", desc := "()V" } : Jvm.MethodName) prog_12_method_8_code (1 : Nat) (Option.none : Option Jvm.ClassFile.FieldType)) ∈ lw_all := lw_g (lw_at lw_m4 38 rfl) rfl
theorem q814 : (Jvm.Cond.methodLink "SkittleGentryModel" (87 : Nat) ({ cls := "SkittleGentryModel", name := "letterAt", desc := "(I)I" } : Jvm.MethodName)) ∈ lw_all := lw_g (lw_at lw_m4 39 rfl) rfl
theorem q815 : (Jvm.Cond.privateMethod ({ cls := "SkittleGentryModel", name := "letterAt", desc := "(I)I" } : Jvm.MethodName)) ∈ lw_tbl := lw_at lw_m4 40 rfl
theorem q816 : (Jvm.Cond.instanceMethod ({ cls := "SkittleGentryModel", name := "letterAt", desc := "(I)I" } : Jvm.MethodName)) ∈ lw_all := lw_g (lw_at lw_m4 41 rfl) rfl
theorem q817 : (Jvm.Cond.code ({ cls := "SkittleGentryModel", name := "letterAt", desc := "(I)I" } : Jvm.MethodName) prog_12_method_7_code (2 : Nat) (Option.some Jvm.ClassFile.FieldType.int)) ∈ lw_all := lw_g (lw_at lw_m4 42 rfl) rfl
theorem q818 : (Jvm.Cond.methodLink "SkittleGentryModel" (94 : Nat) ({ cls := "SkittleGentryModel", name := "isWell", desc := "()Z" } : Jvm.MethodName)) ∈ lw_all := lw_g (lw_at lw_m4 43 rfl) rfl
theorem q819 : (Jvm.Cond.privateMethod ({ cls := "SkittleGentryModel", name := "isWell", desc := "()Z" } : Jvm.MethodName)) ∈ lw_tbl := lw_at lw_m4 44 rfl
theorem q820 : (Jvm.Cond.instanceMethod ({ cls := "SkittleGentryModel", name := "isWell", desc := "()Z" } : Jvm.MethodName)) ∈ lw_all := lw_g (lw_at lw_m4 45 rfl) rfl
theorem q821 : (Jvm.Cond.code ({ cls := "SkittleGentryModel", name := "isWell", desc := "()Z" } : Jvm.MethodName) prog_12_method_9_code (1 : Nat) (Option.some Jvm.ClassFile.FieldType.boolean)) ∈ lw_all := lw_g (lw_at lw_m4 46 rfl) rfl
theorem q822 : (Jvm.Cond.methodLink "SkittleGentryModel" (104 : Nat) ({ cls := "SkittleGentryModel", name := "faulty", desc := "(II)V" } : Jvm.MethodName)) ∈ lw_all := lw_g (lw_at lw_m4 47 rfl) rfl
theorem q823 : (Jvm.Cond.privateMethod ({ cls := "SkittleGentryModel", name := "faulty", desc := "(II)V" } : Jvm.MethodName)) ∈ lw_tbl := lw_at lw_m4 48 rfl
theorem q824 : (Jvm.Cond.instanceMethod ({ cls := "SkittleGentryModel", name := "faulty", desc := "(II)V" } : Jvm.MethodName)) ∈ lw_all := lw_g (lw_at lw_m4 49 rfl) rfl
theorem q825 : (Jvm.Cond.code ({ cls := "SkittleGentryModel", name := "faulty", desc := "(II)V" } : Jvm.MethodName) prog_12_method_10_code (3 : Nat) (Option.none : Option Jvm.ClassFile.FieldType)) ∈ lw_all := lw_g (lw_at lw_m4 50 rfl) rfl
theorem q826 : (Jvm.Cond.methodLink "SkittleGentryModel" (111 : Nat) ({ cls := "SkittleGentryModel", name := "due", desc := "(II)I" } : Jvm.MethodName)) ∈ lw_all := lw_g (lw_at lw_m4 51 rfl) rfl
theorem q827 : (Jvm.Cond.privateMethod ({ cls := "SkittleGentryModel", name := "due", desc := "(II)I" } : Jvm.MethodName)) ∈ lw_tbl := lw_at lw_m4 52 rfl
theorem q828 : (Jvm.Cond.instanceMethod ({ cls := "SkittleGentryModel", name := "due", desc := "(II)I" } : Jvm.MethodName)) ∈ lw_all := lw_g (lw_at lw_m4 53 rfl) rfl
theorem q829 : (Jvm.Cond.code ({ cls := "SkittleGentryModel", name := "due", desc := "(II)I" } : Jvm.MethodName) prog_12_method_11_code (5 : Nat) (Option.some Jvm.ClassFile.FieldType.int)) ∈ lw_all := lw_g (lw_at lw_m4 54 rfl) rfl
theorem q830 : (Jvm.Cond.methodLink "SkittleGentryModel" (118 : Nat) ({ cls := "SkittleGentryModel", name := "tells", desc := "()V" } : Jvm.MethodName)) ∈ lw_all := lw_g (lw_at lw_m4 55 rfl) rfl
theorem q831 : (Jvm.Cond.privateMethod ({ cls := "SkittleGentryModel", name := "tells", desc := "()V" } : Jvm.MethodName)) ∈ lw_tbl := lw_at lw_m4 56 rfl
theorem q832 : (Jvm.Cond.instanceMethod ({ cls := "SkittleGentryModel", name := "tells", desc := "()V" } : Jvm.MethodName)) ∈ lw_all := lw_g (lw_at lw_m4 57 rfl) rfl
theorem q833 : (Jvm.Cond.code ({ cls := "SkittleGentryModel", name := "tells", desc := "()V" } : Jvm.MethodName) prog_12_method_13_code (2 : Nat) (Option.none : Option Jvm.ClassFile.FieldType)) ∈ lw_all := lw_g (lw_at lw_m4 58 rfl) rfl
theorem q834 : (Jvm.Cond.methodLink "SkittleGentryModel" (121 : Nat) ({ cls := "SkittleGentryModel", name := "ends", desc := "()V" } : Jvm.MethodName)) ∈ lw_all := lw_g (lw_at lw_m4 59 rfl) rfl
theorem q835 : (Jvm.Cond.privateMethod ({ cls := "SkittleGentryModel", name := "ends", desc := "()V" } : Jvm.MethodName)) ∈ lw_tbl := lw_at lw_m4 60 rfl
theorem q836 : (Jvm.Cond.instanceMethod ({ cls := "SkittleGentryModel", name := "ends", desc := "()V" } : Jvm.MethodName)) ∈ lw_all := lw_g (lw_at lw_m4 61 rfl) rfl
theorem q837 : (Jvm.Cond.code ({ cls := "SkittleGentryModel", name := "ends", desc := "()V" } : Jvm.MethodName) prog_12_method_12_code (1 : Nat) (Option.none : Option Jvm.ClassFile.FieldType)) ∈ lw_all := lw_g (lw_at lw_m4 62 rfl) rfl
theorem q838 : (Jvm.Cond.methodLink "SkittleGentryModel" (127 : Nat) ({ cls := "SkittleGentryModel", name := "settles", desc := "()V" } : Jvm.MethodName)) ∈ lw_all := lw_g (lw_at lw_m4 63 rfl) rfl
theorem q839 : (Jvm.Cond.privateMethod ({ cls := "SkittleGentryModel", name := "settles", desc := "()V" } : Jvm.MethodName)) ∈ lw_tbl := lw_at lw_m4 64 rfl
theorem q840 : (Jvm.Cond.instanceMethod ({ cls := "SkittleGentryModel", name := "settles", desc := "()V" } : Jvm.MethodName)) ∈ lw_all := lw_g (lw_at lw_m4 65 rfl) rfl
theorem q841 : (Jvm.Cond.code ({ cls := "SkittleGentryModel", name := "settles", desc := "()V" } : Jvm.MethodName) prog_12_method_16_code (3 : Nat) (Option.none : Option Jvm.ClassFile.FieldType)) ∈ lw_all := lw_g (lw_at lw_m4 66 rfl) rfl
theorem q843 : (Jvm.Cond.instanceMethod ({ cls := "SkittleGentryModel", name := "fault", desc := "()I" } : Jvm.MethodName)) ∈ lw_all := lw_g (lw_at lw_m4 68 rfl) rfl
theorem q844 : (Jvm.Cond.selects "SkittleGentryModel" ({ cls := "SkittleGentryModel", name := "fault", desc := "()I" } : Jvm.MethodName) ({ cls := "SkittleGentryModel", name := "fault", desc := "()I" } : Jvm.MethodName)) ∈ lw_all := lw_g (lw_at lw_m4 69 rfl) rfl
theorem q845 : (Jvm.Cond.code ({ cls := "SkittleGentryModel", name := "fault", desc := "()I" } : Jvm.MethodName) prog_12_method_17_code (1 : Nat) (Option.some Jvm.ClassFile.FieldType.int)) ∈ lw_all := lw_g (lw_at lw_m4 70 rfl) rfl
theorem q847 : (Jvm.Cond.instanceMethod ({ cls := "SkittleGentryModel", name := "told", desc := "(I)I" } : Jvm.MethodName)) ∈ lw_all := lw_g (lw_at lw_m4 72 rfl) rfl
theorem q848 : (Jvm.Cond.selects "SkittleGentryModel" ({ cls := "SkittleGentryModel", name := "told", desc := "(I)I" } : Jvm.MethodName) ({ cls := "SkittleGentryModel", name := "told", desc := "(I)I" } : Jvm.MethodName)) ∈ lw_all := lw_g (lw_at lw_m4 73 rfl) rfl
theorem q849 : (Jvm.Cond.code ({ cls := "SkittleGentryModel", name := "told", desc := "(I)I" } : Jvm.MethodName) prog_12_method_38_code (2 : Nat) (Option.some Jvm.ClassFile.FieldType.int)) ∈ lw_all := lw_g (lw_at lw_m4 74 rfl) rfl
theorem q850 : (Jvm.Cond.methodLink "SkittleGentryModel" (203 : Nat) ({ cls := "SkittleGentryModel", name := "worst", desc := "(I)I" } : Jvm.MethodName)) ∈ lw_all := lw_g (lw_at lw_m4 75 rfl) rfl
theorem q851 : (Jvm.Cond.privateMethod ({ cls := "SkittleGentryModel", name := "worst", desc := "(I)I" } : Jvm.MethodName)) ∈ lw_tbl := lw_at lw_m4 76 rfl
theorem q852 : (Jvm.Cond.instanceMethod ({ cls := "SkittleGentryModel", name := "worst", desc := "(I)I" } : Jvm.MethodName)) ∈ lw_all := lw_g (lw_at lw_m4 77 rfl) rfl
theorem q853 : (Jvm.Cond.code ({ cls := "SkittleGentryModel", name := "worst", desc := "(I)I" } : Jvm.MethodName) prog_12_method_34_code (6 : Nat) (Option.some Jvm.ClassFile.FieldType.int)) ∈ lw_all := lw_g (lw_at lw_m4 78 rfl) rfl
theorem q854 : (Jvm.Cond.methodLink "SkittleGentryModel" (188 : Nat) ({ cls := "SkittleGentryModel", name := "sets", desc := "(II)V" } : Jvm.MethodName)) ∈ lw_all := lw_g (lw_at lw_m4 79 rfl) rfl
theorem q855 : (Jvm.Cond.privateMethod ({ cls := "SkittleGentryModel", name := "sets", desc := "(II)V" } : Jvm.MethodName)) ∈ lw_tbl := lw_at lw_m4 80 rfl
theorem q856 : (Jvm.Cond.instanceMethod ({ cls := "SkittleGentryModel", name := "sets", desc := "(II)V" } : Jvm.MethodName)) ∈ lw_all := lw_g (lw_at lw_m4 81 rfl) rfl
theorem q857 : (Jvm.Cond.code ({ cls := "SkittleGentryModel", name := "sets", desc := "(II)V" } : Jvm.MethodName) prog_12_method_25_code (5 : Nat) (Option.none : Option Jvm.ClassFile.FieldType)) ∈ lw_all := lw_g (lw_at lw_m4 82 rfl) rfl
theorem q858 : (Jvm.Cond.methodLink "SkittleGentryModel" (152 : Nat) ({ cls := "SkittleGentryModel", name := "bearsOn", desc := "(II)I" } : Jvm.MethodName)) ∈ lw_all := lw_g (lw_at lw_m4 83 rfl) rfl
theorem q859 : (Jvm.Cond.privateMethod ({ cls := "SkittleGentryModel", name := "bearsOn", desc := "(II)I" } : Jvm.MethodName)) ∈ lw_tbl := lw_at lw_m4 84 rfl
theorem q860 : (Jvm.Cond.instanceMethod ({ cls := "SkittleGentryModel", name := "bearsOn", desc := "(II)I" } : Jvm.MethodName)) ∈ lw_all := lw_g (lw_at lw_m4 85 rfl) rfl
theorem q861 : (Jvm.Cond.code ({ cls := "SkittleGentryModel", name := "bearsOn", desc := "(II)I" } : Jvm.MethodName) prog_12_method_24_code (6 : Nat) (Option.some Jvm.ClassFile.FieldType.int)) ∈ lw_all := lw_g (lw_at lw_m4 86 rfl) rfl
theorem q862 : (Jvm.Cond.methodLink "SkittleGentryModel" (146 : Nat) ({ cls := "SkittleGentryModel", name := "rowOf", desc := "(I)I" } : Jvm.MethodName)) ∈ lw_all := lw_g (lw_at lw_m4 87 rfl) rfl
theorem q863 : (Jvm.Cond.static ({ cls := "SkittleGentryModel", name := "rowOf", desc := "(I)I" } : Jvm.MethodName)) ∈ lw_all := lw_g (lw_at lw_m4 88 rfl) rfl
theorem q864 : (Jvm.Cond.code ({ cls := "SkittleGentryModel", name := "rowOf", desc := "(I)I" } : Jvm.MethodName) prog_12_method_21_code (1 : Nat) (Option.some Jvm.ClassFile.FieldType.int)) ∈ lw_all := lw_g (lw_at lw_m4 89 rfl) rfl
theorem q865 : (Jvm.Cond.methodLink "SkittleGentryModel" (191 : Nat) ({ cls := "SkittleGentryModel", name := "goesBy", desc := "(II)I" } : Jvm.MethodName)) ∈ lw_all := lw_g (lw_at lw_m4 90 rfl) rfl
theorem q866 : (Jvm.Cond.privateMethod ({ cls := "SkittleGentryModel", name := "goesBy", desc := "(II)I" } : Jvm.MethodName)) ∈ lw_tbl := lw_at lw_m4 91 rfl
theorem q867 : (Jvm.Cond.instanceMethod ({ cls := "SkittleGentryModel", name := "goesBy", desc := "(II)I" } : Jvm.MethodName)) ∈ lw_all := lw_g (lw_at lw_m4 92 rfl) rfl
theorem q868 : (Jvm.Cond.code ({ cls := "SkittleGentryModel", name := "goesBy", desc := "(II)I" } : Jvm.MethodName) prog_12_method_31_code (3 : Nat) (Option.some Jvm.ClassFile.FieldType.int)) ∈ lw_all := lw_g (lw_at lw_m4 93 rfl) rfl
theorem q869 : (Jvm.Cond.methodLink "SkittleGentryModel" (184 : Nat) ({ cls := "SkittleGentryModel", name := "goes", desc := "(IIII)I" } : Jvm.MethodName)) ∈ lw_all := lw_g (lw_at lw_m4 94 rfl) rfl
theorem q870 : (Jvm.Cond.privateMethod ({ cls := "SkittleGentryModel", name := "goes", desc := "(IIII)I" } : Jvm.MethodName)) ∈ lw_tbl := lw_at lw_m4 95 rfl
theorem q871 : (Jvm.Cond.instanceMethod ({ cls := "SkittleGentryModel", name := "goes", desc := "(IIII)I" } : Jvm.MethodName)) ∈ lw_all := lw_g (lw_at lw_m4 96 rfl) rfl
theorem q872 : (Jvm.Cond.code ({ cls := "SkittleGentryModel", name := "goes", desc := "(IIII)I" } : Jvm.MethodName) prog_12_method_30_code (10 : Nat) (Option.some Jvm.ClassFile.FieldType.int)) ∈ lw_all := lw_g (lw_at lw_m4 97 rfl) rfl
theorem q873 : (Jvm.Cond.methodLink "SkittleGentryModel" (167 : Nat) ({ cls := "SkittleGentryModel", name := "plateAt", desc := "(II)I" } : Jvm.MethodName)) ∈ lw_all := lw_g (lw_at lw_m4 98 rfl) rfl
theorem q874 : (Jvm.Cond.static ({ cls := "SkittleGentryModel", name := "plateAt", desc := "(II)I" } : Jvm.MethodName)) ∈ lw_all := lw_g (lw_at lw_m4 99 rfl) rfl
theorem q875 : (Jvm.Cond.code ({ cls := "SkittleGentryModel", name := "plateAt", desc := "(II)I" } : Jvm.MethodName) prog_12_method_23_code (3 : Nat) (Option.some Jvm.ClassFile.FieldType.int)) ∈ lw_all := lw_g (lw_at lw_m4 100 rfl) rfl
theorem q876 : (Jvm.Cond.methodLink "SkittleGentryModel" (149 : Nat) ({ cls := "SkittleGentryModel", name := "columnOf", desc := "(I)I" } : Jvm.MethodName)) ∈ lw_all := lw_g (lw_at lw_m4 101 rfl) rfl
theorem q877 : (Jvm.Cond.static ({ cls := "SkittleGentryModel", name := "columnOf", desc := "(I)I" } : Jvm.MethodName)) ∈ lw_all := lw_g (lw_at lw_m4 102 rfl) rfl
theorem q878 : (Jvm.Cond.code ({ cls := "SkittleGentryModel", name := "columnOf", desc := "(I)I" } : Jvm.MethodName) prog_12_method_22_code (1 : Nat) (Option.some Jvm.ClassFile.FieldType.int)) ∈ lw_all := lw_g (lw_at lw_m4 103 rfl) rfl
theorem q879 : (Jvm.Cond.methodLink "SkittleGentryModel" (170 : Nat) ({ cls := "SkittleGentryModel", name := "has", desc := "(II)Z" } : Jvm.MethodName)) ∈ lw_all := lw_g (lw_at lw_m4 104 rfl) rfl
theorem q880 : (Jvm.Cond.static ({ cls := "SkittleGentryModel", name := "has", desc := "(II)Z" } : Jvm.MethodName)) ∈ lw_all := lw_g (lw_at lw_m4 105 rfl) rfl
theorem q881 : (Jvm.Cond.code ({ cls := "SkittleGentryModel", name := "has", desc := "(II)Z" } : Jvm.MethodName) prog_12_method_4_code (2 : Nat) (Option.some Jvm.ClassFile.FieldType.boolean)) ∈ lw_all := lw_g (lw_at lw_m4 106 rfl) rfl
theorem q882 : (Jvm.Cond.methodLink "SkittleGentryModel" (181 : Nat) ({ cls := "SkittleGentryModel", name := "falls", desc := "(II)V" } : Jvm.MethodName)) ∈ lw_all := lw_g (lw_at lw_m4 107 rfl) rfl
theorem q883 : (Jvm.Cond.privateMethod ({ cls := "SkittleGentryModel", name := "falls", desc := "(II)V" } : Jvm.MethodName)) ∈ lw_tbl := lw_at lw_m4 108 rfl
theorem q884 : (Jvm.Cond.instanceMethod ({ cls := "SkittleGentryModel", name := "falls", desc := "(II)V" } : Jvm.MethodName)) ∈ lw_all := lw_g (lw_at lw_m4 109 rfl) rfl
theorem q885 : (Jvm.Cond.code ({ cls := "SkittleGentryModel", name := "falls", desc := "(II)V" } : Jvm.MethodName) prog_12_method_29_code (8 : Nat) (Option.none : Option Jvm.ClassFile.FieldType)) ∈ lw_all := lw_g (lw_at lw_m4 110 rfl) rfl
theorem q886 : (Jvm.Cond.methodLink "SkittleGentryModel" (161 : Nat) ({ cls := "SkittleGentryModel", name := "fallsNow", desc := "(II)V" } : Jvm.MethodName)) ∈ lw_all := lw_g (lw_at lw_m4 111 rfl) rfl
theorem q887 : (Jvm.Cond.privateMethod ({ cls := "SkittleGentryModel", name := "fallsNow", desc := "(II)V" } : Jvm.MethodName)) ∈ lw_tbl := lw_at lw_m4 112 rfl
theorem q888 : (Jvm.Cond.instanceMethod ({ cls := "SkittleGentryModel", name := "fallsNow", desc := "(II)V" } : Jvm.MethodName)) ∈ lw_all := lw_g (lw_at lw_m4 113 rfl) rfl
theorem q889 : (Jvm.Cond.code ({ cls := "SkittleGentryModel", name := "fallsNow", desc := "(II)V" } : Jvm.MethodName) prog_12_method_27_code (3 : Nat) (Option.none : Option Jvm.ClassFile.FieldType)) ∈ lw_all := lw_g (lw_at lw_m4 114 rfl) rfl
theorem q890 : (Jvm.Cond.methodLink "SkittleGentryModel" (164 : Nat) ({ cls := "SkittleGentryModel", name := "plateOf", desc := "(I)I" } : Jvm.MethodName)) ∈ lw_all := lw_g (lw_at lw_m4 115 rfl) rfl
theorem q891 : (Jvm.Cond.privateMethod ({ cls := "SkittleGentryModel", name := "plateOf", desc := "(I)I" } : Jvm.MethodName)) ∈ lw_tbl := lw_at lw_m4 116 rfl
theorem q892 : (Jvm.Cond.instanceMethod ({ cls := "SkittleGentryModel", name := "plateOf", desc := "(I)I" } : Jvm.MethodName)) ∈ lw_all := lw_g (lw_at lw_m4 117 rfl) rfl
theorem q893 : (Jvm.Cond.code ({ cls := "SkittleGentryModel", name := "plateOf", desc := "(I)I" } : Jvm.MethodName) prog_12_method_28_code (3 : Nat) (Option.some Jvm.ClassFile.FieldType.int)) ∈ lw_all := lw_g (lw_at lw_m4 118 rfl) rfl
theorem q894 : (Jvm.Cond.methodLink "SkittleGentryModel" (174 : Nat) ({ cls := "SkittleGentryModel", name := "rocksNow", desc := "(I)V" } : Jvm.MethodName)) ∈ lw_all := lw_g (lw_at lw_m4 119 rfl) rfl
theorem q895 : (Jvm.Cond.privateMethod ({ cls := "SkittleGentryModel", name := "rocksNow", desc := "(I)V" } : Jvm.MethodName)) ∈ lw_tbl := lw_at lw_m4 120 rfl
theorem q896 : (Jvm.Cond.instanceMethod ({ cls := "SkittleGentryModel", name := "rocksNow", desc := "(I)V" } : Jvm.MethodName)) ∈ lw_all := lw_g (lw_at lw_m4 121 rfl) rfl
theorem q897 : (Jvm.Cond.code ({ cls := "SkittleGentryModel", name := "rocksNow", desc := "(I)V" } : Jvm.MethodName) prog_12_method_26_code (2 : Nat) (Option.none : Option Jvm.ClassFile.FieldType)) ∈ lw_all := lw_g (lw_at lw_m4 122 rfl) rfl
theorem q898 : (Jvm.Cond.methodLink "SkittleGentryModel" (194 : Nat) ({ cls := "SkittleGentryModel", name := "ones", desc := "(I)I" } : Jvm.MethodName)) ∈ lw_all := lw_g (lw_at lw_m4 123 rfl) rfl
theorem q899 : (Jvm.Cond.static ({ cls := "SkittleGentryModel", name := "ones", desc := "(I)I" } : Jvm.MethodName)) ∈ lw_all := lw_g (lw_at lw_m4 124 rfl) rfl
theorem q900 : (Jvm.Cond.code ({ cls := "SkittleGentryModel", name := "ones", desc := "(I)I" } : Jvm.MethodName) prog_12_method_5_code (3 : Nat) (Option.some Jvm.ClassFile.FieldType.int)) ∈ lw_all := lw_g (lw_at lw_m4 125 rfl) rfl
theorem q901 : (Jvm.Cond.methodLink "SkittleGentryModel" (197 : Nat) ({ cls := "SkittleGentryModel", name := "numberOf", desc := "(I)I" } : Jvm.MethodName)) ∈ lw_all := lw_g (lw_at lw_m4 126 rfl) rfl
theorem q902 : (Jvm.Cond.static ({ cls := "SkittleGentryModel", name := "numberOf", desc := "(I)I" } : Jvm.MethodName)) ∈ lw_all := lw_g (lw_at lw_m4 127 rfl) rfl
theorem q903 : (Jvm.Cond.code ({ cls := "SkittleGentryModel", name := "numberOf", desc := "(I)I" } : Jvm.MethodName) prog_12_method_32_code (1 : Nat) (Option.some Jvm.ClassFile.FieldType.int)) ∈ lw_all := lw_g (lw_at lw_m4 128 rfl) rfl
theorem q904 : (Jvm.Cond.methodLink "SkittleGentryModel" (206 : Nat) ({ cls := "SkittleGentryModel", name := "safest", desc := "(I)I" } : Jvm.MethodName)) ∈ lw_all := lw_g (lw_at lw_m4 129 rfl) rfl
theorem q905 : (Jvm.Cond.privateMethod ({ cls := "SkittleGentryModel", name := "safest", desc := "(I)I" } : Jvm.MethodName)) ∈ lw_tbl := lw_at lw_m4 130 rfl
theorem q906 : (Jvm.Cond.instanceMethod ({ cls := "SkittleGentryModel", name := "safest", desc := "(I)I" } : Jvm.MethodName)) ∈ lw_all := lw_g (lw_at lw_m4 131 rfl) rfl
theorem q907 : (Jvm.Cond.code ({ cls := "SkittleGentryModel", name := "safest", desc := "(I)I" } : Jvm.MethodName) prog_12_method_35_code (7 : Nat) (Option.some Jvm.ClassFile.FieldType.int)) ∈ lw_all := lw_g (lw_at lw_m4 132 rfl) rfl
theorem q908 : (Jvm.Cond.methodLink "SkittleGentryModel" (209 : Nat) ({ cls := "SkittleGentryModel", name := "firm", desc := "()I" } : Jvm.MethodName)) ∈ lw_all := lw_g (lw_at lw_m4 133 rfl) rfl
theorem q909 : (Jvm.Cond.privateMethod ({ cls := "SkittleGentryModel", name := "firm", desc := "()I" } : Jvm.MethodName)) ∈ lw_tbl := lw_at lw_m4 134 rfl
theorem q910 : (Jvm.Cond.instanceMethod ({ cls := "SkittleGentryModel", name := "firm", desc := "()I" } : Jvm.MethodName)) ∈ lw_all := lw_g (lw_at lw_m4 135 rfl) rfl
theorem q911 : (Jvm.Cond.code ({ cls := "SkittleGentryModel", name := "firm", desc := "()I" } : Jvm.MethodName) prog_12_method_36_code (1 : Nat) (Option.some Jvm.ClassFile.FieldType.int)) ∈ lw_all := lw_g (lw_at lw_m4 136 rfl) rfl
theorem q912 : (Jvm.Cond.methodLink "SkittleGentryModel" (200 : Nat) ({ cls := "SkittleGentryModel", name := "ballsFor", desc := "(II)I" } : Jvm.MethodName)) ∈ lw_all := lw_g (lw_at lw_m4 137 rfl) rfl
theorem q913 : (Jvm.Cond.privateMethod ({ cls := "SkittleGentryModel", name := "ballsFor", desc := "(II)I" } : Jvm.MethodName)) ∈ lw_tbl := lw_at lw_m4 138 rfl
theorem q914 : (Jvm.Cond.instanceMethod ({ cls := "SkittleGentryModel", name := "ballsFor", desc := "(II)I" } : Jvm.MethodName)) ∈ lw_all := lw_g (lw_at lw_m4 139 rfl) rfl
theorem q915 : (Jvm.Cond.code ({ cls := "SkittleGentryModel", name := "ballsFor", desc := "(II)I" } : Jvm.MethodName) prog_12_method_56_code (6 : Nat) (Option.some Jvm.ClassFile.FieldType.int)) ∈ lw_all := lw_g (lw_at lw_m4 140 rfl) rfl
theorem q916 : (Jvm.Cond.methodLink "SkittleGentryModel" (213 : Nat) ({ cls := "SkittleGentryModel", name := "talks", desc := "()I" } : Jvm.MethodName)) ∈ lw_all := lw_g (lw_at lw_m4 141 rfl) rfl
theorem q917 : (Jvm.Cond.privateMethod ({ cls := "SkittleGentryModel", name := "talks", desc := "()I" } : Jvm.MethodName)) ∈ lw_tbl := lw_at lw_m4 142 rfl
theorem q918 : (Jvm.Cond.instanceMethod ({ cls := "SkittleGentryModel", name := "talks", desc := "()I" } : Jvm.MethodName)) ∈ lw_all := lw_g (lw_at lw_m4 143 rfl) rfl
theorem q919 : (Jvm.Cond.code ({ cls := "SkittleGentryModel", name := "talks", desc := "()I" } : Jvm.MethodName) prog_12_method_37_code (7 : Nat) (Option.some Jvm.ClassFile.FieldType.int)) ∈ lw_all := lw_g (lw_at lw_m4 144 rfl) rfl
theorem q921 : (Jvm.Cond.instanceMethod ({ cls := "SkittleGentryModel", name := "skittle", desc := "(II)I" } : Jvm.MethodName)) ∈ lw_all := lw_g (lw_at lw_m4 146 rfl) rfl
theorem q922 : (Jvm.Cond.selects "SkittleGentryModel" ({ cls := "SkittleGentryModel", name := "skittle", desc := "(II)I" } : Jvm.MethodName) ({ cls := "SkittleGentryModel", name := "skittle", desc := "(II)I" } : Jvm.MethodName)) ∈ lw_all := lw_g (lw_at lw_m4 147 rfl) rfl
theorem q923 : (Jvm.Cond.code ({ cls := "SkittleGentryModel", name := "skittle", desc := "(II)I" } : Jvm.MethodName) prog_12_method_40_code (3 : Nat) (Option.some Jvm.ClassFile.FieldType.int)) ∈ lw_all := lw_g (lw_at lw_m4 148 rfl) rfl
theorem q924 : (Jvm.Cond.methodLink "SkittleGentryModel" (216 : Nat) ({ cls := "SkittleGentryModel", name := "isSkittle", desc := "(I)Z" } : Jvm.MethodName)) ∈ lw_all := lw_g (lw_at lw_m4 149 rfl) rfl
theorem q925 : (Jvm.Cond.privateMethod ({ cls := "SkittleGentryModel", name := "isSkittle", desc := "(I)Z" } : Jvm.MethodName)) ∈ lw_tbl := lw_at lw_m4 150 rfl
theorem q926 : (Jvm.Cond.instanceMethod ({ cls := "SkittleGentryModel", name := "isSkittle", desc := "(I)Z" } : Jvm.MethodName)) ∈ lw_all := lw_g (lw_at lw_m4 151 rfl) rfl
theorem q927 : (Jvm.Cond.code ({ cls := "SkittleGentryModel", name := "isSkittle", desc := "(I)Z" } : Jvm.MethodName) prog_12_method_18_code (2 : Nat) (Option.some Jvm.ClassFile.FieldType.boolean)) ∈ lw_all := lw_g (lw_at lw_m4 152 rfl) rfl
theorem q928 : (Jvm.Cond.constant "SkittleGentryModel" (220 : Nat) (-1000000001 : Int32)) ∈ lw_all := lw_g (lw_at lw_m4 153 rfl) rfl
theorem q929 : (Jvm.Cond.methodLink "SkittleGentryModel" (221 : Nat) ({ cls := "SkittleGentryModel", name := "firstTaker", desc := "(I)I" } : Jvm.MethodName)) ∈ lw_all := lw_g (lw_at lw_m4 154 rfl) rfl
theorem q930 : (Jvm.Cond.privateMethod ({ cls := "SkittleGentryModel", name := "firstTaker", desc := "(I)I" } : Jvm.MethodName)) ∈ lw_tbl := lw_at lw_m4 155 rfl
theorem q931 : (Jvm.Cond.instanceMethod ({ cls := "SkittleGentryModel", name := "firstTaker", desc := "(I)I" } : Jvm.MethodName)) ∈ lw_all := lw_g (lw_at lw_m4 156 rfl) rfl
theorem q932 : (Jvm.Cond.code ({ cls := "SkittleGentryModel", name := "firstTaker", desc := "(I)I" } : Jvm.MethodName) prog_12_method_39_code (4 : Nat) (Option.some Jvm.ClassFile.FieldType.int)) ∈ lw_all := lw_g (lw_at lw_m4 157 rfl) rfl
theorem q934 : (Jvm.Cond.instanceMethod ({ cls := "SkittleGentryModel", name := "plate", desc := "(I)I" } : Jvm.MethodName)) ∈ lw_all := lw_g (lw_at lw_m4 159 rfl) rfl
theorem q935 : (Jvm.Cond.selects "SkittleGentryModel" ({ cls := "SkittleGentryModel", name := "plate", desc := "(I)I" } : Jvm.MethodName) ({ cls := "SkittleGentryModel", name := "plate", desc := "(I)I" } : Jvm.MethodName)) ∈ lw_all := lw_g (lw_at lw_m4 160 rfl) rfl
theorem q936 : (Jvm.Cond.code ({ cls := "SkittleGentryModel", name := "plate", desc := "(I)I" } : Jvm.MethodName) prog_12_method_42_code (2 : Nat) (Option.some Jvm.ClassFile.FieldType.int)) ∈ lw_all := lw_g (lw_at lw_m4 161 rfl) rfl
theorem q937 : (Jvm.Cond.methodLink "SkittleGentryModel" (224 : Nat) ({ cls := "SkittleGentryModel", name := "isPlate", desc := "(I)Z" } : Jvm.MethodName)) ∈ lw_all := lw_g (lw_at lw_m4 162 rfl) rfl
theorem q938 : (Jvm.Cond.static ({ cls := "SkittleGentryModel", name := "isPlate", desc := "(I)Z" } : Jvm.MethodName)) ∈ lw_all := lw_g (lw_at lw_m4 163 rfl) rfl
theorem q939 : (Jvm.Cond.code ({ cls := "SkittleGentryModel", name := "isPlate", desc := "(I)Z" } : Jvm.MethodName) prog_12_method_20_code (1 : Nat) (Option.some Jvm.ClassFile.FieldType.boolean)) ∈ lw_all := lw_g (lw_at lw_m4 164 rfl) rfl
theorem q940 : (Jvm.Cond.methodLink "SkittleGentryModel" (227 : Nat) ({ cls := "SkittleGentryModel", name := "whoOn", desc := "(I)I" } : Jvm.MethodName)) ∈ lw_all := lw_g (lw_at lw_m4 165 rfl) rfl
theorem q941 : (Jvm.Cond.privateMethod ({ cls := "SkittleGentryModel", name := "whoOn", desc := "(I)I" } : Jvm.MethodName)) ∈ lw_tbl := lw_at lw_m4 166 rfl
theorem q942 : (Jvm.Cond.instanceMethod ({ cls := "SkittleGentryModel", name := "whoOn", desc := "(I)I" } : Jvm.MethodName)) ∈ lw_all := lw_g (lw_at lw_m4 167 rfl) rfl
theorem q943 : (Jvm.Cond.code ({ cls := "SkittleGentryModel", name := "whoOn", desc := "(I)I" } : Jvm.MethodName) prog_12_method_41_code (4 : Nat) (Option.some Jvm.ClassFile.FieldType.int)) ∈ lw_all := lw_g (lw_at lw_m4 168 rfl) rfl
theorem q945 : (Jvm.Cond.instanceMethod ({ cls := "SkittleGentryModel", name := "ball", desc := "(III)I" } : Jvm.MethodName)) ∈ lw_all := lw_g (lw_at lw_m4 170 rfl) rfl
theorem q946 : (Jvm.Cond.selects "SkittleGentryModel" ({ cls := "SkittleGentryModel", name := "ball", desc := "(III)I" } : Jvm.MethodName) ({ cls := "SkittleGentryModel", name := "ball", desc := "(III)I" } : Jvm.MethodName)) ∈ lw_all := lw_g (lw_at lw_m4 171 rfl) rfl
theorem q947 : (Jvm.Cond.code ({ cls := "SkittleGentryModel", name := "ball", desc := "(III)I" } : Jvm.MethodName) prog_12_method_45_code (4 : Nat) (Option.some Jvm.ClassFile.FieldType.int)) ∈ lw_all := lw_g (lw_at lw_m4 172 rfl) rfl
theorem q948 : (Jvm.Cond.methodLink "SkittleGentryModel" (230 : Nat) ({ cls := "SkittleGentryModel", name := "isBall", desc := "(III)Z" } : Jvm.MethodName)) ∈ lw_all := lw_g (lw_at lw_m4 173 rfl) rfl
theorem q949 : (Jvm.Cond.privateMethod ({ cls := "SkittleGentryModel", name := "isBall", desc := "(III)Z" } : Jvm.MethodName)) ∈ lw_tbl := lw_at lw_m4 174 rfl
theorem q950 : (Jvm.Cond.instanceMethod ({ cls := "SkittleGentryModel", name := "isBall", desc := "(III)Z" } : Jvm.MethodName)) ∈ lw_all := lw_g (lw_at lw_m4 175 rfl) rfl
theorem q951 : (Jvm.Cond.code ({ cls := "SkittleGentryModel", name := "isBall", desc := "(III)Z" } : Jvm.MethodName) prog_12_method_33_code (4 : Nat) (Option.some Jvm.ClassFile.FieldType.boolean)) ∈ lw_all := lw_g (lw_at lw_m4 176 rfl) rfl
theorem q952 : (Jvm.Cond.constant "SkittleGentryModel" (233 : Nat) (-1000000003 : Int32)) ∈ lw_all := lw_g (lw_at lw_m4 177 rfl) rfl
theorem q953 : (Jvm.Cond.methodLink "SkittleGentryModel" (234 : Nat) ({ cls := "SkittleGentryModel", name := "notes", desc := "()V" } : Jvm.MethodName)) ∈ lw_all := lw_g (lw_at lw_m4 178 rfl) rfl
theorem q954 : (Jvm.Cond.privateMethod ({ cls := "SkittleGentryModel", name := "notes", desc := "()V" } : Jvm.MethodName)) ∈ lw_tbl := lw_at lw_m4 179 rfl
theorem q955 : (Jvm.Cond.instanceMethod ({ cls := "SkittleGentryModel", name := "notes", desc := "()V" } : Jvm.MethodName)) ∈ lw_all := lw_g (lw_at lw_m4 180 rfl) rfl
theorem q956 : (Jvm.Cond.code ({ cls := "SkittleGentryModel", name := "notes", desc := "()V" } : Jvm.MethodName) prog_12_method_43_code (2 : Nat) (Option.none : Option Jvm.ClassFile.FieldType)) ∈ lw_all := lw_g (lw_at lw_m4 181 rfl) rfl
theorem q957 : (Jvm.Cond.methodLink "SkittleGentryModel" (237 : Nat) ({ cls := "SkittleGentryModel", name := "throwsBall", desc := "(III)I" } : Jvm.MethodName)) ∈ lw_all := lw_g (lw_at lw_m4 182 rfl) rfl
theorem q958 : (Jvm.Cond.privateMethod ({ cls := "SkittleGentryModel", name := "throwsBall", desc := "(III)I" } : Jvm.MethodName)) ∈ lw_tbl := lw_at lw_m4 183 rfl
theorem q959 : (Jvm.Cond.instanceMethod ({ cls := "SkittleGentryModel", name := "throwsBall", desc := "(III)I" } : Jvm.MethodName)) ∈ lw_all := lw_g (lw_at lw_m4 184 rfl) rfl
theorem q960 : (Jvm.Cond.code ({ cls := "SkittleGentryModel", name := "throwsBall", desc := "(III)I" } : Jvm.MethodName) prog_12_method_44_code (8 : Nat) (Option.some Jvm.ClassFile.FieldType.int)) ∈ lw_all := lw_g (lw_at lw_m4 185 rfl) rfl
theorem q962 : (Jvm.Cond.instanceMethod ({ cls := "SkittleGentryModel", name := "setUp", desc := "()I" } : Jvm.MethodName)) ∈ lw_all := lw_g (lw_at lw_m4 187 rfl) rfl
theorem q963 : (Jvm.Cond.selects "SkittleGentryModel" ({ cls := "SkittleGentryModel", name := "setUp", desc := "()I" } : Jvm.MethodName) ({ cls := "SkittleGentryModel", name := "setUp", desc := "()I" } : Jvm.MethodName)) ∈ lw_all := lw_g (lw_at lw_m4 188 rfl) rfl
theorem q964 : (Jvm.Cond.code ({ cls := "SkittleGentryModel", name := "setUp", desc := "()I" } : Jvm.MethodName) prog_12_method_46_code (2 : Nat) (Option.some Jvm.ClassFile.FieldType.int)) ∈ lw_all := lw_g (lw_at lw_m4 189 rfl) rfl
theorem q966 : (Jvm.Cond.instanceMethod ({ cls := "SkittleGentryModel", name := "lift", desc := "(I)I" } : Jvm.MethodName)) ∈ lw_all := lw_g (lw_at lw_m4 191 rfl) rfl
theorem q967 : (Jvm.Cond.selects "SkittleGentryModel" ({ cls := "SkittleGentryModel", name := "lift", desc := "(I)I" } : Jvm.MethodName) ({ cls := "SkittleGentryModel", name := "lift", desc := "(I)I" } : Jvm.MethodName)) ∈ lw_all := lw_g (lw_at lw_m4 192 rfl) rfl
theorem q968 : (Jvm.Cond.code ({ cls := "SkittleGentryModel", name := "lift", desc := "(I)I" } : Jvm.MethodName) prog_12_method_47_code (2 : Nat) (Option.some Jvm.ClassFile.FieldType.int)) ∈ lw_all := lw_g (lw_at lw_m4 193 rfl) rfl
theorem q970 : (Jvm.Cond.instanceMethod ({ cls := "SkittleGentryModel", name := "change", desc := "(II)I" } : Jvm.MethodName)) ∈ lw_all := lw_g (lw_at lw_m4 195 rfl) rfl
theorem q971 : (Jvm.Cond.selects "SkittleGentryModel" ({ cls := "SkittleGentryModel", name := "change", desc := "(II)I" } : Jvm.MethodName) ({ cls := "SkittleGentryModel", name := "change", desc := "(II)I" } : Jvm.MethodName)) ∈ lw_all := lw_g (lw_at lw_m4 196 rfl) rfl
theorem q972 : (Jvm.Cond.code ({ cls := "SkittleGentryModel", name := "change", desc := "(II)I" } : Jvm.MethodName) prog_12_method_49_code (3 : Nat) (Option.some Jvm.ClassFile.FieldType.int)) ∈ lw_all := lw_g (lw_at lw_m4 197 rfl) rfl
theorem q973 : (Jvm.Cond.methodLink "SkittleGentryModel" (241 : Nat) ({ cls := "SkittleGentryModel", name := "changes", desc := "(II)V" } : Jvm.MethodName)) ∈ lw_all := lw_g (lw_at lw_m4 198 rfl) rfl
theorem q974 : (Jvm.Cond.privateMethod ({ cls := "SkittleGentryModel", name := "changes", desc := "(II)V" } : Jvm.MethodName)) ∈ lw_tbl := lw_at lw_m4 199 rfl
theorem q975 : (Jvm.Cond.instanceMethod ({ cls := "SkittleGentryModel", name := "changes", desc := "(II)V" } : Jvm.MethodName)) ∈ lw_all := lw_g (lw_at lw_m4 200 rfl) rfl
theorem q976 : (Jvm.Cond.code ({ cls := "SkittleGentryModel", name := "changes", desc := "(II)V" } : Jvm.MethodName) prog_12_method_48_code (5 : Nat) (Option.none : Option Jvm.ClassFile.FieldType)) ∈ lw_all := lw_g (lw_at lw_m4 201 rfl) rfl
theorem q978 : (Jvm.Cond.instanceMethod ({ cls := "SkittleGentryModel", name := "chip", desc := "(II)I" } : Jvm.MethodName)) ∈ lw_all := lw_g (lw_at lw_m4 203 rfl) rfl
theorem q979 : (Jvm.Cond.selects "SkittleGentryModel" ({ cls := "SkittleGentryModel", name := "chip", desc := "(II)I" } : Jvm.MethodName) ({ cls := "SkittleGentryModel", name := "chip", desc := "(II)I" } : Jvm.MethodName)) ∈ lw_all := lw_g (lw_at lw_m4 204 rfl) rfl
theorem q980 : (Jvm.Cond.code ({ cls := "SkittleGentryModel", name := "chip", desc := "(II)I" } : Jvm.MethodName) prog_12_method_50_code (4 : Nat) (Option.some Jvm.ClassFile.FieldType.int)) ∈ lw_all := lw_g (lw_at lw_m4 205 rfl) rfl
theorem q982 : (Jvm.Cond.instanceMethod ({ cls := "SkittleGentryModel", name := "replace", desc := "(I)I" } : Jvm.MethodName)) ∈ lw_all := lw_g (lw_at lw_m4 207 rfl) rfl
theorem q983 : (Jvm.Cond.selects "SkittleGentryModel" ({ cls := "SkittleGentryModel", name := "replace", desc := "(I)I" } : Jvm.MethodName) ({ cls := "SkittleGentryModel", name := "replace", desc := "(I)I" } : Jvm.MethodName)) ∈ lw_all := lw_g (lw_at lw_m4 208 rfl) rfl
theorem q984 : (Jvm.Cond.code ({ cls := "SkittleGentryModel", name := "replace", desc := "(I)I" } : Jvm.MethodName) prog_12_method_51_code (3 : Nat) (Option.some Jvm.ClassFile.FieldType.int)) ∈ lw_all := lw_g (lw_at lw_m4 209 rfl) rfl
theorem q986 : (Jvm.Cond.instanceMethod ({ cls := "SkittleGentryModel", name := "drift", desc := "(I)I" } : Jvm.MethodName)) ∈ lw_all := lw_g (lw_at lw_m4 211 rfl) rfl
theorem q987 : (Jvm.Cond.selects "SkittleGentryModel" ({ cls := "SkittleGentryModel", name := "drift", desc := "(I)I" } : Jvm.MethodName) ({ cls := "SkittleGentryModel", name := "drift", desc := "(I)I" } : Jvm.MethodName)) ∈ lw_all := lw_g (lw_at lw_m4 212 rfl) rfl
theorem q988 : (Jvm.Cond.code ({ cls := "SkittleGentryModel", name := "drift", desc := "(I)I" } : Jvm.MethodName) prog_12_method_53_code (7 : Nat) (Option.some Jvm.ClassFile.FieldType.int)) ∈ lw_all := lw_g (lw_at lw_m4 213 rfl) rfl
theorem q989 : (Jvm.Cond.methodLink "SkittleGentryModel" (251 : Nat) ({ cls := "SkittleGentryModel", name := "draw", desc := "(I)I" } : Jvm.MethodName)) ∈ lw_all := lw_g (lw_at lw_m4 214 rfl) rfl
theorem q990 : (Jvm.Cond.privateMethod ({ cls := "SkittleGentryModel", name := "draw", desc := "(I)I" } : Jvm.MethodName)) ∈ lw_tbl := lw_at lw_m4 215 rfl
theorem q991 : (Jvm.Cond.instanceMethod ({ cls := "SkittleGentryModel", name := "draw", desc := "(I)I" } : Jvm.MethodName)) ∈ lw_all := lw_g (lw_at lw_m4 216 rfl) rfl
theorem q992 : (Jvm.Cond.code ({ cls := "SkittleGentryModel", name := "draw", desc := "(I)I" } : Jvm.MethodName) prog_12_method_52_code (4 : Nat) (Option.some Jvm.ClassFile.FieldType.int)) ∈ lw_all := lw_g (lw_at lw_m4 217 rfl) rfl
theorem q993 : (Jvm.Cond.constantLong "SkittleGentryModel" (244 : Nat) (1103515245 : Int64)) ∈ lw_all := lw_g (lw_at lw_m4 218 rfl) rfl
theorem q994 : (Jvm.Cond.constantLong "SkittleGentryModel" (246 : Nat) (12345 : Int64)) ∈ lw_all := lw_g (lw_at lw_m4 219 rfl) rfl
theorem q995 : (Jvm.Cond.constantLong "SkittleGentryModel" (248 : Nat) (2147483648 : Int64)) ∈ lw_all := lw_g (lw_at lw_m4 220 rfl) rfl
theorem q996 : (Jvm.Cond.constant "SkittleGentryModel" (250 : Nat) (65536 : Int32)) ∈ lw_all := lw_g (lw_at lw_m4 221 rfl) rfl
theorem q998 : (Jvm.Cond.instanceMethod ({ cls := "SkittleGentryModel", name := "undo", desc := "()I" } : Jvm.MethodName)) ∈ lw_all := lw_g (lw_at lw_m4 223 rfl) rfl
theorem q999 : (Jvm.Cond.selects "SkittleGentryModel" ({ cls := "SkittleGentryModel", name := "undo", desc := "()I" } : Jvm.MethodName) ({ cls := "SkittleGentryModel", name := "undo", desc := "()I" } : Jvm.MethodName)) ∈ lw_all := lw_g (lw_at lw_m4 224 rfl) rfl
theorem q1000 : (Jvm.Cond.code ({ cls := "SkittleGentryModel", name := "undo", desc := "()I" } : Jvm.MethodName) prog_12_method_54_code (2 : Nat) (Option.some Jvm.ClassFile.FieldType.int)) ∈ lw_all := lw_g (lw_at lw_m4 225 rfl) rfl
theorem q1002 : (Jvm.Cond.instanceMethod ({ cls := "SkittleGentryModel", name := "wouldFall", desc := "(IIII)I" } : Jvm.MethodName)) ∈ lw_all := lw_g (lw_at lw_m4 227 rfl) rfl
theorem q1003 : (Jvm.Cond.selects "SkittleGentryModel" ({ cls := "SkittleGentryModel", name := "wouldFall", desc := "(IIII)I" } : Jvm.MethodName) ({ cls := "SkittleGentryModel", name := "wouldFall", desc := "(IIII)I" } : Jvm.MethodName)) ∈ lw_all := lw_g (lw_at lw_m4 228 rfl) rfl
theorem q1004 : (Jvm.Cond.code ({ cls := "SkittleGentryModel", name := "wouldFall", desc := "(IIII)I" } : Jvm.MethodName) prog_12_method_55_code (6 : Nat) (Option.some Jvm.ClassFile.FieldType.int)) ∈ lw_all := lw_g (lw_at lw_m4 229 rfl) rfl
theorem q1006 : (Jvm.Cond.instanceMethod ({ cls := "SkittleGentryModel", name := "balls", desc := "(II)I" } : Jvm.MethodName)) ∈ lw_all := lw_g (lw_at lw_m4 231 rfl) rfl
theorem q1007 : (Jvm.Cond.selects "SkittleGentryModel" ({ cls := "SkittleGentryModel", name := "balls", desc := "(II)I" } : Jvm.MethodName) ({ cls := "SkittleGentryModel", name := "balls", desc := "(II)I" } : Jvm.MethodName)) ∈ lw_all := lw_g (lw_at lw_m4 232 rfl) rfl
theorem q1008 : (Jvm.Cond.code ({ cls := "SkittleGentryModel", name := "balls", desc := "(II)I" } : Jvm.MethodName) prog_12_method_57_code (3 : Nat) (Option.some Jvm.ClassFile.FieldType.int)) ∈ lw_all := lw_g (lw_at lw_m4 233 rfl) rfl
theorem q1009 : (Jvm.Cond.methodLink "SkittleGentryModel" (254 : Nat) ({ cls := "SkittleGentryModel", name := "isSet", desc := "(I)Z" } : Jvm.MethodName)) ∈ lw_all := lw_g (lw_at lw_m4 234 rfl) rfl
theorem q1010 : (Jvm.Cond.privateMethod ({ cls := "SkittleGentryModel", name := "isSet", desc := "(I)Z" } : Jvm.MethodName)) ∈ lw_tbl := lw_at lw_m4 235 rfl
theorem q1011 : (Jvm.Cond.instanceMethod ({ cls := "SkittleGentryModel", name := "isSet", desc := "(I)Z" } : Jvm.MethodName)) ∈ lw_all := lw_g (lw_at lw_m4 236 rfl) rfl
theorem q1012 : (Jvm.Cond.code ({ cls := "SkittleGentryModel", name := "isSet", desc := "(I)Z" } : Jvm.MethodName) prog_12_method_19_code (2 : Nat) (Option.some Jvm.ClassFile.FieldType.boolean)) ∈ lw_all := lw_g (lw_at lw_m4 237 rfl) rfl
theorem q1014 : (Jvm.Cond.instanceMethod ({ cls := "SkittleGentryModel", name := "spare", desc := "(II)I" } : Jvm.MethodName)) ∈ lw_all := lw_g (lw_at lw_m4 239 rfl) rfl
theorem q1015 : (Jvm.Cond.selects "SkittleGentryModel" ({ cls := "SkittleGentryModel", name := "spare", desc := "(II)I" } : Jvm.MethodName) ({ cls := "SkittleGentryModel", name := "spare", desc := "(II)I" } : Jvm.MethodName)) ∈ lw_all := lw_g (lw_at lw_m5 0 rfl) rfl
theorem q1016 : (Jvm.Cond.code ({ cls := "SkittleGentryModel", name := "spare", desc := "(II)I" } : Jvm.MethodName) prog_12_method_58_code (9 : Nat) (Option.some Jvm.ClassFile.FieldType.int)) ∈ lw_all := lw_g (lw_at lw_m5 1 rfl) rfl
theorem q1018 : (Jvm.Cond.instanceMethod ({ cls := "SkittleGentryModel", name := "allDown", desc := "(I)I" } : Jvm.MethodName)) ∈ lw_all := lw_g (lw_at lw_m5 3 rfl) rfl
theorem q1019 : (Jvm.Cond.selects "SkittleGentryModel" ({ cls := "SkittleGentryModel", name := "allDown", desc := "(I)I" } : Jvm.MethodName) ({ cls := "SkittleGentryModel", name := "allDown", desc := "(I)I" } : Jvm.MethodName)) ∈ lw_all := lw_g (lw_at lw_m5 4 rfl) rfl
theorem q1020 : (Jvm.Cond.code ({ cls := "SkittleGentryModel", name := "allDown", desc := "(I)I" } : Jvm.MethodName) prog_12_method_59_code (8 : Nat) (Option.some Jvm.ClassFile.FieldType.int)) ∈ lw_all := lw_g (lw_at lw_m5 5 rfl) rfl
theorem q1022 : (Jvm.Cond.instanceMethod ({ cls := "SkittleGentryModel", name := "mend", desc := "(IIII)I" } : Jvm.MethodName)) ∈ lw_all := lw_g (lw_at lw_m5 7 rfl) rfl
theorem q1023 : (Jvm.Cond.selects "SkittleGentryModel" ({ cls := "SkittleGentryModel", name := "mend", desc := "(IIII)I" } : Jvm.MethodName) ({ cls := "SkittleGentryModel", name := "mend", desc := "(IIII)I" } : Jvm.MethodName)) ∈ lw_all := lw_g (lw_at lw_m5 8 rfl) rfl
theorem q1024 : (Jvm.Cond.code ({ cls := "SkittleGentryModel", name := "mend", desc := "(IIII)I" } : Jvm.MethodName) prog_12_method_60_code (10 : Nat) (Option.some Jvm.ClassFile.FieldType.int)) ∈ lw_all := lw_g (lw_at lw_m5 9 rfl) rfl
theorem q1026 : (Jvm.Cond.instanceMethod ({ cls := "SkittleGentryModel", name := "hand", desc := "(I)I" } : Jvm.MethodName)) ∈ lw_all := lw_g (lw_at lw_m5 11 rfl) rfl
theorem q1027 : (Jvm.Cond.selects "SkittleGentryModel" ({ cls := "SkittleGentryModel", name := "hand", desc := "(I)I" } : Jvm.MethodName) ({ cls := "SkittleGentryModel", name := "hand", desc := "(I)I" } : Jvm.MethodName)) ∈ lw_all := lw_g (lw_at lw_m5 12 rfl) rfl
theorem q1028 : (Jvm.Cond.code ({ cls := "SkittleGentryModel", name := "hand", desc := "(I)I" } : Jvm.MethodName) prog_12_method_61_code (4 : Nat) (Option.some Jvm.ClassFile.FieldType.int)) ∈ lw_all := lw_g (lw_at lw_m5 13 rfl) rfl
theorem q1030 : (Jvm.Cond.instanceMethod ({ cls := "SkittleGentryModel", name := "ask", desc := "(I)I" } : Jvm.MethodName)) ∈ lw_all := lw_g (lw_at lw_m5 15 rfl) rfl
theorem q1031 : (Jvm.Cond.selects "SkittleGentryModel" ({ cls := "SkittleGentryModel", name := "ask", desc := "(I)I" } : Jvm.MethodName) ({ cls := "SkittleGentryModel", name := "ask", desc := "(I)I" } : Jvm.MethodName)) ∈ lw_all := lw_g (lw_at lw_m5 16 rfl) rfl
theorem q1032 : (Jvm.Cond.code ({ cls := "SkittleGentryModel", name := "ask", desc := "(I)I" } : Jvm.MethodName) prog_12_method_62_code (7 : Nat) (Option.some Jvm.ClassFile.FieldType.int)) ∈ lw_all := lw_g (lw_at lw_m5 17 rfl) rfl
theorem q1034 : (Jvm.Cond.instanceMethod ({ cls := "SkittleGentryModel", name := "calm", desc := "(II)I" } : Jvm.MethodName)) ∈ lw_all := lw_g (lw_at lw_m5 19 rfl) rfl
theorem q1035 : (Jvm.Cond.selects "SkittleGentryModel" ({ cls := "SkittleGentryModel", name := "calm", desc := "(II)I" } : Jvm.MethodName) ({ cls := "SkittleGentryModel", name := "calm", desc := "(II)I" } : Jvm.MethodName)) ∈ lw_all := lw_g (lw_at lw_m5 20 rfl) rfl
theorem q1036 : (Jvm.Cond.code ({ cls := "SkittleGentryModel", name := "calm", desc := "(II)I" } : Jvm.MethodName) prog_12_method_63_code (6 : Nat) (Option.some Jvm.ClassFile.FieldType.int)) ∈ lw_all := lw_g (lw_at lw_m5 21 rfl) rfl
theorem q1037 : (Jvm.Cond.constantLong "SkittleGentryModel" (257 : Nat) (1000000000 : Int64)) ∈ lw_all := lw_g (lw_at lw_m5 22 rfl) rfl
theorem q1038 : (Jvm.Cond.constantLong "SkittleGentryModel" (259 : Nat) (100 : Int64)) ∈ lw_all := lw_g (lw_at lw_m5 23 rfl) rfl
theorem q1040 : (Jvm.Cond.instanceMethod ({ cls := "SkittleGentryModel", name := "write", desc := "(IZ)I" } : Jvm.MethodName)) ∈ lw_all := lw_g (lw_at lw_m5 25 rfl) rfl
theorem q1041 : (Jvm.Cond.selects "SkittleGentryModel" ({ cls := "SkittleGentryModel", name := "write", desc := "(IZ)I" } : Jvm.MethodName) ({ cls := "SkittleGentryModel", name := "write", desc := "(IZ)I" } : Jvm.MethodName)) ∈ lw_all := lw_g (lw_at lw_m5 26 rfl) rfl
theorem q1042 : (Jvm.Cond.code ({ cls := "SkittleGentryModel", name := "write", desc := "(IZ)I" } : Jvm.MethodName) prog_12_method_64_code (3 : Nat) (Option.some Jvm.ClassFile.FieldType.int)) ∈ lw_all := lw_g (lw_at lw_m5 27 rfl) rfl
theorem q1044 : (Jvm.Cond.instanceMethod ({ cls := "SkittleGentryModel", name := "tear", desc := "()I" } : Jvm.MethodName)) ∈ lw_all := lw_g (lw_at lw_m5 29 rfl) rfl
theorem q1045 : (Jvm.Cond.selects "SkittleGentryModel" ({ cls := "SkittleGentryModel", name := "tear", desc := "()I" } : Jvm.MethodName) ({ cls := "SkittleGentryModel", name := "tear", desc := "()I" } : Jvm.MethodName)) ∈ lw_all := lw_g (lw_at lw_m5 30 rfl) rfl
theorem q1046 : (Jvm.Cond.code ({ cls := "SkittleGentryModel", name := "tear", desc := "()I" } : Jvm.MethodName) prog_12_method_65_code (2 : Nat) (Option.some Jvm.ClassFile.FieldType.int)) ∈ lw_all := lw_g (lw_at lw_m5 31 rfl) rfl
theorem q1048 : (Jvm.Cond.instanceMethod ({ cls := "SkittleGentryModel", name := "judge", desc := "()I" } : Jvm.MethodName)) ∈ lw_all := lw_g (lw_at lw_m5 33 rfl) rfl
theorem q1049 : (Jvm.Cond.selects "SkittleGentryModel" ({ cls := "SkittleGentryModel", name := "judge", desc := "()I" } : Jvm.MethodName) ({ cls := "SkittleGentryModel", name := "judge", desc := "()I" } : Jvm.MethodName)) ∈ lw_all := lw_g (lw_at lw_m5 34 rfl) rfl
theorem q1050 : (Jvm.Cond.code ({ cls := "SkittleGentryModel", name := "judge", desc := "()I" } : Jvm.MethodName) prog_12_method_66_code (2 : Nat) (Option.some Jvm.ClassFile.FieldType.int)) ∈ lw_all := lw_g (lw_at lw_m5 35 rfl) rfl
theorem q1052 : (Jvm.Cond.instanceMethod ({ cls := "SkittleGentryModel", name := "seed", desc := "(I)I" } : Jvm.MethodName)) ∈ lw_all := lw_g (lw_at lw_m5 37 rfl) rfl
theorem q1053 : (Jvm.Cond.selects "SkittleGentryModel" ({ cls := "SkittleGentryModel", name := "seed", desc := "(I)I" } : Jvm.MethodName) ({ cls := "SkittleGentryModel", name := "seed", desc := "(I)I" } : Jvm.MethodName)) ∈ lw_all := lw_g (lw_at lw_m5 38 rfl) rfl
theorem q1054 : (Jvm.Cond.code ({ cls := "SkittleGentryModel", name := "seed", desc := "(I)I" } : Jvm.MethodName) prog_12_method_67_code (3 : Nat) (Option.some Jvm.ClassFile.FieldType.int)) ∈ lw_all := lw_g (lw_at lw_m5 39 rfl) rfl
theorem q1056 : (Jvm.Cond.instanceMethod ({ cls := "SkittleGentryModel", name := "keep", desc := "(I)I" } : Jvm.MethodName)) ∈ lw_all := lw_g (lw_at lw_m5 41 rfl) rfl
theorem q1057 : (Jvm.Cond.selects "SkittleGentryModel" ({ cls := "SkittleGentryModel", name := "keep", desc := "(I)I" } : Jvm.MethodName) ({ cls := "SkittleGentryModel", name := "keep", desc := "(I)I" } : Jvm.MethodName)) ∈ lw_all := lw_g (lw_at lw_m5 42 rfl) rfl
theorem q1058 : (Jvm.Cond.code ({ cls := "SkittleGentryModel", name := "keep", desc := "(I)I" } : Jvm.MethodName) prog_12_method_68_code (3 : Nat) (Option.some Jvm.ClassFile.FieldType.int)) ∈ lw_all := lw_g (lw_at lw_m5 43 rfl) rfl
theorem q1060 : (Jvm.Cond.instanceMethod ({ cls := "SkittleGentryModel", name := "goBack", desc := "(I)I" } : Jvm.MethodName)) ∈ lw_all := lw_g (lw_at lw_m5 45 rfl) rfl
theorem q1061 : (Jvm.Cond.selects "SkittleGentryModel" ({ cls := "SkittleGentryModel", name := "goBack", desc := "(I)I" } : Jvm.MethodName) ({ cls := "SkittleGentryModel", name := "goBack", desc := "(I)I" } : Jvm.MethodName)) ∈ lw_all := lw_g (lw_at lw_m5 46 rfl) rfl
theorem q1062 : (Jvm.Cond.code ({ cls := "SkittleGentryModel", name := "goBack", desc := "(I)I" } : Jvm.MethodName) prog_12_method_69_code (3 : Nat) (Option.some Jvm.ClassFile.FieldType.int)) ∈ lw_all := lw_g (lw_at lw_m5 47 rfl) rfl
theorem in_X7 : ∀ w ∈ wsX70, w ∈ lw_all := lw_in wsX70 [722, 724, 726, 728, 730, 732, 734, 736, 738, 740, 742, 744, 746, 748, 750, 752, 754, 756, 758, 760, 762, 764, 766, 768, 770, 772, 774, 776, 778, 780, 782, 784, 786, 788, 790] (by decide +kernel) (by decide +kernel)
