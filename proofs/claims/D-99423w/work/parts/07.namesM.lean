/-! ApologyUpModel -/
set_option maxRecDepth 100000
def RX2 : String := "ApologyUpModel"
def TX2 : u_T := fun k => match k with
  | 0 => ("ApologyUpModel", "a", "[I", true)
  | 1 => ("ApologyUpModel", "image", "[I", true)
  | 2 => ("ApologyUpModel", "texts", "[I", true)
  | 3 => ("ApologyUpModel", "tape", "[I", true)
  | 4 => ("ApologyUpModel", "taped", "I", false)
  | 5 => ("ApologyUpModel", "fault", "I", false)
  | 6 => ("ApologyUpModel", "faultPlace", "I", false)
  | 7 => ("ApologyUpModel", "at", "I", false)
  | 8 => ("ApologyUpModel", "place", "I", false)
  | 9 => ("ApologyUpModel", "token", "I", false)
  | 10 => ("ApologyUpModel", "number", "I", false)
  | 11 => ("ApologyUpModel", "word", "J", false)
  | 12 => ("ApologyUpModel", "text0", "I", false)
  | 13 => ("ApologyUpModel", "written", "I", false)
  | 14 => ("ApologyUpModel", "sort0", "I", false)
  | 15 => ("ApologyUpModel", "waiting", "[I", true)
  | 16 => ("ApologyUpModel", "piled", "I", false)
  | 17 => ("ApologyUpModel", "opens", "I", false)
  | 18 => ("ApologyUpModel", "isWhole", "Z", false)
  | 19 => ("ApologyUpModel", "once", "I", false)
  | 20 => ("ApologyUpModel", "named", "[I", true)
  | 21 => ("ApologyUpModel", "values", "[J", true)
  | 22 => ("ApologyUpModel", "truth", "[Z", true)
  | 23 => ("ApologyUpModel", "isWritten", "Z", false)
  | 24 => ("ApologyUpModel", "done", "I", false)
  | 25 => ("ApologyUpModel", "pardons", "I", false)
  | 26 => ("ApologyUpModel", "aside", "[I", true)
  | 27 => ("ApologyUpModel", "daysFrom", "[I", true)
  | 28 => ("ApologyUpModel", "way", "[I", true)
  | 29 => ("ApologyUpModel", "sizeAt", "[I", true)
  | 30 => ("ApologyUpModel", "bestWay", "[I", true)
  | 31 => ("ApologyUpModel", "bestSize", "I", false)
  | 32 => ("ApologyUpModel", "bestLong", "I", false)
  | 33 => ("ApologyUpModel", "with", "[I", true)
  | _ => ("ApologyUpModel", "found", "I", false)
def tyX2 : Nat → FieldType := fun k => match k with
  | 0 => .array .int
  | 1 => .array .int
  | 2 => .array .int
  | 3 => .array .int
  | 4 => .int
  | 5 => .int
  | 6 => .int
  | 7 => .int
  | 8 => .int
  | 9 => .int
  | 10 => .int
  | 11 => .long
  | 12 => .int
  | 13 => .int
  | 14 => .int
  | 15 => .array .int
  | 16 => .int
  | 17 => .int
  | 18 => .boolean
  | 19 => .int
  | 20 => .array .int
  | 21 => .array .long
  | 22 => .array .boolean
  | 23 => .boolean
  | 24 => .int
  | 25 => .int
  | 26 => .array .int
  | 27 => .array .int
  | 28 => .array .int
  | 29 => .array .int
  | 30 => .array .int
  | 31 => .int
  | 32 => .int
  | 33 => .array .int
  | _ => .int
abbrev wsX20 : List Cond := u_ws RX2 TX2 35
set_option maxRecDepth 100000 in
theorem nmX2 : ∀ a, a < 35 → ∀ b, b < 35 → a ≠ b → (TX2 a).2.1 ≠ (TX2 b).2.1 := by decide +kernel
set_option maxRecDepth 100000 in
theorem tyX2_ok : ∀ k, k < 35 → parseFieldDescriptor (TX2 k).2.2.1 = some (tyX2 k) := by decide +kernel
abbrev cX2_init : ByteArray := prog_20_method_1_code
def yX2_init : MethodName := ⟨RX2, "<init>", "()V"⟩
def dkwX2_init_8 : List UInt8 := [184, 0, 65, 177]
abbrev dktX2_init_8 : List UInt8 := dkwX2_init_8 ++ []
def dkwX2_init_7 : List UInt8 := [180, 0, 7, 17, 0, 128, 27, 96, 4, 79, 132, 1, 1, 167, 255, 236, 42, 180, 0, 7, 42, 180, 0, 13]
abbrev dktX2_init_7 : List UInt8 := dkwX2_init_7 ++ dktX2_init_8
def dkwX2_init_6 : List UInt8 := [16, 7, 17, 0, 181, 79, 42, 180, 0, 7, 5, 2, 79, 3, 60, 27, 16, 10, 162, 0, 20, 42]
abbrev dktX2_init_6 : List UInt8 := dkwX2_init_6 ++ dktX2_init_7
def dkwX2_init_5 : List UInt8 := [181, 0, 56, 42, 16, 11, 188, 10, 181, 0, 59, 42, 16, 8, 188, 10, 181, 0, 62, 42, 180, 0, 7]
abbrev dktX2_init_5 : List UInt8 := dkwX2_init_5 ++ dktX2_init_6
def dkwX2_init_4 : List UInt8 := [181, 0, 47, 42, 16, 10, 188, 10, 181, 0, 50, 42, 16, 11, 188, 10, 181, 0, 53, 42, 16, 11, 188, 10]
abbrev dktX2_init_4 : List UInt8 := dkwX2_init_4 ++ dktX2_init_5
def dkwX2_init_3 : List UInt8 := [188, 11, 181, 0, 35, 42, 17, 1, 74, 188, 4, 181, 0, 39, 42, 4, 181, 0, 43, 42, 16, 90, 188, 10]
abbrev dktX2_init_3 : List UInt8 := dkwX2_init_3 ++ dktX2_init_4
def dkwX2_init_2 : List UInt8 := [181, 0, 26, 42, 17, 0, 160, 188, 10, 181, 0, 29, 42, 16, 9, 188, 10, 181, 0, 32, 42, 17, 1, 74]
abbrev dktX2_init_2 : List UInt8 := dkwX2_init_2 ++ dktX2_init_3
def dkwX2_init_1 : List UInt8 := [17, 11, 4, 188, 10, 181, 0, 16, 42, 17, 1, 44, 188, 10, 181, 0, 19, 42, 2, 181, 0, 22, 42, 2]
abbrev dktX2_init_1 : List UInt8 := dkwX2_init_1 ++ dktX2_init_2
def dkwX2_init_0 : List UInt8 := [42, 183, 0, 1, 42, 17, 17, 192, 188, 10, 181, 0, 7, 42, 17, 17, 192, 188, 10, 181, 0, 13, 42]
abbrev dktX2_init_0 : List UInt8 := dkwX2_init_0 ++ dktX2_init_1
theorem dksX2_init_0 : cX2_init.data.toList.drop 0 = dktX2_init_0 := by decide +kernel
theorem dksX2_init_1 : cX2_init.data.toList.drop 23 = dktX2_init_1 := dk_seg dksX2_init_0 23 rfl rfl
theorem dksX2_init_2 : cX2_init.data.toList.drop 47 = dktX2_init_2 := dk_seg dksX2_init_1 24 rfl rfl
theorem dksX2_init_3 : cX2_init.data.toList.drop 71 = dktX2_init_3 := dk_seg dksX2_init_2 24 rfl rfl
theorem dksX2_init_4 : cX2_init.data.toList.drop 95 = dktX2_init_4 := dk_seg dksX2_init_3 24 rfl rfl
theorem dksX2_init_5 : cX2_init.data.toList.drop 119 = dktX2_init_5 := dk_seg dksX2_init_4 24 rfl rfl
theorem dksX2_init_6 : cX2_init.data.toList.drop 142 = dktX2_init_6 := dk_seg dksX2_init_5 23 rfl rfl
theorem dksX2_init_7 : cX2_init.data.toList.drop 164 = dktX2_init_7 := dk_seg dksX2_init_6 22 rfl rfl
theorem dksX2_init_8 : cX2_init.data.toList.drop 188 = dktX2_init_8 := dk_seg dksX2_init_7 24 rfl rfl
theorem dX2_init_0 : decode cX2_init 0 = .ok (.aload_n 0, 1) := dk_42 (dk_at dksX2_init_0 0 rfl rfl)
theorem dX2_init_1 : decode cX2_init 1 = .ok (.invokespecial 1, 3) := dk_183 0 1 (dk_at dksX2_init_0 1 rfl rfl)
theorem dX2_init_4 : decode cX2_init 4 = .ok (.aload_n 0, 1) := dk_42 (dk_at dksX2_init_0 4 rfl rfl)
theorem dX2_init_5 : decode cX2_init 5 = .ok (.sipush 4544, 3) := dk_17 17 192 (dk_at dksX2_init_0 5 rfl rfl)
theorem dX2_init_8 : decode cX2_init 8 = .ok (.newarray .int, 2) := dk_188_10 (dk_at dksX2_init_0 8 rfl rfl)
theorem dX2_init_10 : decode cX2_init 10 = .ok (.putfield 7, 3) := dk_181 0 7 (dk_at dksX2_init_0 10 rfl rfl)
theorem dX2_init_13 : decode cX2_init 13 = .ok (.aload_n 0, 1) := dk_42 (dk_at dksX2_init_0 13 rfl rfl)
theorem dX2_init_14 : decode cX2_init 14 = .ok (.sipush 4544, 3) := dk_17 17 192 (dk_at dksX2_init_0 14 rfl rfl)
theorem dX2_init_17 : decode cX2_init 17 = .ok (.newarray .int, 2) := dk_188_10 (dk_at dksX2_init_0 17 rfl rfl)
theorem dX2_init_19 : decode cX2_init 19 = .ok (.putfield 13, 3) := dk_181 0 13 (dk_at dksX2_init_0 19 rfl rfl)
theorem dX2_init_22 : decode cX2_init 22 = .ok (.aload_n 0, 1) := dk_42 (dk_at dksX2_init_0 22 rfl rfl)
theorem dX2_init_23 : decode cX2_init 23 = .ok (.sipush 2820, 3) := dk_17 11 4 (dk_at dksX2_init_1 0 rfl rfl)
theorem dX2_init_26 : decode cX2_init 26 = .ok (.newarray .int, 2) := dk_188_10 (dk_at dksX2_init_1 3 rfl rfl)
theorem dX2_init_28 : decode cX2_init 28 = .ok (.putfield 16, 3) := dk_181 0 16 (dk_at dksX2_init_1 5 rfl rfl)
theorem dX2_init_31 : decode cX2_init 31 = .ok (.aload_n 0, 1) := dk_42 (dk_at dksX2_init_1 8 rfl rfl)
theorem dX2_init_32 : decode cX2_init 32 = .ok (.sipush 300, 3) := dk_17 1 44 (dk_at dksX2_init_1 9 rfl rfl)
theorem dX2_init_35 : decode cX2_init 35 = .ok (.newarray .int, 2) := dk_188_10 (dk_at dksX2_init_1 12 rfl rfl)
theorem dX2_init_37 : decode cX2_init 37 = .ok (.putfield 19, 3) := dk_181 0 19 (dk_at dksX2_init_1 14 rfl rfl)
theorem dX2_init_40 : decode cX2_init 40 = .ok (.aload_n 0, 1) := dk_42 (dk_at dksX2_init_1 17 rfl rfl)
theorem dX2_init_41 : decode cX2_init 41 = .ok (.iconst (-1), 1) := dk_2 (dk_at dksX2_init_1 18 rfl rfl)
theorem dX2_init_42 : decode cX2_init 42 = .ok (.putfield 22, 3) := dk_181 0 22 (dk_at dksX2_init_1 19 rfl rfl)
theorem dX2_init_45 : decode cX2_init 45 = .ok (.aload_n 0, 1) := dk_42 (dk_at dksX2_init_1 22 rfl rfl)
theorem dX2_init_46 : decode cX2_init 46 = .ok (.iconst (-1), 1) := dk_2 (dk_at dksX2_init_1 23 rfl rfl)
theorem dX2_init_47 : decode cX2_init 47 = .ok (.putfield 26, 3) := dk_181 0 26 (dk_at dksX2_init_2 0 rfl rfl)
theorem dX2_init_50 : decode cX2_init 50 = .ok (.aload_n 0, 1) := dk_42 (dk_at dksX2_init_2 3 rfl rfl)
theorem dX2_init_51 : decode cX2_init 51 = .ok (.sipush 160, 3) := dk_17 0 160 (dk_at dksX2_init_2 4 rfl rfl)
theorem dX2_init_54 : decode cX2_init 54 = .ok (.newarray .int, 2) := dk_188_10 (dk_at dksX2_init_2 7 rfl rfl)
theorem dX2_init_56 : decode cX2_init 56 = .ok (.putfield 29, 3) := dk_181 0 29 (dk_at dksX2_init_2 9 rfl rfl)
theorem dX2_init_59 : decode cX2_init 59 = .ok (.aload_n 0, 1) := dk_42 (dk_at dksX2_init_2 12 rfl rfl)
theorem dX2_init_60 : decode cX2_init 60 = .ok (.bipush 9, 2) := dk_16 9 (dk_at dksX2_init_2 13 rfl rfl)
theorem dX2_init_62 : decode cX2_init 62 = .ok (.newarray .int, 2) := dk_188_10 (dk_at dksX2_init_2 15 rfl rfl)
theorem dX2_init_64 : decode cX2_init 64 = .ok (.putfield 32, 3) := dk_181 0 32 (dk_at dksX2_init_2 17 rfl rfl)
theorem dX2_init_67 : decode cX2_init 67 = .ok (.aload_n 0, 1) := dk_42 (dk_at dksX2_init_2 20 rfl rfl)
theorem dX2_init_68 : decode cX2_init 68 = .ok (.sipush 330, 3) := dk_17 1 74 (dk_at dksX2_init_2 21 rfl rfl)
theorem dX2_init_71 : decode cX2_init 71 = .ok (.newarray .long, 2) := dk_188_11 (dk_at dksX2_init_3 0 rfl rfl)
theorem dX2_init_73 : decode cX2_init 73 = .ok (.putfield 35, 3) := dk_181 0 35 (dk_at dksX2_init_3 2 rfl rfl)
theorem dX2_init_76 : decode cX2_init 76 = .ok (.aload_n 0, 1) := dk_42 (dk_at dksX2_init_3 5 rfl rfl)
theorem dX2_init_77 : decode cX2_init 77 = .ok (.sipush 330, 3) := dk_17 1 74 (dk_at dksX2_init_3 6 rfl rfl)
theorem dX2_init_80 : decode cX2_init 80 = .ok (.newarray .boolean, 2) := dk_188_4 (dk_at dksX2_init_3 9 rfl rfl)
theorem dX2_init_82 : decode cX2_init 82 = .ok (.putfield 39, 3) := dk_181 0 39 (dk_at dksX2_init_3 11 rfl rfl)
theorem dX2_init_85 : decode cX2_init 85 = .ok (.aload_n 0, 1) := dk_42 (dk_at dksX2_init_3 14 rfl rfl)
theorem dX2_init_86 : decode cX2_init 86 = .ok (.iconst 1, 1) := dk_4 (dk_at dksX2_init_3 15 rfl rfl)
theorem dX2_init_87 : decode cX2_init 87 = .ok (.putfield 43, 3) := dk_181 0 43 (dk_at dksX2_init_3 16 rfl rfl)
theorem dX2_init_90 : decode cX2_init 90 = .ok (.aload_n 0, 1) := dk_42 (dk_at dksX2_init_3 19 rfl rfl)
theorem dX2_init_91 : decode cX2_init 91 = .ok (.bipush 90, 2) := dk_16 90 (dk_at dksX2_init_3 20 rfl rfl)
theorem dX2_init_93 : decode cX2_init 93 = .ok (.newarray .int, 2) := dk_188_10 (dk_at dksX2_init_3 22 rfl rfl)
theorem dX2_init_95 : decode cX2_init 95 = .ok (.putfield 47, 3) := dk_181 0 47 (dk_at dksX2_init_4 0 rfl rfl)
theorem dX2_init_98 : decode cX2_init 98 = .ok (.aload_n 0, 1) := dk_42 (dk_at dksX2_init_4 3 rfl rfl)
theorem dX2_init_99 : decode cX2_init 99 = .ok (.bipush 10, 2) := dk_16 10 (dk_at dksX2_init_4 4 rfl rfl)
theorem dX2_init_101 : decode cX2_init 101 = .ok (.newarray .int, 2) := dk_188_10 (dk_at dksX2_init_4 6 rfl rfl)
theorem dX2_init_103 : decode cX2_init 103 = .ok (.putfield 50, 3) := dk_181 0 50 (dk_at dksX2_init_4 8 rfl rfl)
theorem dX2_init_106 : decode cX2_init 106 = .ok (.aload_n 0, 1) := dk_42 (dk_at dksX2_init_4 11 rfl rfl)
theorem dX2_init_107 : decode cX2_init 107 = .ok (.bipush 11, 2) := dk_16 11 (dk_at dksX2_init_4 12 rfl rfl)
theorem dX2_init_109 : decode cX2_init 109 = .ok (.newarray .int, 2) := dk_188_10 (dk_at dksX2_init_4 14 rfl rfl)
theorem dX2_init_111 : decode cX2_init 111 = .ok (.putfield 53, 3) := dk_181 0 53 (dk_at dksX2_init_4 16 rfl rfl)
theorem dX2_init_114 : decode cX2_init 114 = .ok (.aload_n 0, 1) := dk_42 (dk_at dksX2_init_4 19 rfl rfl)
theorem dX2_init_115 : decode cX2_init 115 = .ok (.bipush 11, 2) := dk_16 11 (dk_at dksX2_init_4 20 rfl rfl)
theorem dX2_init_117 : decode cX2_init 117 = .ok (.newarray .int, 2) := dk_188_10 (dk_at dksX2_init_4 22 rfl rfl)
theorem dX2_init_119 : decode cX2_init 119 = .ok (.putfield 56, 3) := dk_181 0 56 (dk_at dksX2_init_5 0 rfl rfl)
theorem dX2_init_122 : decode cX2_init 122 = .ok (.aload_n 0, 1) := dk_42 (dk_at dksX2_init_5 3 rfl rfl)
theorem dX2_init_123 : decode cX2_init 123 = .ok (.bipush 11, 2) := dk_16 11 (dk_at dksX2_init_5 4 rfl rfl)
theorem dX2_init_125 : decode cX2_init 125 = .ok (.newarray .int, 2) := dk_188_10 (dk_at dksX2_init_5 6 rfl rfl)
theorem dX2_init_127 : decode cX2_init 127 = .ok (.putfield 59, 3) := dk_181 0 59 (dk_at dksX2_init_5 8 rfl rfl)
theorem dX2_init_130 : decode cX2_init 130 = .ok (.aload_n 0, 1) := dk_42 (dk_at dksX2_init_5 11 rfl rfl)
theorem dX2_init_131 : decode cX2_init 131 = .ok (.bipush 8, 2) := dk_16 8 (dk_at dksX2_init_5 12 rfl rfl)
theorem dX2_init_133 : decode cX2_init 133 = .ok (.newarray .int, 2) := dk_188_10 (dk_at dksX2_init_5 14 rfl rfl)
theorem dX2_init_135 : decode cX2_init 135 = .ok (.putfield 62, 3) := dk_181 0 62 (dk_at dksX2_init_5 16 rfl rfl)
theorem dX2_init_138 : decode cX2_init 138 = .ok (.aload_n 0, 1) := dk_42 (dk_at dksX2_init_5 19 rfl rfl)
theorem dX2_init_139 : decode cX2_init 139 = .ok (.getfield 7, 3) := dk_180 0 7 (dk_at dksX2_init_5 20 rfl rfl)
theorem dX2_init_142 : decode cX2_init 142 = .ok (.bipush 7, 2) := dk_16 7 (dk_at dksX2_init_6 0 rfl rfl)
theorem dX2_init_144 : decode cX2_init 144 = .ok (.sipush 181, 3) := dk_17 0 181 (dk_at dksX2_init_6 2 rfl rfl)
theorem dX2_init_147 : decode cX2_init 147 = .ok (.iastore, 1) := dk_79 (dk_at dksX2_init_6 5 rfl rfl)
theorem dX2_init_148 : decode cX2_init 148 = .ok (.aload_n 0, 1) := dk_42 (dk_at dksX2_init_6 6 rfl rfl)
theorem dX2_init_149 : decode cX2_init 149 = .ok (.getfield 7, 3) := dk_180 0 7 (dk_at dksX2_init_6 7 rfl rfl)
theorem dX2_init_152 : decode cX2_init 152 = .ok (.iconst 2, 1) := dk_5 (dk_at dksX2_init_6 10 rfl rfl)
theorem dX2_init_153 : decode cX2_init 153 = .ok (.iconst (-1), 1) := dk_2 (dk_at dksX2_init_6 11 rfl rfl)
theorem dX2_init_154 : decode cX2_init 154 = .ok (.iastore, 1) := dk_79 (dk_at dksX2_init_6 12 rfl rfl)
theorem dX2_init_155 : decode cX2_init 155 = .ok (.iconst 0, 1) := dk_3 (dk_at dksX2_init_6 13 rfl rfl)
theorem dX2_init_156 : decode cX2_init 156 = .ok (.istore_n 1, 1) := dk_60 (dk_at dksX2_init_6 14 rfl rfl)
theorem dX2_init_157 : decode cX2_init 157 = .ok (.iload_n 1, 1) := dk_27 (dk_at dksX2_init_6 15 rfl rfl)
theorem dX2_init_158 : decode cX2_init 158 = .ok (.bipush 10, 2) := dk_16 10 (dk_at dksX2_init_6 16 rfl rfl)
theorem dX2_init_160 : decode cX2_init 160 = .ok (.if_icmp .ge 20, 3) := dk_162 0 20 (dk_at dksX2_init_6 18 rfl rfl)
theorem dX2_init_163 : decode cX2_init 163 = .ok (.aload_n 0, 1) := dk_42 (dk_at dksX2_init_6 21 rfl rfl)
theorem dX2_init_164 : decode cX2_init 164 = .ok (.getfield 7, 3) := dk_180 0 7 (dk_at dksX2_init_7 0 rfl rfl)
theorem dX2_init_167 : decode cX2_init 167 = .ok (.sipush 128, 3) := dk_17 0 128 (dk_at dksX2_init_7 3 rfl rfl)
theorem dX2_init_170 : decode cX2_init 170 = .ok (.iload_n 1, 1) := dk_27 (dk_at dksX2_init_7 6 rfl rfl)
theorem dX2_init_171 : decode cX2_init 171 = .ok (.iadd, 1) := dk_96 (dk_at dksX2_init_7 7 rfl rfl)
theorem dX2_init_172 : decode cX2_init 172 = .ok (.iconst 1, 1) := dk_4 (dk_at dksX2_init_7 8 rfl rfl)
theorem dX2_init_173 : decode cX2_init 173 = .ok (.iastore, 1) := dk_79 (dk_at dksX2_init_7 9 rfl rfl)
theorem dX2_init_174 : decode cX2_init 174 = .ok (.iinc 1 1, 3) := dk_132 1 1 (dk_at dksX2_init_7 10 rfl rfl)
theorem dX2_init_177 : decode cX2_init 177 = .ok (.goto (-20), 3) := dk_167 255 236 (dk_at dksX2_init_7 13 rfl rfl)
theorem dX2_init_180 : decode cX2_init 180 = .ok (.aload_n 0, 1) := dk_42 (dk_at dksX2_init_7 16 rfl rfl)
theorem dX2_init_181 : decode cX2_init 181 = .ok (.getfield 7, 3) := dk_180 0 7 (dk_at dksX2_init_7 17 rfl rfl)
theorem dX2_init_184 : decode cX2_init 184 = .ok (.aload_n 0, 1) := dk_42 (dk_at dksX2_init_7 20 rfl rfl)
theorem dX2_init_185 : decode cX2_init 185 = .ok (.getfield 13, 3) := dk_180 0 13 (dk_at dksX2_init_7 21 rfl rfl)
theorem dX2_init_188 : decode cX2_init 188 = .ok (.invokestatic 65, 3) := dk_184 0 65 (dk_at dksX2_init_8 0 rfl rfl)
theorem dX2_init_191 : decode cX2_init 191 = .ok (.return_, 1) := dk_177 (dk_at dksX2_init_8 3 rfl rfl)
abbrev cX2_copy : ByteArray := prog_20_method_2_code
def yX2_copy : MethodName := ⟨RX2, "copy", "([I[I)V"⟩
def dkwX2_copy_0 : List UInt8 := [3, 61, 28, 17, 17, 192, 162, 0, 15, 43, 28, 42, 28, 46, 79, 132, 2, 1, 167, 255, 240, 177]
abbrev dktX2_copy_0 : List UInt8 := dkwX2_copy_0 ++ []
theorem dksX2_copy_0 : cX2_copy.data.toList.drop 0 = dktX2_copy_0 := by decide +kernel
theorem dX2_copy_0 : decode cX2_copy 0 = .ok (.iconst 0, 1) := dk_3 (dk_at dksX2_copy_0 0 rfl rfl)
theorem dX2_copy_1 : decode cX2_copy 1 = .ok (.istore_n 2, 1) := dk_61 (dk_at dksX2_copy_0 1 rfl rfl)
theorem dX2_copy_2 : decode cX2_copy 2 = .ok (.iload_n 2, 1) := dk_28 (dk_at dksX2_copy_0 2 rfl rfl)
theorem dX2_copy_3 : decode cX2_copy 3 = .ok (.sipush 4544, 3) := dk_17 17 192 (dk_at dksX2_copy_0 3 rfl rfl)
theorem dX2_copy_6 : decode cX2_copy 6 = .ok (.if_icmp .ge 15, 3) := dk_162 0 15 (dk_at dksX2_copy_0 6 rfl rfl)
theorem dX2_copy_9 : decode cX2_copy 9 = .ok (.aload_n 1, 1) := dk_43 (dk_at dksX2_copy_0 9 rfl rfl)
theorem dX2_copy_10 : decode cX2_copy 10 = .ok (.iload_n 2, 1) := dk_28 (dk_at dksX2_copy_0 10 rfl rfl)
theorem dX2_copy_11 : decode cX2_copy 11 = .ok (.aload_n 0, 1) := dk_42 (dk_at dksX2_copy_0 11 rfl rfl)
theorem dX2_copy_12 : decode cX2_copy 12 = .ok (.iload_n 2, 1) := dk_28 (dk_at dksX2_copy_0 12 rfl rfl)
theorem dX2_copy_13 : decode cX2_copy 13 = .ok (.iaload, 1) := dk_46 (dk_at dksX2_copy_0 13 rfl rfl)
theorem dX2_copy_14 : decode cX2_copy 14 = .ok (.iastore, 1) := dk_79 (dk_at dksX2_copy_0 14 rfl rfl)
theorem dX2_copy_15 : decode cX2_copy 15 = .ok (.iinc 2 1, 3) := dk_132 2 1 (dk_at dksX2_copy_0 15 rfl rfl)
theorem dX2_copy_18 : decode cX2_copy 18 = .ok (.goto (-16), 3) := dk_167 255 240 (dk_at dksX2_copy_0 18 rfl rfl)
theorem dX2_copy_21 : decode cX2_copy 21 = .ok (.return_, 1) := dk_177 (dk_at dksX2_copy_0 21 rfl rfl)
abbrev cX2_officer : ByteArray := prog_20_method_14_code
def yX2_officer : MethodName := ⟨RX2, "officer", "(II)I"⟩
def dkwX2_officer_3 : List UInt8 := [16, 110, 29, 96, 3, 79, 42, 180, 0, 7, 3, 92, 46, 4, 96, 79, 29, 172]
abbrev dktX2_officer_3 : List UInt8 := dkwX2_officer_3 ++ []
def dkwX2_officer_2 : List UInt8 := [180, 0, 7, 16, 90, 29, 96, 27, 79, 42, 180, 0, 7, 16, 100, 29, 96, 28, 79, 42, 180, 0, 7]
abbrev dktX2_officer_2 : List UInt8 := dkwX2_officer_2 ++ dktX2_officer_3
def dkwX2_officer_1 : List UInt8 := [167, 0, 21, 42, 27, 182, 0, 73, 153, 0, 13, 28, 3, 16, 9, 184, 0, 69, 154, 0, 5, 2, 172, 42]
abbrev dktX2_officer_1 : List UInt8 := dkwX2_officer_1 ++ dktX2_officer_2
def dkwX2_officer_0 : List UInt8 := [42, 180, 0, 7, 3, 46, 62, 29, 16, 10, 159, 0, 33, 29, 154, 0, 11, 27, 2, 159, 0, 14]
abbrev dktX2_officer_0 : List UInt8 := dkwX2_officer_0 ++ dktX2_officer_1
theorem dksX2_officer_0 : cX2_officer.data.toList.drop 0 = dktX2_officer_0 := by decide +kernel
theorem dksX2_officer_1 : cX2_officer.data.toList.drop 22 = dktX2_officer_1 := dk_seg dksX2_officer_0 22 rfl rfl
theorem dksX2_officer_2 : cX2_officer.data.toList.drop 46 = dktX2_officer_2 := dk_seg dksX2_officer_1 24 rfl rfl
theorem dksX2_officer_3 : cX2_officer.data.toList.drop 69 = dktX2_officer_3 := dk_seg dksX2_officer_2 23 rfl rfl
theorem dX2_officer_0 : decode cX2_officer 0 = .ok (.aload_n 0, 1) := dk_42 (dk_at dksX2_officer_0 0 rfl rfl)
theorem dX2_officer_1 : decode cX2_officer 1 = .ok (.getfield 7, 3) := dk_180 0 7 (dk_at dksX2_officer_0 1 rfl rfl)
theorem dX2_officer_4 : decode cX2_officer 4 = .ok (.iconst 0, 1) := dk_3 (dk_at dksX2_officer_0 4 rfl rfl)
theorem dX2_officer_5 : decode cX2_officer 5 = .ok (.iaload, 1) := dk_46 (dk_at dksX2_officer_0 5 rfl rfl)
theorem dX2_officer_6 : decode cX2_officer 6 = .ok (.istore_n 3, 1) := dk_62 (dk_at dksX2_officer_0 6 rfl rfl)
theorem dX2_officer_7 : decode cX2_officer 7 = .ok (.iload_n 3, 1) := dk_29 (dk_at dksX2_officer_0 7 rfl rfl)
theorem dX2_officer_8 : decode cX2_officer 8 = .ok (.bipush 10, 2) := dk_16 10 (dk_at dksX2_officer_0 8 rfl rfl)
theorem dX2_officer_10 : decode cX2_officer 10 = .ok (.if_icmp .eq 33, 3) := dk_159 0 33 (dk_at dksX2_officer_0 10 rfl rfl)
theorem dX2_officer_13 : decode cX2_officer 13 = .ok (.iload_n 3, 1) := dk_29 (dk_at dksX2_officer_0 13 rfl rfl)
theorem dX2_officer_14 : decode cX2_officer 14 = .ok (.ifCond .ne 11, 3) := dk_154 0 11 (dk_at dksX2_officer_0 14 rfl rfl)
theorem dX2_officer_17 : decode cX2_officer 17 = .ok (.iload_n 1, 1) := dk_27 (dk_at dksX2_officer_0 17 rfl rfl)
theorem dX2_officer_18 : decode cX2_officer 18 = .ok (.iconst (-1), 1) := dk_2 (dk_at dksX2_officer_0 18 rfl rfl)
theorem dX2_officer_19 : decode cX2_officer 19 = .ok (.if_icmp .eq 14, 3) := dk_159 0 14 (dk_at dksX2_officer_0 19 rfl rfl)
theorem dX2_officer_22 : decode cX2_officer 22 = .ok (.goto 21, 3) := dk_167 0 21 (dk_at dksX2_officer_1 0 rfl rfl)
theorem dX2_officer_25 : decode cX2_officer 25 = .ok (.aload_n 0, 1) := dk_42 (dk_at dksX2_officer_1 3 rfl rfl)
theorem dX2_officer_26 : decode cX2_officer 26 = .ok (.iload_n 1, 1) := dk_27 (dk_at dksX2_officer_1 4 rfl rfl)
theorem dX2_officer_27 : decode cX2_officer 27 = .ok (.invokevirtual 73, 3) := dk_182 0 73 (dk_at dksX2_officer_1 5 rfl rfl)
theorem dX2_officer_30 : decode cX2_officer 30 = .ok (.ifCond .eq 13, 3) := dk_153 0 13 (dk_at dksX2_officer_1 8 rfl rfl)
theorem dX2_officer_33 : decode cX2_officer 33 = .ok (.iload_n 2, 1) := dk_28 (dk_at dksX2_officer_1 11 rfl rfl)
theorem dX2_officer_34 : decode cX2_officer 34 = .ok (.iconst 0, 1) := dk_3 (dk_at dksX2_officer_1 12 rfl rfl)
theorem dX2_officer_35 : decode cX2_officer 35 = .ok (.bipush 9, 2) := dk_16 9 (dk_at dksX2_officer_1 13 rfl rfl)
theorem dX2_officer_37 : decode cX2_officer 37 = .ok (.invokestatic 69, 3) := dk_184 0 69 (dk_at dksX2_officer_1 15 rfl rfl)
theorem dX2_officer_40 : decode cX2_officer 40 = .ok (.ifCond .ne 5, 3) := dk_154 0 5 (dk_at dksX2_officer_1 18 rfl rfl)
theorem dX2_officer_43 : decode cX2_officer 43 = .ok (.iconst (-1), 1) := dk_2 (dk_at dksX2_officer_1 21 rfl rfl)
theorem dX2_officer_44 : decode cX2_officer 44 = .ok (.ireturn, 1) := dk_172 (dk_at dksX2_officer_1 22 rfl rfl)
theorem dX2_officer_45 : decode cX2_officer 45 = .ok (.aload_n 0, 1) := dk_42 (dk_at dksX2_officer_1 23 rfl rfl)
theorem dX2_officer_46 : decode cX2_officer 46 = .ok (.getfield 7, 3) := dk_180 0 7 (dk_at dksX2_officer_2 0 rfl rfl)
theorem dX2_officer_49 : decode cX2_officer 49 = .ok (.bipush 90, 2) := dk_16 90 (dk_at dksX2_officer_2 3 rfl rfl)
theorem dX2_officer_51 : decode cX2_officer 51 = .ok (.iload_n 3, 1) := dk_29 (dk_at dksX2_officer_2 5 rfl rfl)
theorem dX2_officer_52 : decode cX2_officer 52 = .ok (.iadd, 1) := dk_96 (dk_at dksX2_officer_2 6 rfl rfl)
theorem dX2_officer_53 : decode cX2_officer 53 = .ok (.iload_n 1, 1) := dk_27 (dk_at dksX2_officer_2 7 rfl rfl)
theorem dX2_officer_54 : decode cX2_officer 54 = .ok (.iastore, 1) := dk_79 (dk_at dksX2_officer_2 8 rfl rfl)
theorem dX2_officer_55 : decode cX2_officer 55 = .ok (.aload_n 0, 1) := dk_42 (dk_at dksX2_officer_2 9 rfl rfl)
theorem dX2_officer_56 : decode cX2_officer 56 = .ok (.getfield 7, 3) := dk_180 0 7 (dk_at dksX2_officer_2 10 rfl rfl)
theorem dX2_officer_59 : decode cX2_officer 59 = .ok (.bipush 100, 2) := dk_16 100 (dk_at dksX2_officer_2 13 rfl rfl)
theorem dX2_officer_61 : decode cX2_officer 61 = .ok (.iload_n 3, 1) := dk_29 (dk_at dksX2_officer_2 15 rfl rfl)
theorem dX2_officer_62 : decode cX2_officer 62 = .ok (.iadd, 1) := dk_96 (dk_at dksX2_officer_2 16 rfl rfl)
theorem dX2_officer_63 : decode cX2_officer 63 = .ok (.iload_n 2, 1) := dk_28 (dk_at dksX2_officer_2 17 rfl rfl)
theorem dX2_officer_64 : decode cX2_officer 64 = .ok (.iastore, 1) := dk_79 (dk_at dksX2_officer_2 18 rfl rfl)
theorem dX2_officer_65 : decode cX2_officer 65 = .ok (.aload_n 0, 1) := dk_42 (dk_at dksX2_officer_2 19 rfl rfl)
theorem dX2_officer_66 : decode cX2_officer 66 = .ok (.getfield 7, 3) := dk_180 0 7 (dk_at dksX2_officer_2 20 rfl rfl)
theorem dX2_officer_69 : decode cX2_officer 69 = .ok (.bipush 110, 2) := dk_16 110 (dk_at dksX2_officer_3 0 rfl rfl)
theorem dX2_officer_71 : decode cX2_officer 71 = .ok (.iload_n 3, 1) := dk_29 (dk_at dksX2_officer_3 2 rfl rfl)
theorem dX2_officer_72 : decode cX2_officer 72 = .ok (.iadd, 1) := dk_96 (dk_at dksX2_officer_3 3 rfl rfl)
theorem dX2_officer_73 : decode cX2_officer 73 = .ok (.iconst 0, 1) := dk_3 (dk_at dksX2_officer_3 4 rfl rfl)
theorem dX2_officer_74 : decode cX2_officer 74 = .ok (.iastore, 1) := dk_79 (dk_at dksX2_officer_3 5 rfl rfl)
theorem dX2_officer_75 : decode cX2_officer 75 = .ok (.aload_n 0, 1) := dk_42 (dk_at dksX2_officer_3 6 rfl rfl)
theorem dX2_officer_76 : decode cX2_officer 76 = .ok (.getfield 7, 3) := dk_180 0 7 (dk_at dksX2_officer_3 7 rfl rfl)
theorem dX2_officer_79 : decode cX2_officer 79 = .ok (.iconst 0, 1) := dk_3 (dk_at dksX2_officer_3 10 rfl rfl)
theorem dX2_officer_80 : decode cX2_officer 80 = .ok (.dup2, 1) := dk_92 (dk_at dksX2_officer_3 11 rfl rfl)
theorem dX2_officer_81 : decode cX2_officer 81 = .ok (.iaload, 1) := dk_46 (dk_at dksX2_officer_3 12 rfl rfl)
theorem dX2_officer_82 : decode cX2_officer 82 = .ok (.iconst 1, 1) := dk_4 (dk_at dksX2_officer_3 13 rfl rfl)
theorem dX2_officer_83 : decode cX2_officer 83 = .ok (.iadd, 1) := dk_96 (dk_at dksX2_officer_3 14 rfl rfl)
theorem dX2_officer_84 : decode cX2_officer 84 = .ok (.iastore, 1) := dk_79 (dk_at dksX2_officer_3 15 rfl rfl)
theorem dX2_officer_85 : decode cX2_officer 85 = .ok (.iload_n 3, 1) := dk_29 (dk_at dksX2_officer_3 16 rfl rfl)
theorem dX2_officer_86 : decode cX2_officer 86 = .ok (.ireturn, 1) := dk_172 (dk_at dksX2_officer_3 17 rfl rfl)
abbrev cX2_isOfficer : ByteArray := prog_20_method_7_code
def yX2_isOfficer : MethodName := ⟨RX2, "isOfficer", "(I)Z"⟩
def dkwX2_isOfficer_0 : List UInt8 := [27, 3, 42, 180, 0, 7, 3, 46, 4, 100, 184, 0, 69, 172]
abbrev dktX2_isOfficer_0 : List UInt8 := dkwX2_isOfficer_0 ++ []
theorem dksX2_isOfficer_0 : cX2_isOfficer.data.toList.drop 0 = dktX2_isOfficer_0 := by decide +kernel
theorem dX2_isOfficer_0 : decode cX2_isOfficer 0 = .ok (.iload_n 1, 1) := dk_27 (dk_at dksX2_isOfficer_0 0 rfl rfl)
theorem dX2_isOfficer_1 : decode cX2_isOfficer 1 = .ok (.iconst 0, 1) := dk_3 (dk_at dksX2_isOfficer_0 1 rfl rfl)
theorem dX2_isOfficer_2 : decode cX2_isOfficer 2 = .ok (.aload_n 0, 1) := dk_42 (dk_at dksX2_isOfficer_0 2 rfl rfl)
theorem dX2_isOfficer_3 : decode cX2_isOfficer 3 = .ok (.getfield 7, 3) := dk_180 0 7 (dk_at dksX2_isOfficer_0 3 rfl rfl)
theorem dX2_isOfficer_6 : decode cX2_isOfficer 6 = .ok (.iconst 0, 1) := dk_3 (dk_at dksX2_isOfficer_0 6 rfl rfl)
theorem dX2_isOfficer_7 : decode cX2_isOfficer 7 = .ok (.iaload, 1) := dk_46 (dk_at dksX2_isOfficer_0 7 rfl rfl)
theorem dX2_isOfficer_8 : decode cX2_isOfficer 8 = .ok (.iconst 1, 1) := dk_4 (dk_at dksX2_isOfficer_0 8 rfl rfl)
theorem dX2_isOfficer_9 : decode cX2_isOfficer 9 = .ok (.isub, 1) := dk_100 (dk_at dksX2_isOfficer_0 9 rfl rfl)
theorem dX2_isOfficer_10 : decode cX2_isOfficer 10 = .ok (.invokestatic 69, 3) := dk_184 0 69 (dk_at dksX2_isOfficer_0 10 rfl rfl)
theorem dX2_isOfficer_13 : decode cX2_isOfficer 13 = .ok (.ireturn, 1) := dk_172 (dk_at dksX2_isOfficer_0 13 rfl rfl)
abbrev cX2_isIn : ByteArray := prog_20_method_3_code
def yX2_isIn : MethodName := ⟨RX2, "isIn", "(III)Z"⟩
def dkwX2_isIn_0 : List UInt8 := [26, 27, 161, 0, 12, 26, 28, 163, 0, 7, 4, 167, 0, 4, 3, 172]
abbrev dktX2_isIn_0 : List UInt8 := dkwX2_isIn_0 ++ []
theorem dksX2_isIn_0 : cX2_isIn.data.toList.drop 0 = dktX2_isIn_0 := by decide +kernel
theorem dX2_isIn_0 : decode cX2_isIn 0 = .ok (.iload_n 0, 1) := dk_26 (dk_at dksX2_isIn_0 0 rfl rfl)
theorem dX2_isIn_1 : decode cX2_isIn 1 = .ok (.iload_n 1, 1) := dk_27 (dk_at dksX2_isIn_0 1 rfl rfl)
theorem dX2_isIn_2 : decode cX2_isIn 2 = .ok (.if_icmp .lt 12, 3) := dk_161 0 12 (dk_at dksX2_isIn_0 2 rfl rfl)
theorem dX2_isIn_5 : decode cX2_isIn 5 = .ok (.iload_n 0, 1) := dk_26 (dk_at dksX2_isIn_0 5 rfl rfl)
theorem dX2_isIn_6 : decode cX2_isIn 6 = .ok (.iload_n 2, 1) := dk_28 (dk_at dksX2_isIn_0 6 rfl rfl)
theorem dX2_isIn_7 : decode cX2_isIn 7 = .ok (.if_icmp .gt 7, 3) := dk_163 0 7 (dk_at dksX2_isIn_0 7 rfl rfl)
theorem dX2_isIn_10 : decode cX2_isIn 10 = .ok (.iconst 1, 1) := dk_4 (dk_at dksX2_isIn_0 10 rfl rfl)
theorem dX2_isIn_11 : decode cX2_isIn 11 = .ok (.goto 4, 3) := dk_167 0 4 (dk_at dksX2_isIn_0 11 rfl rfl)
theorem dX2_isIn_14 : decode cX2_isIn 14 = .ok (.iconst 0, 1) := dk_3 (dk_at dksX2_isIn_0 14 rfl rfl)
theorem dX2_isIn_15 : decode cX2_isIn 15 = .ok (.ireturn, 1) := dk_172 (dk_at dksX2_isIn_0 15 rfl rfl)
abbrev cX2_cousin : ByteArray := prog_20_method_15_code
def yX2_cousin : MethodName := ⟨RX2, "cousin", "(II)Z"⟩
def dkwX2_cousin_3 : List UInt8 := [172]
abbrev dktX2_cousin_3 : List UInt8 := dkwX2_cousin_3 ++ []
def dkwX2_cousin_2 : List UInt8 := [96, 92, 46, 4, 28, 120, 128, 79, 42, 180, 0, 7, 16, 110, 28, 96, 92, 46, 4, 27, 120, 128, 79, 4]
abbrev dktX2_cousin_2 : List UInt8 := dkwX2_cousin_2 ++ dktX2_cousin_3
def dkwX2_cousin_1 : List UInt8 := [180, 0, 7, 16, 110, 27, 96, 46, 28, 184, 0, 77, 153, 0, 5, 3, 172, 42, 180, 0, 7, 16, 110, 27]
abbrev dktX2_cousin_1 : List UInt8 := dkwX2_cousin_1 ++ dktX2_cousin_2
def dkwX2_cousin_0 : List UInt8 := [42, 27, 182, 0, 73, 153, 0, 32, 42, 28, 182, 0, 73, 153, 0, 24, 27, 28, 159, 0, 19, 42]
abbrev dktX2_cousin_0 : List UInt8 := dkwX2_cousin_0 ++ dktX2_cousin_1
theorem dksX2_cousin_0 : cX2_cousin.data.toList.drop 0 = dktX2_cousin_0 := by decide +kernel
theorem dksX2_cousin_1 : cX2_cousin.data.toList.drop 22 = dktX2_cousin_1 := dk_seg dksX2_cousin_0 22 rfl rfl
theorem dksX2_cousin_2 : cX2_cousin.data.toList.drop 46 = dktX2_cousin_2 := dk_seg dksX2_cousin_1 24 rfl rfl
theorem dksX2_cousin_3 : cX2_cousin.data.toList.drop 70 = dktX2_cousin_3 := dk_seg dksX2_cousin_2 24 rfl rfl
theorem dX2_cousin_0 : decode cX2_cousin 0 = .ok (.aload_n 0, 1) := dk_42 (dk_at dksX2_cousin_0 0 rfl rfl)
theorem dX2_cousin_1 : decode cX2_cousin 1 = .ok (.iload_n 1, 1) := dk_27 (dk_at dksX2_cousin_0 1 rfl rfl)
theorem dX2_cousin_2 : decode cX2_cousin 2 = .ok (.invokevirtual 73, 3) := dk_182 0 73 (dk_at dksX2_cousin_0 2 rfl rfl)
theorem dX2_cousin_5 : decode cX2_cousin 5 = .ok (.ifCond .eq 32, 3) := dk_153 0 32 (dk_at dksX2_cousin_0 5 rfl rfl)
theorem dX2_cousin_8 : decode cX2_cousin 8 = .ok (.aload_n 0, 1) := dk_42 (dk_at dksX2_cousin_0 8 rfl rfl)
theorem dX2_cousin_9 : decode cX2_cousin 9 = .ok (.iload_n 2, 1) := dk_28 (dk_at dksX2_cousin_0 9 rfl rfl)
theorem dX2_cousin_10 : decode cX2_cousin 10 = .ok (.invokevirtual 73, 3) := dk_182 0 73 (dk_at dksX2_cousin_0 10 rfl rfl)
theorem dX2_cousin_13 : decode cX2_cousin 13 = .ok (.ifCond .eq 24, 3) := dk_153 0 24 (dk_at dksX2_cousin_0 13 rfl rfl)
theorem dX2_cousin_16 : decode cX2_cousin 16 = .ok (.iload_n 1, 1) := dk_27 (dk_at dksX2_cousin_0 16 rfl rfl)
theorem dX2_cousin_17 : decode cX2_cousin 17 = .ok (.iload_n 2, 1) := dk_28 (dk_at dksX2_cousin_0 17 rfl rfl)
theorem dX2_cousin_18 : decode cX2_cousin 18 = .ok (.if_icmp .eq 19, 3) := dk_159 0 19 (dk_at dksX2_cousin_0 18 rfl rfl)
theorem dX2_cousin_21 : decode cX2_cousin 21 = .ok (.aload_n 0, 1) := dk_42 (dk_at dksX2_cousin_0 21 rfl rfl)
theorem dX2_cousin_22 : decode cX2_cousin 22 = .ok (.getfield 7, 3) := dk_180 0 7 (dk_at dksX2_cousin_1 0 rfl rfl)
theorem dX2_cousin_25 : decode cX2_cousin 25 = .ok (.bipush 110, 2) := dk_16 110 (dk_at dksX2_cousin_1 3 rfl rfl)
theorem dX2_cousin_27 : decode cX2_cousin 27 = .ok (.iload_n 1, 1) := dk_27 (dk_at dksX2_cousin_1 5 rfl rfl)
theorem dX2_cousin_28 : decode cX2_cousin 28 = .ok (.iadd, 1) := dk_96 (dk_at dksX2_cousin_1 6 rfl rfl)
theorem dX2_cousin_29 : decode cX2_cousin 29 = .ok (.iaload, 1) := dk_46 (dk_at dksX2_cousin_1 7 rfl rfl)
theorem dX2_cousin_30 : decode cX2_cousin 30 = .ok (.iload_n 2, 1) := dk_28 (dk_at dksX2_cousin_1 8 rfl rfl)
theorem dX2_cousin_31 : decode cX2_cousin 31 = .ok (.invokestatic 77, 3) := dk_184 0 77 (dk_at dksX2_cousin_1 9 rfl rfl)
theorem dX2_cousin_34 : decode cX2_cousin 34 = .ok (.ifCond .eq 5, 3) := dk_153 0 5 (dk_at dksX2_cousin_1 12 rfl rfl)
theorem dX2_cousin_37 : decode cX2_cousin 37 = .ok (.iconst 0, 1) := dk_3 (dk_at dksX2_cousin_1 15 rfl rfl)
theorem dX2_cousin_38 : decode cX2_cousin 38 = .ok (.ireturn, 1) := dk_172 (dk_at dksX2_cousin_1 16 rfl rfl)
theorem dX2_cousin_39 : decode cX2_cousin 39 = .ok (.aload_n 0, 1) := dk_42 (dk_at dksX2_cousin_1 17 rfl rfl)
theorem dX2_cousin_40 : decode cX2_cousin 40 = .ok (.getfield 7, 3) := dk_180 0 7 (dk_at dksX2_cousin_1 18 rfl rfl)
theorem dX2_cousin_43 : decode cX2_cousin 43 = .ok (.bipush 110, 2) := dk_16 110 (dk_at dksX2_cousin_1 21 rfl rfl)
theorem dX2_cousin_45 : decode cX2_cousin 45 = .ok (.iload_n 1, 1) := dk_27 (dk_at dksX2_cousin_1 23 rfl rfl)
theorem dX2_cousin_46 : decode cX2_cousin 46 = .ok (.iadd, 1) := dk_96 (dk_at dksX2_cousin_2 0 rfl rfl)
theorem dX2_cousin_47 : decode cX2_cousin 47 = .ok (.dup2, 1) := dk_92 (dk_at dksX2_cousin_2 1 rfl rfl)
theorem dX2_cousin_48 : decode cX2_cousin 48 = .ok (.iaload, 1) := dk_46 (dk_at dksX2_cousin_2 2 rfl rfl)
theorem dX2_cousin_49 : decode cX2_cousin 49 = .ok (.iconst 1, 1) := dk_4 (dk_at dksX2_cousin_2 3 rfl rfl)
theorem dX2_cousin_50 : decode cX2_cousin 50 = .ok (.iload_n 2, 1) := dk_28 (dk_at dksX2_cousin_2 4 rfl rfl)
theorem dX2_cousin_51 : decode cX2_cousin 51 = .ok (.ishl, 1) := dk_120 (dk_at dksX2_cousin_2 5 rfl rfl)
theorem dX2_cousin_52 : decode cX2_cousin 52 = .ok (.ior, 1) := dk_128 (dk_at dksX2_cousin_2 6 rfl rfl)
theorem dX2_cousin_53 : decode cX2_cousin 53 = .ok (.iastore, 1) := dk_79 (dk_at dksX2_cousin_2 7 rfl rfl)
theorem dX2_cousin_54 : decode cX2_cousin 54 = .ok (.aload_n 0, 1) := dk_42 (dk_at dksX2_cousin_2 8 rfl rfl)
theorem dX2_cousin_55 : decode cX2_cousin 55 = .ok (.getfield 7, 3) := dk_180 0 7 (dk_at dksX2_cousin_2 9 rfl rfl)
theorem dX2_cousin_58 : decode cX2_cousin 58 = .ok (.bipush 110, 2) := dk_16 110 (dk_at dksX2_cousin_2 12 rfl rfl)
theorem dX2_cousin_60 : decode cX2_cousin 60 = .ok (.iload_n 2, 1) := dk_28 (dk_at dksX2_cousin_2 14 rfl rfl)
theorem dX2_cousin_61 : decode cX2_cousin 61 = .ok (.iadd, 1) := dk_96 (dk_at dksX2_cousin_2 15 rfl rfl)
theorem dX2_cousin_62 : decode cX2_cousin 62 = .ok (.dup2, 1) := dk_92 (dk_at dksX2_cousin_2 16 rfl rfl)
theorem dX2_cousin_63 : decode cX2_cousin 63 = .ok (.iaload, 1) := dk_46 (dk_at dksX2_cousin_2 17 rfl rfl)
theorem dX2_cousin_64 : decode cX2_cousin 64 = .ok (.iconst 1, 1) := dk_4 (dk_at dksX2_cousin_2 18 rfl rfl)
theorem dX2_cousin_65 : decode cX2_cousin 65 = .ok (.iload_n 1, 1) := dk_27 (dk_at dksX2_cousin_2 19 rfl rfl)
theorem dX2_cousin_66 : decode cX2_cousin 66 = .ok (.ishl, 1) := dk_120 (dk_at dksX2_cousin_2 20 rfl rfl)
theorem dX2_cousin_67 : decode cX2_cousin 67 = .ok (.ior, 1) := dk_128 (dk_at dksX2_cousin_2 21 rfl rfl)
theorem dX2_cousin_68 : decode cX2_cousin 68 = .ok (.iastore, 1) := dk_79 (dk_at dksX2_cousin_2 22 rfl rfl)
theorem dX2_cousin_69 : decode cX2_cousin 69 = .ok (.iconst 1, 1) := dk_4 (dk_at dksX2_cousin_2 23 rfl rfl)
theorem dX2_cousin_70 : decode cX2_cousin 70 = .ok (.ireturn, 1) := dk_172 (dk_at dksX2_cousin_3 0 rfl rfl)
abbrev cX2_has : ByteArray := prog_20_method_5_code
def yX2_has : MethodName := ⟨RX2, "has", "(II)Z"⟩
def dkwX2_has_0 : List UInt8 := [26, 27, 122, 4, 126, 4, 160, 0, 7, 4, 167, 0, 4, 3, 172]
abbrev dktX2_has_0 : List UInt8 := dkwX2_has_0 ++ []
theorem dksX2_has_0 : cX2_has.data.toList.drop 0 = dktX2_has_0 := by decide +kernel
theorem dX2_has_0 : decode cX2_has 0 = .ok (.iload_n 0, 1) := dk_26 (dk_at dksX2_has_0 0 rfl rfl)
theorem dX2_has_1 : decode cX2_has 1 = .ok (.iload_n 1, 1) := dk_27 (dk_at dksX2_has_0 1 rfl rfl)
theorem dX2_has_2 : decode cX2_has 2 = .ok (.ishr, 1) := dk_122 (dk_at dksX2_has_0 2 rfl rfl)
theorem dX2_has_3 : decode cX2_has 3 = .ok (.iconst 1, 1) := dk_4 (dk_at dksX2_has_0 3 rfl rfl)
theorem dX2_has_4 : decode cX2_has 4 = .ok (.iand, 1) := dk_126 (dk_at dksX2_has_0 4 rfl rfl)
theorem dX2_has_5 : decode cX2_has 5 = .ok (.iconst 1, 1) := dk_4 (dk_at dksX2_has_0 5 rfl rfl)
theorem dX2_has_6 : decode cX2_has 6 = .ok (.if_icmp .ne 7, 3) := dk_160 0 7 (dk_at dksX2_has_0 6 rfl rfl)
theorem dX2_has_9 : decode cX2_has 9 = .ok (.iconst 1, 1) := dk_4 (dk_at dksX2_has_0 9 rfl rfl)
theorem dX2_has_10 : decode cX2_has 10 = .ok (.goto 4, 3) := dk_167 0 4 (dk_at dksX2_has_0 10 rfl rfl)
theorem dX2_has_13 : decode cX2_has 13 = .ok (.iconst 0, 1) := dk_3 (dk_at dksX2_has_0 13 rfl rfl)
theorem dX2_has_14 : decode cX2_has 14 = .ok (.ireturn, 1) := dk_172 (dk_at dksX2_has_0 14 rfl rfl)
abbrev cX2_feed : ByteArray := prog_20_method_17_code
def yX2_feed : MethodName := ⟨RX2, "feed", "(IIIII)I"⟩
def dkwX2_feed_2 : List UInt8 := [172]
abbrev dktX2_feed_2 : List UInt8 := dkwX2_feed_2 ++ []
def dkwX2_feed_1 : List UInt8 := [182, 0, 84, 42, 29, 182, 0, 84, 42, 21, 4, 182, 0, 84, 42, 21, 5, 182, 0, 84, 42, 180, 0, 81]
abbrev dktX2_feed_1 : List UInt8 := dkwX2_feed_1 ++ dktX2_feed_2
def dkwX2_feed_0 : List UInt8 := [42, 180, 0, 81, 16, 20, 96, 17, 1, 44, 164, 0, 5, 2, 172, 42, 27, 182, 0, 84, 42, 28]
abbrev dktX2_feed_0 : List UInt8 := dkwX2_feed_0 ++ dktX2_feed_1
theorem dksX2_feed_0 : cX2_feed.data.toList.drop 0 = dktX2_feed_0 := by decide +kernel
theorem dksX2_feed_1 : cX2_feed.data.toList.drop 22 = dktX2_feed_1 := dk_seg dksX2_feed_0 22 rfl rfl
theorem dksX2_feed_2 : cX2_feed.data.toList.drop 46 = dktX2_feed_2 := dk_seg dksX2_feed_1 24 rfl rfl
theorem dX2_feed_0 : decode cX2_feed 0 = .ok (.aload_n 0, 1) := dk_42 (dk_at dksX2_feed_0 0 rfl rfl)
theorem dX2_feed_1 : decode cX2_feed 1 = .ok (.getfield 81, 3) := dk_180 0 81 (dk_at dksX2_feed_0 1 rfl rfl)
theorem dX2_feed_4 : decode cX2_feed 4 = .ok (.bipush 20, 2) := dk_16 20 (dk_at dksX2_feed_0 4 rfl rfl)
theorem dX2_feed_6 : decode cX2_feed 6 = .ok (.iadd, 1) := dk_96 (dk_at dksX2_feed_0 6 rfl rfl)
theorem dX2_feed_7 : decode cX2_feed 7 = .ok (.sipush 300, 3) := dk_17 1 44 (dk_at dksX2_feed_0 7 rfl rfl)
theorem dX2_feed_10 : decode cX2_feed 10 = .ok (.if_icmp .le 5, 3) := dk_164 0 5 (dk_at dksX2_feed_0 10 rfl rfl)
theorem dX2_feed_13 : decode cX2_feed 13 = .ok (.iconst (-1), 1) := dk_2 (dk_at dksX2_feed_0 13 rfl rfl)
theorem dX2_feed_14 : decode cX2_feed 14 = .ok (.ireturn, 1) := dk_172 (dk_at dksX2_feed_0 14 rfl rfl)
theorem dX2_feed_15 : decode cX2_feed 15 = .ok (.aload_n 0, 1) := dk_42 (dk_at dksX2_feed_0 15 rfl rfl)
theorem dX2_feed_16 : decode cX2_feed 16 = .ok (.iload_n 1, 1) := dk_27 (dk_at dksX2_feed_0 16 rfl rfl)
theorem dX2_feed_17 : decode cX2_feed 17 = .ok (.invokevirtual 84, 3) := dk_182 0 84 (dk_at dksX2_feed_0 17 rfl rfl)
theorem dX2_feed_20 : decode cX2_feed 20 = .ok (.aload_n 0, 1) := dk_42 (dk_at dksX2_feed_0 20 rfl rfl)
theorem dX2_feed_21 : decode cX2_feed 21 = .ok (.iload_n 2, 1) := dk_28 (dk_at dksX2_feed_0 21 rfl rfl)
theorem dX2_feed_22 : decode cX2_feed 22 = .ok (.invokevirtual 84, 3) := dk_182 0 84 (dk_at dksX2_feed_1 0 rfl rfl)
theorem dX2_feed_25 : decode cX2_feed 25 = .ok (.aload_n 0, 1) := dk_42 (dk_at dksX2_feed_1 3 rfl rfl)
theorem dX2_feed_26 : decode cX2_feed 26 = .ok (.iload_n 3, 1) := dk_29 (dk_at dksX2_feed_1 4 rfl rfl)
theorem dX2_feed_27 : decode cX2_feed 27 = .ok (.invokevirtual 84, 3) := dk_182 0 84 (dk_at dksX2_feed_1 5 rfl rfl)
theorem dX2_feed_30 : decode cX2_feed 30 = .ok (.aload_n 0, 1) := dk_42 (dk_at dksX2_feed_1 8 rfl rfl)
theorem dX2_feed_31 : decode cX2_feed 31 = .ok (.iload 4, 2) := dk_21 4 (dk_at dksX2_feed_1 9 rfl rfl)
theorem dX2_feed_33 : decode cX2_feed 33 = .ok (.invokevirtual 84, 3) := dk_182 0 84 (dk_at dksX2_feed_1 11 rfl rfl)
theorem dX2_feed_36 : decode cX2_feed 36 = .ok (.aload_n 0, 1) := dk_42 (dk_at dksX2_feed_1 14 rfl rfl)
theorem dX2_feed_37 : decode cX2_feed 37 = .ok (.iload 5, 2) := dk_21 5 (dk_at dksX2_feed_1 15 rfl rfl)
theorem dX2_feed_39 : decode cX2_feed 39 = .ok (.invokevirtual 84, 3) := dk_182 0 84 (dk_at dksX2_feed_1 17 rfl rfl)
theorem dX2_feed_42 : decode cX2_feed 42 = .ok (.aload_n 0, 1) := dk_42 (dk_at dksX2_feed_1 20 rfl rfl)
theorem dX2_feed_43 : decode cX2_feed 43 = .ok (.getfield 81, 3) := dk_180 0 81 (dk_at dksX2_feed_1 21 rfl rfl)
theorem dX2_feed_46 : decode cX2_feed 46 = .ok (.ireturn, 1) := dk_172 (dk_at dksX2_feed_2 0 rfl rfl)
abbrev cX2_four : ByteArray := prog_20_method_16_code
def yX2_four : MethodName := ⟨RX2, "four", "(I)V"⟩
def dkwX2_four_1 : List UInt8 := [89, 180, 0, 81, 4, 96, 181, 0, 81, 132, 2, 248, 167, 255, 223, 177]
abbrev dktX2_four_1 : List UInt8 := dkwX2_four_1 ++ []
def dkwX2_four_0 : List UInt8 := [16, 24, 61, 28, 155, 0, 35, 42, 180, 0, 19, 42, 180, 0, 81, 27, 28, 122, 17, 0, 255, 126, 79, 42]
abbrev dktX2_four_0 : List UInt8 := dkwX2_four_0 ++ dktX2_four_1
theorem dksX2_four_0 : cX2_four.data.toList.drop 0 = dktX2_four_0 := by decide +kernel
theorem dksX2_four_1 : cX2_four.data.toList.drop 24 = dktX2_four_1 := dk_seg dksX2_four_0 24 rfl rfl
theorem dX2_four_0 : decode cX2_four 0 = .ok (.bipush 24, 2) := dk_16 24 (dk_at dksX2_four_0 0 rfl rfl)
theorem dX2_four_2 : decode cX2_four 2 = .ok (.istore_n 2, 1) := dk_61 (dk_at dksX2_four_0 2 rfl rfl)
theorem dX2_four_3 : decode cX2_four 3 = .ok (.iload_n 2, 1) := dk_28 (dk_at dksX2_four_0 3 rfl rfl)
theorem dX2_four_4 : decode cX2_four 4 = .ok (.ifCond .lt 35, 3) := dk_155 0 35 (dk_at dksX2_four_0 4 rfl rfl)
theorem dX2_four_7 : decode cX2_four 7 = .ok (.aload_n 0, 1) := dk_42 (dk_at dksX2_four_0 7 rfl rfl)
theorem dX2_four_8 : decode cX2_four 8 = .ok (.getfield 19, 3) := dk_180 0 19 (dk_at dksX2_four_0 8 rfl rfl)
theorem dX2_four_11 : decode cX2_four 11 = .ok (.aload_n 0, 1) := dk_42 (dk_at dksX2_four_0 11 rfl rfl)
theorem dX2_four_12 : decode cX2_four 12 = .ok (.getfield 81, 3) := dk_180 0 81 (dk_at dksX2_four_0 12 rfl rfl)
theorem dX2_four_15 : decode cX2_four 15 = .ok (.iload_n 1, 1) := dk_27 (dk_at dksX2_four_0 15 rfl rfl)
theorem dX2_four_16 : decode cX2_four 16 = .ok (.iload_n 2, 1) := dk_28 (dk_at dksX2_four_0 16 rfl rfl)
theorem dX2_four_17 : decode cX2_four 17 = .ok (.ishr, 1) := dk_122 (dk_at dksX2_four_0 17 rfl rfl)
theorem dX2_four_18 : decode cX2_four 18 = .ok (.sipush 255, 3) := dk_17 0 255 (dk_at dksX2_four_0 18 rfl rfl)
theorem dX2_four_21 : decode cX2_four 21 = .ok (.iand, 1) := dk_126 (dk_at dksX2_four_0 21 rfl rfl)
theorem dX2_four_22 : decode cX2_four 22 = .ok (.iastore, 1) := dk_79 (dk_at dksX2_four_0 22 rfl rfl)
theorem dX2_four_23 : decode cX2_four 23 = .ok (.aload_n 0, 1) := dk_42 (dk_at dksX2_four_0 23 rfl rfl)
theorem dX2_four_24 : decode cX2_four 24 = .ok (.dup, 1) := dk_89 (dk_at dksX2_four_1 0 rfl rfl)
theorem dX2_four_25 : decode cX2_four 25 = .ok (.getfield 81, 3) := dk_180 0 81 (dk_at dksX2_four_1 1 rfl rfl)
theorem dX2_four_28 : decode cX2_four 28 = .ok (.iconst 1, 1) := dk_4 (dk_at dksX2_four_1 4 rfl rfl)
theorem dX2_four_29 : decode cX2_four 29 = .ok (.iadd, 1) := dk_96 (dk_at dksX2_four_1 5 rfl rfl)
theorem dX2_four_30 : decode cX2_four 30 = .ok (.putfield 81, 3) := dk_181 0 81 (dk_at dksX2_four_1 6 rfl rfl)
theorem dX2_four_33 : decode cX2_four 33 = .ok (.iinc 2 (-8), 3) := dk_132 2 248 (dk_at dksX2_four_1 9 rfl rfl)
theorem dX2_four_36 : decode cX2_four 36 = .ok (.goto (-33), 3) := dk_167 255 223 (dk_at dksX2_four_1 12 rfl rfl)
theorem dX2_four_39 : decode cX2_four 39 = .ok (.return_, 1) := dk_177 (dk_at dksX2_four_1 15 rfl rfl)
abbrev cX2_end : ByteArray := prog_20_method_18_code
def yX2_end : MethodName := ⟨RX2, "end", "(I)I"⟩
def dkwX2_end_0 : List UInt8 := [27, 3, 42, 180, 0, 81, 184, 0, 69, 154, 0, 5, 2, 172, 42, 27, 181, 0, 81, 27, 172]
abbrev dktX2_end_0 : List UInt8 := dkwX2_end_0 ++ []
theorem dksX2_end_0 : cX2_end.data.toList.drop 0 = dktX2_end_0 := by decide +kernel
theorem dX2_end_0 : decode cX2_end 0 = .ok (.iload_n 1, 1) := dk_27 (dk_at dksX2_end_0 0 rfl rfl)
theorem dX2_end_1 : decode cX2_end 1 = .ok (.iconst 0, 1) := dk_3 (dk_at dksX2_end_0 1 rfl rfl)
theorem dX2_end_2 : decode cX2_end 2 = .ok (.aload_n 0, 1) := dk_42 (dk_at dksX2_end_0 2 rfl rfl)
theorem dX2_end_3 : decode cX2_end 3 = .ok (.getfield 81, 3) := dk_180 0 81 (dk_at dksX2_end_0 3 rfl rfl)
theorem dX2_end_6 : decode cX2_end 6 = .ok (.invokestatic 69, 3) := dk_184 0 69 (dk_at dksX2_end_0 6 rfl rfl)
theorem dX2_end_9 : decode cX2_end 9 = .ok (.ifCond .ne 5, 3) := dk_154 0 5 (dk_at dksX2_end_0 9 rfl rfl)
theorem dX2_end_12 : decode cX2_end 12 = .ok (.iconst (-1), 1) := dk_2 (dk_at dksX2_end_0 12 rfl rfl)
theorem dX2_end_13 : decode cX2_end 13 = .ok (.ireturn, 1) := dk_172 (dk_at dksX2_end_0 13 rfl rfl)
theorem dX2_end_14 : decode cX2_end 14 = .ok (.aload_n 0, 1) := dk_42 (dk_at dksX2_end_0 14 rfl rfl)
theorem dX2_end_15 : decode cX2_end 15 = .ok (.iload_n 1, 1) := dk_27 (dk_at dksX2_end_0 15 rfl rfl)
theorem dX2_end_16 : decode cX2_end 16 = .ok (.putfield 81, 3) := dk_181 0 81 (dk_at dksX2_end_0 16 rfl rfl)
theorem dX2_end_19 : decode cX2_end 19 = .ok (.iload_n 1, 1) := dk_27 (dk_at dksX2_end_0 19 rfl rfl)
theorem dX2_end_20 : decode cX2_end 20 = .ok (.ireturn, 1) := dk_172 (dk_at dksX2_end_0 20 rfl rfl)
abbrev cX2_text : ByteArray := prog_20_method_56_code
def yX2_text : MethodName := ⟨RX2, "text", "()I"⟩
def dkwX2_text_3 : List UInt8 := [4, 100, 172]
abbrev dktX2_text_3 : List UInt8 := dkwX2_text_3 ++ []
def dkwX2_text_2 : List UInt8 := [180, 0, 22, 153, 0, 5, 2, 172, 42, 180, 0, 7, 4, 92, 46, 4, 96, 79, 42, 180, 0, 7, 4, 46]
abbrev dktX2_text_2 : List UInt8 := dkwX2_text_2 ++ dktX2_text_3
def dkwX2_text_1 : List UInt8 := [180, 0, 22, 154, 0, 7, 2, 167, 0, 7, 42, 180, 0, 95, 181, 0, 26, 42, 3, 181, 0, 81, 42]
abbrev dktX2_text_1 : List UInt8 := dkwX2_text_1 ++ dktX2_text_2
def dkwX2_text_0 : List UInt8 := [42, 180, 0, 7, 4, 46, 7, 160, 0, 5, 2, 172, 42, 42, 182, 0, 251, 181, 0, 22, 42, 42]
abbrev dktX2_text_0 : List UInt8 := dkwX2_text_0 ++ dktX2_text_1
theorem dksX2_text_0 : cX2_text.data.toList.drop 0 = dktX2_text_0 := by decide +kernel
theorem dksX2_text_1 : cX2_text.data.toList.drop 22 = dktX2_text_1 := dk_seg dksX2_text_0 22 rfl rfl
theorem dksX2_text_2 : cX2_text.data.toList.drop 45 = dktX2_text_2 := dk_seg dksX2_text_1 23 rfl rfl
theorem dksX2_text_3 : cX2_text.data.toList.drop 69 = dktX2_text_3 := dk_seg dksX2_text_2 24 rfl rfl
theorem dX2_text_0 : decode cX2_text 0 = .ok (.aload_n 0, 1) := dk_42 (dk_at dksX2_text_0 0 rfl rfl)
theorem dX2_text_1 : decode cX2_text 1 = .ok (.getfield 7, 3) := dk_180 0 7 (dk_at dksX2_text_0 1 rfl rfl)
theorem dX2_text_4 : decode cX2_text 4 = .ok (.iconst 1, 1) := dk_4 (dk_at dksX2_text_0 4 rfl rfl)
theorem dX2_text_5 : decode cX2_text 5 = .ok (.iaload, 1) := dk_46 (dk_at dksX2_text_0 5 rfl rfl)
theorem dX2_text_6 : decode cX2_text 6 = .ok (.iconst 4, 1) := dk_7 (dk_at dksX2_text_0 6 rfl rfl)
theorem dX2_text_7 : decode cX2_text 7 = .ok (.if_icmp .ne 5, 3) := dk_160 0 5 (dk_at dksX2_text_0 7 rfl rfl)
theorem dX2_text_10 : decode cX2_text 10 = .ok (.iconst (-1), 1) := dk_2 (dk_at dksX2_text_0 10 rfl rfl)
theorem dX2_text_11 : decode cX2_text 11 = .ok (.ireturn, 1) := dk_172 (dk_at dksX2_text_0 11 rfl rfl)
theorem dX2_text_12 : decode cX2_text 12 = .ok (.aload_n 0, 1) := dk_42 (dk_at dksX2_text_0 12 rfl rfl)
theorem dX2_text_13 : decode cX2_text 13 = .ok (.aload_n 0, 1) := dk_42 (dk_at dksX2_text_0 13 rfl rfl)
theorem dX2_text_14 : decode cX2_text 14 = .ok (.invokevirtual 251, 3) := dk_182 0 251 (dk_at dksX2_text_0 14 rfl rfl)
theorem dX2_text_17 : decode cX2_text 17 = .ok (.putfield 22, 3) := dk_181 0 22 (dk_at dksX2_text_0 17 rfl rfl)
theorem dX2_text_20 : decode cX2_text 20 = .ok (.aload_n 0, 1) := dk_42 (dk_at dksX2_text_0 20 rfl rfl)
theorem dX2_text_21 : decode cX2_text 21 = .ok (.aload_n 0, 1) := dk_42 (dk_at dksX2_text_0 21 rfl rfl)
theorem dX2_text_22 : decode cX2_text 22 = .ok (.getfield 22, 3) := dk_180 0 22 (dk_at dksX2_text_1 0 rfl rfl)
theorem dX2_text_25 : decode cX2_text 25 = .ok (.ifCond .ne 7, 3) := dk_154 0 7 (dk_at dksX2_text_1 3 rfl rfl)
theorem dX2_text_28 : decode cX2_text 28 = .ok (.iconst (-1), 1) := dk_2 (dk_at dksX2_text_1 6 rfl rfl)
theorem dX2_text_29 : decode cX2_text 29 = .ok (.goto 7, 3) := dk_167 0 7 (dk_at dksX2_text_1 7 rfl rfl)
theorem dX2_text_32 : decode cX2_text 32 = .ok (.aload_n 0, 1) := dk_42 (dk_at dksX2_text_1 10 rfl rfl)
theorem dX2_text_33 : decode cX2_text 33 = .ok (.getfield 95, 3) := dk_180 0 95 (dk_at dksX2_text_1 11 rfl rfl)
theorem dX2_text_36 : decode cX2_text 36 = .ok (.putfield 26, 3) := dk_181 0 26 (dk_at dksX2_text_1 14 rfl rfl)
theorem dX2_text_39 : decode cX2_text 39 = .ok (.aload_n 0, 1) := dk_42 (dk_at dksX2_text_1 17 rfl rfl)
theorem dX2_text_40 : decode cX2_text 40 = .ok (.iconst 0, 1) := dk_3 (dk_at dksX2_text_1 18 rfl rfl)
theorem dX2_text_41 : decode cX2_text 41 = .ok (.putfield 81, 3) := dk_181 0 81 (dk_at dksX2_text_1 19 rfl rfl)
theorem dX2_text_44 : decode cX2_text 44 = .ok (.aload_n 0, 1) := dk_42 (dk_at dksX2_text_1 22 rfl rfl)
theorem dX2_text_45 : decode cX2_text 45 = .ok (.getfield 22, 3) := dk_180 0 22 (dk_at dksX2_text_2 0 rfl rfl)
theorem dX2_text_48 : decode cX2_text 48 = .ok (.ifCond .eq 5, 3) := dk_153 0 5 (dk_at dksX2_text_2 3 rfl rfl)
theorem dX2_text_51 : decode cX2_text 51 = .ok (.iconst (-1), 1) := dk_2 (dk_at dksX2_text_2 6 rfl rfl)
theorem dX2_text_52 : decode cX2_text 52 = .ok (.ireturn, 1) := dk_172 (dk_at dksX2_text_2 7 rfl rfl)
theorem dX2_text_53 : decode cX2_text 53 = .ok (.aload_n 0, 1) := dk_42 (dk_at dksX2_text_2 8 rfl rfl)
theorem dX2_text_54 : decode cX2_text 54 = .ok (.getfield 7, 3) := dk_180 0 7 (dk_at dksX2_text_2 9 rfl rfl)
theorem dX2_text_57 : decode cX2_text 57 = .ok (.iconst 1, 1) := dk_4 (dk_at dksX2_text_2 12 rfl rfl)
theorem dX2_text_58 : decode cX2_text 58 = .ok (.dup2, 1) := dk_92 (dk_at dksX2_text_2 13 rfl rfl)
theorem dX2_text_59 : decode cX2_text 59 = .ok (.iaload, 1) := dk_46 (dk_at dksX2_text_2 14 rfl rfl)
theorem dX2_text_60 : decode cX2_text 60 = .ok (.iconst 1, 1) := dk_4 (dk_at dksX2_text_2 15 rfl rfl)
theorem dX2_text_61 : decode cX2_text 61 = .ok (.iadd, 1) := dk_96 (dk_at dksX2_text_2 16 rfl rfl)
theorem dX2_text_62 : decode cX2_text 62 = .ok (.iastore, 1) := dk_79 (dk_at dksX2_text_2 17 rfl rfl)
theorem dX2_text_63 : decode cX2_text 63 = .ok (.aload_n 0, 1) := dk_42 (dk_at dksX2_text_2 18 rfl rfl)
theorem dX2_text_64 : decode cX2_text 64 = .ok (.getfield 7, 3) := dk_180 0 7 (dk_at dksX2_text_2 19 rfl rfl)
theorem dX2_text_67 : decode cX2_text 67 = .ok (.iconst 1, 1) := dk_4 (dk_at dksX2_text_2 22 rfl rfl)
theorem dX2_text_68 : decode cX2_text 68 = .ok (.iaload, 1) := dk_46 (dk_at dksX2_text_2 23 rfl rfl)
theorem dX2_text_69 : decode cX2_text 69 = .ok (.iconst 1, 1) := dk_4 (dk_at dksX2_text_3 0 rfl rfl)
theorem dX2_text_70 : decode cX2_text 70 = .ok (.isub, 1) := dk_100 (dk_at dksX2_text_3 1 rfl rfl)
theorem dX2_text_71 : decode cX2_text 71 = .ok (.ireturn, 1) := dk_172 (dk_at dksX2_text_3 2 rfl rfl)
abbrev cX2_readText : ByteArray := prog_20_method_55_code
def yX2_readText : MethodName := ⟨RX2, "readText", "()I"⟩
def dkwX2_readText_2 : List UInt8 := [153, 0, 17, 42, 182, 0, 248, 60, 27, 153, 0, 5, 27, 172, 167, 255, 238, 3, 172]
abbrev dktX2_readText_2 : List UInt8 := dkwX2_readText_2 ++ []
def dkwX2_readText_1 : List UInt8 := [42, 3, 181, 0, 139, 42, 3, 181, 0, 241, 42, 3, 181, 0, 88, 42, 182, 0, 165, 42, 180, 0, 98]
abbrev dktX2_readText_1 : List UInt8 := dkwX2_readText_1 ++ dktX2_readText_2
def dkwX2_readText_0 : List UInt8 := [42, 17, 2, 193, 42, 180, 0, 7, 4, 46, 104, 181, 0, 136, 42, 180, 0, 16, 42, 180, 0, 136, 3, 79]
abbrev dktX2_readText_0 : List UInt8 := dkwX2_readText_0 ++ dktX2_readText_1
theorem dksX2_readText_0 : cX2_readText.data.toList.drop 0 = dktX2_readText_0 := by decide +kernel
theorem dksX2_readText_1 : cX2_readText.data.toList.drop 24 = dktX2_readText_1 := dk_seg dksX2_readText_0 24 rfl rfl
theorem dksX2_readText_2 : cX2_readText.data.toList.drop 47 = dktX2_readText_2 := dk_seg dksX2_readText_1 23 rfl rfl
theorem dX2_readText_0 : decode cX2_readText 0 = .ok (.aload_n 0, 1) := dk_42 (dk_at dksX2_readText_0 0 rfl rfl)
theorem dX2_readText_1 : decode cX2_readText 1 = .ok (.sipush 705, 3) := dk_17 2 193 (dk_at dksX2_readText_0 1 rfl rfl)
theorem dX2_readText_4 : decode cX2_readText 4 = .ok (.aload_n 0, 1) := dk_42 (dk_at dksX2_readText_0 4 rfl rfl)
theorem dX2_readText_5 : decode cX2_readText 5 = .ok (.getfield 7, 3) := dk_180 0 7 (dk_at dksX2_readText_0 5 rfl rfl)
theorem dX2_readText_8 : decode cX2_readText 8 = .ok (.iconst 1, 1) := dk_4 (dk_at dksX2_readText_0 8 rfl rfl)
theorem dX2_readText_9 : decode cX2_readText 9 = .ok (.iaload, 1) := dk_46 (dk_at dksX2_readText_0 9 rfl rfl)
theorem dX2_readText_10 : decode cX2_readText 10 = .ok (.imul, 1) := dk_104 (dk_at dksX2_readText_0 10 rfl rfl)
theorem dX2_readText_11 : decode cX2_readText 11 = .ok (.putfield 136, 3) := dk_181 0 136 (dk_at dksX2_readText_0 11 rfl rfl)
theorem dX2_readText_14 : decode cX2_readText 14 = .ok (.aload_n 0, 1) := dk_42 (dk_at dksX2_readText_0 14 rfl rfl)
theorem dX2_readText_15 : decode cX2_readText 15 = .ok (.getfield 16, 3) := dk_180 0 16 (dk_at dksX2_readText_0 15 rfl rfl)
theorem dX2_readText_18 : decode cX2_readText 18 = .ok (.aload_n 0, 1) := dk_42 (dk_at dksX2_readText_0 18 rfl rfl)
theorem dX2_readText_19 : decode cX2_readText 19 = .ok (.getfield 136, 3) := dk_180 0 136 (dk_at dksX2_readText_0 19 rfl rfl)
theorem dX2_readText_22 : decode cX2_readText 22 = .ok (.iconst 0, 1) := dk_3 (dk_at dksX2_readText_0 22 rfl rfl)
theorem dX2_readText_23 : decode cX2_readText 23 = .ok (.iastore, 1) := dk_79 (dk_at dksX2_readText_0 23 rfl rfl)
theorem dX2_readText_24 : decode cX2_readText 24 = .ok (.aload_n 0, 1) := dk_42 (dk_at dksX2_readText_1 0 rfl rfl)
theorem dX2_readText_25 : decode cX2_readText 25 = .ok (.iconst 0, 1) := dk_3 (dk_at dksX2_readText_1 1 rfl rfl)
theorem dX2_readText_26 : decode cX2_readText 26 = .ok (.putfield 139, 3) := dk_181 0 139 (dk_at dksX2_readText_1 2 rfl rfl)
theorem dX2_readText_29 : decode cX2_readText 29 = .ok (.aload_n 0, 1) := dk_42 (dk_at dksX2_readText_1 5 rfl rfl)
theorem dX2_readText_30 : decode cX2_readText 30 = .ok (.iconst 0, 1) := dk_3 (dk_at dksX2_readText_1 6 rfl rfl)
theorem dX2_readText_31 : decode cX2_readText 31 = .ok (.putfield 241, 3) := dk_181 0 241 (dk_at dksX2_readText_1 7 rfl rfl)
theorem dX2_readText_34 : decode cX2_readText 34 = .ok (.aload_n 0, 1) := dk_42 (dk_at dksX2_readText_1 10 rfl rfl)
theorem dX2_readText_35 : decode cX2_readText 35 = .ok (.iconst 0, 1) := dk_3 (dk_at dksX2_readText_1 11 rfl rfl)
theorem dX2_readText_36 : decode cX2_readText 36 = .ok (.putfield 88, 3) := dk_181 0 88 (dk_at dksX2_readText_1 12 rfl rfl)
theorem dX2_readText_39 : decode cX2_readText 39 = .ok (.aload_n 0, 1) := dk_42 (dk_at dksX2_readText_1 15 rfl rfl)
theorem dX2_readText_40 : decode cX2_readText 40 = .ok (.invokevirtual 165, 3) := dk_182 0 165 (dk_at dksX2_readText_1 16 rfl rfl)
theorem dX2_readText_43 : decode cX2_readText 43 = .ok (.aload_n 0, 1) := dk_42 (dk_at dksX2_readText_1 19 rfl rfl)
theorem dX2_readText_44 : decode cX2_readText 44 = .ok (.getfield 98, 3) := dk_180 0 98 (dk_at dksX2_readText_1 20 rfl rfl)
theorem dX2_readText_47 : decode cX2_readText 47 = .ok (.ifCond .eq 17, 3) := dk_153 0 17 (dk_at dksX2_readText_2 0 rfl rfl)
theorem dX2_readText_50 : decode cX2_readText 50 = .ok (.aload_n 0, 1) := dk_42 (dk_at dksX2_readText_2 3 rfl rfl)
theorem dX2_readText_51 : decode cX2_readText 51 = .ok (.invokevirtual 248, 3) := dk_182 0 248 (dk_at dksX2_readText_2 4 rfl rfl)
theorem dX2_readText_54 : decode cX2_readText 54 = .ok (.istore_n 1, 1) := dk_60 (dk_at dksX2_readText_2 7 rfl rfl)
theorem dX2_readText_55 : decode cX2_readText 55 = .ok (.iload_n 1, 1) := dk_27 (dk_at dksX2_readText_2 8 rfl rfl)
theorem dX2_readText_56 : decode cX2_readText 56 = .ok (.ifCond .eq 5, 3) := dk_153 0 5 (dk_at dksX2_readText_2 9 rfl rfl)
theorem dX2_readText_59 : decode cX2_readText 59 = .ok (.iload_n 1, 1) := dk_27 (dk_at dksX2_readText_2 12 rfl rfl)
theorem dX2_readText_60 : decode cX2_readText 60 = .ok (.ireturn, 1) := dk_172 (dk_at dksX2_readText_2 13 rfl rfl)
theorem dX2_readText_61 : decode cX2_readText 61 = .ok (.goto (-18), 3) := dk_167 255 238 (dk_at dksX2_readText_2 14 rfl rfl)
theorem dX2_readText_64 : decode cX2_readText 64 = .ok (.iconst 0, 1) := dk_3 (dk_at dksX2_readText_2 17 rfl rfl)
theorem dX2_readText_65 : decode cX2_readText 65 = .ok (.ireturn, 1) := dk_172 (dk_at dksX2_readText_2 18 rfl rfl)
abbrev cX2_nextToken : ByteArray := prog_20_method_23_code
def yX2_nextToken : MethodName := ⟨RX2, "nextToken", "()V"⟩
def dkwX2_nextToken_13 : List UInt8 := [180, 0, 88, 4, 96, 181, 0, 88, 177]
abbrev dktX2_nextToken_13 : List UInt8 := dkwX2_nextToken_13 ++ []
def dkwX2_nextToken_12 : List UInt8 := [16, 61, 160, 0, 28, 42, 27, 16, 60, 160, 0, 7, 7, 167, 0, 4, 8, 181, 0, 98, 42, 89]
abbrev dktX2_nextToken_12 : List UInt8 := dkwX2_nextToken_12 ++ dktX2_nextToken_13
def dkwX2_nextToken_11 : List UInt8 := [181, 0, 88, 27, 16, 60, 159, 0, 9, 27, 16, 62, 160, 0, 41, 42, 42, 180, 0, 88, 182, 0, 91]
abbrev dktX2_nextToken_11 : List UInt8 := dkwX2_nextToken_11 ++ dktX2_nextToken_12
def dkwX2_nextToken_10 : List UInt8 := [42, 27, 184, 0, 117, 153, 0, 7, 27, 167, 0, 4, 6, 181, 0, 98, 42, 89, 180, 0, 88, 4, 96]
abbrev dktX2_nextToken_10 : List UInt8 := dkwX2_nextToken_10 ++ dktX2_nextToken_11
def dkwX2_nextToken_9 : List UInt8 := [180, 0, 88, 182, 0, 91, 133, 129, 181, 0, 111, 42, 89, 180, 0, 88, 4, 96, 181, 0, 88, 167, 255, 193]
abbrev dktX2_nextToken_9 : List UInt8 := dkwX2_nextToken_9 ++ dktX2_nextToken_10
def dkwX2_nextToken_8 : List UInt8 := [16, 48, 123, 9, 148, 153, 0, 9, 20, 0, 115, 167, 0, 20, 42, 180, 0, 111, 16, 8, 121, 42, 42]
abbrev dktX2_nextToken_8 : List UInt8 := dkwX2_nextToken_8 ++ dktX2_nextToken_9
def dkwX2_nextToken_7 : List UInt8 := [9, 181, 0, 111, 42, 42, 180, 0, 88, 182, 0, 91, 184, 0, 108, 153, 0, 131, 42, 42, 180, 0, 111]
abbrev dktX2_nextToken_7 : List UInt8 := dkwX2_nextToken_7 ++ dktX2_nextToken_8
def dkwX2_nextToken_6 : List UInt8 := [180, 0, 88, 4, 96, 181, 0, 88, 167, 255, 193, 27, 184, 0, 108, 153, 0, 79, 42, 5, 181, 0, 98, 42]
abbrev dktX2_nextToken_6 : List UInt8 := dkwX2_nextToken_6 ++ dktX2_nextToken_7
def dkwX2_nextToken_5 : List UInt8 := [16, 10, 42, 180, 0, 104, 104, 42, 42, 180, 0, 88, 182, 0, 91, 96, 16, 48, 100, 181, 0, 104, 42, 89]
abbrev dktX2_nextToken_5 : List UInt8 := dkwX2_nextToken_5 ++ dktX2_nextToken_6
def dkwX2_nextToken_4 : List UInt8 := [184, 0, 101, 153, 0, 214, 42, 42, 180, 0, 104, 18, 107, 164, 0, 10, 42, 180, 0, 104, 167, 0, 22]
abbrev dktX2_nextToken_4 : List UInt8 := dkwX2_nextToken_4 ++ dktX2_nextToken_5
def dkwX2_nextToken_3 : List UInt8 := [184, 0, 101, 153, 0, 79, 42, 4, 181, 0, 98, 42, 3, 181, 0, 104, 42, 42, 180, 0, 88, 182, 0, 91]
abbrev dktX2_nextToken_3 : List UInt8 := dkwX2_nextToken_3 ++ dktX2_nextToken_4
def dkwX2_nextToken_2 : List UInt8 := [42, 42, 180, 0, 88, 182, 0, 91, 60, 27, 156, 0, 11, 42, 3, 181, 0, 98, 167, 0, 245, 27]
abbrev dktX2_nextToken_2 : List UInt8 := dkwX2_nextToken_2 ++ dktX2_nextToken_3
def dkwX2_nextToken_1 : List UInt8 := [160, 0, 16, 42, 89, 180, 0, 88, 4, 96, 181, 0, 88, 167, 255, 220, 42, 42, 180, 0, 88, 181, 0, 95]
abbrev dktX2_nextToken_1 : List UInt8 := dkwX2_nextToken_1 ++ dktX2_nextToken_2
def dkwX2_nextToken_0 : List UInt8 := [42, 42, 180, 0, 88, 182, 0, 91, 16, 32, 159, 0, 16, 42, 42, 180, 0, 88, 182, 0, 91, 16, 10]
abbrev dktX2_nextToken_0 : List UInt8 := dkwX2_nextToken_0 ++ dktX2_nextToken_1
theorem dksX2_nextToken_0 : cX2_nextToken.data.toList.drop 0 = dktX2_nextToken_0 := by decide +kernel
theorem dksX2_nextToken_1 : cX2_nextToken.data.toList.drop 23 = dktX2_nextToken_1 := dk_seg dksX2_nextToken_0 23 rfl rfl
theorem dksX2_nextToken_2 : cX2_nextToken.data.toList.drop 47 = dktX2_nextToken_2 := dk_seg dksX2_nextToken_1 24 rfl rfl
theorem dksX2_nextToken_3 : cX2_nextToken.data.toList.drop 69 = dktX2_nextToken_3 := dk_seg dksX2_nextToken_2 22 rfl rfl
theorem dksX2_nextToken_4 : cX2_nextToken.data.toList.drop 93 = dktX2_nextToken_4 := dk_seg dksX2_nextToken_3 24 rfl rfl
theorem dksX2_nextToken_5 : cX2_nextToken.data.toList.drop 116 = dktX2_nextToken_5 := dk_seg dksX2_nextToken_4 23 rfl rfl
theorem dksX2_nextToken_6 : cX2_nextToken.data.toList.drop 140 = dktX2_nextToken_6 := dk_seg dksX2_nextToken_5 24 rfl rfl
theorem dksX2_nextToken_7 : cX2_nextToken.data.toList.drop 164 = dktX2_nextToken_7 := dk_seg dksX2_nextToken_6 24 rfl rfl
theorem dksX2_nextToken_8 : cX2_nextToken.data.toList.drop 187 = dktX2_nextToken_8 := dk_seg dksX2_nextToken_7 23 rfl rfl
theorem dksX2_nextToken_9 : cX2_nextToken.data.toList.drop 210 = dktX2_nextToken_9 := dk_seg dksX2_nextToken_8 23 rfl rfl
theorem dksX2_nextToken_10 : cX2_nextToken.data.toList.drop 234 = dktX2_nextToken_10 := dk_seg dksX2_nextToken_9 24 rfl rfl
theorem dksX2_nextToken_11 : cX2_nextToken.data.toList.drop 257 = dktX2_nextToken_11 := dk_seg dksX2_nextToken_10 23 rfl rfl
theorem dksX2_nextToken_12 : cX2_nextToken.data.toList.drop 280 = dktX2_nextToken_12 := dk_seg dksX2_nextToken_11 23 rfl rfl
theorem dksX2_nextToken_13 : cX2_nextToken.data.toList.drop 302 = dktX2_nextToken_13 := dk_seg dksX2_nextToken_12 22 rfl rfl
theorem dX2_nextToken_0 : decode cX2_nextToken 0 = .ok (.aload_n 0, 1) := dk_42 (dk_at dksX2_nextToken_0 0 rfl rfl)
theorem dX2_nextToken_1 : decode cX2_nextToken 1 = .ok (.aload_n 0, 1) := dk_42 (dk_at dksX2_nextToken_0 1 rfl rfl)
theorem dX2_nextToken_2 : decode cX2_nextToken 2 = .ok (.getfield 88, 3) := dk_180 0 88 (dk_at dksX2_nextToken_0 2 rfl rfl)
theorem dX2_nextToken_5 : decode cX2_nextToken 5 = .ok (.invokevirtual 91, 3) := dk_182 0 91 (dk_at dksX2_nextToken_0 5 rfl rfl)
theorem dX2_nextToken_8 : decode cX2_nextToken 8 = .ok (.bipush 32, 2) := dk_16 32 (dk_at dksX2_nextToken_0 8 rfl rfl)
theorem dX2_nextToken_10 : decode cX2_nextToken 10 = .ok (.if_icmp .eq 16, 3) := dk_159 0 16 (dk_at dksX2_nextToken_0 10 rfl rfl)
theorem dX2_nextToken_13 : decode cX2_nextToken 13 = .ok (.aload_n 0, 1) := dk_42 (dk_at dksX2_nextToken_0 13 rfl rfl)
theorem dX2_nextToken_14 : decode cX2_nextToken 14 = .ok (.aload_n 0, 1) := dk_42 (dk_at dksX2_nextToken_0 14 rfl rfl)
theorem dX2_nextToken_15 : decode cX2_nextToken 15 = .ok (.getfield 88, 3) := dk_180 0 88 (dk_at dksX2_nextToken_0 15 rfl rfl)
theorem dX2_nextToken_18 : decode cX2_nextToken 18 = .ok (.invokevirtual 91, 3) := dk_182 0 91 (dk_at dksX2_nextToken_0 18 rfl rfl)
theorem dX2_nextToken_21 : decode cX2_nextToken 21 = .ok (.bipush 10, 2) := dk_16 10 (dk_at dksX2_nextToken_0 21 rfl rfl)
theorem dX2_nextToken_23 : decode cX2_nextToken 23 = .ok (.if_icmp .ne 16, 3) := dk_160 0 16 (dk_at dksX2_nextToken_1 0 rfl rfl)
theorem dX2_nextToken_26 : decode cX2_nextToken 26 = .ok (.aload_n 0, 1) := dk_42 (dk_at dksX2_nextToken_1 3 rfl rfl)
theorem dX2_nextToken_27 : decode cX2_nextToken 27 = .ok (.dup, 1) := dk_89 (dk_at dksX2_nextToken_1 4 rfl rfl)
theorem dX2_nextToken_28 : decode cX2_nextToken 28 = .ok (.getfield 88, 3) := dk_180 0 88 (dk_at dksX2_nextToken_1 5 rfl rfl)
theorem dX2_nextToken_31 : decode cX2_nextToken 31 = .ok (.iconst 1, 1) := dk_4 (dk_at dksX2_nextToken_1 8 rfl rfl)
theorem dX2_nextToken_32 : decode cX2_nextToken 32 = .ok (.iadd, 1) := dk_96 (dk_at dksX2_nextToken_1 9 rfl rfl)
theorem dX2_nextToken_33 : decode cX2_nextToken 33 = .ok (.putfield 88, 3) := dk_181 0 88 (dk_at dksX2_nextToken_1 10 rfl rfl)
theorem dX2_nextToken_36 : decode cX2_nextToken 36 = .ok (.goto (-36), 3) := dk_167 255 220 (dk_at dksX2_nextToken_1 13 rfl rfl)
theorem dX2_nextToken_39 : decode cX2_nextToken 39 = .ok (.aload_n 0, 1) := dk_42 (dk_at dksX2_nextToken_1 16 rfl rfl)
theorem dX2_nextToken_40 : decode cX2_nextToken 40 = .ok (.aload_n 0, 1) := dk_42 (dk_at dksX2_nextToken_1 17 rfl rfl)
theorem dX2_nextToken_41 : decode cX2_nextToken 41 = .ok (.getfield 88, 3) := dk_180 0 88 (dk_at dksX2_nextToken_1 18 rfl rfl)
theorem dX2_nextToken_44 : decode cX2_nextToken 44 = .ok (.putfield 95, 3) := dk_181 0 95 (dk_at dksX2_nextToken_1 21 rfl rfl)
theorem dX2_nextToken_47 : decode cX2_nextToken 47 = .ok (.aload_n 0, 1) := dk_42 (dk_at dksX2_nextToken_2 0 rfl rfl)
theorem dX2_nextToken_48 : decode cX2_nextToken 48 = .ok (.aload_n 0, 1) := dk_42 (dk_at dksX2_nextToken_2 1 rfl rfl)
theorem dX2_nextToken_49 : decode cX2_nextToken 49 = .ok (.getfield 88, 3) := dk_180 0 88 (dk_at dksX2_nextToken_2 2 rfl rfl)
theorem dX2_nextToken_52 : decode cX2_nextToken 52 = .ok (.invokevirtual 91, 3) := dk_182 0 91 (dk_at dksX2_nextToken_2 5 rfl rfl)
theorem dX2_nextToken_55 : decode cX2_nextToken 55 = .ok (.istore_n 1, 1) := dk_60 (dk_at dksX2_nextToken_2 8 rfl rfl)
theorem dX2_nextToken_56 : decode cX2_nextToken 56 = .ok (.iload_n 1, 1) := dk_27 (dk_at dksX2_nextToken_2 9 rfl rfl)
theorem dX2_nextToken_57 : decode cX2_nextToken 57 = .ok (.ifCond .ge 11, 3) := dk_156 0 11 (dk_at dksX2_nextToken_2 10 rfl rfl)
theorem dX2_nextToken_60 : decode cX2_nextToken 60 = .ok (.aload_n 0, 1) := dk_42 (dk_at dksX2_nextToken_2 13 rfl rfl)
theorem dX2_nextToken_61 : decode cX2_nextToken 61 = .ok (.iconst 0, 1) := dk_3 (dk_at dksX2_nextToken_2 14 rfl rfl)
theorem dX2_nextToken_62 : decode cX2_nextToken 62 = .ok (.putfield 98, 3) := dk_181 0 98 (dk_at dksX2_nextToken_2 15 rfl rfl)
theorem dX2_nextToken_65 : decode cX2_nextToken 65 = .ok (.goto 245, 3) := dk_167 0 245 (dk_at dksX2_nextToken_2 18 rfl rfl)
theorem dX2_nextToken_68 : decode cX2_nextToken 68 = .ok (.iload_n 1, 1) := dk_27 (dk_at dksX2_nextToken_2 21 rfl rfl)
theorem dX2_nextToken_69 : decode cX2_nextToken 69 = .ok (.invokestatic 101, 3) := dk_184 0 101 (dk_at dksX2_nextToken_3 0 rfl rfl)
theorem dX2_nextToken_72 : decode cX2_nextToken 72 = .ok (.ifCond .eq 79, 3) := dk_153 0 79 (dk_at dksX2_nextToken_3 3 rfl rfl)
theorem dX2_nextToken_75 : decode cX2_nextToken 75 = .ok (.aload_n 0, 1) := dk_42 (dk_at dksX2_nextToken_3 6 rfl rfl)
theorem dX2_nextToken_76 : decode cX2_nextToken 76 = .ok (.iconst 1, 1) := dk_4 (dk_at dksX2_nextToken_3 7 rfl rfl)
theorem dX2_nextToken_77 : decode cX2_nextToken 77 = .ok (.putfield 98, 3) := dk_181 0 98 (dk_at dksX2_nextToken_3 8 rfl rfl)
theorem dX2_nextToken_80 : decode cX2_nextToken 80 = .ok (.aload_n 0, 1) := dk_42 (dk_at dksX2_nextToken_3 11 rfl rfl)
theorem dX2_nextToken_81 : decode cX2_nextToken 81 = .ok (.iconst 0, 1) := dk_3 (dk_at dksX2_nextToken_3 12 rfl rfl)
theorem dX2_nextToken_82 : decode cX2_nextToken 82 = .ok (.putfield 104, 3) := dk_181 0 104 (dk_at dksX2_nextToken_3 13 rfl rfl)
theorem dX2_nextToken_85 : decode cX2_nextToken 85 = .ok (.aload_n 0, 1) := dk_42 (dk_at dksX2_nextToken_3 16 rfl rfl)
theorem dX2_nextToken_86 : decode cX2_nextToken 86 = .ok (.aload_n 0, 1) := dk_42 (dk_at dksX2_nextToken_3 17 rfl rfl)
theorem dX2_nextToken_87 : decode cX2_nextToken 87 = .ok (.getfield 88, 3) := dk_180 0 88 (dk_at dksX2_nextToken_3 18 rfl rfl)
theorem dX2_nextToken_90 : decode cX2_nextToken 90 = .ok (.invokevirtual 91, 3) := dk_182 0 91 (dk_at dksX2_nextToken_3 21 rfl rfl)
theorem dX2_nextToken_93 : decode cX2_nextToken 93 = .ok (.invokestatic 101, 3) := dk_184 0 101 (dk_at dksX2_nextToken_4 0 rfl rfl)
theorem dX2_nextToken_96 : decode cX2_nextToken 96 = .ok (.ifCond .eq 214, 3) := dk_153 0 214 (dk_at dksX2_nextToken_4 3 rfl rfl)
theorem dX2_nextToken_99 : decode cX2_nextToken 99 = .ok (.aload_n 0, 1) := dk_42 (dk_at dksX2_nextToken_4 6 rfl rfl)
theorem dX2_nextToken_100 : decode cX2_nextToken 100 = .ok (.aload_n 0, 1) := dk_42 (dk_at dksX2_nextToken_4 7 rfl rfl)
theorem dX2_nextToken_101 : decode cX2_nextToken 101 = .ok (.getfield 104, 3) := dk_180 0 104 (dk_at dksX2_nextToken_4 8 rfl rfl)
theorem dX2_nextToken_104 : decode cX2_nextToken 104 = .ok (.ldc 107, 2) := dk_18 107 (dk_at dksX2_nextToken_4 11 rfl rfl)
theorem dX2_nextToken_106 : decode cX2_nextToken 106 = .ok (.if_icmp .le 10, 3) := dk_164 0 10 (dk_at dksX2_nextToken_4 13 rfl rfl)
theorem dX2_nextToken_109 : decode cX2_nextToken 109 = .ok (.aload_n 0, 1) := dk_42 (dk_at dksX2_nextToken_4 16 rfl rfl)
theorem dX2_nextToken_110 : decode cX2_nextToken 110 = .ok (.getfield 104, 3) := dk_180 0 104 (dk_at dksX2_nextToken_4 17 rfl rfl)
theorem dX2_nextToken_113 : decode cX2_nextToken 113 = .ok (.goto 22, 3) := dk_167 0 22 (dk_at dksX2_nextToken_4 20 rfl rfl)
theorem dX2_nextToken_116 : decode cX2_nextToken 116 = .ok (.bipush 10, 2) := dk_16 10 (dk_at dksX2_nextToken_5 0 rfl rfl)
theorem dX2_nextToken_118 : decode cX2_nextToken 118 = .ok (.aload_n 0, 1) := dk_42 (dk_at dksX2_nextToken_5 2 rfl rfl)
theorem dX2_nextToken_119 : decode cX2_nextToken 119 = .ok (.getfield 104, 3) := dk_180 0 104 (dk_at dksX2_nextToken_5 3 rfl rfl)
theorem dX2_nextToken_122 : decode cX2_nextToken 122 = .ok (.imul, 1) := dk_104 (dk_at dksX2_nextToken_5 6 rfl rfl)
theorem dX2_nextToken_123 : decode cX2_nextToken 123 = .ok (.aload_n 0, 1) := dk_42 (dk_at dksX2_nextToken_5 7 rfl rfl)
theorem dX2_nextToken_124 : decode cX2_nextToken 124 = .ok (.aload_n 0, 1) := dk_42 (dk_at dksX2_nextToken_5 8 rfl rfl)
theorem dX2_nextToken_125 : decode cX2_nextToken 125 = .ok (.getfield 88, 3) := dk_180 0 88 (dk_at dksX2_nextToken_5 9 rfl rfl)
theorem dX2_nextToken_128 : decode cX2_nextToken 128 = .ok (.invokevirtual 91, 3) := dk_182 0 91 (dk_at dksX2_nextToken_5 12 rfl rfl)
theorem dX2_nextToken_131 : decode cX2_nextToken 131 = .ok (.iadd, 1) := dk_96 (dk_at dksX2_nextToken_5 15 rfl rfl)
theorem dX2_nextToken_132 : decode cX2_nextToken 132 = .ok (.bipush 48, 2) := dk_16 48 (dk_at dksX2_nextToken_5 16 rfl rfl)
theorem dX2_nextToken_134 : decode cX2_nextToken 134 = .ok (.isub, 1) := dk_100 (dk_at dksX2_nextToken_5 18 rfl rfl)
theorem dX2_nextToken_135 : decode cX2_nextToken 135 = .ok (.putfield 104, 3) := dk_181 0 104 (dk_at dksX2_nextToken_5 19 rfl rfl)
theorem dX2_nextToken_138 : decode cX2_nextToken 138 = .ok (.aload_n 0, 1) := dk_42 (dk_at dksX2_nextToken_5 22 rfl rfl)
theorem dX2_nextToken_139 : decode cX2_nextToken 139 = .ok (.dup, 1) := dk_89 (dk_at dksX2_nextToken_5 23 rfl rfl)
theorem dX2_nextToken_140 : decode cX2_nextToken 140 = .ok (.getfield 88, 3) := dk_180 0 88 (dk_at dksX2_nextToken_6 0 rfl rfl)
theorem dX2_nextToken_143 : decode cX2_nextToken 143 = .ok (.iconst 1, 1) := dk_4 (dk_at dksX2_nextToken_6 3 rfl rfl)
theorem dX2_nextToken_144 : decode cX2_nextToken 144 = .ok (.iadd, 1) := dk_96 (dk_at dksX2_nextToken_6 4 rfl rfl)
theorem dX2_nextToken_145 : decode cX2_nextToken 145 = .ok (.putfield 88, 3) := dk_181 0 88 (dk_at dksX2_nextToken_6 5 rfl rfl)
theorem dX2_nextToken_148 : decode cX2_nextToken 148 = .ok (.goto (-63), 3) := dk_167 255 193 (dk_at dksX2_nextToken_6 8 rfl rfl)
theorem dX2_nextToken_151 : decode cX2_nextToken 151 = .ok (.iload_n 1, 1) := dk_27 (dk_at dksX2_nextToken_6 11 rfl rfl)
theorem dX2_nextToken_152 : decode cX2_nextToken 152 = .ok (.invokestatic 108, 3) := dk_184 0 108 (dk_at dksX2_nextToken_6 12 rfl rfl)
theorem dX2_nextToken_155 : decode cX2_nextToken 155 = .ok (.ifCond .eq 79, 3) := dk_153 0 79 (dk_at dksX2_nextToken_6 15 rfl rfl)
theorem dX2_nextToken_158 : decode cX2_nextToken 158 = .ok (.aload_n 0, 1) := dk_42 (dk_at dksX2_nextToken_6 18 rfl rfl)
theorem dX2_nextToken_159 : decode cX2_nextToken 159 = .ok (.iconst 2, 1) := dk_5 (dk_at dksX2_nextToken_6 19 rfl rfl)
theorem dX2_nextToken_160 : decode cX2_nextToken 160 = .ok (.putfield 98, 3) := dk_181 0 98 (dk_at dksX2_nextToken_6 20 rfl rfl)
theorem dX2_nextToken_163 : decode cX2_nextToken 163 = .ok (.aload_n 0, 1) := dk_42 (dk_at dksX2_nextToken_6 23 rfl rfl)
theorem dX2_nextToken_164 : decode cX2_nextToken 164 = .ok (.lconst 0, 1) := dk_9 (dk_at dksX2_nextToken_7 0 rfl rfl)
theorem dX2_nextToken_165 : decode cX2_nextToken 165 = .ok (.putfield 111, 3) := dk_181 0 111 (dk_at dksX2_nextToken_7 1 rfl rfl)
theorem dX2_nextToken_168 : decode cX2_nextToken 168 = .ok (.aload_n 0, 1) := dk_42 (dk_at dksX2_nextToken_7 4 rfl rfl)
theorem dX2_nextToken_169 : decode cX2_nextToken 169 = .ok (.aload_n 0, 1) := dk_42 (dk_at dksX2_nextToken_7 5 rfl rfl)
theorem dX2_nextToken_170 : decode cX2_nextToken 170 = .ok (.getfield 88, 3) := dk_180 0 88 (dk_at dksX2_nextToken_7 6 rfl rfl)
theorem dX2_nextToken_173 : decode cX2_nextToken 173 = .ok (.invokevirtual 91, 3) := dk_182 0 91 (dk_at dksX2_nextToken_7 9 rfl rfl)
theorem dX2_nextToken_176 : decode cX2_nextToken 176 = .ok (.invokestatic 108, 3) := dk_184 0 108 (dk_at dksX2_nextToken_7 12 rfl rfl)
theorem dX2_nextToken_179 : decode cX2_nextToken 179 = .ok (.ifCond .eq 131, 3) := dk_153 0 131 (dk_at dksX2_nextToken_7 15 rfl rfl)
theorem dX2_nextToken_182 : decode cX2_nextToken 182 = .ok (.aload_n 0, 1) := dk_42 (dk_at dksX2_nextToken_7 18 rfl rfl)
theorem dX2_nextToken_183 : decode cX2_nextToken 183 = .ok (.aload_n 0, 1) := dk_42 (dk_at dksX2_nextToken_7 19 rfl rfl)
theorem dX2_nextToken_184 : decode cX2_nextToken 184 = .ok (.getfield 111, 3) := dk_180 0 111 (dk_at dksX2_nextToken_7 20 rfl rfl)
theorem dX2_nextToken_187 : decode cX2_nextToken 187 = .ok (.bipush 48, 2) := dk_16 48 (dk_at dksX2_nextToken_8 0 rfl rfl)
theorem dX2_nextToken_189 : decode cX2_nextToken 189 = .ok (.lshr, 1) := dk_123 (dk_at dksX2_nextToken_8 2 rfl rfl)
theorem dX2_nextToken_190 : decode cX2_nextToken 190 = .ok (.lconst 0, 1) := dk_9 (dk_at dksX2_nextToken_8 3 rfl rfl)
theorem dX2_nextToken_191 : decode cX2_nextToken 191 = .ok (.lcmp, 1) := dk_148 (dk_at dksX2_nextToken_8 4 rfl rfl)
theorem dX2_nextToken_192 : decode cX2_nextToken 192 = .ok (.ifCond .eq 9, 3) := dk_153 0 9 (dk_at dksX2_nextToken_8 5 rfl rfl)
theorem dX2_nextToken_195 : decode cX2_nextToken 195 = .ok (.ldc2_w 115, 3) := dk_20 0 115 (dk_at dksX2_nextToken_8 8 rfl rfl)
theorem dX2_nextToken_198 : decode cX2_nextToken 198 = .ok (.goto 20, 3) := dk_167 0 20 (dk_at dksX2_nextToken_8 11 rfl rfl)
theorem dX2_nextToken_201 : decode cX2_nextToken 201 = .ok (.aload_n 0, 1) := dk_42 (dk_at dksX2_nextToken_8 14 rfl rfl)
theorem dX2_nextToken_202 : decode cX2_nextToken 202 = .ok (.getfield 111, 3) := dk_180 0 111 (dk_at dksX2_nextToken_8 15 rfl rfl)
theorem dX2_nextToken_205 : decode cX2_nextToken 205 = .ok (.bipush 8, 2) := dk_16 8 (dk_at dksX2_nextToken_8 18 rfl rfl)
theorem dX2_nextToken_207 : decode cX2_nextToken 207 = .ok (.lshl, 1) := dk_121 (dk_at dksX2_nextToken_8 20 rfl rfl)
theorem dX2_nextToken_208 : decode cX2_nextToken 208 = .ok (.aload_n 0, 1) := dk_42 (dk_at dksX2_nextToken_8 21 rfl rfl)
theorem dX2_nextToken_209 : decode cX2_nextToken 209 = .ok (.aload_n 0, 1) := dk_42 (dk_at dksX2_nextToken_8 22 rfl rfl)
theorem dX2_nextToken_210 : decode cX2_nextToken 210 = .ok (.getfield 88, 3) := dk_180 0 88 (dk_at dksX2_nextToken_9 0 rfl rfl)
theorem dX2_nextToken_213 : decode cX2_nextToken 213 = .ok (.invokevirtual 91, 3) := dk_182 0 91 (dk_at dksX2_nextToken_9 3 rfl rfl)
theorem dX2_nextToken_216 : decode cX2_nextToken 216 = .ok (.i2l, 1) := dk_133 (dk_at dksX2_nextToken_9 6 rfl rfl)
theorem dX2_nextToken_217 : decode cX2_nextToken 217 = .ok (.lor, 1) := dk_129 (dk_at dksX2_nextToken_9 7 rfl rfl)
theorem dX2_nextToken_218 : decode cX2_nextToken 218 = .ok (.putfield 111, 3) := dk_181 0 111 (dk_at dksX2_nextToken_9 8 rfl rfl)
theorem dX2_nextToken_221 : decode cX2_nextToken 221 = .ok (.aload_n 0, 1) := dk_42 (dk_at dksX2_nextToken_9 11 rfl rfl)
theorem dX2_nextToken_222 : decode cX2_nextToken 222 = .ok (.dup, 1) := dk_89 (dk_at dksX2_nextToken_9 12 rfl rfl)
theorem dX2_nextToken_223 : decode cX2_nextToken 223 = .ok (.getfield 88, 3) := dk_180 0 88 (dk_at dksX2_nextToken_9 13 rfl rfl)
theorem dX2_nextToken_226 : decode cX2_nextToken 226 = .ok (.iconst 1, 1) := dk_4 (dk_at dksX2_nextToken_9 16 rfl rfl)
theorem dX2_nextToken_227 : decode cX2_nextToken 227 = .ok (.iadd, 1) := dk_96 (dk_at dksX2_nextToken_9 17 rfl rfl)
theorem dX2_nextToken_228 : decode cX2_nextToken 228 = .ok (.putfield 88, 3) := dk_181 0 88 (dk_at dksX2_nextToken_9 18 rfl rfl)
theorem dX2_nextToken_231 : decode cX2_nextToken 231 = .ok (.goto (-63), 3) := dk_167 255 193 (dk_at dksX2_nextToken_9 21 rfl rfl)
theorem dX2_nextToken_234 : decode cX2_nextToken 234 = .ok (.aload_n 0, 1) := dk_42 (dk_at dksX2_nextToken_10 0 rfl rfl)
theorem dX2_nextToken_235 : decode cX2_nextToken 235 = .ok (.iload_n 1, 1) := dk_27 (dk_at dksX2_nextToken_10 1 rfl rfl)
theorem dX2_nextToken_236 : decode cX2_nextToken 236 = .ok (.invokestatic 117, 3) := dk_184 0 117 (dk_at dksX2_nextToken_10 2 rfl rfl)
theorem dX2_nextToken_239 : decode cX2_nextToken 239 = .ok (.ifCond .eq 7, 3) := dk_153 0 7 (dk_at dksX2_nextToken_10 5 rfl rfl)
theorem dX2_nextToken_242 : decode cX2_nextToken 242 = .ok (.iload_n 1, 1) := dk_27 (dk_at dksX2_nextToken_10 8 rfl rfl)
theorem dX2_nextToken_243 : decode cX2_nextToken 243 = .ok (.goto 4, 3) := dk_167 0 4 (dk_at dksX2_nextToken_10 9 rfl rfl)
theorem dX2_nextToken_246 : decode cX2_nextToken 246 = .ok (.iconst 3, 1) := dk_6 (dk_at dksX2_nextToken_10 12 rfl rfl)
theorem dX2_nextToken_247 : decode cX2_nextToken 247 = .ok (.putfield 98, 3) := dk_181 0 98 (dk_at dksX2_nextToken_10 13 rfl rfl)
theorem dX2_nextToken_250 : decode cX2_nextToken 250 = .ok (.aload_n 0, 1) := dk_42 (dk_at dksX2_nextToken_10 16 rfl rfl)
theorem dX2_nextToken_251 : decode cX2_nextToken 251 = .ok (.dup, 1) := dk_89 (dk_at dksX2_nextToken_10 17 rfl rfl)
theorem dX2_nextToken_252 : decode cX2_nextToken 252 = .ok (.getfield 88, 3) := dk_180 0 88 (dk_at dksX2_nextToken_10 18 rfl rfl)
theorem dX2_nextToken_255 : decode cX2_nextToken 255 = .ok (.iconst 1, 1) := dk_4 (dk_at dksX2_nextToken_10 21 rfl rfl)
theorem dX2_nextToken_256 : decode cX2_nextToken 256 = .ok (.iadd, 1) := dk_96 (dk_at dksX2_nextToken_10 22 rfl rfl)
theorem dX2_nextToken_257 : decode cX2_nextToken 257 = .ok (.putfield 88, 3) := dk_181 0 88 (dk_at dksX2_nextToken_11 0 rfl rfl)
theorem dX2_nextToken_260 : decode cX2_nextToken 260 = .ok (.iload_n 1, 1) := dk_27 (dk_at dksX2_nextToken_11 3 rfl rfl)
theorem dX2_nextToken_261 : decode cX2_nextToken 261 = .ok (.bipush 60, 2) := dk_16 60 (dk_at dksX2_nextToken_11 4 rfl rfl)
theorem dX2_nextToken_263 : decode cX2_nextToken 263 = .ok (.if_icmp .eq 9, 3) := dk_159 0 9 (dk_at dksX2_nextToken_11 6 rfl rfl)
theorem dX2_nextToken_266 : decode cX2_nextToken 266 = .ok (.iload_n 1, 1) := dk_27 (dk_at dksX2_nextToken_11 9 rfl rfl)
theorem dX2_nextToken_267 : decode cX2_nextToken 267 = .ok (.bipush 62, 2) := dk_16 62 (dk_at dksX2_nextToken_11 10 rfl rfl)
theorem dX2_nextToken_269 : decode cX2_nextToken 269 = .ok (.if_icmp .ne 41, 3) := dk_160 0 41 (dk_at dksX2_nextToken_11 12 rfl rfl)
theorem dX2_nextToken_272 : decode cX2_nextToken 272 = .ok (.aload_n 0, 1) := dk_42 (dk_at dksX2_nextToken_11 15 rfl rfl)
theorem dX2_nextToken_273 : decode cX2_nextToken 273 = .ok (.aload_n 0, 1) := dk_42 (dk_at dksX2_nextToken_11 16 rfl rfl)
theorem dX2_nextToken_274 : decode cX2_nextToken 274 = .ok (.getfield 88, 3) := dk_180 0 88 (dk_at dksX2_nextToken_11 17 rfl rfl)
theorem dX2_nextToken_277 : decode cX2_nextToken 277 = .ok (.invokevirtual 91, 3) := dk_182 0 91 (dk_at dksX2_nextToken_11 20 rfl rfl)
theorem dX2_nextToken_280 : decode cX2_nextToken 280 = .ok (.bipush 61, 2) := dk_16 61 (dk_at dksX2_nextToken_12 0 rfl rfl)
theorem dX2_nextToken_282 : decode cX2_nextToken 282 = .ok (.if_icmp .ne 28, 3) := dk_160 0 28 (dk_at dksX2_nextToken_12 2 rfl rfl)
theorem dX2_nextToken_285 : decode cX2_nextToken 285 = .ok (.aload_n 0, 1) := dk_42 (dk_at dksX2_nextToken_12 5 rfl rfl)
theorem dX2_nextToken_286 : decode cX2_nextToken 286 = .ok (.iload_n 1, 1) := dk_27 (dk_at dksX2_nextToken_12 6 rfl rfl)
theorem dX2_nextToken_287 : decode cX2_nextToken 287 = .ok (.bipush 60, 2) := dk_16 60 (dk_at dksX2_nextToken_12 7 rfl rfl)
theorem dX2_nextToken_289 : decode cX2_nextToken 289 = .ok (.if_icmp .ne 7, 3) := dk_160 0 7 (dk_at dksX2_nextToken_12 9 rfl rfl)
theorem dX2_nextToken_292 : decode cX2_nextToken 292 = .ok (.iconst 4, 1) := dk_7 (dk_at dksX2_nextToken_12 12 rfl rfl)
theorem dX2_nextToken_293 : decode cX2_nextToken 293 = .ok (.goto 4, 3) := dk_167 0 4 (dk_at dksX2_nextToken_12 13 rfl rfl)
theorem dX2_nextToken_296 : decode cX2_nextToken 296 = .ok (.iconst 5, 1) := dk_8 (dk_at dksX2_nextToken_12 16 rfl rfl)
theorem dX2_nextToken_297 : decode cX2_nextToken 297 = .ok (.putfield 98, 3) := dk_181 0 98 (dk_at dksX2_nextToken_12 17 rfl rfl)
theorem dX2_nextToken_300 : decode cX2_nextToken 300 = .ok (.aload_n 0, 1) := dk_42 (dk_at dksX2_nextToken_12 20 rfl rfl)
theorem dX2_nextToken_301 : decode cX2_nextToken 301 = .ok (.dup, 1) := dk_89 (dk_at dksX2_nextToken_12 21 rfl rfl)
theorem dX2_nextToken_302 : decode cX2_nextToken 302 = .ok (.getfield 88, 3) := dk_180 0 88 (dk_at dksX2_nextToken_13 0 rfl rfl)
theorem dX2_nextToken_305 : decode cX2_nextToken 305 = .ok (.iconst 1, 1) := dk_4 (dk_at dksX2_nextToken_13 3 rfl rfl)
theorem dX2_nextToken_306 : decode cX2_nextToken 306 = .ok (.iadd, 1) := dk_96 (dk_at dksX2_nextToken_13 4 rfl rfl)
theorem dX2_nextToken_307 : decode cX2_nextToken 307 = .ok (.putfield 88, 3) := dk_181 0 88 (dk_at dksX2_nextToken_13 5 rfl rfl)
theorem dX2_nextToken_310 : decode cX2_nextToken 310 = .ok (.return_, 1) := dk_177 (dk_at dksX2_nextToken_13 8 rfl rfl)
abbrev cX2_byteAt : ByteArray := prog_20_method_19_code
def yX2_byteAt : MethodName := ⟨RX2, "byteAt", "(I)I"⟩
def dkwX2_byteAt_0 : List UInt8 := [27, 42, 180, 0, 81, 162, 0, 12, 42, 180, 0, 19, 27, 46, 167, 0, 4, 2, 172]
abbrev dktX2_byteAt_0 : List UInt8 := dkwX2_byteAt_0 ++ []
theorem dksX2_byteAt_0 : cX2_byteAt.data.toList.drop 0 = dktX2_byteAt_0 := by decide +kernel
theorem dX2_byteAt_0 : decode cX2_byteAt 0 = .ok (.iload_n 1, 1) := dk_27 (dk_at dksX2_byteAt_0 0 rfl rfl)
theorem dX2_byteAt_1 : decode cX2_byteAt 1 = .ok (.aload_n 0, 1) := dk_42 (dk_at dksX2_byteAt_0 1 rfl rfl)
theorem dX2_byteAt_2 : decode cX2_byteAt 2 = .ok (.getfield 81, 3) := dk_180 0 81 (dk_at dksX2_byteAt_0 2 rfl rfl)
theorem dX2_byteAt_5 : decode cX2_byteAt 5 = .ok (.if_icmp .ge 12, 3) := dk_162 0 12 (dk_at dksX2_byteAt_0 5 rfl rfl)
theorem dX2_byteAt_8 : decode cX2_byteAt 8 = .ok (.aload_n 0, 1) := dk_42 (dk_at dksX2_byteAt_0 8 rfl rfl)
theorem dX2_byteAt_9 : decode cX2_byteAt 9 = .ok (.getfield 19, 3) := dk_180 0 19 (dk_at dksX2_byteAt_0 9 rfl rfl)
theorem dX2_byteAt_12 : decode cX2_byteAt 12 = .ok (.iload_n 1, 1) := dk_27 (dk_at dksX2_byteAt_0 12 rfl rfl)
theorem dX2_byteAt_13 : decode cX2_byteAt 13 = .ok (.iaload, 1) := dk_46 (dk_at dksX2_byteAt_0 13 rfl rfl)
theorem dX2_byteAt_14 : decode cX2_byteAt 14 = .ok (.goto 4, 3) := dk_167 0 4 (dk_at dksX2_byteAt_0 14 rfl rfl)
theorem dX2_byteAt_17 : decode cX2_byteAt 17 = .ok (.iconst (-1), 1) := dk_2 (dk_at dksX2_byteAt_0 17 rfl rfl)
theorem dX2_byteAt_18 : decode cX2_byteAt 18 = .ok (.ireturn, 1) := dk_172 (dk_at dksX2_byteAt_0 18 rfl rfl)
abbrev cX2_isFigure : ByteArray := prog_20_method_21_code
def yX2_isFigure : MethodName := ⟨RX2, "isFigure", "(I)Z"⟩
def dkwX2_isFigure_0 : List UInt8 := [26, 16, 48, 161, 0, 13, 26, 16, 57, 163, 0, 7, 4, 167, 0, 4, 3, 172]
abbrev dktX2_isFigure_0 : List UInt8 := dkwX2_isFigure_0 ++ []
theorem dksX2_isFigure_0 : cX2_isFigure.data.toList.drop 0 = dktX2_isFigure_0 := by decide +kernel
theorem dX2_isFigure_0 : decode cX2_isFigure 0 = .ok (.iload_n 0, 1) := dk_26 (dk_at dksX2_isFigure_0 0 rfl rfl)
theorem dX2_isFigure_1 : decode cX2_isFigure 1 = .ok (.bipush 48, 2) := dk_16 48 (dk_at dksX2_isFigure_0 1 rfl rfl)
theorem dX2_isFigure_3 : decode cX2_isFigure 3 = .ok (.if_icmp .lt 13, 3) := dk_161 0 13 (dk_at dksX2_isFigure_0 3 rfl rfl)
theorem dX2_isFigure_6 : decode cX2_isFigure 6 = .ok (.iload_n 0, 1) := dk_26 (dk_at dksX2_isFigure_0 6 rfl rfl)
theorem dX2_isFigure_7 : decode cX2_isFigure 7 = .ok (.bipush 57, 2) := dk_16 57 (dk_at dksX2_isFigure_0 7 rfl rfl)
theorem dX2_isFigure_9 : decode cX2_isFigure 9 = .ok (.if_icmp .gt 7, 3) := dk_163 0 7 (dk_at dksX2_isFigure_0 9 rfl rfl)
theorem dX2_isFigure_12 : decode cX2_isFigure 12 = .ok (.iconst 1, 1) := dk_4 (dk_at dksX2_isFigure_0 12 rfl rfl)
theorem dX2_isFigure_13 : decode cX2_isFigure 13 = .ok (.goto 4, 3) := dk_167 0 4 (dk_at dksX2_isFigure_0 13 rfl rfl)
theorem dX2_isFigure_16 : decode cX2_isFigure 16 = .ok (.iconst 0, 1) := dk_3 (dk_at dksX2_isFigure_0 16 rfl rfl)
theorem dX2_isFigure_17 : decode cX2_isFigure 17 = .ok (.ireturn, 1) := dk_172 (dk_at dksX2_isFigure_0 17 rfl rfl)
abbrev cX2_isLetterByte : ByteArray := prog_20_method_20_code
def yX2_isLetterByte : MethodName := ⟨RX2, "isLetterByte", "(I)Z"⟩
def dkwX2_isLetterByte_1 : List UInt8 := [4, 167, 0, 4, 3, 172]
abbrev dktX2_isLetterByte_1 : List UInt8 := dkwX2_isLetterByte_1 ++ []
def dkwX2_isLetterByte_0 : List UInt8 := [26, 16, 97, 161, 0, 9, 26, 16, 122, 164, 0, 15, 26, 16, 65, 161, 0, 13, 26, 16, 90, 163, 0, 7]
abbrev dktX2_isLetterByte_0 : List UInt8 := dkwX2_isLetterByte_0 ++ dktX2_isLetterByte_1
theorem dksX2_isLetterByte_0 : cX2_isLetterByte.data.toList.drop 0 = dktX2_isLetterByte_0 := by decide +kernel
theorem dksX2_isLetterByte_1 : cX2_isLetterByte.data.toList.drop 24 = dktX2_isLetterByte_1 := dk_seg dksX2_isLetterByte_0 24 rfl rfl
theorem dX2_isLetterByte_0 : decode cX2_isLetterByte 0 = .ok (.iload_n 0, 1) := dk_26 (dk_at dksX2_isLetterByte_0 0 rfl rfl)
theorem dX2_isLetterByte_1 : decode cX2_isLetterByte 1 = .ok (.bipush 97, 2) := dk_16 97 (dk_at dksX2_isLetterByte_0 1 rfl rfl)
theorem dX2_isLetterByte_3 : decode cX2_isLetterByte 3 = .ok (.if_icmp .lt 9, 3) := dk_161 0 9 (dk_at dksX2_isLetterByte_0 3 rfl rfl)
theorem dX2_isLetterByte_6 : decode cX2_isLetterByte 6 = .ok (.iload_n 0, 1) := dk_26 (dk_at dksX2_isLetterByte_0 6 rfl rfl)
theorem dX2_isLetterByte_7 : decode cX2_isLetterByte 7 = .ok (.bipush 122, 2) := dk_16 122 (dk_at dksX2_isLetterByte_0 7 rfl rfl)
theorem dX2_isLetterByte_9 : decode cX2_isLetterByte 9 = .ok (.if_icmp .le 15, 3) := dk_164 0 15 (dk_at dksX2_isLetterByte_0 9 rfl rfl)
theorem dX2_isLetterByte_12 : decode cX2_isLetterByte 12 = .ok (.iload_n 0, 1) := dk_26 (dk_at dksX2_isLetterByte_0 12 rfl rfl)
theorem dX2_isLetterByte_13 : decode cX2_isLetterByte 13 = .ok (.bipush 65, 2) := dk_16 65 (dk_at dksX2_isLetterByte_0 13 rfl rfl)
theorem dX2_isLetterByte_15 : decode cX2_isLetterByte 15 = .ok (.if_icmp .lt 13, 3) := dk_161 0 13 (dk_at dksX2_isLetterByte_0 15 rfl rfl)
theorem dX2_isLetterByte_18 : decode cX2_isLetterByte 18 = .ok (.iload_n 0, 1) := dk_26 (dk_at dksX2_isLetterByte_0 18 rfl rfl)
theorem dX2_isLetterByte_19 : decode cX2_isLetterByte 19 = .ok (.bipush 90, 2) := dk_16 90 (dk_at dksX2_isLetterByte_0 19 rfl rfl)
theorem dX2_isLetterByte_21 : decode cX2_isLetterByte 21 = .ok (.if_icmp .gt 7, 3) := dk_163 0 7 (dk_at dksX2_isLetterByte_0 21 rfl rfl)
theorem dX2_isLetterByte_24 : decode cX2_isLetterByte 24 = .ok (.iconst 1, 1) := dk_4 (dk_at dksX2_isLetterByte_1 0 rfl rfl)
theorem dX2_isLetterByte_25 : decode cX2_isLetterByte 25 = .ok (.goto 4, 3) := dk_167 0 4 (dk_at dksX2_isLetterByte_1 1 rfl rfl)
theorem dX2_isLetterByte_28 : decode cX2_isLetterByte 28 = .ok (.iconst 0, 1) := dk_3 (dk_at dksX2_isLetterByte_1 4 rfl rfl)
theorem dX2_isLetterByte_29 : decode cX2_isLetterByte 29 = .ok (.ireturn, 1) := dk_172 (dk_at dksX2_isLetterByte_1 5 rfl rfl)
abbrev cX2_isSign : ByteArray := prog_20_method_22_code
def yX2_isSign : MethodName := ⟨RX2, "isSign", "(I)Z"⟩
def dkwX2_isSign_2 : List UInt8 := [4, 172, 3, 172]
abbrev dktX2_isSign_2 : List UInt8 := dkwX2_isSign_2 ++ []
def dkwX2_isSign_1 : List UInt8 := [170, 0, 0, 0, 0, 0, 129, 0, 0, 0, 35, 0, 0, 0, 62, 0, 0, 0, 127, 0, 0, 0, 129, 0, 0, 0, 129, 0, 0, 0, 129, 0, 0, 0, 129, 0, 0, 0, 127, 0, 0, 0, 127, 0, 0, 0, 127, 0, 0, 0, 127, 0, 0, 0, 129, 0, 0, 0, 127, 0, 0, 0, 129, 0, 0, 0, 127, 0, 0, 0, 129, 0, 0, 0, 129, 0, 0, 0, 129, 0, 0, 0, 129, 0, 0, 0, 129, 0, 0, 0, 129, 0, 0, 0, 129, 0, 0, 0, 129, 0, 0, 0, 129, 0, 0, 0, 129, 0, 0, 0, 127, 0, 0, 0, 127, 0, 0, 0, 127, 0, 0, 0, 127, 0, 0, 0, 127]
abbrev dktX2_isSign_1 : List UInt8 := dkwX2_isSign_1 ++ dktX2_isSign_2
def dkwX2_isSign_0 : List UInt8 := [26]
abbrev dktX2_isSign_0 : List UInt8 := dkwX2_isSign_0 ++ dktX2_isSign_1
theorem dksX2_isSign_0 : cX2_isSign.data.toList.drop 0 = dktX2_isSign_0 := by decide +kernel
theorem dksX2_isSign_1 : cX2_isSign.data.toList.drop 1 = dktX2_isSign_1 := dk_seg dksX2_isSign_0 1 rfl rfl
theorem dksX2_isSign_2 : cX2_isSign.data.toList.drop 128 = dktX2_isSign_2 := dk_seg dksX2_isSign_1 127 rfl rfl
theorem dX2_isSign_0 : decode cX2_isSign 0 = .ok (.iload_n 0, 1) := dk_26 (dk_at dksX2_isSign_0 0 rfl rfl)
theorem dX2_isSign_1 : decode cX2_isSign 1 = .ok (.tableswitch 129 35 62 #[127, 129, 129, 129, 129, 127, 127, 127, 127, 129, 127, 129, 127, 129, 129, 129, 129, 129, 129, 129, 129, 129, 129, 127, 127, 127, 127, 127], 127) := by decide +kernel
theorem dX2_isSign_128 : decode cX2_isSign 128 = .ok (.iconst 1, 1) := dk_4 (dk_at dksX2_isSign_2 0 rfl rfl)
theorem dX2_isSign_129 : decode cX2_isSign 129 = .ok (.ireturn, 1) := dk_172 (dk_at dksX2_isSign_2 1 rfl rfl)
theorem dX2_isSign_130 : decode cX2_isSign 130 = .ok (.iconst 0, 1) := dk_3 (dk_at dksX2_isSign_2 2 rfl rfl)
theorem dX2_isSign_131 : decode cX2_isSign 131 = .ok (.ireturn, 1) := dk_172 (dk_at dksX2_isSign_2 3 rfl rfl)
abbrev cX2_clause : ByteArray := prog_20_method_54_code
def yX2_clause : MethodName := ⟨RX2, "clause", "()I"⟩
def dkwX2_clause_5 : List UInt8 := [96, 79, 42, 180, 0, 98, 16, 59, 159, 0, 5, 4, 172, 42, 182, 0, 165, 3, 172]
abbrev dktX2_clause_5 : List UInt8 := dkwX2_clause_5 ++ []
def dkwX2_clause_4 : List UInt8 := [182, 0, 244, 54, 4, 21, 4, 153, 0, 6, 21, 4, 172, 42, 180, 0, 16, 42, 180, 0, 136, 92, 46, 4]
abbrev dktX2_clause_4 : List UInt8 := dkwX2_clause_4 ++ dktX2_clause_5
def dkwX2_clause_3 : List UInt8 := [182, 0, 165, 42, 180, 0, 136, 4, 96, 7, 28, 104, 96, 62, 42, 180, 0, 16, 29, 27, 79, 42, 27, 29]
abbrev dktX2_clause_3 : List UInt8 := dkwX2_clause_3 ++ dktX2_clause_4
def dkwX2_clause_2 : List UInt8 := [27, 5, 163, 0, 15, 42, 89, 180, 0, 241, 4, 27, 120, 128, 181, 0, 241, 42, 27, 181, 0, 142, 42]
abbrev dktX2_clause_2 : List UInt8 := dkwX2_clause_2 ++ dktX2_clause_3
def dkwX2_clause_1 : List UInt8 := [153, 0, 5, 7, 172, 42, 180, 0, 16, 42, 180, 0, 136, 46, 61, 28, 16, 24, 160, 0, 6, 16, 6, 172]
abbrev dktX2_clause_1 : List UInt8 := dkwX2_clause_1 ++ dktX2_clause_2
def dkwX2_clause_0 : List UInt8 := [42, 182, 0, 238, 60, 27, 156, 0, 5, 4, 172, 27, 5, 163, 0, 16, 42, 180, 0, 241, 27, 184, 0, 77]
abbrev dktX2_clause_0 : List UInt8 := dkwX2_clause_0 ++ dktX2_clause_1
theorem dksX2_clause_0 : cX2_clause.data.toList.drop 0 = dktX2_clause_0 := by decide +kernel
theorem dksX2_clause_1 : cX2_clause.data.toList.drop 24 = dktX2_clause_1 := dk_seg dksX2_clause_0 24 rfl rfl
theorem dksX2_clause_2 : cX2_clause.data.toList.drop 48 = dktX2_clause_2 := dk_seg dksX2_clause_1 24 rfl rfl
theorem dksX2_clause_3 : cX2_clause.data.toList.drop 71 = dktX2_clause_3 := dk_seg dksX2_clause_2 23 rfl rfl
theorem dksX2_clause_4 : cX2_clause.data.toList.drop 95 = dktX2_clause_4 := dk_seg dksX2_clause_3 24 rfl rfl
theorem dksX2_clause_5 : cX2_clause.data.toList.drop 119 = dktX2_clause_5 := dk_seg dksX2_clause_4 24 rfl rfl
theorem dX2_clause_0 : decode cX2_clause 0 = .ok (.aload_n 0, 1) := dk_42 (dk_at dksX2_clause_0 0 rfl rfl)
theorem dX2_clause_1 : decode cX2_clause 1 = .ok (.invokevirtual 238, 3) := dk_182 0 238 (dk_at dksX2_clause_0 1 rfl rfl)
theorem dX2_clause_4 : decode cX2_clause 4 = .ok (.istore_n 1, 1) := dk_60 (dk_at dksX2_clause_0 4 rfl rfl)
theorem dX2_clause_5 : decode cX2_clause 5 = .ok (.iload_n 1, 1) := dk_27 (dk_at dksX2_clause_0 5 rfl rfl)
theorem dX2_clause_6 : decode cX2_clause 6 = .ok (.ifCond .ge 5, 3) := dk_156 0 5 (dk_at dksX2_clause_0 6 rfl rfl)
theorem dX2_clause_9 : decode cX2_clause 9 = .ok (.iconst 1, 1) := dk_4 (dk_at dksX2_clause_0 9 rfl rfl)
theorem dX2_clause_10 : decode cX2_clause 10 = .ok (.ireturn, 1) := dk_172 (dk_at dksX2_clause_0 10 rfl rfl)
theorem dX2_clause_11 : decode cX2_clause 11 = .ok (.iload_n 1, 1) := dk_27 (dk_at dksX2_clause_0 11 rfl rfl)
theorem dX2_clause_12 : decode cX2_clause 12 = .ok (.iconst 2, 1) := dk_5 (dk_at dksX2_clause_0 12 rfl rfl)
theorem dX2_clause_13 : decode cX2_clause 13 = .ok (.if_icmp .gt 16, 3) := dk_163 0 16 (dk_at dksX2_clause_0 13 rfl rfl)
theorem dX2_clause_16 : decode cX2_clause 16 = .ok (.aload_n 0, 1) := dk_42 (dk_at dksX2_clause_0 16 rfl rfl)
theorem dX2_clause_17 : decode cX2_clause 17 = .ok (.getfield 241, 3) := dk_180 0 241 (dk_at dksX2_clause_0 17 rfl rfl)
theorem dX2_clause_20 : decode cX2_clause 20 = .ok (.iload_n 1, 1) := dk_27 (dk_at dksX2_clause_0 20 rfl rfl)
theorem dX2_clause_21 : decode cX2_clause 21 = .ok (.invokestatic 77, 3) := dk_184 0 77 (dk_at dksX2_clause_0 21 rfl rfl)
theorem dX2_clause_24 : decode cX2_clause 24 = .ok (.ifCond .eq 5, 3) := dk_153 0 5 (dk_at dksX2_clause_1 0 rfl rfl)
theorem dX2_clause_27 : decode cX2_clause 27 = .ok (.iconst 4, 1) := dk_7 (dk_at dksX2_clause_1 3 rfl rfl)
theorem dX2_clause_28 : decode cX2_clause 28 = .ok (.ireturn, 1) := dk_172 (dk_at dksX2_clause_1 4 rfl rfl)
theorem dX2_clause_29 : decode cX2_clause 29 = .ok (.aload_n 0, 1) := dk_42 (dk_at dksX2_clause_1 5 rfl rfl)
theorem dX2_clause_30 : decode cX2_clause 30 = .ok (.getfield 16, 3) := dk_180 0 16 (dk_at dksX2_clause_1 6 rfl rfl)
theorem dX2_clause_33 : decode cX2_clause 33 = .ok (.aload_n 0, 1) := dk_42 (dk_at dksX2_clause_1 9 rfl rfl)
theorem dX2_clause_34 : decode cX2_clause 34 = .ok (.getfield 136, 3) := dk_180 0 136 (dk_at dksX2_clause_1 10 rfl rfl)
theorem dX2_clause_37 : decode cX2_clause 37 = .ok (.iaload, 1) := dk_46 (dk_at dksX2_clause_1 13 rfl rfl)
theorem dX2_clause_38 : decode cX2_clause 38 = .ok (.istore_n 2, 1) := dk_61 (dk_at dksX2_clause_1 14 rfl rfl)
theorem dX2_clause_39 : decode cX2_clause 39 = .ok (.iload_n 2, 1) := dk_28 (dk_at dksX2_clause_1 15 rfl rfl)
theorem dX2_clause_40 : decode cX2_clause 40 = .ok (.bipush 24, 2) := dk_16 24 (dk_at dksX2_clause_1 16 rfl rfl)
theorem dX2_clause_42 : decode cX2_clause 42 = .ok (.if_icmp .ne 6, 3) := dk_160 0 6 (dk_at dksX2_clause_1 18 rfl rfl)
theorem dX2_clause_45 : decode cX2_clause 45 = .ok (.bipush 6, 2) := dk_16 6 (dk_at dksX2_clause_1 21 rfl rfl)
theorem dX2_clause_47 : decode cX2_clause 47 = .ok (.ireturn, 1) := dk_172 (dk_at dksX2_clause_1 23 rfl rfl)
theorem dX2_clause_48 : decode cX2_clause 48 = .ok (.iload_n 1, 1) := dk_27 (dk_at dksX2_clause_2 0 rfl rfl)
theorem dX2_clause_49 : decode cX2_clause 49 = .ok (.iconst 2, 1) := dk_5 (dk_at dksX2_clause_2 1 rfl rfl)
theorem dX2_clause_50 : decode cX2_clause 50 = .ok (.if_icmp .gt 15, 3) := dk_163 0 15 (dk_at dksX2_clause_2 2 rfl rfl)
theorem dX2_clause_53 : decode cX2_clause 53 = .ok (.aload_n 0, 1) := dk_42 (dk_at dksX2_clause_2 5 rfl rfl)
theorem dX2_clause_54 : decode cX2_clause 54 = .ok (.dup, 1) := dk_89 (dk_at dksX2_clause_2 6 rfl rfl)
theorem dX2_clause_55 : decode cX2_clause 55 = .ok (.getfield 241, 3) := dk_180 0 241 (dk_at dksX2_clause_2 7 rfl rfl)
theorem dX2_clause_58 : decode cX2_clause 58 = .ok (.iconst 1, 1) := dk_4 (dk_at dksX2_clause_2 10 rfl rfl)
theorem dX2_clause_59 : decode cX2_clause 59 = .ok (.iload_n 1, 1) := dk_27 (dk_at dksX2_clause_2 11 rfl rfl)
theorem dX2_clause_60 : decode cX2_clause 60 = .ok (.ishl, 1) := dk_120 (dk_at dksX2_clause_2 12 rfl rfl)
theorem dX2_clause_61 : decode cX2_clause 61 = .ok (.ior, 1) := dk_128 (dk_at dksX2_clause_2 13 rfl rfl)
theorem dX2_clause_62 : decode cX2_clause 62 = .ok (.putfield 241, 3) := dk_181 0 241 (dk_at dksX2_clause_2 14 rfl rfl)
theorem dX2_clause_65 : decode cX2_clause 65 = .ok (.aload_n 0, 1) := dk_42 (dk_at dksX2_clause_2 17 rfl rfl)
theorem dX2_clause_66 : decode cX2_clause 66 = .ok (.iload_n 1, 1) := dk_27 (dk_at dksX2_clause_2 18 rfl rfl)
theorem dX2_clause_67 : decode cX2_clause 67 = .ok (.putfield 142, 3) := dk_181 0 142 (dk_at dksX2_clause_2 19 rfl rfl)
theorem dX2_clause_70 : decode cX2_clause 70 = .ok (.aload_n 0, 1) := dk_42 (dk_at dksX2_clause_2 22 rfl rfl)
theorem dX2_clause_71 : decode cX2_clause 71 = .ok (.invokevirtual 165, 3) := dk_182 0 165 (dk_at dksX2_clause_3 0 rfl rfl)
theorem dX2_clause_74 : decode cX2_clause 74 = .ok (.aload_n 0, 1) := dk_42 (dk_at dksX2_clause_3 3 rfl rfl)
theorem dX2_clause_75 : decode cX2_clause 75 = .ok (.getfield 136, 3) := dk_180 0 136 (dk_at dksX2_clause_3 4 rfl rfl)
theorem dX2_clause_78 : decode cX2_clause 78 = .ok (.iconst 1, 1) := dk_4 (dk_at dksX2_clause_3 7 rfl rfl)
theorem dX2_clause_79 : decode cX2_clause 79 = .ok (.iadd, 1) := dk_96 (dk_at dksX2_clause_3 8 rfl rfl)
theorem dX2_clause_80 : decode cX2_clause 80 = .ok (.iconst 4, 1) := dk_7 (dk_at dksX2_clause_3 9 rfl rfl)
theorem dX2_clause_81 : decode cX2_clause 81 = .ok (.iload_n 2, 1) := dk_28 (dk_at dksX2_clause_3 10 rfl rfl)
theorem dX2_clause_82 : decode cX2_clause 82 = .ok (.imul, 1) := dk_104 (dk_at dksX2_clause_3 11 rfl rfl)
theorem dX2_clause_83 : decode cX2_clause 83 = .ok (.iadd, 1) := dk_96 (dk_at dksX2_clause_3 12 rfl rfl)
theorem dX2_clause_84 : decode cX2_clause 84 = .ok (.istore_n 3, 1) := dk_62 (dk_at dksX2_clause_3 13 rfl rfl)
theorem dX2_clause_85 : decode cX2_clause 85 = .ok (.aload_n 0, 1) := dk_42 (dk_at dksX2_clause_3 14 rfl rfl)
theorem dX2_clause_86 : decode cX2_clause 86 = .ok (.getfield 16, 3) := dk_180 0 16 (dk_at dksX2_clause_3 15 rfl rfl)
theorem dX2_clause_89 : decode cX2_clause 89 = .ok (.iload_n 3, 1) := dk_29 (dk_at dksX2_clause_3 18 rfl rfl)
theorem dX2_clause_90 : decode cX2_clause 90 = .ok (.iload_n 1, 1) := dk_27 (dk_at dksX2_clause_3 19 rfl rfl)
theorem dX2_clause_91 : decode cX2_clause 91 = .ok (.iastore, 1) := dk_79 (dk_at dksX2_clause_3 20 rfl rfl)
theorem dX2_clause_92 : decode cX2_clause 92 = .ok (.aload_n 0, 1) := dk_42 (dk_at dksX2_clause_3 21 rfl rfl)
theorem dX2_clause_93 : decode cX2_clause 93 = .ok (.iload_n 1, 1) := dk_27 (dk_at dksX2_clause_3 22 rfl rfl)
theorem dX2_clause_94 : decode cX2_clause 94 = .ok (.iload_n 3, 1) := dk_29 (dk_at dksX2_clause_3 23 rfl rfl)
theorem dX2_clause_95 : decode cX2_clause 95 = .ok (.invokevirtual 244, 3) := dk_182 0 244 (dk_at dksX2_clause_4 0 rfl rfl)
theorem dX2_clause_98 : decode cX2_clause 98 = .ok (.istore 4, 2) := dk_54 4 (dk_at dksX2_clause_4 3 rfl rfl)
theorem dX2_clause_100 : decode cX2_clause 100 = .ok (.iload 4, 2) := dk_21 4 (dk_at dksX2_clause_4 5 rfl rfl)
theorem dX2_clause_102 : decode cX2_clause 102 = .ok (.ifCond .eq 6, 3) := dk_153 0 6 (dk_at dksX2_clause_4 7 rfl rfl)
theorem dX2_clause_105 : decode cX2_clause 105 = .ok (.iload 4, 2) := dk_21 4 (dk_at dksX2_clause_4 10 rfl rfl)
theorem dX2_clause_107 : decode cX2_clause 107 = .ok (.ireturn, 1) := dk_172 (dk_at dksX2_clause_4 12 rfl rfl)
theorem dX2_clause_108 : decode cX2_clause 108 = .ok (.aload_n 0, 1) := dk_42 (dk_at dksX2_clause_4 13 rfl rfl)
theorem dX2_clause_109 : decode cX2_clause 109 = .ok (.getfield 16, 3) := dk_180 0 16 (dk_at dksX2_clause_4 14 rfl rfl)
theorem dX2_clause_112 : decode cX2_clause 112 = .ok (.aload_n 0, 1) := dk_42 (dk_at dksX2_clause_4 17 rfl rfl)
theorem dX2_clause_113 : decode cX2_clause 113 = .ok (.getfield 136, 3) := dk_180 0 136 (dk_at dksX2_clause_4 18 rfl rfl)
theorem dX2_clause_116 : decode cX2_clause 116 = .ok (.dup2, 1) := dk_92 (dk_at dksX2_clause_4 21 rfl rfl)
theorem dX2_clause_117 : decode cX2_clause 117 = .ok (.iaload, 1) := dk_46 (dk_at dksX2_clause_4 22 rfl rfl)
theorem dX2_clause_118 : decode cX2_clause 118 = .ok (.iconst 1, 1) := dk_4 (dk_at dksX2_clause_4 23 rfl rfl)
theorem dX2_clause_119 : decode cX2_clause 119 = .ok (.iadd, 1) := dk_96 (dk_at dksX2_clause_5 0 rfl rfl)
theorem dX2_clause_120 : decode cX2_clause 120 = .ok (.iastore, 1) := dk_79 (dk_at dksX2_clause_5 1 rfl rfl)
theorem dX2_clause_121 : decode cX2_clause 121 = .ok (.aload_n 0, 1) := dk_42 (dk_at dksX2_clause_5 2 rfl rfl)
theorem dX2_clause_122 : decode cX2_clause 122 = .ok (.getfield 98, 3) := dk_180 0 98 (dk_at dksX2_clause_5 3 rfl rfl)
theorem dX2_clause_125 : decode cX2_clause 125 = .ok (.bipush 59, 2) := dk_16 59 (dk_at dksX2_clause_5 6 rfl rfl)
theorem dX2_clause_127 : decode cX2_clause 127 = .ok (.if_icmp .eq 5, 3) := dk_159 0 5 (dk_at dksX2_clause_5 8 rfl rfl)
theorem dX2_clause_130 : decode cX2_clause 130 = .ok (.iconst 1, 1) := dk_4 (dk_at dksX2_clause_5 11 rfl rfl)
theorem dX2_clause_131 : decode cX2_clause 131 = .ok (.ireturn, 1) := dk_172 (dk_at dksX2_clause_5 12 rfl rfl)
theorem dX2_clause_132 : decode cX2_clause 132 = .ok (.aload_n 0, 1) := dk_42 (dk_at dksX2_clause_5 13 rfl rfl)
theorem dX2_clause_133 : decode cX2_clause 133 = .ok (.invokevirtual 165, 3) := dk_182 0 165 (dk_at dksX2_clause_5 14 rfl rfl)
theorem dX2_clause_136 : decode cX2_clause 136 = .ok (.iconst 0, 1) := dk_3 (dk_at dksX2_clause_5 17 rfl rfl)
theorem dX2_clause_137 : decode cX2_clause 137 = .ok (.ireturn, 1) := dk_172 (dk_at dksX2_clause_5 18 rfl rfl)
abbrev cX2_sortOf : ByteArray := prog_20_method_53_code
def yX2_sortOf : MethodName := ⟨RX2, "sortOf", "()I"⟩
def dkwX2_sortOf_9 : List UInt8 := [2, 172]
abbrev dktX2_sortOf_9 : List UInt8 := dkwX2_sortOf_9 ++ []
def dkwX2_sortOf_8 : List UInt8 := [167, 0, 25, 42, 16, 100, 16, 97, 16, 121, 184, 0, 124, 182, 0, 184, 153, 0, 8, 16, 8, 167, 0, 4]
abbrev dktX2_sortOf_8 : List UInt8 := dkwX2_sortOf_8 ++ dktX2_sortOf_9
def dkwX2_sortOf_7 : List UInt8 := [16, 6, 172, 42, 16, 115, 16, 101, 16, 110, 16, 100, 184, 0, 128, 182, 0, 184, 153, 0, 8, 16, 7]
abbrev dktX2_sortOf_7 : List UInt8 := dkwX2_sortOf_7 ++ dktX2_sortOf_8
def dkwX2_sortOf_6 : List UInt8 := [153, 0, 5, 8, 172, 42, 16, 97, 16, 119, 16, 97, 16, 121, 184, 0, 128, 182, 0, 184, 153, 0, 6]
abbrev dktX2_sortOf_6 : List UInt8 := dkwX2_sortOf_6 ++ dktX2_sortOf_7
def dkwX2_sortOf_5 : List UInt8 := [153, 0, 5, 7, 172, 42, 16, 119, 16, 114, 16, 111, 16, 110, 16, 103, 184, 0, 132, 182, 0, 184]
abbrev dktX2_sortOf_5 : List UInt8 := dkwX2_sortOf_5 ++ dktX2_sortOf_6
def dkwX2_sortOf_4 : List UInt8 := [153, 0, 5, 6, 172, 42, 16, 99, 16, 111, 16, 117, 16, 115, 16, 105, 16, 110, 184, 0, 180, 182, 0, 184]
abbrev dktX2_sortOf_4 : List UInt8 := dkwX2_sortOf_4 ++ dktX2_sortOf_5
def dkwX2_sortOf_3 : List UInt8 := [42, 16, 111, 16, 102, 16, 102, 16, 105, 184, 0, 128, 16, 99, 16, 101, 16, 114, 184, 0, 124, 182, 0, 234]
abbrev dktX2_sortOf_3 : List UInt8 := dkwX2_sortOf_3 ++ dktX2_sortOf_4
def dkwX2_sortOf_2 : List UInt8 := [4, 172, 42, 16, 119, 16, 101, 16, 97, 16, 114, 16, 115, 184, 0, 132, 182, 0, 184, 153, 0, 5, 5, 172]
abbrev dktX2_sortOf_2 : List UInt8 := dkwX2_sortOf_2 ++ dktX2_sortOf_3
def dkwX2_sortOf_1 : List UInt8 := [16, 97, 16, 114, 16, 100, 184, 0, 128, 16, 111, 16, 110, 16, 115, 184, 0, 124, 182, 0, 234, 153, 0, 5]
abbrev dktX2_sortOf_1 : List UInt8 := dkwX2_sortOf_1 ++ dktX2_sortOf_2
def dkwX2_sortOf_0 : List UInt8 := [42, 16, 97, 16, 100, 16, 100, 16, 115, 184, 0, 128, 182, 0, 184, 153, 0, 5, 3, 172, 42, 16, 112]
abbrev dktX2_sortOf_0 : List UInt8 := dkwX2_sortOf_0 ++ dktX2_sortOf_1
theorem dksX2_sortOf_0 : cX2_sortOf.data.toList.drop 0 = dktX2_sortOf_0 := by decide +kernel
theorem dksX2_sortOf_1 : cX2_sortOf.data.toList.drop 23 = dktX2_sortOf_1 := dk_seg dksX2_sortOf_0 23 rfl rfl
theorem dksX2_sortOf_2 : cX2_sortOf.data.toList.drop 47 = dktX2_sortOf_2 := dk_seg dksX2_sortOf_1 24 rfl rfl
theorem dksX2_sortOf_3 : cX2_sortOf.data.toList.drop 71 = dktX2_sortOf_3 := dk_seg dksX2_sortOf_2 24 rfl rfl
theorem dksX2_sortOf_4 : cX2_sortOf.data.toList.drop 95 = dktX2_sortOf_4 := dk_seg dksX2_sortOf_3 24 rfl rfl
theorem dksX2_sortOf_5 : cX2_sortOf.data.toList.drop 119 = dktX2_sortOf_5 := dk_seg dksX2_sortOf_4 24 rfl rfl
theorem dksX2_sortOf_6 : cX2_sortOf.data.toList.drop 141 = dktX2_sortOf_6 := dk_seg dksX2_sortOf_5 22 rfl rfl
theorem dksX2_sortOf_7 : cX2_sortOf.data.toList.drop 164 = dktX2_sortOf_7 := dk_seg dksX2_sortOf_6 23 rfl rfl
theorem dksX2_sortOf_8 : cX2_sortOf.data.toList.drop 187 = dktX2_sortOf_8 := dk_seg dksX2_sortOf_7 23 rfl rfl
theorem dksX2_sortOf_9 : cX2_sortOf.data.toList.drop 211 = dktX2_sortOf_9 := dk_seg dksX2_sortOf_8 24 rfl rfl
theorem dX2_sortOf_0 : decode cX2_sortOf 0 = .ok (.aload_n 0, 1) := dk_42 (dk_at dksX2_sortOf_0 0 rfl rfl)
theorem dX2_sortOf_1 : decode cX2_sortOf 1 = .ok (.bipush 97, 2) := dk_16 97 (dk_at dksX2_sortOf_0 1 rfl rfl)
theorem dX2_sortOf_3 : decode cX2_sortOf 3 = .ok (.bipush 100, 2) := dk_16 100 (dk_at dksX2_sortOf_0 3 rfl rfl)
theorem dX2_sortOf_5 : decode cX2_sortOf 5 = .ok (.bipush 100, 2) := dk_16 100 (dk_at dksX2_sortOf_0 5 rfl rfl)
theorem dX2_sortOf_7 : decode cX2_sortOf 7 = .ok (.bipush 115, 2) := dk_16 115 (dk_at dksX2_sortOf_0 7 rfl rfl)
theorem dX2_sortOf_9 : decode cX2_sortOf 9 = .ok (.invokestatic 128, 3) := dk_184 0 128 (dk_at dksX2_sortOf_0 9 rfl rfl)
theorem dX2_sortOf_12 : decode cX2_sortOf 12 = .ok (.invokevirtual 184, 3) := dk_182 0 184 (dk_at dksX2_sortOf_0 12 rfl rfl)
theorem dX2_sortOf_15 : decode cX2_sortOf 15 = .ok (.ifCond .eq 5, 3) := dk_153 0 5 (dk_at dksX2_sortOf_0 15 rfl rfl)
theorem dX2_sortOf_18 : decode cX2_sortOf 18 = .ok (.iconst 0, 1) := dk_3 (dk_at dksX2_sortOf_0 18 rfl rfl)
theorem dX2_sortOf_19 : decode cX2_sortOf 19 = .ok (.ireturn, 1) := dk_172 (dk_at dksX2_sortOf_0 19 rfl rfl)
theorem dX2_sortOf_20 : decode cX2_sortOf 20 = .ok (.aload_n 0, 1) := dk_42 (dk_at dksX2_sortOf_0 20 rfl rfl)
theorem dX2_sortOf_21 : decode cX2_sortOf 21 = .ok (.bipush 112, 2) := dk_16 112 (dk_at dksX2_sortOf_0 21 rfl rfl)
theorem dX2_sortOf_23 : decode cX2_sortOf 23 = .ok (.bipush 97, 2) := dk_16 97 (dk_at dksX2_sortOf_1 0 rfl rfl)
theorem dX2_sortOf_25 : decode cX2_sortOf 25 = .ok (.bipush 114, 2) := dk_16 114 (dk_at dksX2_sortOf_1 2 rfl rfl)
theorem dX2_sortOf_27 : decode cX2_sortOf 27 = .ok (.bipush 100, 2) := dk_16 100 (dk_at dksX2_sortOf_1 4 rfl rfl)
theorem dX2_sortOf_29 : decode cX2_sortOf 29 = .ok (.invokestatic 128, 3) := dk_184 0 128 (dk_at dksX2_sortOf_1 6 rfl rfl)
theorem dX2_sortOf_32 : decode cX2_sortOf 32 = .ok (.bipush 111, 2) := dk_16 111 (dk_at dksX2_sortOf_1 9 rfl rfl)
theorem dX2_sortOf_34 : decode cX2_sortOf 34 = .ok (.bipush 110, 2) := dk_16 110 (dk_at dksX2_sortOf_1 11 rfl rfl)
theorem dX2_sortOf_36 : decode cX2_sortOf 36 = .ok (.bipush 115, 2) := dk_16 115 (dk_at dksX2_sortOf_1 13 rfl rfl)
theorem dX2_sortOf_38 : decode cX2_sortOf 38 = .ok (.invokestatic 124, 3) := dk_184 0 124 (dk_at dksX2_sortOf_1 15 rfl rfl)
theorem dX2_sortOf_41 : decode cX2_sortOf 41 = .ok (.invokevirtual 234, 3) := dk_182 0 234 (dk_at dksX2_sortOf_1 18 rfl rfl)
theorem dX2_sortOf_44 : decode cX2_sortOf 44 = .ok (.ifCond .eq 5, 3) := dk_153 0 5 (dk_at dksX2_sortOf_1 21 rfl rfl)
theorem dX2_sortOf_47 : decode cX2_sortOf 47 = .ok (.iconst 1, 1) := dk_4 (dk_at dksX2_sortOf_2 0 rfl rfl)
theorem dX2_sortOf_48 : decode cX2_sortOf 48 = .ok (.ireturn, 1) := dk_172 (dk_at dksX2_sortOf_2 1 rfl rfl)
theorem dX2_sortOf_49 : decode cX2_sortOf 49 = .ok (.aload_n 0, 1) := dk_42 (dk_at dksX2_sortOf_2 2 rfl rfl)
theorem dX2_sortOf_50 : decode cX2_sortOf 50 = .ok (.bipush 119, 2) := dk_16 119 (dk_at dksX2_sortOf_2 3 rfl rfl)
theorem dX2_sortOf_52 : decode cX2_sortOf 52 = .ok (.bipush 101, 2) := dk_16 101 (dk_at dksX2_sortOf_2 5 rfl rfl)
theorem dX2_sortOf_54 : decode cX2_sortOf 54 = .ok (.bipush 97, 2) := dk_16 97 (dk_at dksX2_sortOf_2 7 rfl rfl)
theorem dX2_sortOf_56 : decode cX2_sortOf 56 = .ok (.bipush 114, 2) := dk_16 114 (dk_at dksX2_sortOf_2 9 rfl rfl)
theorem dX2_sortOf_58 : decode cX2_sortOf 58 = .ok (.bipush 115, 2) := dk_16 115 (dk_at dksX2_sortOf_2 11 rfl rfl)
theorem dX2_sortOf_60 : decode cX2_sortOf 60 = .ok (.invokestatic 132, 3) := dk_184 0 132 (dk_at dksX2_sortOf_2 13 rfl rfl)
theorem dX2_sortOf_63 : decode cX2_sortOf 63 = .ok (.invokevirtual 184, 3) := dk_182 0 184 (dk_at dksX2_sortOf_2 16 rfl rfl)
theorem dX2_sortOf_66 : decode cX2_sortOf 66 = .ok (.ifCond .eq 5, 3) := dk_153 0 5 (dk_at dksX2_sortOf_2 19 rfl rfl)
theorem dX2_sortOf_69 : decode cX2_sortOf 69 = .ok (.iconst 2, 1) := dk_5 (dk_at dksX2_sortOf_2 22 rfl rfl)
theorem dX2_sortOf_70 : decode cX2_sortOf 70 = .ok (.ireturn, 1) := dk_172 (dk_at dksX2_sortOf_2 23 rfl rfl)
theorem dX2_sortOf_71 : decode cX2_sortOf 71 = .ok (.aload_n 0, 1) := dk_42 (dk_at dksX2_sortOf_3 0 rfl rfl)
theorem dX2_sortOf_72 : decode cX2_sortOf 72 = .ok (.bipush 111, 2) := dk_16 111 (dk_at dksX2_sortOf_3 1 rfl rfl)
theorem dX2_sortOf_74 : decode cX2_sortOf 74 = .ok (.bipush 102, 2) := dk_16 102 (dk_at dksX2_sortOf_3 3 rfl rfl)
theorem dX2_sortOf_76 : decode cX2_sortOf 76 = .ok (.bipush 102, 2) := dk_16 102 (dk_at dksX2_sortOf_3 5 rfl rfl)
theorem dX2_sortOf_78 : decode cX2_sortOf 78 = .ok (.bipush 105, 2) := dk_16 105 (dk_at dksX2_sortOf_3 7 rfl rfl)
theorem dX2_sortOf_80 : decode cX2_sortOf 80 = .ok (.invokestatic 128, 3) := dk_184 0 128 (dk_at dksX2_sortOf_3 9 rfl rfl)
theorem dX2_sortOf_83 : decode cX2_sortOf 83 = .ok (.bipush 99, 2) := dk_16 99 (dk_at dksX2_sortOf_3 12 rfl rfl)
theorem dX2_sortOf_85 : decode cX2_sortOf 85 = .ok (.bipush 101, 2) := dk_16 101 (dk_at dksX2_sortOf_3 14 rfl rfl)
theorem dX2_sortOf_87 : decode cX2_sortOf 87 = .ok (.bipush 114, 2) := dk_16 114 (dk_at dksX2_sortOf_3 16 rfl rfl)
theorem dX2_sortOf_89 : decode cX2_sortOf 89 = .ok (.invokestatic 124, 3) := dk_184 0 124 (dk_at dksX2_sortOf_3 18 rfl rfl)
theorem dX2_sortOf_92 : decode cX2_sortOf 92 = .ok (.invokevirtual 234, 3) := dk_182 0 234 (dk_at dksX2_sortOf_3 21 rfl rfl)
theorem dX2_sortOf_95 : decode cX2_sortOf 95 = .ok (.ifCond .eq 5, 3) := dk_153 0 5 (dk_at dksX2_sortOf_4 0 rfl rfl)
theorem dX2_sortOf_98 : decode cX2_sortOf 98 = .ok (.iconst 3, 1) := dk_6 (dk_at dksX2_sortOf_4 3 rfl rfl)
theorem dX2_sortOf_99 : decode cX2_sortOf 99 = .ok (.ireturn, 1) := dk_172 (dk_at dksX2_sortOf_4 4 rfl rfl)
theorem dX2_sortOf_100 : decode cX2_sortOf 100 = .ok (.aload_n 0, 1) := dk_42 (dk_at dksX2_sortOf_4 5 rfl rfl)
theorem dX2_sortOf_101 : decode cX2_sortOf 101 = .ok (.bipush 99, 2) := dk_16 99 (dk_at dksX2_sortOf_4 6 rfl rfl)
theorem dX2_sortOf_103 : decode cX2_sortOf 103 = .ok (.bipush 111, 2) := dk_16 111 (dk_at dksX2_sortOf_4 8 rfl rfl)
theorem dX2_sortOf_105 : decode cX2_sortOf 105 = .ok (.bipush 117, 2) := dk_16 117 (dk_at dksX2_sortOf_4 10 rfl rfl)
theorem dX2_sortOf_107 : decode cX2_sortOf 107 = .ok (.bipush 115, 2) := dk_16 115 (dk_at dksX2_sortOf_4 12 rfl rfl)
theorem dX2_sortOf_109 : decode cX2_sortOf 109 = .ok (.bipush 105, 2) := dk_16 105 (dk_at dksX2_sortOf_4 14 rfl rfl)
theorem dX2_sortOf_111 : decode cX2_sortOf 111 = .ok (.bipush 110, 2) := dk_16 110 (dk_at dksX2_sortOf_4 16 rfl rfl)
theorem dX2_sortOf_113 : decode cX2_sortOf 113 = .ok (.invokestatic 180, 3) := dk_184 0 180 (dk_at dksX2_sortOf_4 18 rfl rfl)
theorem dX2_sortOf_116 : decode cX2_sortOf 116 = .ok (.invokevirtual 184, 3) := dk_182 0 184 (dk_at dksX2_sortOf_4 21 rfl rfl)
theorem dX2_sortOf_119 : decode cX2_sortOf 119 = .ok (.ifCond .eq 5, 3) := dk_153 0 5 (dk_at dksX2_sortOf_5 0 rfl rfl)
theorem dX2_sortOf_122 : decode cX2_sortOf 122 = .ok (.iconst 4, 1) := dk_7 (dk_at dksX2_sortOf_5 3 rfl rfl)
theorem dX2_sortOf_123 : decode cX2_sortOf 123 = .ok (.ireturn, 1) := dk_172 (dk_at dksX2_sortOf_5 4 rfl rfl)
theorem dX2_sortOf_124 : decode cX2_sortOf 124 = .ok (.aload_n 0, 1) := dk_42 (dk_at dksX2_sortOf_5 5 rfl rfl)
theorem dX2_sortOf_125 : decode cX2_sortOf 125 = .ok (.bipush 119, 2) := dk_16 119 (dk_at dksX2_sortOf_5 6 rfl rfl)
theorem dX2_sortOf_127 : decode cX2_sortOf 127 = .ok (.bipush 114, 2) := dk_16 114 (dk_at dksX2_sortOf_5 8 rfl rfl)
theorem dX2_sortOf_129 : decode cX2_sortOf 129 = .ok (.bipush 111, 2) := dk_16 111 (dk_at dksX2_sortOf_5 10 rfl rfl)
theorem dX2_sortOf_131 : decode cX2_sortOf 131 = .ok (.bipush 110, 2) := dk_16 110 (dk_at dksX2_sortOf_5 12 rfl rfl)
theorem dX2_sortOf_133 : decode cX2_sortOf 133 = .ok (.bipush 103, 2) := dk_16 103 (dk_at dksX2_sortOf_5 14 rfl rfl)
theorem dX2_sortOf_135 : decode cX2_sortOf 135 = .ok (.invokestatic 132, 3) := dk_184 0 132 (dk_at dksX2_sortOf_5 16 rfl rfl)
theorem dX2_sortOf_138 : decode cX2_sortOf 138 = .ok (.invokevirtual 184, 3) := dk_182 0 184 (dk_at dksX2_sortOf_5 19 rfl rfl)
theorem dX2_sortOf_141 : decode cX2_sortOf 141 = .ok (.ifCond .eq 5, 3) := dk_153 0 5 (dk_at dksX2_sortOf_6 0 rfl rfl)
theorem dX2_sortOf_144 : decode cX2_sortOf 144 = .ok (.iconst 5, 1) := dk_8 (dk_at dksX2_sortOf_6 3 rfl rfl)
theorem dX2_sortOf_145 : decode cX2_sortOf 145 = .ok (.ireturn, 1) := dk_172 (dk_at dksX2_sortOf_6 4 rfl rfl)
theorem dX2_sortOf_146 : decode cX2_sortOf 146 = .ok (.aload_n 0, 1) := dk_42 (dk_at dksX2_sortOf_6 5 rfl rfl)
theorem dX2_sortOf_147 : decode cX2_sortOf 147 = .ok (.bipush 97, 2) := dk_16 97 (dk_at dksX2_sortOf_6 6 rfl rfl)
theorem dX2_sortOf_149 : decode cX2_sortOf 149 = .ok (.bipush 119, 2) := dk_16 119 (dk_at dksX2_sortOf_6 8 rfl rfl)
theorem dX2_sortOf_151 : decode cX2_sortOf 151 = .ok (.bipush 97, 2) := dk_16 97 (dk_at dksX2_sortOf_6 10 rfl rfl)
theorem dX2_sortOf_153 : decode cX2_sortOf 153 = .ok (.bipush 121, 2) := dk_16 121 (dk_at dksX2_sortOf_6 12 rfl rfl)
theorem dX2_sortOf_155 : decode cX2_sortOf 155 = .ok (.invokestatic 128, 3) := dk_184 0 128 (dk_at dksX2_sortOf_6 14 rfl rfl)
theorem dX2_sortOf_158 : decode cX2_sortOf 158 = .ok (.invokevirtual 184, 3) := dk_182 0 184 (dk_at dksX2_sortOf_6 17 rfl rfl)
theorem dX2_sortOf_161 : decode cX2_sortOf 161 = .ok (.ifCond .eq 6, 3) := dk_153 0 6 (dk_at dksX2_sortOf_6 20 rfl rfl)
theorem dX2_sortOf_164 : decode cX2_sortOf 164 = .ok (.bipush 6, 2) := dk_16 6 (dk_at dksX2_sortOf_7 0 rfl rfl)
theorem dX2_sortOf_166 : decode cX2_sortOf 166 = .ok (.ireturn, 1) := dk_172 (dk_at dksX2_sortOf_7 2 rfl rfl)
theorem dX2_sortOf_167 : decode cX2_sortOf 167 = .ok (.aload_n 0, 1) := dk_42 (dk_at dksX2_sortOf_7 3 rfl rfl)
theorem dX2_sortOf_168 : decode cX2_sortOf 168 = .ok (.bipush 115, 2) := dk_16 115 (dk_at dksX2_sortOf_7 4 rfl rfl)
theorem dX2_sortOf_170 : decode cX2_sortOf 170 = .ok (.bipush 101, 2) := dk_16 101 (dk_at dksX2_sortOf_7 6 rfl rfl)
theorem dX2_sortOf_172 : decode cX2_sortOf 172 = .ok (.bipush 110, 2) := dk_16 110 (dk_at dksX2_sortOf_7 8 rfl rfl)
theorem dX2_sortOf_174 : decode cX2_sortOf 174 = .ok (.bipush 100, 2) := dk_16 100 (dk_at dksX2_sortOf_7 10 rfl rfl)
theorem dX2_sortOf_176 : decode cX2_sortOf 176 = .ok (.invokestatic 128, 3) := dk_184 0 128 (dk_at dksX2_sortOf_7 12 rfl rfl)
theorem dX2_sortOf_179 : decode cX2_sortOf 179 = .ok (.invokevirtual 184, 3) := dk_182 0 184 (dk_at dksX2_sortOf_7 15 rfl rfl)
theorem dX2_sortOf_182 : decode cX2_sortOf 182 = .ok (.ifCond .eq 8, 3) := dk_153 0 8 (dk_at dksX2_sortOf_7 18 rfl rfl)
theorem dX2_sortOf_185 : decode cX2_sortOf 185 = .ok (.bipush 7, 2) := dk_16 7 (dk_at dksX2_sortOf_7 21 rfl rfl)
theorem dX2_sortOf_187 : decode cX2_sortOf 187 = .ok (.goto 25, 3) := dk_167 0 25 (dk_at dksX2_sortOf_8 0 rfl rfl)
theorem dX2_sortOf_190 : decode cX2_sortOf 190 = .ok (.aload_n 0, 1) := dk_42 (dk_at dksX2_sortOf_8 3 rfl rfl)
theorem dX2_sortOf_191 : decode cX2_sortOf 191 = .ok (.bipush 100, 2) := dk_16 100 (dk_at dksX2_sortOf_8 4 rfl rfl)
theorem dX2_sortOf_193 : decode cX2_sortOf 193 = .ok (.bipush 97, 2) := dk_16 97 (dk_at dksX2_sortOf_8 6 rfl rfl)
theorem dX2_sortOf_195 : decode cX2_sortOf 195 = .ok (.bipush 121, 2) := dk_16 121 (dk_at dksX2_sortOf_8 8 rfl rfl)
theorem dX2_sortOf_197 : decode cX2_sortOf 197 = .ok (.invokestatic 124, 3) := dk_184 0 124 (dk_at dksX2_sortOf_8 10 rfl rfl)
theorem dX2_sortOf_200 : decode cX2_sortOf 200 = .ok (.invokevirtual 184, 3) := dk_182 0 184 (dk_at dksX2_sortOf_8 13 rfl rfl)
theorem dX2_sortOf_203 : decode cX2_sortOf 203 = .ok (.ifCond .eq 8, 3) := dk_153 0 8 (dk_at dksX2_sortOf_8 16 rfl rfl)
theorem dX2_sortOf_206 : decode cX2_sortOf 206 = .ok (.bipush 8, 2) := dk_16 8 (dk_at dksX2_sortOf_8 19 rfl rfl)
theorem dX2_sortOf_208 : decode cX2_sortOf 208 = .ok (.goto 4, 3) := dk_167 0 4 (dk_at dksX2_sortOf_8 21 rfl rfl)
theorem dX2_sortOf_211 : decode cX2_sortOf 211 = .ok (.iconst (-1), 1) := dk_2 (dk_at dksX2_sortOf_9 0 rfl rfl)
theorem dX2_sortOf_212 : decode cX2_sortOf 212 = .ok (.ireturn, 1) := dk_172 (dk_at dksX2_sortOf_9 1 rfl rfl)
abbrev cX2_w4 : ByteArray := prog_20_method_26_code
def yX2_w4 : MethodName := ⟨RX2, "w4", "(IIII)J"⟩
def dkwX2_w4_0 : List UInt8 := [26, 27, 28, 184, 0, 124, 16, 8, 121, 29, 133, 129, 173]
abbrev dktX2_w4_0 : List UInt8 := dkwX2_w4_0 ++ []
theorem dksX2_w4_0 : cX2_w4.data.toList.drop 0 = dktX2_w4_0 := by decide +kernel
theorem dX2_w4_0 : decode cX2_w4 0 = .ok (.iload_n 0, 1) := dk_26 (dk_at dksX2_w4_0 0 rfl rfl)
theorem dX2_w4_1 : decode cX2_w4 1 = .ok (.iload_n 1, 1) := dk_27 (dk_at dksX2_w4_0 1 rfl rfl)
theorem dX2_w4_2 : decode cX2_w4 2 = .ok (.iload_n 2, 1) := dk_28 (dk_at dksX2_w4_0 2 rfl rfl)
theorem dX2_w4_3 : decode cX2_w4 3 = .ok (.invokestatic 124, 3) := dk_184 0 124 (dk_at dksX2_w4_0 3 rfl rfl)
theorem dX2_w4_6 : decode cX2_w4 6 = .ok (.bipush 8, 2) := dk_16 8 (dk_at dksX2_w4_0 6 rfl rfl)
theorem dX2_w4_8 : decode cX2_w4 8 = .ok (.lshl, 1) := dk_121 (dk_at dksX2_w4_0 8 rfl rfl)
theorem dX2_w4_9 : decode cX2_w4 9 = .ok (.iload_n 3, 1) := dk_29 (dk_at dksX2_w4_0 9 rfl rfl)
theorem dX2_w4_10 : decode cX2_w4 10 = .ok (.i2l, 1) := dk_133 (dk_at dksX2_w4_0 10 rfl rfl)
theorem dX2_w4_11 : decode cX2_w4 11 = .ok (.lor, 1) := dk_129 (dk_at dksX2_w4_0 11 rfl rfl)
theorem dX2_w4_12 : decode cX2_w4 12 = .ok (.lreturn, 1) := dk_173 (dk_at dksX2_w4_0 12 rfl rfl)
abbrev cX2_w3 : ByteArray := prog_20_method_25_code
def yX2_w3 : MethodName := ⟨RX2, "w3", "(III)J"⟩
def dkwX2_w3_0 : List UInt8 := [26, 27, 184, 0, 120, 16, 8, 121, 28, 133, 129, 173]
abbrev dktX2_w3_0 : List UInt8 := dkwX2_w3_0 ++ []
theorem dksX2_w3_0 : cX2_w3.data.toList.drop 0 = dktX2_w3_0 := by decide +kernel
theorem dX2_w3_0 : decode cX2_w3 0 = .ok (.iload_n 0, 1) := dk_26 (dk_at dksX2_w3_0 0 rfl rfl)
theorem dX2_w3_1 : decode cX2_w3 1 = .ok (.iload_n 1, 1) := dk_27 (dk_at dksX2_w3_0 1 rfl rfl)
theorem dX2_w3_2 : decode cX2_w3 2 = .ok (.invokestatic 120, 3) := dk_184 0 120 (dk_at dksX2_w3_0 2 rfl rfl)
theorem dX2_w3_5 : decode cX2_w3 5 = .ok (.bipush 8, 2) := dk_16 8 (dk_at dksX2_w3_0 5 rfl rfl)
theorem dX2_w3_7 : decode cX2_w3 7 = .ok (.lshl, 1) := dk_121 (dk_at dksX2_w3_0 7 rfl rfl)
theorem dX2_w3_8 : decode cX2_w3 8 = .ok (.iload_n 2, 1) := dk_28 (dk_at dksX2_w3_0 8 rfl rfl)
theorem dX2_w3_9 : decode cX2_w3 9 = .ok (.i2l, 1) := dk_133 (dk_at dksX2_w3_0 9 rfl rfl)
theorem dX2_w3_10 : decode cX2_w3 10 = .ok (.lor, 1) := dk_129 (dk_at dksX2_w3_0 10 rfl rfl)
theorem dX2_w3_11 : decode cX2_w3 11 = .ok (.lreturn, 1) := dk_173 (dk_at dksX2_w3_0 11 rfl rfl)
abbrev cX2_w2 : ByteArray := prog_20_method_24_code
def yX2_w2 : MethodName := ⟨RX2, "w2", "(II)J"⟩
def dkwX2_w2_0 : List UInt8 := [26, 133, 16, 8, 121, 27, 133, 129, 173]
abbrev dktX2_w2_0 : List UInt8 := dkwX2_w2_0 ++ []
theorem dksX2_w2_0 : cX2_w2.data.toList.drop 0 = dktX2_w2_0 := by decide +kernel
theorem dX2_w2_0 : decode cX2_w2 0 = .ok (.iload_n 0, 1) := dk_26 (dk_at dksX2_w2_0 0 rfl rfl)
theorem dX2_w2_1 : decode cX2_w2 1 = .ok (.i2l, 1) := dk_133 (dk_at dksX2_w2_0 1 rfl rfl)
theorem dX2_w2_2 : decode cX2_w2 2 = .ok (.bipush 8, 2) := dk_16 8 (dk_at dksX2_w2_0 2 rfl rfl)
theorem dX2_w2_4 : decode cX2_w2 4 = .ok (.lshl, 1) := dk_121 (dk_at dksX2_w2_0 4 rfl rfl)
theorem dX2_w2_5 : decode cX2_w2 5 = .ok (.iload_n 1, 1) := dk_27 (dk_at dksX2_w2_0 5 rfl rfl)
theorem dX2_w2_6 : decode cX2_w2 6 = .ok (.i2l, 1) := dk_133 (dk_at dksX2_w2_0 6 rfl rfl)
theorem dX2_w2_7 : decode cX2_w2 7 = .ok (.lor, 1) := dk_129 (dk_at dksX2_w2_0 7 rfl rfl)
theorem dX2_w2_8 : decode cX2_w2 8 = .ok (.lreturn, 1) := dk_173 (dk_at dksX2_w2_0 8 rfl rfl)
abbrev cX2_isWord : ByteArray := prog_20_method_29_code
def yX2_isWord : MethodName := ⟨RX2, "isWord", "(J)Z"⟩
def dkwX2_isWord_0 : List UInt8 := [42, 180, 0, 98, 5, 160, 0, 16, 42, 180, 0, 111, 31, 148, 154, 0, 7, 4, 167, 0, 4, 3, 172]
abbrev dktX2_isWord_0 : List UInt8 := dkwX2_isWord_0 ++ []
theorem dksX2_isWord_0 : cX2_isWord.data.toList.drop 0 = dktX2_isWord_0 := by decide +kernel
theorem dX2_isWord_0 : decode cX2_isWord 0 = .ok (.aload_n 0, 1) := dk_42 (dk_at dksX2_isWord_0 0 rfl rfl)
theorem dX2_isWord_1 : decode cX2_isWord 1 = .ok (.getfield 98, 3) := dk_180 0 98 (dk_at dksX2_isWord_0 1 rfl rfl)
theorem dX2_isWord_4 : decode cX2_isWord 4 = .ok (.iconst 2, 1) := dk_5 (dk_at dksX2_isWord_0 4 rfl rfl)
theorem dX2_isWord_5 : decode cX2_isWord 5 = .ok (.if_icmp .ne 16, 3) := dk_160 0 16 (dk_at dksX2_isWord_0 5 rfl rfl)
theorem dX2_isWord_8 : decode cX2_isWord 8 = .ok (.aload_n 0, 1) := dk_42 (dk_at dksX2_isWord_0 8 rfl rfl)
theorem dX2_isWord_9 : decode cX2_isWord 9 = .ok (.getfield 111, 3) := dk_180 0 111 (dk_at dksX2_isWord_0 9 rfl rfl)
theorem dX2_isWord_12 : decode cX2_isWord 12 = .ok (.lload_n 1, 1) := dk_31 (dk_at dksX2_isWord_0 12 rfl rfl)
theorem dX2_isWord_13 : decode cX2_isWord 13 = .ok (.lcmp, 1) := dk_148 (dk_at dksX2_isWord_0 13 rfl rfl)
theorem dX2_isWord_14 : decode cX2_isWord 14 = .ok (.ifCond .ne 7, 3) := dk_154 0 7 (dk_at dksX2_isWord_0 14 rfl rfl)
theorem dX2_isWord_17 : decode cX2_isWord 17 = .ok (.iconst 1, 1) := dk_4 (dk_at dksX2_isWord_0 17 rfl rfl)
theorem dX2_isWord_18 : decode cX2_isWord 18 = .ok (.goto 4, 3) := dk_167 0 4 (dk_at dksX2_isWord_0 18 rfl rfl)
theorem dX2_isWord_21 : decode cX2_isWord 21 = .ok (.iconst 0, 1) := dk_3 (dk_at dksX2_isWord_0 21 rfl rfl)
theorem dX2_isWord_22 : decode cX2_isWord 22 = .ok (.ireturn, 1) := dk_172 (dk_at dksX2_isWord_0 22 rfl rfl)
abbrev cX2_isLong : ByteArray := prog_20_method_31_code
def yX2_isLong : MethodName := ⟨RX2, "isLong", "(JJ)Z"⟩
def dkwX2_isLong_4 : List UInt8 := [16, 6, 96, 182, 0, 91, 184, 0, 124, 33, 148, 154, 0, 7, 4, 167, 0, 4, 3, 172]
abbrev dktX2_isLong_4 : List UInt8 := dkwX2_isLong_4 ++ []
def dkwX2_isLong_3 : List UInt8 := [180, 0, 95, 7, 96, 182, 0, 91, 42, 42, 180, 0, 95, 8, 96, 182, 0, 91, 42, 42, 180, 0, 95]
abbrev dktX2_isLong_3 : List UInt8 := dkwX2_isLong_3 ++ dktX2_isLong_4
def dkwX2_isLong_2 : List UInt8 := [96, 182, 0, 91, 42, 42, 180, 0, 95, 6, 96, 182, 0, 91, 184, 0, 128, 31, 148, 154, 0, 46, 42, 42]
abbrev dktX2_isLong_2 : List UInt8 := dkwX2_isLong_2 ++ dktX2_isLong_3
def dkwX2_isLong_1 : List UInt8 := [42, 42, 180, 0, 95, 182, 0, 91, 42, 42, 180, 0, 95, 4, 96, 182, 0, 91, 42, 42, 180, 0, 95, 5]
abbrev dktX2_isLong_1 : List UInt8 := dkwX2_isLong_1 ++ dktX2_isLong_2
def dkwX2_isLong_0 : List UInt8 := [42, 180, 0, 98, 5, 160, 0, 17, 42, 180, 0, 88, 42, 180, 0, 95, 100, 16, 7, 159, 0, 5, 3, 172]
abbrev dktX2_isLong_0 : List UInt8 := dkwX2_isLong_0 ++ dktX2_isLong_1
theorem dksX2_isLong_0 : cX2_isLong.data.toList.drop 0 = dktX2_isLong_0 := by decide +kernel
theorem dksX2_isLong_1 : cX2_isLong.data.toList.drop 24 = dktX2_isLong_1 := dk_seg dksX2_isLong_0 24 rfl rfl
theorem dksX2_isLong_2 : cX2_isLong.data.toList.drop 48 = dktX2_isLong_2 := dk_seg dksX2_isLong_1 24 rfl rfl
theorem dksX2_isLong_3 : cX2_isLong.data.toList.drop 72 = dktX2_isLong_3 := dk_seg dksX2_isLong_2 24 rfl rfl
theorem dksX2_isLong_4 : cX2_isLong.data.toList.drop 95 = dktX2_isLong_4 := dk_seg dksX2_isLong_3 23 rfl rfl
theorem dX2_isLong_0 : decode cX2_isLong 0 = .ok (.aload_n 0, 1) := dk_42 (dk_at dksX2_isLong_0 0 rfl rfl)
theorem dX2_isLong_1 : decode cX2_isLong 1 = .ok (.getfield 98, 3) := dk_180 0 98 (dk_at dksX2_isLong_0 1 rfl rfl)
theorem dX2_isLong_4 : decode cX2_isLong 4 = .ok (.iconst 2, 1) := dk_5 (dk_at dksX2_isLong_0 4 rfl rfl)
theorem dX2_isLong_5 : decode cX2_isLong 5 = .ok (.if_icmp .ne 17, 3) := dk_160 0 17 (dk_at dksX2_isLong_0 5 rfl rfl)
theorem dX2_isLong_8 : decode cX2_isLong 8 = .ok (.aload_n 0, 1) := dk_42 (dk_at dksX2_isLong_0 8 rfl rfl)
theorem dX2_isLong_9 : decode cX2_isLong 9 = .ok (.getfield 88, 3) := dk_180 0 88 (dk_at dksX2_isLong_0 9 rfl rfl)
theorem dX2_isLong_12 : decode cX2_isLong 12 = .ok (.aload_n 0, 1) := dk_42 (dk_at dksX2_isLong_0 12 rfl rfl)
theorem dX2_isLong_13 : decode cX2_isLong 13 = .ok (.getfield 95, 3) := dk_180 0 95 (dk_at dksX2_isLong_0 13 rfl rfl)
theorem dX2_isLong_16 : decode cX2_isLong 16 = .ok (.isub, 1) := dk_100 (dk_at dksX2_isLong_0 16 rfl rfl)
theorem dX2_isLong_17 : decode cX2_isLong 17 = .ok (.bipush 7, 2) := dk_16 7 (dk_at dksX2_isLong_0 17 rfl rfl)
theorem dX2_isLong_19 : decode cX2_isLong 19 = .ok (.if_icmp .eq 5, 3) := dk_159 0 5 (dk_at dksX2_isLong_0 19 rfl rfl)
theorem dX2_isLong_22 : decode cX2_isLong 22 = .ok (.iconst 0, 1) := dk_3 (dk_at dksX2_isLong_0 22 rfl rfl)
theorem dX2_isLong_23 : decode cX2_isLong 23 = .ok (.ireturn, 1) := dk_172 (dk_at dksX2_isLong_0 23 rfl rfl)
theorem dX2_isLong_24 : decode cX2_isLong 24 = .ok (.aload_n 0, 1) := dk_42 (dk_at dksX2_isLong_1 0 rfl rfl)
theorem dX2_isLong_25 : decode cX2_isLong 25 = .ok (.aload_n 0, 1) := dk_42 (dk_at dksX2_isLong_1 1 rfl rfl)
theorem dX2_isLong_26 : decode cX2_isLong 26 = .ok (.getfield 95, 3) := dk_180 0 95 (dk_at dksX2_isLong_1 2 rfl rfl)
theorem dX2_isLong_29 : decode cX2_isLong 29 = .ok (.invokevirtual 91, 3) := dk_182 0 91 (dk_at dksX2_isLong_1 5 rfl rfl)
theorem dX2_isLong_32 : decode cX2_isLong 32 = .ok (.aload_n 0, 1) := dk_42 (dk_at dksX2_isLong_1 8 rfl rfl)
theorem dX2_isLong_33 : decode cX2_isLong 33 = .ok (.aload_n 0, 1) := dk_42 (dk_at dksX2_isLong_1 9 rfl rfl)
theorem dX2_isLong_34 : decode cX2_isLong 34 = .ok (.getfield 95, 3) := dk_180 0 95 (dk_at dksX2_isLong_1 10 rfl rfl)
theorem dX2_isLong_37 : decode cX2_isLong 37 = .ok (.iconst 1, 1) := dk_4 (dk_at dksX2_isLong_1 13 rfl rfl)
theorem dX2_isLong_38 : decode cX2_isLong 38 = .ok (.iadd, 1) := dk_96 (dk_at dksX2_isLong_1 14 rfl rfl)
theorem dX2_isLong_39 : decode cX2_isLong 39 = .ok (.invokevirtual 91, 3) := dk_182 0 91 (dk_at dksX2_isLong_1 15 rfl rfl)
theorem dX2_isLong_42 : decode cX2_isLong 42 = .ok (.aload_n 0, 1) := dk_42 (dk_at dksX2_isLong_1 18 rfl rfl)
theorem dX2_isLong_43 : decode cX2_isLong 43 = .ok (.aload_n 0, 1) := dk_42 (dk_at dksX2_isLong_1 19 rfl rfl)
theorem dX2_isLong_44 : decode cX2_isLong 44 = .ok (.getfield 95, 3) := dk_180 0 95 (dk_at dksX2_isLong_1 20 rfl rfl)
theorem dX2_isLong_47 : decode cX2_isLong 47 = .ok (.iconst 2, 1) := dk_5 (dk_at dksX2_isLong_1 23 rfl rfl)
theorem dX2_isLong_48 : decode cX2_isLong 48 = .ok (.iadd, 1) := dk_96 (dk_at dksX2_isLong_2 0 rfl rfl)
theorem dX2_isLong_49 : decode cX2_isLong 49 = .ok (.invokevirtual 91, 3) := dk_182 0 91 (dk_at dksX2_isLong_2 1 rfl rfl)
theorem dX2_isLong_52 : decode cX2_isLong 52 = .ok (.aload_n 0, 1) := dk_42 (dk_at dksX2_isLong_2 4 rfl rfl)
theorem dX2_isLong_53 : decode cX2_isLong 53 = .ok (.aload_n 0, 1) := dk_42 (dk_at dksX2_isLong_2 5 rfl rfl)
theorem dX2_isLong_54 : decode cX2_isLong 54 = .ok (.getfield 95, 3) := dk_180 0 95 (dk_at dksX2_isLong_2 6 rfl rfl)
theorem dX2_isLong_57 : decode cX2_isLong 57 = .ok (.iconst 3, 1) := dk_6 (dk_at dksX2_isLong_2 9 rfl rfl)
theorem dX2_isLong_58 : decode cX2_isLong 58 = .ok (.iadd, 1) := dk_96 (dk_at dksX2_isLong_2 10 rfl rfl)
theorem dX2_isLong_59 : decode cX2_isLong 59 = .ok (.invokevirtual 91, 3) := dk_182 0 91 (dk_at dksX2_isLong_2 11 rfl rfl)
theorem dX2_isLong_62 : decode cX2_isLong 62 = .ok (.invokestatic 128, 3) := dk_184 0 128 (dk_at dksX2_isLong_2 14 rfl rfl)
theorem dX2_isLong_65 : decode cX2_isLong 65 = .ok (.lload_n 1, 1) := dk_31 (dk_at dksX2_isLong_2 17 rfl rfl)
theorem dX2_isLong_66 : decode cX2_isLong 66 = .ok (.lcmp, 1) := dk_148 (dk_at dksX2_isLong_2 18 rfl rfl)
theorem dX2_isLong_67 : decode cX2_isLong 67 = .ok (.ifCond .ne 46, 3) := dk_154 0 46 (dk_at dksX2_isLong_2 19 rfl rfl)
theorem dX2_isLong_70 : decode cX2_isLong 70 = .ok (.aload_n 0, 1) := dk_42 (dk_at dksX2_isLong_2 22 rfl rfl)
theorem dX2_isLong_71 : decode cX2_isLong 71 = .ok (.aload_n 0, 1) := dk_42 (dk_at dksX2_isLong_2 23 rfl rfl)
theorem dX2_isLong_72 : decode cX2_isLong 72 = .ok (.getfield 95, 3) := dk_180 0 95 (dk_at dksX2_isLong_3 0 rfl rfl)
theorem dX2_isLong_75 : decode cX2_isLong 75 = .ok (.iconst 4, 1) := dk_7 (dk_at dksX2_isLong_3 3 rfl rfl)
theorem dX2_isLong_76 : decode cX2_isLong 76 = .ok (.iadd, 1) := dk_96 (dk_at dksX2_isLong_3 4 rfl rfl)
theorem dX2_isLong_77 : decode cX2_isLong 77 = .ok (.invokevirtual 91, 3) := dk_182 0 91 (dk_at dksX2_isLong_3 5 rfl rfl)
theorem dX2_isLong_80 : decode cX2_isLong 80 = .ok (.aload_n 0, 1) := dk_42 (dk_at dksX2_isLong_3 8 rfl rfl)
theorem dX2_isLong_81 : decode cX2_isLong 81 = .ok (.aload_n 0, 1) := dk_42 (dk_at dksX2_isLong_3 9 rfl rfl)
theorem dX2_isLong_82 : decode cX2_isLong 82 = .ok (.getfield 95, 3) := dk_180 0 95 (dk_at dksX2_isLong_3 10 rfl rfl)
theorem dX2_isLong_85 : decode cX2_isLong 85 = .ok (.iconst 5, 1) := dk_8 (dk_at dksX2_isLong_3 13 rfl rfl)
theorem dX2_isLong_86 : decode cX2_isLong 86 = .ok (.iadd, 1) := dk_96 (dk_at dksX2_isLong_3 14 rfl rfl)
theorem dX2_isLong_87 : decode cX2_isLong 87 = .ok (.invokevirtual 91, 3) := dk_182 0 91 (dk_at dksX2_isLong_3 15 rfl rfl)
theorem dX2_isLong_90 : decode cX2_isLong 90 = .ok (.aload_n 0, 1) := dk_42 (dk_at dksX2_isLong_3 18 rfl rfl)
theorem dX2_isLong_91 : decode cX2_isLong 91 = .ok (.aload_n 0, 1) := dk_42 (dk_at dksX2_isLong_3 19 rfl rfl)
theorem dX2_isLong_92 : decode cX2_isLong 92 = .ok (.getfield 95, 3) := dk_180 0 95 (dk_at dksX2_isLong_3 20 rfl rfl)
theorem dX2_isLong_95 : decode cX2_isLong 95 = .ok (.bipush 6, 2) := dk_16 6 (dk_at dksX2_isLong_4 0 rfl rfl)
theorem dX2_isLong_97 : decode cX2_isLong 97 = .ok (.iadd, 1) := dk_96 (dk_at dksX2_isLong_4 2 rfl rfl)
theorem dX2_isLong_98 : decode cX2_isLong 98 = .ok (.invokevirtual 91, 3) := dk_182 0 91 (dk_at dksX2_isLong_4 3 rfl rfl)
theorem dX2_isLong_101 : decode cX2_isLong 101 = .ok (.invokestatic 124, 3) := dk_184 0 124 (dk_at dksX2_isLong_4 6 rfl rfl)
theorem dX2_isLong_104 : decode cX2_isLong 104 = .ok (.lload_n 3, 1) := dk_33 (dk_at dksX2_isLong_4 9 rfl rfl)
theorem dX2_isLong_105 : decode cX2_isLong 105 = .ok (.lcmp, 1) := dk_148 (dk_at dksX2_isLong_4 10 rfl rfl)
theorem dX2_isLong_106 : decode cX2_isLong 106 = .ok (.ifCond .ne 7, 3) := dk_154 0 7 (dk_at dksX2_isLong_4 11 rfl rfl)
theorem dX2_isLong_109 : decode cX2_isLong 109 = .ok (.iconst 1, 1) := dk_4 (dk_at dksX2_isLong_4 14 rfl rfl)
theorem dX2_isLong_110 : decode cX2_isLong 110 = .ok (.goto 4, 3) := dk_167 0 4 (dk_at dksX2_isLong_4 15 rfl rfl)
theorem dX2_isLong_113 : decode cX2_isLong 113 = .ok (.iconst 0, 1) := dk_3 (dk_at dksX2_isLong_4 18 rfl rfl)
theorem dX2_isLong_114 : decode cX2_isLong 114 = .ok (.ireturn, 1) := dk_172 (dk_at dksX2_isLong_4 19 rfl rfl)
abbrev cX2_w5 : ByteArray := prog_20_method_27_code
def yX2_w5 : MethodName := ⟨RX2, "w5", "(IIIII)J"⟩
def dkwX2_w5_0 : List UInt8 := [26, 27, 28, 29, 184, 0, 128, 16, 8, 121, 21, 4, 133, 129, 173]
abbrev dktX2_w5_0 : List UInt8 := dkwX2_w5_0 ++ []
theorem dksX2_w5_0 : cX2_w5.data.toList.drop 0 = dktX2_w5_0 := by decide +kernel
theorem dX2_w5_0 : decode cX2_w5 0 = .ok (.iload_n 0, 1) := dk_26 (dk_at dksX2_w5_0 0 rfl rfl)
theorem dX2_w5_1 : decode cX2_w5 1 = .ok (.iload_n 1, 1) := dk_27 (dk_at dksX2_w5_0 1 rfl rfl)
theorem dX2_w5_2 : decode cX2_w5 2 = .ok (.iload_n 2, 1) := dk_28 (dk_at dksX2_w5_0 2 rfl rfl)
theorem dX2_w5_3 : decode cX2_w5 3 = .ok (.iload_n 3, 1) := dk_29 (dk_at dksX2_w5_0 3 rfl rfl)
theorem dX2_w5_4 : decode cX2_w5 4 = .ok (.invokestatic 128, 3) := dk_184 0 128 (dk_at dksX2_w5_0 4 rfl rfl)
theorem dX2_w5_7 : decode cX2_w5 7 = .ok (.bipush 8, 2) := dk_16 8 (dk_at dksX2_w5_0 7 rfl rfl)
theorem dX2_w5_9 : decode cX2_w5 9 = .ok (.lshl, 1) := dk_121 (dk_at dksX2_w5_0 9 rfl rfl)
theorem dX2_w5_10 : decode cX2_w5 10 = .ok (.iload 4, 2) := dk_21 4 (dk_at dksX2_w5_0 10 rfl rfl)
theorem dX2_w5_12 : decode cX2_w5 12 = .ok (.i2l, 1) := dk_133 (dk_at dksX2_w5_0 12 rfl rfl)
theorem dX2_w5_13 : decode cX2_w5 13 = .ok (.lor, 1) := dk_129 (dk_at dksX2_w5_0 13 rfl rfl)
theorem dX2_w5_14 : decode cX2_w5 14 = .ok (.lreturn, 1) := dk_173 (dk_at dksX2_w5_0 14 rfl rfl)
abbrev cX2_w6 : ByteArray := prog_20_method_28_code
def yX2_w6 : MethodName := ⟨RX2, "w6", "(IIIIII)J"⟩
def dkwX2_w6_0 : List UInt8 := [26, 27, 28, 29, 21, 4, 184, 0, 132, 16, 8, 121, 21, 5, 133, 129, 173]
abbrev dktX2_w6_0 : List UInt8 := dkwX2_w6_0 ++ []
theorem dksX2_w6_0 : cX2_w6.data.toList.drop 0 = dktX2_w6_0 := by decide +kernel
theorem dX2_w6_0 : decode cX2_w6 0 = .ok (.iload_n 0, 1) := dk_26 (dk_at dksX2_w6_0 0 rfl rfl)
theorem dX2_w6_1 : decode cX2_w6 1 = .ok (.iload_n 1, 1) := dk_27 (dk_at dksX2_w6_0 1 rfl rfl)
theorem dX2_w6_2 : decode cX2_w6 2 = .ok (.iload_n 2, 1) := dk_28 (dk_at dksX2_w6_0 2 rfl rfl)
theorem dX2_w6_3 : decode cX2_w6 3 = .ok (.iload_n 3, 1) := dk_29 (dk_at dksX2_w6_0 3 rfl rfl)
theorem dX2_w6_4 : decode cX2_w6 4 = .ok (.iload 4, 2) := dk_21 4 (dk_at dksX2_w6_0 4 rfl rfl)
theorem dX2_w6_6 : decode cX2_w6 6 = .ok (.invokestatic 132, 3) := dk_184 0 132 (dk_at dksX2_w6_0 6 rfl rfl)
theorem dX2_w6_9 : decode cX2_w6 9 = .ok (.bipush 8, 2) := dk_16 8 (dk_at dksX2_w6_0 9 rfl rfl)
theorem dX2_w6_11 : decode cX2_w6 11 = .ok (.lshl, 1) := dk_121 (dk_at dksX2_w6_0 11 rfl rfl)
theorem dX2_w6_12 : decode cX2_w6 12 = .ok (.iload 5, 2) := dk_21 5 (dk_at dksX2_w6_0 12 rfl rfl)
theorem dX2_w6_14 : decode cX2_w6 14 = .ok (.i2l, 1) := dk_133 (dk_at dksX2_w6_0 14 rfl rfl)
theorem dX2_w6_15 : decode cX2_w6 15 = .ok (.lor, 1) := dk_129 (dk_at dksX2_w6_0 15 rfl rfl)
theorem dX2_w6_16 : decode cX2_w6 16 = .ok (.lreturn, 1) := dk_173 (dk_at dksX2_w6_0 16 rfl rfl)
abbrev cX2_body : ByteArray := prog_20_method_52_code
def yX2_body : MethodName := ⟨RX2, "body", "(II)I"⟩
def dkwX2_body_7 : List UInt8 := [184, 0, 120, 16, 9, 182, 0, 227, 172]
abbrev dktX2_body_7 : List UInt8 := dkwX2_body_7 ++ []
def dkwX2_body_6 : List UInt8 := [182, 0, 216, 172, 27, 5, 163, 0, 11, 42, 28, 182, 0, 231, 167, 0, 17, 42, 28, 16, 116, 16, 111]
abbrev dktX2_body_6 : List UInt8 := dkwX2_body_6 ++ dktX2_body_7
def dkwX2_body_5 : List UInt8 := [16, 97, 16, 121, 16, 115, 184, 0, 128, 16, 99, 182, 0, 227, 172, 42, 28, 4, 96, 4, 16, 60]
abbrev dktX2_body_5 : List UInt8 := dkwX2_body_5 ++ dktX2_body_6
def dkwX2_body_4 : List UInt8 := [16, 105, 16, 122, 16, 101, 184, 0, 128, 28, 6, 96, 4, 17, 39, 15, 182, 0, 223, 172, 42, 28, 16, 100]
abbrev dktX2_body_4 : List UInt8 := dkwX2_body_4 ++ dktX2_body_5
def dkwX2_body_3 : List UInt8 := [16, 116, 16, 111, 184, 0, 120, 16, 9, 182, 0, 227, 62, 29, 153, 0, 7, 29, 167, 0, 25, 42, 16, 115]
abbrev dktX2_body_3 : List UInt8 := dkwX2_body_3 ++ dktX2_body_4
def dkwX2_body_2 : List UInt8 := [42, 28, 16, 117, 16, 110, 16, 100, 16, 101, 16, 114, 184, 0, 132, 16, 9, 182, 0, 227, 172, 42, 28]
abbrev dktX2_body_2 : List UInt8 := dkwX2_body_2 ++ dktX2_body_3
def dkwX2_body_1 : List UInt8 := [170, 0, 0, 0, 0, 0, 136, 0, 0, 0, 3, 0, 0, 0, 8, 0, 0, 0, 39, 0, 0, 0, 136, 0, 0, 0, 60, 0, 0, 0, 106, 0, 0, 0, 136, 0, 0, 0, 125]
abbrev dktX2_body_1 : List UInt8 := dkwX2_body_1 ++ dktX2_body_2
def dkwX2_body_0 : List UInt8 := [27]
abbrev dktX2_body_0 : List UInt8 := dkwX2_body_0 ++ dktX2_body_1
theorem dksX2_body_0 : cX2_body.data.toList.drop 0 = dktX2_body_0 := by decide +kernel
theorem dksX2_body_1 : cX2_body.data.toList.drop 1 = dktX2_body_1 := dk_seg dksX2_body_0 1 rfl rfl
theorem dksX2_body_2 : cX2_body.data.toList.drop 40 = dktX2_body_2 := dk_seg dksX2_body_1 39 rfl rfl
theorem dksX2_body_3 : cX2_body.data.toList.drop 63 = dktX2_body_3 := dk_seg dksX2_body_2 23 rfl rfl
theorem dksX2_body_4 : cX2_body.data.toList.drop 87 = dktX2_body_4 := dk_seg dksX2_body_3 24 rfl rfl
theorem dksX2_body_5 : cX2_body.data.toList.drop 111 = dktX2_body_5 := dk_seg dksX2_body_4 24 rfl rfl
theorem dksX2_body_6 : cX2_body.data.toList.drop 133 = dktX2_body_6 := dk_seg dksX2_body_5 22 rfl rfl
theorem dksX2_body_7 : cX2_body.data.toList.drop 156 = dktX2_body_7 := dk_seg dksX2_body_6 23 rfl rfl
theorem dX2_body_0 : decode cX2_body 0 = .ok (.iload_n 1, 1) := dk_27 (dk_at dksX2_body_0 0 rfl rfl)
theorem dX2_body_1 : decode cX2_body 1 = .ok (.tableswitch 136 3 8 #[39, 136, 60, 106, 136, 125], 39) := by decide +kernel
theorem dX2_body_40 : decode cX2_body 40 = .ok (.aload_n 0, 1) := dk_42 (dk_at dksX2_body_2 0 rfl rfl)
theorem dX2_body_41 : decode cX2_body 41 = .ok (.iload_n 2, 1) := dk_28 (dk_at dksX2_body_2 1 rfl rfl)
theorem dX2_body_42 : decode cX2_body 42 = .ok (.bipush 117, 2) := dk_16 117 (dk_at dksX2_body_2 2 rfl rfl)
theorem dX2_body_44 : decode cX2_body 44 = .ok (.bipush 110, 2) := dk_16 110 (dk_at dksX2_body_2 4 rfl rfl)
theorem dX2_body_46 : decode cX2_body 46 = .ok (.bipush 100, 2) := dk_16 100 (dk_at dksX2_body_2 6 rfl rfl)
theorem dX2_body_48 : decode cX2_body 48 = .ok (.bipush 101, 2) := dk_16 101 (dk_at dksX2_body_2 8 rfl rfl)
theorem dX2_body_50 : decode cX2_body 50 = .ok (.bipush 114, 2) := dk_16 114 (dk_at dksX2_body_2 10 rfl rfl)
theorem dX2_body_52 : decode cX2_body 52 = .ok (.invokestatic 132, 3) := dk_184 0 132 (dk_at dksX2_body_2 12 rfl rfl)
theorem dX2_body_55 : decode cX2_body 55 = .ok (.bipush 9, 2) := dk_16 9 (dk_at dksX2_body_2 15 rfl rfl)
theorem dX2_body_57 : decode cX2_body 57 = .ok (.invokevirtual 227, 3) := dk_182 0 227 (dk_at dksX2_body_2 17 rfl rfl)
theorem dX2_body_60 : decode cX2_body 60 = .ok (.ireturn, 1) := dk_172 (dk_at dksX2_body_2 20 rfl rfl)
theorem dX2_body_61 : decode cX2_body 61 = .ok (.aload_n 0, 1) := dk_42 (dk_at dksX2_body_2 21 rfl rfl)
theorem dX2_body_62 : decode cX2_body 62 = .ok (.iload_n 2, 1) := dk_28 (dk_at dksX2_body_2 22 rfl rfl)
theorem dX2_body_63 : decode cX2_body 63 = .ok (.bipush 116, 2) := dk_16 116 (dk_at dksX2_body_3 0 rfl rfl)
theorem dX2_body_65 : decode cX2_body 65 = .ok (.bipush 111, 2) := dk_16 111 (dk_at dksX2_body_3 2 rfl rfl)
theorem dX2_body_67 : decode cX2_body 67 = .ok (.invokestatic 120, 3) := dk_184 0 120 (dk_at dksX2_body_3 4 rfl rfl)
theorem dX2_body_70 : decode cX2_body 70 = .ok (.bipush 9, 2) := dk_16 9 (dk_at dksX2_body_3 7 rfl rfl)
theorem dX2_body_72 : decode cX2_body 72 = .ok (.invokevirtual 227, 3) := dk_182 0 227 (dk_at dksX2_body_3 9 rfl rfl)
theorem dX2_body_75 : decode cX2_body 75 = .ok (.istore_n 3, 1) := dk_62 (dk_at dksX2_body_3 12 rfl rfl)
theorem dX2_body_76 : decode cX2_body 76 = .ok (.iload_n 3, 1) := dk_29 (dk_at dksX2_body_3 13 rfl rfl)
theorem dX2_body_77 : decode cX2_body 77 = .ok (.ifCond .eq 7, 3) := dk_153 0 7 (dk_at dksX2_body_3 14 rfl rfl)
theorem dX2_body_80 : decode cX2_body 80 = .ok (.iload_n 3, 1) := dk_29 (dk_at dksX2_body_3 17 rfl rfl)
theorem dX2_body_81 : decode cX2_body 81 = .ok (.goto 25, 3) := dk_167 0 25 (dk_at dksX2_body_3 18 rfl rfl)
theorem dX2_body_84 : decode cX2_body 84 = .ok (.aload_n 0, 1) := dk_42 (dk_at dksX2_body_3 21 rfl rfl)
theorem dX2_body_85 : decode cX2_body 85 = .ok (.bipush 115, 2) := dk_16 115 (dk_at dksX2_body_3 22 rfl rfl)
theorem dX2_body_87 : decode cX2_body 87 = .ok (.bipush 105, 2) := dk_16 105 (dk_at dksX2_body_4 0 rfl rfl)
theorem dX2_body_89 : decode cX2_body 89 = .ok (.bipush 122, 2) := dk_16 122 (dk_at dksX2_body_4 2 rfl rfl)
theorem dX2_body_91 : decode cX2_body 91 = .ok (.bipush 101, 2) := dk_16 101 (dk_at dksX2_body_4 4 rfl rfl)
theorem dX2_body_93 : decode cX2_body 93 = .ok (.invokestatic 128, 3) := dk_184 0 128 (dk_at dksX2_body_4 6 rfl rfl)
theorem dX2_body_96 : decode cX2_body 96 = .ok (.iload_n 2, 1) := dk_28 (dk_at dksX2_body_4 9 rfl rfl)
theorem dX2_body_97 : decode cX2_body 97 = .ok (.iconst 3, 1) := dk_6 (dk_at dksX2_body_4 10 rfl rfl)
theorem dX2_body_98 : decode cX2_body 98 = .ok (.iadd, 1) := dk_96 (dk_at dksX2_body_4 11 rfl rfl)
theorem dX2_body_99 : decode cX2_body 99 = .ok (.iconst 1, 1) := dk_4 (dk_at dksX2_body_4 12 rfl rfl)
theorem dX2_body_100 : decode cX2_body 100 = .ok (.sipush 9999, 3) := dk_17 39 15 (dk_at dksX2_body_4 13 rfl rfl)
theorem dX2_body_103 : decode cX2_body 103 = .ok (.invokevirtual 223, 3) := dk_182 0 223 (dk_at dksX2_body_4 16 rfl rfl)
theorem dX2_body_106 : decode cX2_body 106 = .ok (.ireturn, 1) := dk_172 (dk_at dksX2_body_4 19 rfl rfl)
theorem dX2_body_107 : decode cX2_body 107 = .ok (.aload_n 0, 1) := dk_42 (dk_at dksX2_body_4 20 rfl rfl)
theorem dX2_body_108 : decode cX2_body 108 = .ok (.iload_n 2, 1) := dk_28 (dk_at dksX2_body_4 21 rfl rfl)
theorem dX2_body_109 : decode cX2_body 109 = .ok (.bipush 100, 2) := dk_16 100 (dk_at dksX2_body_4 22 rfl rfl)
theorem dX2_body_111 : decode cX2_body 111 = .ok (.bipush 97, 2) := dk_16 97 (dk_at dksX2_body_5 0 rfl rfl)
theorem dX2_body_113 : decode cX2_body 113 = .ok (.bipush 121, 2) := dk_16 121 (dk_at dksX2_body_5 2 rfl rfl)
theorem dX2_body_115 : decode cX2_body 115 = .ok (.bipush 115, 2) := dk_16 115 (dk_at dksX2_body_5 4 rfl rfl)
theorem dX2_body_117 : decode cX2_body 117 = .ok (.invokestatic 128, 3) := dk_184 0 128 (dk_at dksX2_body_5 6 rfl rfl)
theorem dX2_body_120 : decode cX2_body 120 = .ok (.bipush 99, 2) := dk_16 99 (dk_at dksX2_body_5 9 rfl rfl)
theorem dX2_body_122 : decode cX2_body 122 = .ok (.invokevirtual 227, 3) := dk_182 0 227 (dk_at dksX2_body_5 11 rfl rfl)
theorem dX2_body_125 : decode cX2_body 125 = .ok (.ireturn, 1) := dk_172 (dk_at dksX2_body_5 14 rfl rfl)
theorem dX2_body_126 : decode cX2_body 126 = .ok (.aload_n 0, 1) := dk_42 (dk_at dksX2_body_5 15 rfl rfl)
theorem dX2_body_127 : decode cX2_body 127 = .ok (.iload_n 2, 1) := dk_28 (dk_at dksX2_body_5 16 rfl rfl)
theorem dX2_body_128 : decode cX2_body 128 = .ok (.iconst 1, 1) := dk_4 (dk_at dksX2_body_5 17 rfl rfl)
theorem dX2_body_129 : decode cX2_body 129 = .ok (.iadd, 1) := dk_96 (dk_at dksX2_body_5 18 rfl rfl)
theorem dX2_body_130 : decode cX2_body 130 = .ok (.iconst 1, 1) := dk_4 (dk_at dksX2_body_5 19 rfl rfl)
theorem dX2_body_131 : decode cX2_body 131 = .ok (.bipush 60, 2) := dk_16 60 (dk_at dksX2_body_5 20 rfl rfl)
theorem dX2_body_133 : decode cX2_body 133 = .ok (.invokevirtual 216, 3) := dk_182 0 216 (dk_at dksX2_body_6 0 rfl rfl)
theorem dX2_body_136 : decode cX2_body 136 = .ok (.ireturn, 1) := dk_172 (dk_at dksX2_body_6 3 rfl rfl)
theorem dX2_body_137 : decode cX2_body 137 = .ok (.iload_n 1, 1) := dk_27 (dk_at dksX2_body_6 4 rfl rfl)
theorem dX2_body_138 : decode cX2_body 138 = .ok (.iconst 2, 1) := dk_5 (dk_at dksX2_body_6 5 rfl rfl)
theorem dX2_body_139 : decode cX2_body 139 = .ok (.if_icmp .gt 11, 3) := dk_163 0 11 (dk_at dksX2_body_6 6 rfl rfl)
theorem dX2_body_142 : decode cX2_body 142 = .ok (.aload_n 0, 1) := dk_42 (dk_at dksX2_body_6 9 rfl rfl)
theorem dX2_body_143 : decode cX2_body 143 = .ok (.iload_n 2, 1) := dk_28 (dk_at dksX2_body_6 10 rfl rfl)
theorem dX2_body_144 : decode cX2_body 144 = .ok (.invokevirtual 231, 3) := dk_182 0 231 (dk_at dksX2_body_6 11 rfl rfl)
theorem dX2_body_147 : decode cX2_body 147 = .ok (.goto 17, 3) := dk_167 0 17 (dk_at dksX2_body_6 14 rfl rfl)
theorem dX2_body_150 : decode cX2_body 150 = .ok (.aload_n 0, 1) := dk_42 (dk_at dksX2_body_6 17 rfl rfl)
theorem dX2_body_151 : decode cX2_body 151 = .ok (.iload_n 2, 1) := dk_28 (dk_at dksX2_body_6 18 rfl rfl)
theorem dX2_body_152 : decode cX2_body 152 = .ok (.bipush 116, 2) := dk_16 116 (dk_at dksX2_body_6 19 rfl rfl)
theorem dX2_body_154 : decode cX2_body 154 = .ok (.bipush 111, 2) := dk_16 111 (dk_at dksX2_body_6 21 rfl rfl)
theorem dX2_body_156 : decode cX2_body 156 = .ok (.invokestatic 120, 3) := dk_184 0 120 (dk_at dksX2_body_7 0 rfl rfl)
theorem dX2_body_159 : decode cX2_body 159 = .ok (.bipush 9, 2) := dk_16 9 (dk_at dksX2_body_7 3 rfl rfl)
theorem dX2_body_161 : decode cX2_body 161 = .ok (.invokevirtual 227, 3) := dk_182 0 227 (dk_at dksX2_body_7 5 rfl rfl)
theorem dX2_body_164 : decode cX2_body 164 = .ok (.ireturn, 1) := dk_172 (dk_at dksX2_body_7 8 rfl rfl)
abbrev cX2_pair : ByteArray := prog_20_method_51_code
def yX2_pair : MethodName := ⟨RX2, "pair", "(IJI)I"⟩
def dkwX2_pair_1 : List UInt8 := [27, 5, 96, 3, 21, 4, 182, 0, 223, 172]
abbrev dktX2_pair_1 : List UInt8 := dkwX2_pair_1 ++ []
def dkwX2_pair_0 : List UInt8 := [42, 27, 4, 96, 3, 16, 9, 182, 0, 216, 54, 5, 21, 5, 153, 0, 8, 21, 5, 167, 0, 14, 42, 32]
abbrev dktX2_pair_0 : List UInt8 := dkwX2_pair_0 ++ dktX2_pair_1
theorem dksX2_pair_0 : cX2_pair.data.toList.drop 0 = dktX2_pair_0 := by decide +kernel
theorem dksX2_pair_1 : cX2_pair.data.toList.drop 24 = dktX2_pair_1 := dk_seg dksX2_pair_0 24 rfl rfl
theorem dX2_pair_0 : decode cX2_pair 0 = .ok (.aload_n 0, 1) := dk_42 (dk_at dksX2_pair_0 0 rfl rfl)
theorem dX2_pair_1 : decode cX2_pair 1 = .ok (.iload_n 1, 1) := dk_27 (dk_at dksX2_pair_0 1 rfl rfl)
theorem dX2_pair_2 : decode cX2_pair 2 = .ok (.iconst 1, 1) := dk_4 (dk_at dksX2_pair_0 2 rfl rfl)
theorem dX2_pair_3 : decode cX2_pair 3 = .ok (.iadd, 1) := dk_96 (dk_at dksX2_pair_0 3 rfl rfl)
theorem dX2_pair_4 : decode cX2_pair 4 = .ok (.iconst 0, 1) := dk_3 (dk_at dksX2_pair_0 4 rfl rfl)
theorem dX2_pair_5 : decode cX2_pair 5 = .ok (.bipush 9, 2) := dk_16 9 (dk_at dksX2_pair_0 5 rfl rfl)
theorem dX2_pair_7 : decode cX2_pair 7 = .ok (.invokevirtual 216, 3) := dk_182 0 216 (dk_at dksX2_pair_0 7 rfl rfl)
theorem dX2_pair_10 : decode cX2_pair 10 = .ok (.istore 5, 2) := dk_54 5 (dk_at dksX2_pair_0 10 rfl rfl)
theorem dX2_pair_12 : decode cX2_pair 12 = .ok (.iload 5, 2) := dk_21 5 (dk_at dksX2_pair_0 12 rfl rfl)
theorem dX2_pair_14 : decode cX2_pair 14 = .ok (.ifCond .eq 8, 3) := dk_153 0 8 (dk_at dksX2_pair_0 14 rfl rfl)
theorem dX2_pair_17 : decode cX2_pair 17 = .ok (.iload 5, 2) := dk_21 5 (dk_at dksX2_pair_0 17 rfl rfl)
theorem dX2_pair_19 : decode cX2_pair 19 = .ok (.goto 14, 3) := dk_167 0 14 (dk_at dksX2_pair_0 19 rfl rfl)
theorem dX2_pair_22 : decode cX2_pair 22 = .ok (.aload_n 0, 1) := dk_42 (dk_at dksX2_pair_0 22 rfl rfl)
theorem dX2_pair_23 : decode cX2_pair 23 = .ok (.lload_n 2, 1) := dk_32 (dk_at dksX2_pair_0 23 rfl rfl)
theorem dX2_pair_24 : decode cX2_pair 24 = .ok (.iload_n 1, 1) := dk_27 (dk_at dksX2_pair_1 0 rfl rfl)
theorem dX2_pair_25 : decode cX2_pair 25 = .ok (.iconst 2, 1) := dk_5 (dk_at dksX2_pair_1 1 rfl rfl)
theorem dX2_pair_26 : decode cX2_pair 26 = .ok (.iadd, 1) := dk_96 (dk_at dksX2_pair_1 2 rfl rfl)
theorem dX2_pair_27 : decode cX2_pair 27 = .ok (.iconst 0, 1) := dk_3 (dk_at dksX2_pair_1 3 rfl rfl)
theorem dX2_pair_28 : decode cX2_pair 28 = .ok (.iload 4, 2) := dk_21 4 (dk_at dksX2_pair_1 4 rfl rfl)
theorem dX2_pair_30 : decode cX2_pair 30 = .ok (.invokevirtual 223, 3) := dk_182 0 223 (dk_at dksX2_pair_1 6 rfl rfl)
theorem dX2_pair_33 : decode cX2_pair 33 = .ok (.ireturn, 1) := dk_172 (dk_at dksX2_pair_1 9 rfl rfl)
abbrev cX2_figure : ByteArray := prog_20_method_48_code
def yX2_figure : MethodName := ⟨RX2, "figure", "(III)I"⟩
def dkwX2_figure_1 : List UInt8 := [42, 180, 0, 16, 27, 42, 180, 0, 104, 79, 42, 182, 0, 165, 3, 172]
abbrev dktX2_figure_1 : List UInt8 := dkwX2_figure_1 ++ []
def dkwX2_figure_0 : List UInt8 := [42, 180, 0, 98, 4, 159, 0, 5, 4, 172, 42, 180, 0, 104, 28, 29, 184, 0, 69, 154, 0, 5, 5, 172]
abbrev dktX2_figure_0 : List UInt8 := dkwX2_figure_0 ++ dktX2_figure_1
theorem dksX2_figure_0 : cX2_figure.data.toList.drop 0 = dktX2_figure_0 := by decide +kernel
theorem dksX2_figure_1 : cX2_figure.data.toList.drop 24 = dktX2_figure_1 := dk_seg dksX2_figure_0 24 rfl rfl
theorem dX2_figure_0 : decode cX2_figure 0 = .ok (.aload_n 0, 1) := dk_42 (dk_at dksX2_figure_0 0 rfl rfl)
theorem dX2_figure_1 : decode cX2_figure 1 = .ok (.getfield 98, 3) := dk_180 0 98 (dk_at dksX2_figure_0 1 rfl rfl)
theorem dX2_figure_4 : decode cX2_figure 4 = .ok (.iconst 1, 1) := dk_4 (dk_at dksX2_figure_0 4 rfl rfl)
theorem dX2_figure_5 : decode cX2_figure 5 = .ok (.if_icmp .eq 5, 3) := dk_159 0 5 (dk_at dksX2_figure_0 5 rfl rfl)
theorem dX2_figure_8 : decode cX2_figure 8 = .ok (.iconst 1, 1) := dk_4 (dk_at dksX2_figure_0 8 rfl rfl)
theorem dX2_figure_9 : decode cX2_figure 9 = .ok (.ireturn, 1) := dk_172 (dk_at dksX2_figure_0 9 rfl rfl)
theorem dX2_figure_10 : decode cX2_figure 10 = .ok (.aload_n 0, 1) := dk_42 (dk_at dksX2_figure_0 10 rfl rfl)
theorem dX2_figure_11 : decode cX2_figure 11 = .ok (.getfield 104, 3) := dk_180 0 104 (dk_at dksX2_figure_0 11 rfl rfl)
theorem dX2_figure_14 : decode cX2_figure 14 = .ok (.iload_n 2, 1) := dk_28 (dk_at dksX2_figure_0 14 rfl rfl)
theorem dX2_figure_15 : decode cX2_figure 15 = .ok (.iload_n 3, 1) := dk_29 (dk_at dksX2_figure_0 15 rfl rfl)
theorem dX2_figure_16 : decode cX2_figure 16 = .ok (.invokestatic 69, 3) := dk_184 0 69 (dk_at dksX2_figure_0 16 rfl rfl)
theorem dX2_figure_19 : decode cX2_figure 19 = .ok (.ifCond .ne 5, 3) := dk_154 0 5 (dk_at dksX2_figure_0 19 rfl rfl)
theorem dX2_figure_22 : decode cX2_figure 22 = .ok (.iconst 2, 1) := dk_5 (dk_at dksX2_figure_0 22 rfl rfl)
theorem dX2_figure_23 : decode cX2_figure 23 = .ok (.ireturn, 1) := dk_172 (dk_at dksX2_figure_0 23 rfl rfl)
theorem dX2_figure_24 : decode cX2_figure 24 = .ok (.aload_n 0, 1) := dk_42 (dk_at dksX2_figure_1 0 rfl rfl)
theorem dX2_figure_25 : decode cX2_figure 25 = .ok (.getfield 16, 3) := dk_180 0 16 (dk_at dksX2_figure_1 1 rfl rfl)
theorem dX2_figure_28 : decode cX2_figure 28 = .ok (.iload_n 1, 1) := dk_27 (dk_at dksX2_figure_1 4 rfl rfl)
theorem dX2_figure_29 : decode cX2_figure 29 = .ok (.aload_n 0, 1) := dk_42 (dk_at dksX2_figure_1 5 rfl rfl)
theorem dX2_figure_30 : decode cX2_figure 30 = .ok (.getfield 104, 3) := dk_180 0 104 (dk_at dksX2_figure_1 6 rfl rfl)
theorem dX2_figure_33 : decode cX2_figure 33 = .ok (.iastore, 1) := dk_79 (dk_at dksX2_figure_1 9 rfl rfl)
theorem dX2_figure_34 : decode cX2_figure 34 = .ok (.aload_n 0, 1) := dk_42 (dk_at dksX2_figure_1 10 rfl rfl)
theorem dX2_figure_35 : decode cX2_figure 35 = .ok (.invokevirtual 165, 3) := dk_182 0 165 (dk_at dksX2_figure_1 11 rfl rfl)
theorem dX2_figure_38 : decode cX2_figure 38 = .ok (.iconst 0, 1) := dk_3 (dk_at dksX2_figure_1 14 rfl rfl)
theorem dX2_figure_39 : decode cX2_figure 39 = .ok (.ireturn, 1) := dk_172 (dk_at dksX2_figure_1 15 rfl rfl)
abbrev cX2_worded : ByteArray := prog_20_method_49_code
def yX2_worded : MethodName := ⟨RX2, "worded", "(JIII)I"⟩
def dkwX2_worded_0 : List UInt8 := [42, 31, 182, 0, 184, 154, 0, 5, 4, 172, 42, 182, 0, 165, 42, 29, 21, 4, 21, 5, 182, 0, 216, 172]
abbrev dktX2_worded_0 : List UInt8 := dkwX2_worded_0 ++ []
theorem dksX2_worded_0 : cX2_worded.data.toList.drop 0 = dktX2_worded_0 := by decide +kernel
theorem dX2_worded_0 : decode cX2_worded 0 = .ok (.aload_n 0, 1) := dk_42 (dk_at dksX2_worded_0 0 rfl rfl)
theorem dX2_worded_1 : decode cX2_worded 1 = .ok (.lload_n 1, 1) := dk_31 (dk_at dksX2_worded_0 1 rfl rfl)
theorem dX2_worded_2 : decode cX2_worded 2 = .ok (.invokevirtual 184, 3) := dk_182 0 184 (dk_at dksX2_worded_0 2 rfl rfl)
theorem dX2_worded_5 : decode cX2_worded 5 = .ok (.ifCond .ne 5, 3) := dk_154 0 5 (dk_at dksX2_worded_0 5 rfl rfl)
theorem dX2_worded_8 : decode cX2_worded 8 = .ok (.iconst 1, 1) := dk_4 (dk_at dksX2_worded_0 8 rfl rfl)
theorem dX2_worded_9 : decode cX2_worded 9 = .ok (.ireturn, 1) := dk_172 (dk_at dksX2_worded_0 9 rfl rfl)
theorem dX2_worded_10 : decode cX2_worded 10 = .ok (.aload_n 0, 1) := dk_42 (dk_at dksX2_worded_0 10 rfl rfl)
theorem dX2_worded_11 : decode cX2_worded 11 = .ok (.invokevirtual 165, 3) := dk_182 0 165 (dk_at dksX2_worded_0 11 rfl rfl)
theorem dX2_worded_14 : decode cX2_worded 14 = .ok (.aload_n 0, 1) := dk_42 (dk_at dksX2_worded_0 14 rfl rfl)
theorem dX2_worded_15 : decode cX2_worded 15 = .ok (.iload_n 3, 1) := dk_29 (dk_at dksX2_worded_0 15 rfl rfl)
theorem dX2_worded_16 : decode cX2_worded 16 = .ok (.iload 4, 2) := dk_21 4 (dk_at dksX2_worded_0 16 rfl rfl)
theorem dX2_worded_18 : decode cX2_worded 18 = .ok (.iload 5, 2) := dk_21 5 (dk_at dksX2_worded_0 18 rfl rfl)
theorem dX2_worded_20 : decode cX2_worded 20 = .ok (.invokevirtual 216, 3) := dk_182 0 216 (dk_at dksX2_worded_0 20 rfl rfl)
theorem dX2_worded_23 : decode cX2_worded 23 = .ok (.ireturn, 1) := dk_172 (dk_at dksX2_worded_0 23 rfl rfl)
abbrev cX2_lawClause : ByteArray := prog_20_method_50_code
def yX2_lawClause : MethodName := ⟨RX2, "lawClause", "(I)I"⟩
def dkwX2_lawClause_1 : List UInt8 := [42, 180, 0, 139, 79, 28, 172]
abbrev dktX2_lawClause_1 : List UInt8 := dkwX2_lawClause_1 ++ []
def dkwX2_lawClause_0 : List UInt8 := [42, 180, 0, 16, 27, 4, 96, 42, 180, 0, 139, 79, 42, 182, 0, 220, 61, 42, 180, 0, 16, 27, 5, 96]
abbrev dktX2_lawClause_0 : List UInt8 := dkwX2_lawClause_0 ++ dktX2_lawClause_1
theorem dksX2_lawClause_0 : cX2_lawClause.data.toList.drop 0 = dktX2_lawClause_0 := by decide +kernel
theorem dksX2_lawClause_1 : cX2_lawClause.data.toList.drop 24 = dktX2_lawClause_1 := dk_seg dksX2_lawClause_0 24 rfl rfl
theorem dX2_lawClause_0 : decode cX2_lawClause 0 = .ok (.aload_n 0, 1) := dk_42 (dk_at dksX2_lawClause_0 0 rfl rfl)
theorem dX2_lawClause_1 : decode cX2_lawClause 1 = .ok (.getfield 16, 3) := dk_180 0 16 (dk_at dksX2_lawClause_0 1 rfl rfl)
theorem dX2_lawClause_4 : decode cX2_lawClause 4 = .ok (.iload_n 1, 1) := dk_27 (dk_at dksX2_lawClause_0 4 rfl rfl)
theorem dX2_lawClause_5 : decode cX2_lawClause 5 = .ok (.iconst 1, 1) := dk_4 (dk_at dksX2_lawClause_0 5 rfl rfl)
theorem dX2_lawClause_6 : decode cX2_lawClause 6 = .ok (.iadd, 1) := dk_96 (dk_at dksX2_lawClause_0 6 rfl rfl)
theorem dX2_lawClause_7 : decode cX2_lawClause 7 = .ok (.aload_n 0, 1) := dk_42 (dk_at dksX2_lawClause_0 7 rfl rfl)
theorem dX2_lawClause_8 : decode cX2_lawClause 8 = .ok (.getfield 139, 3) := dk_180 0 139 (dk_at dksX2_lawClause_0 8 rfl rfl)
theorem dX2_lawClause_11 : decode cX2_lawClause 11 = .ok (.iastore, 1) := dk_79 (dk_at dksX2_lawClause_0 11 rfl rfl)
theorem dX2_lawClause_12 : decode cX2_lawClause 12 = .ok (.aload_n 0, 1) := dk_42 (dk_at dksX2_lawClause_0 12 rfl rfl)
theorem dX2_lawClause_13 : decode cX2_lawClause 13 = .ok (.invokevirtual 220, 3) := dk_182 0 220 (dk_at dksX2_lawClause_0 13 rfl rfl)
theorem dX2_lawClause_16 : decode cX2_lawClause 16 = .ok (.istore_n 2, 1) := dk_61 (dk_at dksX2_lawClause_0 16 rfl rfl)
theorem dX2_lawClause_17 : decode cX2_lawClause 17 = .ok (.aload_n 0, 1) := dk_42 (dk_at dksX2_lawClause_0 17 rfl rfl)
theorem dX2_lawClause_18 : decode cX2_lawClause 18 = .ok (.getfield 16, 3) := dk_180 0 16 (dk_at dksX2_lawClause_0 18 rfl rfl)
theorem dX2_lawClause_21 : decode cX2_lawClause 21 = .ok (.iload_n 1, 1) := dk_27 (dk_at dksX2_lawClause_0 21 rfl rfl)
theorem dX2_lawClause_22 : decode cX2_lawClause 22 = .ok (.iconst 2, 1) := dk_5 (dk_at dksX2_lawClause_0 22 rfl rfl)
theorem dX2_lawClause_23 : decode cX2_lawClause 23 = .ok (.iadd, 1) := dk_96 (dk_at dksX2_lawClause_0 23 rfl rfl)
theorem dX2_lawClause_24 : decode cX2_lawClause 24 = .ok (.aload_n 0, 1) := dk_42 (dk_at dksX2_lawClause_1 0 rfl rfl)
theorem dX2_lawClause_25 : decode cX2_lawClause 25 = .ok (.getfield 139, 3) := dk_180 0 139 (dk_at dksX2_lawClause_1 1 rfl rfl)
theorem dX2_lawClause_28 : decode cX2_lawClause 28 = .ok (.iastore, 1) := dk_79 (dk_at dksX2_lawClause_1 4 rfl rfl)
theorem dX2_lawClause_29 : decode cX2_lawClause 29 = .ok (.iload_n 2, 1) := dk_28 (dk_at dksX2_lawClause_1 5 rfl rfl)
theorem dX2_lawClause_30 : decode cX2_lawClause 30 = .ok (.ireturn, 1) := dk_172 (dk_at dksX2_lawClause_1 6 rfl rfl)
abbrev cX2_summed : ByteArray := prog_20_method_47_code
def yX2_summed : MethodName := ⟨RX2, "summed", "()I"⟩
def dkwX2_summed_2 : List UInt8 := [42, 182, 0, 162, 155, 0, 5, 4, 172, 42, 4, 182, 0, 192, 3, 172]
abbrev dktX2_summed_2 : List UInt8 := dkwX2_summed_2 ++ []
def dkwX2_summed_1 : List UInt8 := [182, 0, 210, 167, 0, 7, 42, 182, 0, 213, 60, 27, 158, 0, 5, 27, 172, 27, 154, 0, 6, 167, 255, 227]
abbrev dktX2_summed_1 : List UInt8 := dkwX2_summed_1 ++ dktX2_summed_2
def dkwX2_summed_0 : List UInt8 := [42, 3, 181, 0, 145, 42, 3, 181, 0, 155, 42, 3, 181, 0, 195, 42, 180, 0, 195, 153, 0, 10, 42]
abbrev dktX2_summed_0 : List UInt8 := dkwX2_summed_0 ++ dktX2_summed_1
theorem dksX2_summed_0 : cX2_summed.data.toList.drop 0 = dktX2_summed_0 := by decide +kernel
theorem dksX2_summed_1 : cX2_summed.data.toList.drop 23 = dktX2_summed_1 := dk_seg dksX2_summed_0 23 rfl rfl
theorem dksX2_summed_2 : cX2_summed.data.toList.drop 47 = dktX2_summed_2 := dk_seg dksX2_summed_1 24 rfl rfl
theorem dX2_summed_0 : decode cX2_summed 0 = .ok (.aload_n 0, 1) := dk_42 (dk_at dksX2_summed_0 0 rfl rfl)
theorem dX2_summed_1 : decode cX2_summed 1 = .ok (.iconst 0, 1) := dk_3 (dk_at dksX2_summed_0 1 rfl rfl)
theorem dX2_summed_2 : decode cX2_summed 2 = .ok (.putfield 145, 3) := dk_181 0 145 (dk_at dksX2_summed_0 2 rfl rfl)
theorem dX2_summed_5 : decode cX2_summed 5 = .ok (.aload_n 0, 1) := dk_42 (dk_at dksX2_summed_0 5 rfl rfl)
theorem dX2_summed_6 : decode cX2_summed 6 = .ok (.iconst 0, 1) := dk_3 (dk_at dksX2_summed_0 6 rfl rfl)
theorem dX2_summed_7 : decode cX2_summed 7 = .ok (.putfield 155, 3) := dk_181 0 155 (dk_at dksX2_summed_0 7 rfl rfl)
theorem dX2_summed_10 : decode cX2_summed 10 = .ok (.aload_n 0, 1) := dk_42 (dk_at dksX2_summed_0 10 rfl rfl)
theorem dX2_summed_11 : decode cX2_summed 11 = .ok (.iconst 0, 1) := dk_3 (dk_at dksX2_summed_0 11 rfl rfl)
theorem dX2_summed_12 : decode cX2_summed 12 = .ok (.putfield 195, 3) := dk_181 0 195 (dk_at dksX2_summed_0 12 rfl rfl)
theorem dX2_summed_15 : decode cX2_summed 15 = .ok (.aload_n 0, 1) := dk_42 (dk_at dksX2_summed_0 15 rfl rfl)
theorem dX2_summed_16 : decode cX2_summed 16 = .ok (.getfield 195, 3) := dk_180 0 195 (dk_at dksX2_summed_0 16 rfl rfl)
theorem dX2_summed_19 : decode cX2_summed 19 = .ok (.ifCond .eq 10, 3) := dk_153 0 10 (dk_at dksX2_summed_0 19 rfl rfl)
theorem dX2_summed_22 : decode cX2_summed 22 = .ok (.aload_n 0, 1) := dk_42 (dk_at dksX2_summed_0 22 rfl rfl)
theorem dX2_summed_23 : decode cX2_summed 23 = .ok (.invokevirtual 210, 3) := dk_182 0 210 (dk_at dksX2_summed_1 0 rfl rfl)
theorem dX2_summed_26 : decode cX2_summed 26 = .ok (.goto 7, 3) := dk_167 0 7 (dk_at dksX2_summed_1 3 rfl rfl)
theorem dX2_summed_29 : decode cX2_summed 29 = .ok (.aload_n 0, 1) := dk_42 (dk_at dksX2_summed_1 6 rfl rfl)
theorem dX2_summed_30 : decode cX2_summed 30 = .ok (.invokevirtual 213, 3) := dk_182 0 213 (dk_at dksX2_summed_1 7 rfl rfl)
theorem dX2_summed_33 : decode cX2_summed 33 = .ok (.istore_n 1, 1) := dk_60 (dk_at dksX2_summed_1 10 rfl rfl)
theorem dX2_summed_34 : decode cX2_summed 34 = .ok (.iload_n 1, 1) := dk_27 (dk_at dksX2_summed_1 11 rfl rfl)
theorem dX2_summed_35 : decode cX2_summed 35 = .ok (.ifCond .le 5, 3) := dk_158 0 5 (dk_at dksX2_summed_1 12 rfl rfl)
theorem dX2_summed_38 : decode cX2_summed 38 = .ok (.iload_n 1, 1) := dk_27 (dk_at dksX2_summed_1 15 rfl rfl)
theorem dX2_summed_39 : decode cX2_summed 39 = .ok (.ireturn, 1) := dk_172 (dk_at dksX2_summed_1 16 rfl rfl)
theorem dX2_summed_40 : decode cX2_summed 40 = .ok (.iload_n 1, 1) := dk_27 (dk_at dksX2_summed_1 17 rfl rfl)
theorem dX2_summed_41 : decode cX2_summed 41 = .ok (.ifCond .ne 6, 3) := dk_154 0 6 (dk_at dksX2_summed_1 18 rfl rfl)
theorem dX2_summed_44 : decode cX2_summed 44 = .ok (.goto (-29), 3) := dk_167 255 227 (dk_at dksX2_summed_1 21 rfl rfl)
theorem dX2_summed_47 : decode cX2_summed 47 = .ok (.aload_n 0, 1) := dk_42 (dk_at dksX2_summed_2 0 rfl rfl)
theorem dX2_summed_48 : decode cX2_summed 48 = .ok (.invokevirtual 162, 3) := dk_182 0 162 (dk_at dksX2_summed_2 1 rfl rfl)
theorem dX2_summed_51 : decode cX2_summed 51 = .ok (.ifCond .lt 5, 3) := dk_155 0 5 (dk_at dksX2_summed_2 4 rfl rfl)
theorem dX2_summed_54 : decode cX2_summed 54 = .ok (.iconst 1, 1) := dk_4 (dk_at dksX2_summed_2 7 rfl rfl)
theorem dX2_summed_55 : decode cX2_summed 55 = .ok (.ireturn, 1) := dk_172 (dk_at dksX2_summed_2 8 rfl rfl)
theorem dX2_summed_56 : decode cX2_summed 56 = .ok (.aload_n 0, 1) := dk_42 (dk_at dksX2_summed_2 9 rfl rfl)
theorem dX2_summed_57 : decode cX2_summed 57 = .ok (.iconst 1, 1) := dk_4 (dk_at dksX2_summed_2 10 rfl rfl)
theorem dX2_summed_58 : decode cX2_summed 58 = .ok (.invokevirtual 192, 3) := dk_182 0 192 (dk_at dksX2_summed_2 11 rfl rfl)
theorem dX2_summed_61 : decode cX2_summed 61 = .ok (.iconst 0, 1) := dk_3 (dk_at dksX2_summed_2 14 rfl rfl)
theorem dX2_summed_62 : decode cX2_summed 62 = .ok (.ireturn, 1) := dk_172 (dk_at dksX2_summed_2 15 rfl rfl)
abbrev cX2_behindOne : ByteArray := prog_20_method_46_code
def yX2_behindOne : MethodName := ⟨RX2, "behindOne", "()I"⟩
def dkwX2_behindOne_6 : List UInt8 := [181, 0, 195, 3, 172]
abbrev dktX2_behindOne_6 : List UInt8 := dkwX2_behindOne_6 ++ []
def dkwX2_behindOne_5 : List UInt8 := [42, 6, 3, 182, 0, 151, 42, 182, 0, 174, 172, 42, 180, 0, 29, 42, 182, 0, 158, 29, 79, 42, 3]
abbrev dktX2_behindOne_5 : List UInt8 := dkwX2_behindOne_5 ++ dktX2_behindOne_6
def dkwX2_behindOne_4 : List UInt8 := [180, 0, 155, 4, 100, 181, 0, 155, 42, 89, 180, 0, 145, 4, 100, 181, 0, 145, 28, 16, 44, 160, 0, 9]
abbrev dktX2_behindOne_4 : List UInt8 := dkwX2_behindOne_4 ++ dktX2_behindOne_5
def dkwX2_behindOne_3 : List UInt8 := [62, 29, 156, 0, 5, 2, 172, 42, 4, 182, 0, 192, 42, 182, 0, 165, 29, 154, 0, 40, 42, 89]
abbrev dktX2_behindOne_3 : List UInt8 := dkwX2_behindOne_3 ++ dktX2_behindOne_4
def dkwX2_behindOne_2 : List UInt8 := [181, 0, 145, 42, 3, 181, 0, 195, 42, 182, 0, 165, 3, 172, 42, 182, 0, 162, 61, 42, 28, 182, 0, 207]
abbrev dktX2_behindOne_2 : List UInt8 := dkwX2_behindOne_2 ++ dktX2_behindOne_3
def dkwX2_behindOne_1 : List UInt8 := [184, 0, 148, 182, 0, 192, 42, 180, 0, 29, 42, 180, 0, 145, 27, 79, 42, 89, 180, 0, 145, 4, 96]
abbrev dktX2_behindOne_1 : List UInt8 := dkwX2_behindOne_1 ++ dktX2_behindOne_2
def dkwX2_behindOne_0 : List UInt8 := [42, 182, 0, 204, 60, 27, 155, 0, 54, 42, 27, 184, 0, 148, 7, 160, 0, 7, 8, 167, 0, 7, 27]
abbrev dktX2_behindOne_0 : List UInt8 := dkwX2_behindOne_0 ++ dktX2_behindOne_1
theorem dksX2_behindOne_0 : cX2_behindOne.data.toList.drop 0 = dktX2_behindOne_0 := by decide +kernel
theorem dksX2_behindOne_1 : cX2_behindOne.data.toList.drop 23 = dktX2_behindOne_1 := dk_seg dksX2_behindOne_0 23 rfl rfl
theorem dksX2_behindOne_2 : cX2_behindOne.data.toList.drop 46 = dktX2_behindOne_2 := dk_seg dksX2_behindOne_1 23 rfl rfl
theorem dksX2_behindOne_3 : cX2_behindOne.data.toList.drop 70 = dktX2_behindOne_3 := dk_seg dksX2_behindOne_2 24 rfl rfl
theorem dksX2_behindOne_4 : cX2_behindOne.data.toList.drop 92 = dktX2_behindOne_4 := dk_seg dksX2_behindOne_3 22 rfl rfl
theorem dksX2_behindOne_5 : cX2_behindOne.data.toList.drop 116 = dktX2_behindOne_5 := dk_seg dksX2_behindOne_4 24 rfl rfl
theorem dksX2_behindOne_6 : cX2_behindOne.data.toList.drop 139 = dktX2_behindOne_6 := dk_seg dksX2_behindOne_5 23 rfl rfl
theorem dX2_behindOne_0 : decode cX2_behindOne 0 = .ok (.aload_n 0, 1) := dk_42 (dk_at dksX2_behindOne_0 0 rfl rfl)
theorem dX2_behindOne_1 : decode cX2_behindOne 1 = .ok (.invokevirtual 204, 3) := dk_182 0 204 (dk_at dksX2_behindOne_0 1 rfl rfl)
theorem dX2_behindOne_4 : decode cX2_behindOne 4 = .ok (.istore_n 1, 1) := dk_60 (dk_at dksX2_behindOne_0 4 rfl rfl)
theorem dX2_behindOne_5 : decode cX2_behindOne 5 = .ok (.iload_n 1, 1) := dk_27 (dk_at dksX2_behindOne_0 5 rfl rfl)
theorem dX2_behindOne_6 : decode cX2_behindOne 6 = .ok (.ifCond .lt 54, 3) := dk_155 0 54 (dk_at dksX2_behindOne_0 6 rfl rfl)
theorem dX2_behindOne_9 : decode cX2_behindOne 9 = .ok (.aload_n 0, 1) := dk_42 (dk_at dksX2_behindOne_0 9 rfl rfl)
theorem dX2_behindOne_10 : decode cX2_behindOne 10 = .ok (.iload_n 1, 1) := dk_27 (dk_at dksX2_behindOne_0 10 rfl rfl)
theorem dX2_behindOne_11 : decode cX2_behindOne 11 = .ok (.invokestatic 148, 3) := dk_184 0 148 (dk_at dksX2_behindOne_0 11 rfl rfl)
theorem dX2_behindOne_14 : decode cX2_behindOne 14 = .ok (.iconst 4, 1) := dk_7 (dk_at dksX2_behindOne_0 14 rfl rfl)
theorem dX2_behindOne_15 : decode cX2_behindOne 15 = .ok (.if_icmp .ne 7, 3) := dk_160 0 7 (dk_at dksX2_behindOne_0 15 rfl rfl)
theorem dX2_behindOne_18 : decode cX2_behindOne 18 = .ok (.iconst 5, 1) := dk_8 (dk_at dksX2_behindOne_0 18 rfl rfl)
theorem dX2_behindOne_19 : decode cX2_behindOne 19 = .ok (.goto 7, 3) := dk_167 0 7 (dk_at dksX2_behindOne_0 19 rfl rfl)
theorem dX2_behindOne_22 : decode cX2_behindOne 22 = .ok (.iload_n 1, 1) := dk_27 (dk_at dksX2_behindOne_0 22 rfl rfl)
theorem dX2_behindOne_23 : decode cX2_behindOne 23 = .ok (.invokestatic 148, 3) := dk_184 0 148 (dk_at dksX2_behindOne_1 0 rfl rfl)
theorem dX2_behindOne_26 : decode cX2_behindOne 26 = .ok (.invokevirtual 192, 3) := dk_182 0 192 (dk_at dksX2_behindOne_1 3 rfl rfl)
theorem dX2_behindOne_29 : decode cX2_behindOne 29 = .ok (.aload_n 0, 1) := dk_42 (dk_at dksX2_behindOne_1 6 rfl rfl)
theorem dX2_behindOne_30 : decode cX2_behindOne 30 = .ok (.getfield 29, 3) := dk_180 0 29 (dk_at dksX2_behindOne_1 7 rfl rfl)
theorem dX2_behindOne_33 : decode cX2_behindOne 33 = .ok (.aload_n 0, 1) := dk_42 (dk_at dksX2_behindOne_1 10 rfl rfl)
theorem dX2_behindOne_34 : decode cX2_behindOne 34 = .ok (.getfield 145, 3) := dk_180 0 145 (dk_at dksX2_behindOne_1 11 rfl rfl)
theorem dX2_behindOne_37 : decode cX2_behindOne 37 = .ok (.iload_n 1, 1) := dk_27 (dk_at dksX2_behindOne_1 14 rfl rfl)
theorem dX2_behindOne_38 : decode cX2_behindOne 38 = .ok (.iastore, 1) := dk_79 (dk_at dksX2_behindOne_1 15 rfl rfl)
theorem dX2_behindOne_39 : decode cX2_behindOne 39 = .ok (.aload_n 0, 1) := dk_42 (dk_at dksX2_behindOne_1 16 rfl rfl)
theorem dX2_behindOne_40 : decode cX2_behindOne 40 = .ok (.dup, 1) := dk_89 (dk_at dksX2_behindOne_1 17 rfl rfl)
theorem dX2_behindOne_41 : decode cX2_behindOne 41 = .ok (.getfield 145, 3) := dk_180 0 145 (dk_at dksX2_behindOne_1 18 rfl rfl)
theorem dX2_behindOne_44 : decode cX2_behindOne 44 = .ok (.iconst 1, 1) := dk_4 (dk_at dksX2_behindOne_1 21 rfl rfl)
theorem dX2_behindOne_45 : decode cX2_behindOne 45 = .ok (.iadd, 1) := dk_96 (dk_at dksX2_behindOne_1 22 rfl rfl)
theorem dX2_behindOne_46 : decode cX2_behindOne 46 = .ok (.putfield 145, 3) := dk_181 0 145 (dk_at dksX2_behindOne_2 0 rfl rfl)
theorem dX2_behindOne_49 : decode cX2_behindOne 49 = .ok (.aload_n 0, 1) := dk_42 (dk_at dksX2_behindOne_2 3 rfl rfl)
theorem dX2_behindOne_50 : decode cX2_behindOne 50 = .ok (.iconst 0, 1) := dk_3 (dk_at dksX2_behindOne_2 4 rfl rfl)
theorem dX2_behindOne_51 : decode cX2_behindOne 51 = .ok (.putfield 195, 3) := dk_181 0 195 (dk_at dksX2_behindOne_2 5 rfl rfl)
theorem dX2_behindOne_54 : decode cX2_behindOne 54 = .ok (.aload_n 0, 1) := dk_42 (dk_at dksX2_behindOne_2 8 rfl rfl)
theorem dX2_behindOne_55 : decode cX2_behindOne 55 = .ok (.invokevirtual 165, 3) := dk_182 0 165 (dk_at dksX2_behindOne_2 9 rfl rfl)
theorem dX2_behindOne_58 : decode cX2_behindOne 58 = .ok (.iconst 0, 1) := dk_3 (dk_at dksX2_behindOne_2 12 rfl rfl)
theorem dX2_behindOne_59 : decode cX2_behindOne 59 = .ok (.ireturn, 1) := dk_172 (dk_at dksX2_behindOne_2 13 rfl rfl)
theorem dX2_behindOne_60 : decode cX2_behindOne 60 = .ok (.aload_n 0, 1) := dk_42 (dk_at dksX2_behindOne_2 14 rfl rfl)
theorem dX2_behindOne_61 : decode cX2_behindOne 61 = .ok (.invokevirtual 162, 3) := dk_182 0 162 (dk_at dksX2_behindOne_2 15 rfl rfl)
theorem dX2_behindOne_64 : decode cX2_behindOne 64 = .ok (.istore_n 2, 1) := dk_61 (dk_at dksX2_behindOne_2 18 rfl rfl)
theorem dX2_behindOne_65 : decode cX2_behindOne 65 = .ok (.aload_n 0, 1) := dk_42 (dk_at dksX2_behindOne_2 19 rfl rfl)
theorem dX2_behindOne_66 : decode cX2_behindOne 66 = .ok (.iload_n 2, 1) := dk_28 (dk_at dksX2_behindOne_2 20 rfl rfl)
theorem dX2_behindOne_67 : decode cX2_behindOne 67 = .ok (.invokevirtual 207, 3) := dk_182 0 207 (dk_at dksX2_behindOne_2 21 rfl rfl)
theorem dX2_behindOne_70 : decode cX2_behindOne 70 = .ok (.istore_n 3, 1) := dk_62 (dk_at dksX2_behindOne_3 0 rfl rfl)
theorem dX2_behindOne_71 : decode cX2_behindOne 71 = .ok (.iload_n 3, 1) := dk_29 (dk_at dksX2_behindOne_3 1 rfl rfl)
theorem dX2_behindOne_72 : decode cX2_behindOne 72 = .ok (.ifCond .ge 5, 3) := dk_156 0 5 (dk_at dksX2_behindOne_3 2 rfl rfl)
theorem dX2_behindOne_75 : decode cX2_behindOne 75 = .ok (.iconst (-1), 1) := dk_2 (dk_at dksX2_behindOne_3 5 rfl rfl)
theorem dX2_behindOne_76 : decode cX2_behindOne 76 = .ok (.ireturn, 1) := dk_172 (dk_at dksX2_behindOne_3 6 rfl rfl)
theorem dX2_behindOne_77 : decode cX2_behindOne 77 = .ok (.aload_n 0, 1) := dk_42 (dk_at dksX2_behindOne_3 7 rfl rfl)
theorem dX2_behindOne_78 : decode cX2_behindOne 78 = .ok (.iconst 1, 1) := dk_4 (dk_at dksX2_behindOne_3 8 rfl rfl)
theorem dX2_behindOne_79 : decode cX2_behindOne 79 = .ok (.invokevirtual 192, 3) := dk_182 0 192 (dk_at dksX2_behindOne_3 9 rfl rfl)
theorem dX2_behindOne_82 : decode cX2_behindOne 82 = .ok (.aload_n 0, 1) := dk_42 (dk_at dksX2_behindOne_3 12 rfl rfl)
theorem dX2_behindOne_83 : decode cX2_behindOne 83 = .ok (.invokevirtual 165, 3) := dk_182 0 165 (dk_at dksX2_behindOne_3 13 rfl rfl)
theorem dX2_behindOne_86 : decode cX2_behindOne 86 = .ok (.iload_n 3, 1) := dk_29 (dk_at dksX2_behindOne_3 16 rfl rfl)
theorem dX2_behindOne_87 : decode cX2_behindOne 87 = .ok (.ifCond .ne 40, 3) := dk_154 0 40 (dk_at dksX2_behindOne_3 17 rfl rfl)
theorem dX2_behindOne_90 : decode cX2_behindOne 90 = .ok (.aload_n 0, 1) := dk_42 (dk_at dksX2_behindOne_3 20 rfl rfl)
theorem dX2_behindOne_91 : decode cX2_behindOne 91 = .ok (.dup, 1) := dk_89 (dk_at dksX2_behindOne_3 21 rfl rfl)
theorem dX2_behindOne_92 : decode cX2_behindOne 92 = .ok (.getfield 155, 3) := dk_180 0 155 (dk_at dksX2_behindOne_4 0 rfl rfl)
theorem dX2_behindOne_95 : decode cX2_behindOne 95 = .ok (.iconst 1, 1) := dk_4 (dk_at dksX2_behindOne_4 3 rfl rfl)
theorem dX2_behindOne_96 : decode cX2_behindOne 96 = .ok (.isub, 1) := dk_100 (dk_at dksX2_behindOne_4 4 rfl rfl)
theorem dX2_behindOne_97 : decode cX2_behindOne 97 = .ok (.putfield 155, 3) := dk_181 0 155 (dk_at dksX2_behindOne_4 5 rfl rfl)
theorem dX2_behindOne_100 : decode cX2_behindOne 100 = .ok (.aload_n 0, 1) := dk_42 (dk_at dksX2_behindOne_4 8 rfl rfl)
theorem dX2_behindOne_101 : decode cX2_behindOne 101 = .ok (.dup, 1) := dk_89 (dk_at dksX2_behindOne_4 9 rfl rfl)
theorem dX2_behindOne_102 : decode cX2_behindOne 102 = .ok (.getfield 145, 3) := dk_180 0 145 (dk_at dksX2_behindOne_4 10 rfl rfl)
theorem dX2_behindOne_105 : decode cX2_behindOne 105 = .ok (.iconst 1, 1) := dk_4 (dk_at dksX2_behindOne_4 13 rfl rfl)
theorem dX2_behindOne_106 : decode cX2_behindOne 106 = .ok (.isub, 1) := dk_100 (dk_at dksX2_behindOne_4 14 rfl rfl)
theorem dX2_behindOne_107 : decode cX2_behindOne 107 = .ok (.putfield 145, 3) := dk_181 0 145 (dk_at dksX2_behindOne_4 15 rfl rfl)
theorem dX2_behindOne_110 : decode cX2_behindOne 110 = .ok (.iload_n 2, 1) := dk_28 (dk_at dksX2_behindOne_4 18 rfl rfl)
theorem dX2_behindOne_111 : decode cX2_behindOne 111 = .ok (.bipush 44, 2) := dk_16 44 (dk_at dksX2_behindOne_4 19 rfl rfl)
theorem dX2_behindOne_113 : decode cX2_behindOne 113 = .ok (.if_icmp .ne 9, 3) := dk_160 0 9 (dk_at dksX2_behindOne_4 21 rfl rfl)
theorem dX2_behindOne_116 : decode cX2_behindOne 116 = .ok (.aload_n 0, 1) := dk_42 (dk_at dksX2_behindOne_5 0 rfl rfl)
theorem dX2_behindOne_117 : decode cX2_behindOne 117 = .ok (.iconst 3, 1) := dk_6 (dk_at dksX2_behindOne_5 1 rfl rfl)
theorem dX2_behindOne_118 : decode cX2_behindOne 118 = .ok (.iconst 0, 1) := dk_3 (dk_at dksX2_behindOne_5 2 rfl rfl)
theorem dX2_behindOne_119 : decode cX2_behindOne 119 = .ok (.invokevirtual 151, 3) := dk_182 0 151 (dk_at dksX2_behindOne_5 3 rfl rfl)
theorem dX2_behindOne_122 : decode cX2_behindOne 122 = .ok (.aload_n 0, 1) := dk_42 (dk_at dksX2_behindOne_5 6 rfl rfl)
theorem dX2_behindOne_123 : decode cX2_behindOne 123 = .ok (.invokevirtual 174, 3) := dk_182 0 174 (dk_at dksX2_behindOne_5 7 rfl rfl)
theorem dX2_behindOne_126 : decode cX2_behindOne 126 = .ok (.ireturn, 1) := dk_172 (dk_at dksX2_behindOne_5 10 rfl rfl)
theorem dX2_behindOne_127 : decode cX2_behindOne 127 = .ok (.aload_n 0, 1) := dk_42 (dk_at dksX2_behindOne_5 11 rfl rfl)
theorem dX2_behindOne_128 : decode cX2_behindOne 128 = .ok (.getfield 29, 3) := dk_180 0 29 (dk_at dksX2_behindOne_5 12 rfl rfl)
theorem dX2_behindOne_131 : decode cX2_behindOne 131 = .ok (.aload_n 0, 1) := dk_42 (dk_at dksX2_behindOne_5 15 rfl rfl)
theorem dX2_behindOne_132 : decode cX2_behindOne 132 = .ok (.invokevirtual 158, 3) := dk_182 0 158 (dk_at dksX2_behindOne_5 16 rfl rfl)
theorem dX2_behindOne_135 : decode cX2_behindOne 135 = .ok (.iload_n 3, 1) := dk_29 (dk_at dksX2_behindOne_5 19 rfl rfl)
theorem dX2_behindOne_136 : decode cX2_behindOne 136 = .ok (.iastore, 1) := dk_79 (dk_at dksX2_behindOne_5 20 rfl rfl)
theorem dX2_behindOne_137 : decode cX2_behindOne 137 = .ok (.aload_n 0, 1) := dk_42 (dk_at dksX2_behindOne_5 21 rfl rfl)
theorem dX2_behindOne_138 : decode cX2_behindOne 138 = .ok (.iconst 0, 1) := dk_3 (dk_at dksX2_behindOne_5 22 rfl rfl)
theorem dX2_behindOne_139 : decode cX2_behindOne 139 = .ok (.putfield 195, 3) := dk_181 0 195 (dk_at dksX2_behindOne_6 0 rfl rfl)
theorem dX2_behindOne_142 : decode cX2_behindOne 142 = .ok (.iconst 0, 1) := dk_3 (dk_at dksX2_behindOne_6 3 rfl rfl)
theorem dX2_behindOne_143 : decode cX2_behindOne 143 = .ok (.ireturn, 1) := dk_172 (dk_at dksX2_behindOne_6 4 rfl rfl)
abbrev cX2_betweenOf : ByteArray := prog_20_method_44_code
def yX2_betweenOf : MethodName := ⟨RX2, "betweenOf", "()I"⟩
def dkwX2_betweenOf_4 : List UInt8 := [16, 114, 184, 0, 120, 182, 0, 184, 153, 0, 8, 16, 22, 167, 0, 4, 2, 172]
abbrev dktX2_betweenOf_4 : List UInt8 := dkwX2_betweenOf_4 ++ []
def dkwX2_betweenOf_3 : List UInt8 := [16, 97, 16, 110, 16, 100, 184, 0, 124, 182, 0, 184, 153, 0, 8, 16, 21, 167, 0, 23, 42, 16, 111]
abbrev dktX2_betweenOf_3 : List UInt8 := dkwX2_betweenOf_3 ++ dktX2_betweenOf_4
def dkwX2_betweenOf_2 : List UInt8 := [42, 182, 0, 162, 16, 42, 159, 0, 5, 2, 172, 42, 182, 0, 198, 154, 0, 8, 42, 182, 0, 201, 172, 42]
abbrev dktX2_betweenOf_2 : List UInt8 := dkwX2_betweenOf_2 ++ dktX2_betweenOf_3
def dkwX2_betweenOf_1 : List UInt8 := [42, 180, 0, 98, 16, 42, 160, 0, 6, 16, 8, 172, 42, 180, 0, 98, 16, 47, 160, 0, 6, 16, 9, 172]
abbrev dktX2_betweenOf_1 : List UInt8 := dkwX2_betweenOf_1 ++ dktX2_betweenOf_2
def dkwX2_betweenOf_0 : List UInt8 := [42, 180, 0, 98, 16, 43, 160, 0, 6, 16, 6, 172, 42, 180, 0, 98, 16, 45, 160, 0, 6, 16, 7, 172]
abbrev dktX2_betweenOf_0 : List UInt8 := dkwX2_betweenOf_0 ++ dktX2_betweenOf_1
theorem dksX2_betweenOf_0 : cX2_betweenOf.data.toList.drop 0 = dktX2_betweenOf_0 := by decide +kernel
theorem dksX2_betweenOf_1 : cX2_betweenOf.data.toList.drop 24 = dktX2_betweenOf_1 := dk_seg dksX2_betweenOf_0 24 rfl rfl
theorem dksX2_betweenOf_2 : cX2_betweenOf.data.toList.drop 48 = dktX2_betweenOf_2 := dk_seg dksX2_betweenOf_1 24 rfl rfl
theorem dksX2_betweenOf_3 : cX2_betweenOf.data.toList.drop 72 = dktX2_betweenOf_3 := dk_seg dksX2_betweenOf_2 24 rfl rfl
theorem dksX2_betweenOf_4 : cX2_betweenOf.data.toList.drop 95 = dktX2_betweenOf_4 := dk_seg dksX2_betweenOf_3 23 rfl rfl
theorem dX2_betweenOf_0 : decode cX2_betweenOf 0 = .ok (.aload_n 0, 1) := dk_42 (dk_at dksX2_betweenOf_0 0 rfl rfl)
theorem dX2_betweenOf_1 : decode cX2_betweenOf 1 = .ok (.getfield 98, 3) := dk_180 0 98 (dk_at dksX2_betweenOf_0 1 rfl rfl)
theorem dX2_betweenOf_4 : decode cX2_betweenOf 4 = .ok (.bipush 43, 2) := dk_16 43 (dk_at dksX2_betweenOf_0 4 rfl rfl)
theorem dX2_betweenOf_6 : decode cX2_betweenOf 6 = .ok (.if_icmp .ne 6, 3) := dk_160 0 6 (dk_at dksX2_betweenOf_0 6 rfl rfl)
theorem dX2_betweenOf_9 : decode cX2_betweenOf 9 = .ok (.bipush 6, 2) := dk_16 6 (dk_at dksX2_betweenOf_0 9 rfl rfl)
theorem dX2_betweenOf_11 : decode cX2_betweenOf 11 = .ok (.ireturn, 1) := dk_172 (dk_at dksX2_betweenOf_0 11 rfl rfl)
theorem dX2_betweenOf_12 : decode cX2_betweenOf 12 = .ok (.aload_n 0, 1) := dk_42 (dk_at dksX2_betweenOf_0 12 rfl rfl)
theorem dX2_betweenOf_13 : decode cX2_betweenOf 13 = .ok (.getfield 98, 3) := dk_180 0 98 (dk_at dksX2_betweenOf_0 13 rfl rfl)
theorem dX2_betweenOf_16 : decode cX2_betweenOf 16 = .ok (.bipush 45, 2) := dk_16 45 (dk_at dksX2_betweenOf_0 16 rfl rfl)
theorem dX2_betweenOf_18 : decode cX2_betweenOf 18 = .ok (.if_icmp .ne 6, 3) := dk_160 0 6 (dk_at dksX2_betweenOf_0 18 rfl rfl)
theorem dX2_betweenOf_21 : decode cX2_betweenOf 21 = .ok (.bipush 7, 2) := dk_16 7 (dk_at dksX2_betweenOf_0 21 rfl rfl)
theorem dX2_betweenOf_23 : decode cX2_betweenOf 23 = .ok (.ireturn, 1) := dk_172 (dk_at dksX2_betweenOf_0 23 rfl rfl)
theorem dX2_betweenOf_24 : decode cX2_betweenOf 24 = .ok (.aload_n 0, 1) := dk_42 (dk_at dksX2_betweenOf_1 0 rfl rfl)
theorem dX2_betweenOf_25 : decode cX2_betweenOf 25 = .ok (.getfield 98, 3) := dk_180 0 98 (dk_at dksX2_betweenOf_1 1 rfl rfl)
theorem dX2_betweenOf_28 : decode cX2_betweenOf 28 = .ok (.bipush 42, 2) := dk_16 42 (dk_at dksX2_betweenOf_1 4 rfl rfl)
theorem dX2_betweenOf_30 : decode cX2_betweenOf 30 = .ok (.if_icmp .ne 6, 3) := dk_160 0 6 (dk_at dksX2_betweenOf_1 6 rfl rfl)
theorem dX2_betweenOf_33 : decode cX2_betweenOf 33 = .ok (.bipush 8, 2) := dk_16 8 (dk_at dksX2_betweenOf_1 9 rfl rfl)
theorem dX2_betweenOf_35 : decode cX2_betweenOf 35 = .ok (.ireturn, 1) := dk_172 (dk_at dksX2_betweenOf_1 11 rfl rfl)
theorem dX2_betweenOf_36 : decode cX2_betweenOf 36 = .ok (.aload_n 0, 1) := dk_42 (dk_at dksX2_betweenOf_1 12 rfl rfl)
theorem dX2_betweenOf_37 : decode cX2_betweenOf 37 = .ok (.getfield 98, 3) := dk_180 0 98 (dk_at dksX2_betweenOf_1 13 rfl rfl)
theorem dX2_betweenOf_40 : decode cX2_betweenOf 40 = .ok (.bipush 47, 2) := dk_16 47 (dk_at dksX2_betweenOf_1 16 rfl rfl)
theorem dX2_betweenOf_42 : decode cX2_betweenOf 42 = .ok (.if_icmp .ne 6, 3) := dk_160 0 6 (dk_at dksX2_betweenOf_1 18 rfl rfl)
theorem dX2_betweenOf_45 : decode cX2_betweenOf 45 = .ok (.bipush 9, 2) := dk_16 9 (dk_at dksX2_betweenOf_1 21 rfl rfl)
theorem dX2_betweenOf_47 : decode cX2_betweenOf 47 = .ok (.ireturn, 1) := dk_172 (dk_at dksX2_betweenOf_1 23 rfl rfl)
theorem dX2_betweenOf_48 : decode cX2_betweenOf 48 = .ok (.aload_n 0, 1) := dk_42 (dk_at dksX2_betweenOf_2 0 rfl rfl)
theorem dX2_betweenOf_49 : decode cX2_betweenOf 49 = .ok (.invokevirtual 162, 3) := dk_182 0 162 (dk_at dksX2_betweenOf_2 1 rfl rfl)
theorem dX2_betweenOf_52 : decode cX2_betweenOf 52 = .ok (.bipush 42, 2) := dk_16 42 (dk_at dksX2_betweenOf_2 4 rfl rfl)
theorem dX2_betweenOf_54 : decode cX2_betweenOf 54 = .ok (.if_icmp .eq 5, 3) := dk_159 0 5 (dk_at dksX2_betweenOf_2 6 rfl rfl)
theorem dX2_betweenOf_57 : decode cX2_betweenOf 57 = .ok (.iconst (-1), 1) := dk_2 (dk_at dksX2_betweenOf_2 9 rfl rfl)
theorem dX2_betweenOf_58 : decode cX2_betweenOf 58 = .ok (.ireturn, 1) := dk_172 (dk_at dksX2_betweenOf_2 10 rfl rfl)
theorem dX2_betweenOf_59 : decode cX2_betweenOf 59 = .ok (.aload_n 0, 1) := dk_42 (dk_at dksX2_betweenOf_2 11 rfl rfl)
theorem dX2_betweenOf_60 : decode cX2_betweenOf 60 = .ok (.invokevirtual 198, 3) := dk_182 0 198 (dk_at dksX2_betweenOf_2 12 rfl rfl)
theorem dX2_betweenOf_63 : decode cX2_betweenOf 63 = .ok (.ifCond .ne 8, 3) := dk_154 0 8 (dk_at dksX2_betweenOf_2 15 rfl rfl)
theorem dX2_betweenOf_66 : decode cX2_betweenOf 66 = .ok (.aload_n 0, 1) := dk_42 (dk_at dksX2_betweenOf_2 18 rfl rfl)
theorem dX2_betweenOf_67 : decode cX2_betweenOf 67 = .ok (.invokevirtual 201, 3) := dk_182 0 201 (dk_at dksX2_betweenOf_2 19 rfl rfl)
theorem dX2_betweenOf_70 : decode cX2_betweenOf 70 = .ok (.ireturn, 1) := dk_172 (dk_at dksX2_betweenOf_2 22 rfl rfl)
theorem dX2_betweenOf_71 : decode cX2_betweenOf 71 = .ok (.aload_n 0, 1) := dk_42 (dk_at dksX2_betweenOf_2 23 rfl rfl)
theorem dX2_betweenOf_72 : decode cX2_betweenOf 72 = .ok (.bipush 97, 2) := dk_16 97 (dk_at dksX2_betweenOf_3 0 rfl rfl)
theorem dX2_betweenOf_74 : decode cX2_betweenOf 74 = .ok (.bipush 110, 2) := dk_16 110 (dk_at dksX2_betweenOf_3 2 rfl rfl)
theorem dX2_betweenOf_76 : decode cX2_betweenOf 76 = .ok (.bipush 100, 2) := dk_16 100 (dk_at dksX2_betweenOf_3 4 rfl rfl)
theorem dX2_betweenOf_78 : decode cX2_betweenOf 78 = .ok (.invokestatic 124, 3) := dk_184 0 124 (dk_at dksX2_betweenOf_3 6 rfl rfl)
theorem dX2_betweenOf_81 : decode cX2_betweenOf 81 = .ok (.invokevirtual 184, 3) := dk_182 0 184 (dk_at dksX2_betweenOf_3 9 rfl rfl)
theorem dX2_betweenOf_84 : decode cX2_betweenOf 84 = .ok (.ifCond .eq 8, 3) := dk_153 0 8 (dk_at dksX2_betweenOf_3 12 rfl rfl)
theorem dX2_betweenOf_87 : decode cX2_betweenOf 87 = .ok (.bipush 21, 2) := dk_16 21 (dk_at dksX2_betweenOf_3 15 rfl rfl)
theorem dX2_betweenOf_89 : decode cX2_betweenOf 89 = .ok (.goto 23, 3) := dk_167 0 23 (dk_at dksX2_betweenOf_3 17 rfl rfl)
theorem dX2_betweenOf_92 : decode cX2_betweenOf 92 = .ok (.aload_n 0, 1) := dk_42 (dk_at dksX2_betweenOf_3 20 rfl rfl)
theorem dX2_betweenOf_93 : decode cX2_betweenOf 93 = .ok (.bipush 111, 2) := dk_16 111 (dk_at dksX2_betweenOf_3 21 rfl rfl)
theorem dX2_betweenOf_95 : decode cX2_betweenOf 95 = .ok (.bipush 114, 2) := dk_16 114 (dk_at dksX2_betweenOf_4 0 rfl rfl)
theorem dX2_betweenOf_97 : decode cX2_betweenOf 97 = .ok (.invokestatic 120, 3) := dk_184 0 120 (dk_at dksX2_betweenOf_4 2 rfl rfl)
theorem dX2_betweenOf_100 : decode cX2_betweenOf 100 = .ok (.invokevirtual 184, 3) := dk_182 0 184 (dk_at dksX2_betweenOf_4 5 rfl rfl)
theorem dX2_betweenOf_103 : decode cX2_betweenOf 103 = .ok (.ifCond .eq 8, 3) := dk_153 0 8 (dk_at dksX2_betweenOf_4 8 rfl rfl)
theorem dX2_betweenOf_106 : decode cX2_betweenOf 106 = .ok (.bipush 22, 2) := dk_16 22 (dk_at dksX2_betweenOf_4 11 rfl rfl)
theorem dX2_betweenOf_108 : decode cX2_betweenOf 108 = .ok (.goto 4, 3) := dk_167 0 4 (dk_at dksX2_betweenOf_4 13 rfl rfl)
theorem dX2_betweenOf_111 : decode cX2_betweenOf 111 = .ok (.iconst (-1), 1) := dk_2 (dk_at dksX2_betweenOf_4 16 rfl rfl)
theorem dX2_betweenOf_112 : decode cX2_betweenOf 112 = .ok (.ireturn, 1) := dk_172 (dk_at dksX2_betweenOf_4 17 rfl rfl)
abbrev cX2_openNow : ByteArray := prog_20_method_37_code
def yX2_openNow : MethodName := ⟨RX2, "openNow", "()I"⟩
def dkwX2_openNow_0 : List UInt8 := [42, 182, 0, 158, 156, 0, 7, 2, 167, 0, 12, 42, 180, 0, 29, 42, 182, 0, 158, 46, 172]
abbrev dktX2_openNow_0 : List UInt8 := dkwX2_openNow_0 ++ []
theorem dksX2_openNow_0 : cX2_openNow.data.toList.drop 0 = dktX2_openNow_0 := by decide +kernel
theorem dX2_openNow_0 : decode cX2_openNow 0 = .ok (.aload_n 0, 1) := dk_42 (dk_at dksX2_openNow_0 0 rfl rfl)
theorem dX2_openNow_1 : decode cX2_openNow 1 = .ok (.invokevirtual 158, 3) := dk_182 0 158 (dk_at dksX2_openNow_0 1 rfl rfl)
theorem dX2_openNow_4 : decode cX2_openNow 4 = .ok (.ifCond .ge 7, 3) := dk_156 0 7 (dk_at dksX2_openNow_0 4 rfl rfl)
theorem dX2_openNow_7 : decode cX2_openNow 7 = .ok (.iconst (-1), 1) := dk_2 (dk_at dksX2_openNow_0 7 rfl rfl)
theorem dX2_openNow_8 : decode cX2_openNow 8 = .ok (.goto 12, 3) := dk_167 0 12 (dk_at dksX2_openNow_0 8 rfl rfl)
theorem dX2_openNow_11 : decode cX2_openNow 11 = .ok (.aload_n 0, 1) := dk_42 (dk_at dksX2_openNow_0 11 rfl rfl)
theorem dX2_openNow_12 : decode cX2_openNow 12 = .ok (.getfield 29, 3) := dk_180 0 29 (dk_at dksX2_openNow_0 12 rfl rfl)
theorem dX2_openNow_15 : decode cX2_openNow 15 = .ok (.aload_n 0, 1) := dk_42 (dk_at dksX2_openNow_0 15 rfl rfl)
theorem dX2_openNow_16 : decode cX2_openNow 16 = .ok (.invokevirtual 158, 3) := dk_182 0 158 (dk_at dksX2_openNow_0 16 rfl rfl)
theorem dX2_openNow_19 : decode cX2_openNow 19 = .ok (.iaload, 1) := dk_46 (dk_at dksX2_openNow_0 19 rfl rfl)
theorem dX2_openNow_20 : decode cX2_openNow 20 = .ok (.ireturn, 1) := dk_172 (dk_at dksX2_openNow_0 20 rfl rfl)
abbrev cX2_openAt : ByteArray := prog_20_method_36_code
def yX2_openAt : MethodName := ⟨RX2, "openAt", "()I"⟩
def dkwX2_openAt_1 : List UInt8 := [132, 1, 255, 167, 255, 238, 27, 172]
abbrev dktX2_openAt_1 : List UInt8 := dkwX2_openAt_1 ++ []
def dkwX2_openAt_0 : List UInt8 := [42, 180, 0, 145, 4, 100, 60, 27, 155, 0, 20, 42, 180, 0, 29, 27, 46, 16, 40, 162, 0, 9]
abbrev dktX2_openAt_0 : List UInt8 := dkwX2_openAt_0 ++ dktX2_openAt_1
theorem dksX2_openAt_0 : cX2_openAt.data.toList.drop 0 = dktX2_openAt_0 := by decide +kernel
theorem dksX2_openAt_1 : cX2_openAt.data.toList.drop 22 = dktX2_openAt_1 := dk_seg dksX2_openAt_0 22 rfl rfl
theorem dX2_openAt_0 : decode cX2_openAt 0 = .ok (.aload_n 0, 1) := dk_42 (dk_at dksX2_openAt_0 0 rfl rfl)
theorem dX2_openAt_1 : decode cX2_openAt 1 = .ok (.getfield 145, 3) := dk_180 0 145 (dk_at dksX2_openAt_0 1 rfl rfl)
theorem dX2_openAt_4 : decode cX2_openAt 4 = .ok (.iconst 1, 1) := dk_4 (dk_at dksX2_openAt_0 4 rfl rfl)
theorem dX2_openAt_5 : decode cX2_openAt 5 = .ok (.isub, 1) := dk_100 (dk_at dksX2_openAt_0 5 rfl rfl)
theorem dX2_openAt_6 : decode cX2_openAt 6 = .ok (.istore_n 1, 1) := dk_60 (dk_at dksX2_openAt_0 6 rfl rfl)
theorem dX2_openAt_7 : decode cX2_openAt 7 = .ok (.iload_n 1, 1) := dk_27 (dk_at dksX2_openAt_0 7 rfl rfl)
theorem dX2_openAt_8 : decode cX2_openAt 8 = .ok (.ifCond .lt 20, 3) := dk_155 0 20 (dk_at dksX2_openAt_0 8 rfl rfl)
theorem dX2_openAt_11 : decode cX2_openAt 11 = .ok (.aload_n 0, 1) := dk_42 (dk_at dksX2_openAt_0 11 rfl rfl)
theorem dX2_openAt_12 : decode cX2_openAt 12 = .ok (.getfield 29, 3) := dk_180 0 29 (dk_at dksX2_openAt_0 12 rfl rfl)
theorem dX2_openAt_15 : decode cX2_openAt 15 = .ok (.iload_n 1, 1) := dk_27 (dk_at dksX2_openAt_0 15 rfl rfl)
theorem dX2_openAt_16 : decode cX2_openAt 16 = .ok (.iaload, 1) := dk_46 (dk_at dksX2_openAt_0 16 rfl rfl)
theorem dX2_openAt_17 : decode cX2_openAt 17 = .ok (.bipush 40, 2) := dk_16 40 (dk_at dksX2_openAt_0 17 rfl rfl)
theorem dX2_openAt_19 : decode cX2_openAt 19 = .ok (.if_icmp .ge 9, 3) := dk_162 0 9 (dk_at dksX2_openAt_0 19 rfl rfl)
theorem dX2_openAt_22 : decode cX2_openAt 22 = .ok (.iinc 1 (-1), 3) := dk_132 1 255 (dk_at dksX2_openAt_1 0 rfl rfl)
theorem dX2_openAt_25 : decode cX2_openAt 25 = .ok (.goto (-18), 3) := dk_167 255 238 (dk_at dksX2_openAt_1 3 rfl rfl)
theorem dX2_openAt_28 : decode cX2_openAt 28 = .ok (.iload_n 1, 1) := dk_27 (dk_at dksX2_openAt_1 6 rfl rfl)
theorem dX2_openAt_29 : decode cX2_openAt 29 = .ok (.ireturn, 1) := dk_172 (dk_at dksX2_openAt_1 7 rfl rfl)
abbrev cX2_isCompared : ByteArray := prog_20_method_38_code
def yX2_isCompared : MethodName := ⟨RX2, "isCompared", "()Z"⟩
def dkwX2_isCompared_2 : List UInt8 := [167, 0, 4, 3, 172]
abbrev dktX2_isCompared_2 : List UInt8 := dkwX2_isCompared_2 ++ []
def dkwX2_isCompared_1 : List UInt8 := [132, 1, 255, 167, 255, 236, 27, 155, 0, 20, 42, 180, 0, 29, 27, 46, 184, 0, 148, 7, 160, 0, 7, 4]
abbrev dktX2_isCompared_1 : List UInt8 := dkwX2_isCompared_1 ++ dktX2_isCompared_2
def dkwX2_isCompared_0 : List UInt8 := [42, 180, 0, 145, 4, 100, 60, 27, 155, 0, 22, 42, 180, 0, 29, 27, 46, 184, 0, 148, 7, 164, 0, 9]
abbrev dktX2_isCompared_0 : List UInt8 := dkwX2_isCompared_0 ++ dktX2_isCompared_1
theorem dksX2_isCompared_0 : cX2_isCompared.data.toList.drop 0 = dktX2_isCompared_0 := by decide +kernel
theorem dksX2_isCompared_1 : cX2_isCompared.data.toList.drop 24 = dktX2_isCompared_1 := dk_seg dksX2_isCompared_0 24 rfl rfl
theorem dksX2_isCompared_2 : cX2_isCompared.data.toList.drop 48 = dktX2_isCompared_2 := dk_seg dksX2_isCompared_1 24 rfl rfl
theorem dX2_isCompared_0 : decode cX2_isCompared 0 = .ok (.aload_n 0, 1) := dk_42 (dk_at dksX2_isCompared_0 0 rfl rfl)
theorem dX2_isCompared_1 : decode cX2_isCompared 1 = .ok (.getfield 145, 3) := dk_180 0 145 (dk_at dksX2_isCompared_0 1 rfl rfl)
theorem dX2_isCompared_4 : decode cX2_isCompared 4 = .ok (.iconst 1, 1) := dk_4 (dk_at dksX2_isCompared_0 4 rfl rfl)
theorem dX2_isCompared_5 : decode cX2_isCompared 5 = .ok (.isub, 1) := dk_100 (dk_at dksX2_isCompared_0 5 rfl rfl)
theorem dX2_isCompared_6 : decode cX2_isCompared 6 = .ok (.istore_n 1, 1) := dk_60 (dk_at dksX2_isCompared_0 6 rfl rfl)
theorem dX2_isCompared_7 : decode cX2_isCompared 7 = .ok (.iload_n 1, 1) := dk_27 (dk_at dksX2_isCompared_0 7 rfl rfl)
theorem dX2_isCompared_8 : decode cX2_isCompared 8 = .ok (.ifCond .lt 22, 3) := dk_155 0 22 (dk_at dksX2_isCompared_0 8 rfl rfl)
theorem dX2_isCompared_11 : decode cX2_isCompared 11 = .ok (.aload_n 0, 1) := dk_42 (dk_at dksX2_isCompared_0 11 rfl rfl)
theorem dX2_isCompared_12 : decode cX2_isCompared 12 = .ok (.getfield 29, 3) := dk_180 0 29 (dk_at dksX2_isCompared_0 12 rfl rfl)
theorem dX2_isCompared_15 : decode cX2_isCompared 15 = .ok (.iload_n 1, 1) := dk_27 (dk_at dksX2_isCompared_0 15 rfl rfl)
theorem dX2_isCompared_16 : decode cX2_isCompared 16 = .ok (.iaload, 1) := dk_46 (dk_at dksX2_isCompared_0 16 rfl rfl)
theorem dX2_isCompared_17 : decode cX2_isCompared 17 = .ok (.invokestatic 148, 3) := dk_184 0 148 (dk_at dksX2_isCompared_0 17 rfl rfl)
theorem dX2_isCompared_20 : decode cX2_isCompared 20 = .ok (.iconst 4, 1) := dk_7 (dk_at dksX2_isCompared_0 20 rfl rfl)
theorem dX2_isCompared_21 : decode cX2_isCompared 21 = .ok (.if_icmp .le 9, 3) := dk_164 0 9 (dk_at dksX2_isCompared_0 21 rfl rfl)
theorem dX2_isCompared_24 : decode cX2_isCompared 24 = .ok (.iinc 1 (-1), 3) := dk_132 1 255 (dk_at dksX2_isCompared_1 0 rfl rfl)
theorem dX2_isCompared_27 : decode cX2_isCompared 27 = .ok (.goto (-20), 3) := dk_167 255 236 (dk_at dksX2_isCompared_1 3 rfl rfl)
theorem dX2_isCompared_30 : decode cX2_isCompared 30 = .ok (.iload_n 1, 1) := dk_27 (dk_at dksX2_isCompared_1 6 rfl rfl)
theorem dX2_isCompared_31 : decode cX2_isCompared 31 = .ok (.ifCond .lt 20, 3) := dk_155 0 20 (dk_at dksX2_isCompared_1 7 rfl rfl)
theorem dX2_isCompared_34 : decode cX2_isCompared 34 = .ok (.aload_n 0, 1) := dk_42 (dk_at dksX2_isCompared_1 10 rfl rfl)
theorem dX2_isCompared_35 : decode cX2_isCompared 35 = .ok (.getfield 29, 3) := dk_180 0 29 (dk_at dksX2_isCompared_1 11 rfl rfl)
theorem dX2_isCompared_38 : decode cX2_isCompared 38 = .ok (.iload_n 1, 1) := dk_27 (dk_at dksX2_isCompared_1 14 rfl rfl)
theorem dX2_isCompared_39 : decode cX2_isCompared 39 = .ok (.iaload, 1) := dk_46 (dk_at dksX2_isCompared_1 15 rfl rfl)
theorem dX2_isCompared_40 : decode cX2_isCompared 40 = .ok (.invokestatic 148, 3) := dk_184 0 148 (dk_at dksX2_isCompared_1 16 rfl rfl)
theorem dX2_isCompared_43 : decode cX2_isCompared 43 = .ok (.iconst 4, 1) := dk_7 (dk_at dksX2_isCompared_1 19 rfl rfl)
theorem dX2_isCompared_44 : decode cX2_isCompared 44 = .ok (.if_icmp .ne 7, 3) := dk_160 0 7 (dk_at dksX2_isCompared_1 20 rfl rfl)
theorem dX2_isCompared_47 : decode cX2_isCompared 47 = .ok (.iconst 1, 1) := dk_4 (dk_at dksX2_isCompared_1 23 rfl rfl)
theorem dX2_isCompared_48 : decode cX2_isCompared 48 = .ok (.goto 4, 3) := dk_167 0 4 (dk_at dksX2_isCompared_2 0 rfl rfl)
theorem dX2_isCompared_51 : decode cX2_isCompared 51 = .ok (.iconst 0, 1) := dk_3 (dk_at dksX2_isCompared_2 3 rfl rfl)
theorem dX2_isCompared_52 : decode cX2_isCompared 52 = .ok (.ireturn, 1) := dk_172 (dk_at dksX2_isCompared_2 4 rfl rfl)
abbrev cX2_rank : ByteArray := prog_20_method_34_code
def yX2_rank : MethodName := ⟨RX2, "rank", "(I)I"⟩
def dkwX2_rank_3 : List UInt8 := [16, 8, 161, 0, 8, 16, 6, 167, 0, 4, 8, 172]
abbrev dktX2_rank_3 : List UInt8 := dkwX2_rank_3 ++ []
def dkwX2_rank_2 : List UInt8 := [167, 0, 35, 26, 8, 159, 0, 13, 26, 5, 159, 0, 8, 26, 7, 160, 0, 8, 16, 7, 167, 0, 15, 26]
abbrev dktX2_rank_2 : List UInt8 := dkwX2_rank_2 ++ dktX2_rank_3
def dkwX2_rank_1 : List UInt8 := [160, 0, 7, 5, 167, 0, 55, 26, 16, 20, 160, 0, 7, 6, 167, 0, 45, 26, 16, 10, 161, 0, 7, 7]
abbrev dktX2_rank_1 : List UInt8 := dkwX2_rank_1 ++ dktX2_rank_2
def dkwX2_rank_0 : List UInt8 := [26, 16, 40, 161, 0, 7, 3, 167, 0, 75, 26, 16, 22, 160, 0, 7, 4, 167, 0, 65, 26, 16, 21]
abbrev dktX2_rank_0 : List UInt8 := dkwX2_rank_0 ++ dktX2_rank_1
theorem dksX2_rank_0 : cX2_rank.data.toList.drop 0 = dktX2_rank_0 := by decide +kernel
theorem dksX2_rank_1 : cX2_rank.data.toList.drop 23 = dktX2_rank_1 := dk_seg dksX2_rank_0 23 rfl rfl
theorem dksX2_rank_2 : cX2_rank.data.toList.drop 47 = dktX2_rank_2 := dk_seg dksX2_rank_1 24 rfl rfl
theorem dksX2_rank_3 : cX2_rank.data.toList.drop 71 = dktX2_rank_3 := dk_seg dksX2_rank_2 24 rfl rfl
theorem dX2_rank_0 : decode cX2_rank 0 = .ok (.iload_n 0, 1) := dk_26 (dk_at dksX2_rank_0 0 rfl rfl)
theorem dX2_rank_1 : decode cX2_rank 1 = .ok (.bipush 40, 2) := dk_16 40 (dk_at dksX2_rank_0 1 rfl rfl)
theorem dX2_rank_3 : decode cX2_rank 3 = .ok (.if_icmp .lt 7, 3) := dk_161 0 7 (dk_at dksX2_rank_0 3 rfl rfl)
theorem dX2_rank_6 : decode cX2_rank 6 = .ok (.iconst 0, 1) := dk_3 (dk_at dksX2_rank_0 6 rfl rfl)
theorem dX2_rank_7 : decode cX2_rank 7 = .ok (.goto 75, 3) := dk_167 0 75 (dk_at dksX2_rank_0 7 rfl rfl)
theorem dX2_rank_10 : decode cX2_rank 10 = .ok (.iload_n 0, 1) := dk_26 (dk_at dksX2_rank_0 10 rfl rfl)
theorem dX2_rank_11 : decode cX2_rank 11 = .ok (.bipush 22, 2) := dk_16 22 (dk_at dksX2_rank_0 11 rfl rfl)
theorem dX2_rank_13 : decode cX2_rank 13 = .ok (.if_icmp .ne 7, 3) := dk_160 0 7 (dk_at dksX2_rank_0 13 rfl rfl)
theorem dX2_rank_16 : decode cX2_rank 16 = .ok (.iconst 1, 1) := dk_4 (dk_at dksX2_rank_0 16 rfl rfl)
theorem dX2_rank_17 : decode cX2_rank 17 = .ok (.goto 65, 3) := dk_167 0 65 (dk_at dksX2_rank_0 17 rfl rfl)
theorem dX2_rank_20 : decode cX2_rank 20 = .ok (.iload_n 0, 1) := dk_26 (dk_at dksX2_rank_0 20 rfl rfl)
theorem dX2_rank_21 : decode cX2_rank 21 = .ok (.bipush 21, 2) := dk_16 21 (dk_at dksX2_rank_0 21 rfl rfl)
theorem dX2_rank_23 : decode cX2_rank 23 = .ok (.if_icmp .ne 7, 3) := dk_160 0 7 (dk_at dksX2_rank_1 0 rfl rfl)
theorem dX2_rank_26 : decode cX2_rank 26 = .ok (.iconst 2, 1) := dk_5 (dk_at dksX2_rank_1 3 rfl rfl)
theorem dX2_rank_27 : decode cX2_rank 27 = .ok (.goto 55, 3) := dk_167 0 55 (dk_at dksX2_rank_1 4 rfl rfl)
theorem dX2_rank_30 : decode cX2_rank 30 = .ok (.iload_n 0, 1) := dk_26 (dk_at dksX2_rank_1 7 rfl rfl)
theorem dX2_rank_31 : decode cX2_rank 31 = .ok (.bipush 20, 2) := dk_16 20 (dk_at dksX2_rank_1 8 rfl rfl)
theorem dX2_rank_33 : decode cX2_rank 33 = .ok (.if_icmp .ne 7, 3) := dk_160 0 7 (dk_at dksX2_rank_1 10 rfl rfl)
theorem dX2_rank_36 : decode cX2_rank 36 = .ok (.iconst 3, 1) := dk_6 (dk_at dksX2_rank_1 13 rfl rfl)
theorem dX2_rank_37 : decode cX2_rank 37 = .ok (.goto 45, 3) := dk_167 0 45 (dk_at dksX2_rank_1 14 rfl rfl)
theorem dX2_rank_40 : decode cX2_rank 40 = .ok (.iload_n 0, 1) := dk_26 (dk_at dksX2_rank_1 17 rfl rfl)
theorem dX2_rank_41 : decode cX2_rank 41 = .ok (.bipush 10, 2) := dk_16 10 (dk_at dksX2_rank_1 18 rfl rfl)
theorem dX2_rank_43 : decode cX2_rank 43 = .ok (.if_icmp .lt 7, 3) := dk_161 0 7 (dk_at dksX2_rank_1 20 rfl rfl)
theorem dX2_rank_46 : decode cX2_rank 46 = .ok (.iconst 4, 1) := dk_7 (dk_at dksX2_rank_1 23 rfl rfl)
theorem dX2_rank_47 : decode cX2_rank 47 = .ok (.goto 35, 3) := dk_167 0 35 (dk_at dksX2_rank_2 0 rfl rfl)
theorem dX2_rank_50 : decode cX2_rank 50 = .ok (.iload_n 0, 1) := dk_26 (dk_at dksX2_rank_2 3 rfl rfl)
theorem dX2_rank_51 : decode cX2_rank 51 = .ok (.iconst 5, 1) := dk_8 (dk_at dksX2_rank_2 4 rfl rfl)
theorem dX2_rank_52 : decode cX2_rank 52 = .ok (.if_icmp .eq 13, 3) := dk_159 0 13 (dk_at dksX2_rank_2 5 rfl rfl)
theorem dX2_rank_55 : decode cX2_rank 55 = .ok (.iload_n 0, 1) := dk_26 (dk_at dksX2_rank_2 8 rfl rfl)
theorem dX2_rank_56 : decode cX2_rank 56 = .ok (.iconst 2, 1) := dk_5 (dk_at dksX2_rank_2 9 rfl rfl)
theorem dX2_rank_57 : decode cX2_rank 57 = .ok (.if_icmp .eq 8, 3) := dk_159 0 8 (dk_at dksX2_rank_2 10 rfl rfl)
theorem dX2_rank_60 : decode cX2_rank 60 = .ok (.iload_n 0, 1) := dk_26 (dk_at dksX2_rank_2 13 rfl rfl)
theorem dX2_rank_61 : decode cX2_rank 61 = .ok (.iconst 4, 1) := dk_7 (dk_at dksX2_rank_2 14 rfl rfl)
theorem dX2_rank_62 : decode cX2_rank 62 = .ok (.if_icmp .ne 8, 3) := dk_160 0 8 (dk_at dksX2_rank_2 15 rfl rfl)
theorem dX2_rank_65 : decode cX2_rank 65 = .ok (.bipush 7, 2) := dk_16 7 (dk_at dksX2_rank_2 18 rfl rfl)
theorem dX2_rank_67 : decode cX2_rank 67 = .ok (.goto 15, 3) := dk_167 0 15 (dk_at dksX2_rank_2 20 rfl rfl)
theorem dX2_rank_70 : decode cX2_rank 70 = .ok (.iload_n 0, 1) := dk_26 (dk_at dksX2_rank_2 23 rfl rfl)
theorem dX2_rank_71 : decode cX2_rank 71 = .ok (.bipush 8, 2) := dk_16 8 (dk_at dksX2_rank_3 0 rfl rfl)
theorem dX2_rank_73 : decode cX2_rank 73 = .ok (.if_icmp .lt 8, 3) := dk_161 0 8 (dk_at dksX2_rank_3 2 rfl rfl)
theorem dX2_rank_76 : decode cX2_rank 76 = .ok (.bipush 6, 2) := dk_16 6 (dk_at dksX2_rank_3 5 rfl rfl)
theorem dX2_rank_78 : decode cX2_rank 78 = .ok (.goto 4, 3) := dk_167 0 4 (dk_at dksX2_rank_3 7 rfl rfl)
theorem dX2_rank_81 : decode cX2_rank 81 = .ok (.iconst 5, 1) := dk_8 (dk_at dksX2_rank_3 10 rfl rfl)
theorem dX2_rank_82 : decode cX2_rank 82 = .ok (.ireturn, 1) := dk_172 (dk_at dksX2_rank_3 11 rfl rfl)
abbrev cX2_compareOf : ByteArray := prog_20_method_43_code
def yX2_compareOf : MethodName := ⟨RX2, "compareOf", "()I"⟩
def dkwX2_compareOf_3 : List UInt8 := [180, 0, 98, 16, 35, 160, 0, 8, 16, 15, 167, 0, 4, 2, 172]
abbrev dktX2_compareOf_3 : List UInt8 := dkwX2_compareOf_3 ++ []
def dkwX2_compareOf_2 : List UInt8 := [160, 0, 8, 16, 13, 167, 0, 32, 42, 180, 0, 98, 16, 61, 160, 0, 8, 16, 14, 167, 0, 18, 42]
abbrev dktX2_compareOf_2 : List UInt8 := dkwX2_compareOf_2 ++ dktX2_compareOf_3
def dkwX2_compareOf_1 : List UInt8 := [167, 0, 59, 42, 180, 0, 98, 16, 62, 160, 0, 8, 16, 12, 167, 0, 45, 42, 180, 0, 98, 8]
abbrev dktX2_compareOf_1 : List UInt8 := dkwX2_compareOf_1 ++ dktX2_compareOf_2
def dkwX2_compareOf_0 : List UInt8 := [42, 180, 0, 98, 16, 60, 160, 0, 8, 16, 10, 167, 0, 72, 42, 180, 0, 98, 7, 160, 0, 8, 16, 11]
abbrev dktX2_compareOf_0 : List UInt8 := dkwX2_compareOf_0 ++ dktX2_compareOf_1
theorem dksX2_compareOf_0 : cX2_compareOf.data.toList.drop 0 = dktX2_compareOf_0 := by decide +kernel
theorem dksX2_compareOf_1 : cX2_compareOf.data.toList.drop 24 = dktX2_compareOf_1 := dk_seg dksX2_compareOf_0 24 rfl rfl
theorem dksX2_compareOf_2 : cX2_compareOf.data.toList.drop 46 = dktX2_compareOf_2 := dk_seg dksX2_compareOf_1 22 rfl rfl
theorem dksX2_compareOf_3 : cX2_compareOf.data.toList.drop 69 = dktX2_compareOf_3 := dk_seg dksX2_compareOf_2 23 rfl rfl
theorem dX2_compareOf_0 : decode cX2_compareOf 0 = .ok (.aload_n 0, 1) := dk_42 (dk_at dksX2_compareOf_0 0 rfl rfl)
theorem dX2_compareOf_1 : decode cX2_compareOf 1 = .ok (.getfield 98, 3) := dk_180 0 98 (dk_at dksX2_compareOf_0 1 rfl rfl)
theorem dX2_compareOf_4 : decode cX2_compareOf 4 = .ok (.bipush 60, 2) := dk_16 60 (dk_at dksX2_compareOf_0 4 rfl rfl)
theorem dX2_compareOf_6 : decode cX2_compareOf 6 = .ok (.if_icmp .ne 8, 3) := dk_160 0 8 (dk_at dksX2_compareOf_0 6 rfl rfl)
theorem dX2_compareOf_9 : decode cX2_compareOf 9 = .ok (.bipush 10, 2) := dk_16 10 (dk_at dksX2_compareOf_0 9 rfl rfl)
theorem dX2_compareOf_11 : decode cX2_compareOf 11 = .ok (.goto 72, 3) := dk_167 0 72 (dk_at dksX2_compareOf_0 11 rfl rfl)
theorem dX2_compareOf_14 : decode cX2_compareOf 14 = .ok (.aload_n 0, 1) := dk_42 (dk_at dksX2_compareOf_0 14 rfl rfl)
theorem dX2_compareOf_15 : decode cX2_compareOf 15 = .ok (.getfield 98, 3) := dk_180 0 98 (dk_at dksX2_compareOf_0 15 rfl rfl)
theorem dX2_compareOf_18 : decode cX2_compareOf 18 = .ok (.iconst 4, 1) := dk_7 (dk_at dksX2_compareOf_0 18 rfl rfl)
theorem dX2_compareOf_19 : decode cX2_compareOf 19 = .ok (.if_icmp .ne 8, 3) := dk_160 0 8 (dk_at dksX2_compareOf_0 19 rfl rfl)
theorem dX2_compareOf_22 : decode cX2_compareOf 22 = .ok (.bipush 11, 2) := dk_16 11 (dk_at dksX2_compareOf_0 22 rfl rfl)
theorem dX2_compareOf_24 : decode cX2_compareOf 24 = .ok (.goto 59, 3) := dk_167 0 59 (dk_at dksX2_compareOf_1 0 rfl rfl)
theorem dX2_compareOf_27 : decode cX2_compareOf 27 = .ok (.aload_n 0, 1) := dk_42 (dk_at dksX2_compareOf_1 3 rfl rfl)
theorem dX2_compareOf_28 : decode cX2_compareOf 28 = .ok (.getfield 98, 3) := dk_180 0 98 (dk_at dksX2_compareOf_1 4 rfl rfl)
theorem dX2_compareOf_31 : decode cX2_compareOf 31 = .ok (.bipush 62, 2) := dk_16 62 (dk_at dksX2_compareOf_1 7 rfl rfl)
theorem dX2_compareOf_33 : decode cX2_compareOf 33 = .ok (.if_icmp .ne 8, 3) := dk_160 0 8 (dk_at dksX2_compareOf_1 9 rfl rfl)
theorem dX2_compareOf_36 : decode cX2_compareOf 36 = .ok (.bipush 12, 2) := dk_16 12 (dk_at dksX2_compareOf_1 12 rfl rfl)
theorem dX2_compareOf_38 : decode cX2_compareOf 38 = .ok (.goto 45, 3) := dk_167 0 45 (dk_at dksX2_compareOf_1 14 rfl rfl)
theorem dX2_compareOf_41 : decode cX2_compareOf 41 = .ok (.aload_n 0, 1) := dk_42 (dk_at dksX2_compareOf_1 17 rfl rfl)
theorem dX2_compareOf_42 : decode cX2_compareOf 42 = .ok (.getfield 98, 3) := dk_180 0 98 (dk_at dksX2_compareOf_1 18 rfl rfl)
theorem dX2_compareOf_45 : decode cX2_compareOf 45 = .ok (.iconst 5, 1) := dk_8 (dk_at dksX2_compareOf_1 21 rfl rfl)
theorem dX2_compareOf_46 : decode cX2_compareOf 46 = .ok (.if_icmp .ne 8, 3) := dk_160 0 8 (dk_at dksX2_compareOf_2 0 rfl rfl)
theorem dX2_compareOf_49 : decode cX2_compareOf 49 = .ok (.bipush 13, 2) := dk_16 13 (dk_at dksX2_compareOf_2 3 rfl rfl)
theorem dX2_compareOf_51 : decode cX2_compareOf 51 = .ok (.goto 32, 3) := dk_167 0 32 (dk_at dksX2_compareOf_2 5 rfl rfl)
theorem dX2_compareOf_54 : decode cX2_compareOf 54 = .ok (.aload_n 0, 1) := dk_42 (dk_at dksX2_compareOf_2 8 rfl rfl)
theorem dX2_compareOf_55 : decode cX2_compareOf 55 = .ok (.getfield 98, 3) := dk_180 0 98 (dk_at dksX2_compareOf_2 9 rfl rfl)
theorem dX2_compareOf_58 : decode cX2_compareOf 58 = .ok (.bipush 61, 2) := dk_16 61 (dk_at dksX2_compareOf_2 12 rfl rfl)
theorem dX2_compareOf_60 : decode cX2_compareOf 60 = .ok (.if_icmp .ne 8, 3) := dk_160 0 8 (dk_at dksX2_compareOf_2 14 rfl rfl)
theorem dX2_compareOf_63 : decode cX2_compareOf 63 = .ok (.bipush 14, 2) := dk_16 14 (dk_at dksX2_compareOf_2 17 rfl rfl)
theorem dX2_compareOf_65 : decode cX2_compareOf 65 = .ok (.goto 18, 3) := dk_167 0 18 (dk_at dksX2_compareOf_2 19 rfl rfl)
theorem dX2_compareOf_68 : decode cX2_compareOf 68 = .ok (.aload_n 0, 1) := dk_42 (dk_at dksX2_compareOf_2 22 rfl rfl)
theorem dX2_compareOf_69 : decode cX2_compareOf 69 = .ok (.getfield 98, 3) := dk_180 0 98 (dk_at dksX2_compareOf_3 0 rfl rfl)
theorem dX2_compareOf_72 : decode cX2_compareOf 72 = .ok (.bipush 35, 2) := dk_16 35 (dk_at dksX2_compareOf_3 3 rfl rfl)
theorem dX2_compareOf_74 : decode cX2_compareOf 74 = .ok (.if_icmp .ne 8, 3) := dk_160 0 8 (dk_at dksX2_compareOf_3 5 rfl rfl)
theorem dX2_compareOf_77 : decode cX2_compareOf 77 = .ok (.bipush 15, 2) := dk_16 15 (dk_at dksX2_compareOf_3 8 rfl rfl)
theorem dX2_compareOf_79 : decode cX2_compareOf 79 = .ok (.goto 4, 3) := dk_167 0 4 (dk_at dksX2_compareOf_3 10 rfl rfl)
theorem dX2_compareOf_82 : decode cX2_compareOf 82 = .ok (.iconst (-1), 1) := dk_2 (dk_at dksX2_compareOf_3 13 rfl rfl)
theorem dX2_compareOf_83 : decode cX2_compareOf 83 = .ok (.ireturn, 1) := dk_172 (dk_at dksX2_compareOf_3 14 rfl rfl)
abbrev cX2_settle : ByteArray := prog_20_method_35_code
def yX2_settle : MethodName := ⟨RX2, "settle", "(I)V"⟩
def dkwX2_settle_3 : List UInt8 := [42, 180, 0, 145, 46, 16, 20, 160, 255, 179, 42, 89, 180, 0, 155, 4, 100, 181, 0, 155, 167, 255, 166, 177]
abbrev dktX2_settle_3 : List UInt8 := dkwX2_settle_3 ++ []
def dkwX2_settle_2 : List UInt8 := [182, 0, 151, 42, 180, 0, 29, 42, 180, 0, 145, 46, 184, 0, 148, 16, 7, 159, 0, 17, 42, 180, 0, 29]
abbrev dktX2_settle_2 : List UInt8 := dkwX2_settle_2 ++ dktX2_settle_3
def dkwX2_settle_1 : List UInt8 := [161, 0, 71, 42, 89, 180, 0, 145, 4, 100, 181, 0, 145, 42, 42, 180, 0, 29, 42, 180, 0, 145, 46, 3]
abbrev dktX2_settle_1 : List UInt8 := dkwX2_settle_1 ++ dktX2_settle_2
def dkwX2_settle_0 : List UInt8 := [42, 180, 0, 145, 158, 0, 89, 42, 180, 0, 29, 42, 180, 0, 145, 4, 100, 46, 184, 0, 148, 27]
abbrev dktX2_settle_0 : List UInt8 := dkwX2_settle_0 ++ dktX2_settle_1
theorem dksX2_settle_0 : cX2_settle.data.toList.drop 0 = dktX2_settle_0 := by decide +kernel
theorem dksX2_settle_1 : cX2_settle.data.toList.drop 22 = dktX2_settle_1 := dk_seg dksX2_settle_0 22 rfl rfl
theorem dksX2_settle_2 : cX2_settle.data.toList.drop 46 = dktX2_settle_2 := dk_seg dksX2_settle_1 24 rfl rfl
theorem dksX2_settle_3 : cX2_settle.data.toList.drop 70 = dktX2_settle_3 := dk_seg dksX2_settle_2 24 rfl rfl
theorem dX2_settle_0 : decode cX2_settle 0 = .ok (.aload_n 0, 1) := dk_42 (dk_at dksX2_settle_0 0 rfl rfl)
theorem dX2_settle_1 : decode cX2_settle 1 = .ok (.getfield 145, 3) := dk_180 0 145 (dk_at dksX2_settle_0 1 rfl rfl)
theorem dX2_settle_4 : decode cX2_settle 4 = .ok (.ifCond .le 89, 3) := dk_158 0 89 (dk_at dksX2_settle_0 4 rfl rfl)
theorem dX2_settle_7 : decode cX2_settle 7 = .ok (.aload_n 0, 1) := dk_42 (dk_at dksX2_settle_0 7 rfl rfl)
theorem dX2_settle_8 : decode cX2_settle 8 = .ok (.getfield 29, 3) := dk_180 0 29 (dk_at dksX2_settle_0 8 rfl rfl)
theorem dX2_settle_11 : decode cX2_settle 11 = .ok (.aload_n 0, 1) := dk_42 (dk_at dksX2_settle_0 11 rfl rfl)
theorem dX2_settle_12 : decode cX2_settle 12 = .ok (.getfield 145, 3) := dk_180 0 145 (dk_at dksX2_settle_0 12 rfl rfl)
theorem dX2_settle_15 : decode cX2_settle 15 = .ok (.iconst 1, 1) := dk_4 (dk_at dksX2_settle_0 15 rfl rfl)
theorem dX2_settle_16 : decode cX2_settle 16 = .ok (.isub, 1) := dk_100 (dk_at dksX2_settle_0 16 rfl rfl)
theorem dX2_settle_17 : decode cX2_settle 17 = .ok (.iaload, 1) := dk_46 (dk_at dksX2_settle_0 17 rfl rfl)
theorem dX2_settle_18 : decode cX2_settle 18 = .ok (.invokestatic 148, 3) := dk_184 0 148 (dk_at dksX2_settle_0 18 rfl rfl)
theorem dX2_settle_21 : decode cX2_settle 21 = .ok (.iload_n 1, 1) := dk_27 (dk_at dksX2_settle_0 21 rfl rfl)
theorem dX2_settle_22 : decode cX2_settle 22 = .ok (.if_icmp .lt 71, 3) := dk_161 0 71 (dk_at dksX2_settle_1 0 rfl rfl)
theorem dX2_settle_25 : decode cX2_settle 25 = .ok (.aload_n 0, 1) := dk_42 (dk_at dksX2_settle_1 3 rfl rfl)
theorem dX2_settle_26 : decode cX2_settle 26 = .ok (.dup, 1) := dk_89 (dk_at dksX2_settle_1 4 rfl rfl)
theorem dX2_settle_27 : decode cX2_settle 27 = .ok (.getfield 145, 3) := dk_180 0 145 (dk_at dksX2_settle_1 5 rfl rfl)
theorem dX2_settle_30 : decode cX2_settle 30 = .ok (.iconst 1, 1) := dk_4 (dk_at dksX2_settle_1 8 rfl rfl)
theorem dX2_settle_31 : decode cX2_settle 31 = .ok (.isub, 1) := dk_100 (dk_at dksX2_settle_1 9 rfl rfl)
theorem dX2_settle_32 : decode cX2_settle 32 = .ok (.putfield 145, 3) := dk_181 0 145 (dk_at dksX2_settle_1 10 rfl rfl)
theorem dX2_settle_35 : decode cX2_settle 35 = .ok (.aload_n 0, 1) := dk_42 (dk_at dksX2_settle_1 13 rfl rfl)
theorem dX2_settle_36 : decode cX2_settle 36 = .ok (.aload_n 0, 1) := dk_42 (dk_at dksX2_settle_1 14 rfl rfl)
theorem dX2_settle_37 : decode cX2_settle 37 = .ok (.getfield 29, 3) := dk_180 0 29 (dk_at dksX2_settle_1 15 rfl rfl)
theorem dX2_settle_40 : decode cX2_settle 40 = .ok (.aload_n 0, 1) := dk_42 (dk_at dksX2_settle_1 18 rfl rfl)
theorem dX2_settle_41 : decode cX2_settle 41 = .ok (.getfield 145, 3) := dk_180 0 145 (dk_at dksX2_settle_1 19 rfl rfl)
theorem dX2_settle_44 : decode cX2_settle 44 = .ok (.iaload, 1) := dk_46 (dk_at dksX2_settle_1 22 rfl rfl)
theorem dX2_settle_45 : decode cX2_settle 45 = .ok (.iconst 0, 1) := dk_3 (dk_at dksX2_settle_1 23 rfl rfl)
theorem dX2_settle_46 : decode cX2_settle 46 = .ok (.invokevirtual 151, 3) := dk_182 0 151 (dk_at dksX2_settle_2 0 rfl rfl)
theorem dX2_settle_49 : decode cX2_settle 49 = .ok (.aload_n 0, 1) := dk_42 (dk_at dksX2_settle_2 3 rfl rfl)
theorem dX2_settle_50 : decode cX2_settle 50 = .ok (.getfield 29, 3) := dk_180 0 29 (dk_at dksX2_settle_2 4 rfl rfl)
theorem dX2_settle_53 : decode cX2_settle 53 = .ok (.aload_n 0, 1) := dk_42 (dk_at dksX2_settle_2 7 rfl rfl)
theorem dX2_settle_54 : decode cX2_settle 54 = .ok (.getfield 145, 3) := dk_180 0 145 (dk_at dksX2_settle_2 8 rfl rfl)
theorem dX2_settle_57 : decode cX2_settle 57 = .ok (.iaload, 1) := dk_46 (dk_at dksX2_settle_2 11 rfl rfl)
theorem dX2_settle_58 : decode cX2_settle 58 = .ok (.invokestatic 148, 3) := dk_184 0 148 (dk_at dksX2_settle_2 12 rfl rfl)
theorem dX2_settle_61 : decode cX2_settle 61 = .ok (.bipush 7, 2) := dk_16 7 (dk_at dksX2_settle_2 15 rfl rfl)
theorem dX2_settle_63 : decode cX2_settle 63 = .ok (.if_icmp .eq 17, 3) := dk_159 0 17 (dk_at dksX2_settle_2 17 rfl rfl)
theorem dX2_settle_66 : decode cX2_settle 66 = .ok (.aload_n 0, 1) := dk_42 (dk_at dksX2_settle_2 20 rfl rfl)
theorem dX2_settle_67 : decode cX2_settle 67 = .ok (.getfield 29, 3) := dk_180 0 29 (dk_at dksX2_settle_2 21 rfl rfl)
theorem dX2_settle_70 : decode cX2_settle 70 = .ok (.aload_n 0, 1) := dk_42 (dk_at dksX2_settle_3 0 rfl rfl)
theorem dX2_settle_71 : decode cX2_settle 71 = .ok (.getfield 145, 3) := dk_180 0 145 (dk_at dksX2_settle_3 1 rfl rfl)
theorem dX2_settle_74 : decode cX2_settle 74 = .ok (.iaload, 1) := dk_46 (dk_at dksX2_settle_3 4 rfl rfl)
theorem dX2_settle_75 : decode cX2_settle 75 = .ok (.bipush 20, 2) := dk_16 20 (dk_at dksX2_settle_3 5 rfl rfl)
theorem dX2_settle_77 : decode cX2_settle 77 = .ok (.if_icmp .ne (-77), 3) := dk_160 255 179 (dk_at dksX2_settle_3 7 rfl rfl)
theorem dX2_settle_80 : decode cX2_settle 80 = .ok (.aload_n 0, 1) := dk_42 (dk_at dksX2_settle_3 10 rfl rfl)
theorem dX2_settle_81 : decode cX2_settle 81 = .ok (.dup, 1) := dk_89 (dk_at dksX2_settle_3 11 rfl rfl)
theorem dX2_settle_82 : decode cX2_settle 82 = .ok (.getfield 155, 3) := dk_180 0 155 (dk_at dksX2_settle_3 12 rfl rfl)
theorem dX2_settle_85 : decode cX2_settle 85 = .ok (.iconst 1, 1) := dk_4 (dk_at dksX2_settle_3 15 rfl rfl)
theorem dX2_settle_86 : decode cX2_settle 86 = .ok (.isub, 1) := dk_100 (dk_at dksX2_settle_3 16 rfl rfl)
theorem dX2_settle_87 : decode cX2_settle 87 = .ok (.putfield 155, 3) := dk_181 0 155 (dk_at dksX2_settle_3 17 rfl rfl)
theorem dX2_settle_90 : decode cX2_settle 90 = .ok (.goto (-90), 3) := dk_167 255 166 (dk_at dksX2_settle_3 20 rfl rfl)
theorem dX2_settle_93 : decode cX2_settle 93 = .ok (.return_, 1) := dk_177 (dk_at dksX2_settle_3 23 rfl rfl)
abbrev cX2_emit : ByteArray := prog_20_method_30_code
def yX2_emit : MethodName := ⟨RX2, "emit", "(II)V"⟩
def dkwX2_emit_2 : List UInt8 := [96, 181, 0, 139, 177]
abbrev dktX2_emit_2 : List UInt8 := dkwX2_emit_2 ++ []
def dkwX2_emit_1 : List UInt8 := [42, 180, 0, 136, 16, 97, 96, 5, 42, 180, 0, 139, 104, 96, 4, 96, 28, 79, 42, 89, 180, 0, 139, 4]
abbrev dktX2_emit_1 : List UInt8 := dkwX2_emit_1 ++ dktX2_emit_2
def dkwX2_emit_0 : List UInt8 := [42, 180, 0, 16, 42, 180, 0, 136, 16, 97, 96, 5, 42, 180, 0, 139, 104, 96, 27, 79, 42, 180, 0, 16]
abbrev dktX2_emit_0 : List UInt8 := dkwX2_emit_0 ++ dktX2_emit_1
theorem dksX2_emit_0 : cX2_emit.data.toList.drop 0 = dktX2_emit_0 := by decide +kernel
theorem dksX2_emit_1 : cX2_emit.data.toList.drop 24 = dktX2_emit_1 := dk_seg dksX2_emit_0 24 rfl rfl
theorem dksX2_emit_2 : cX2_emit.data.toList.drop 48 = dktX2_emit_2 := dk_seg dksX2_emit_1 24 rfl rfl
theorem dX2_emit_0 : decode cX2_emit 0 = .ok (.aload_n 0, 1) := dk_42 (dk_at dksX2_emit_0 0 rfl rfl)
theorem dX2_emit_1 : decode cX2_emit 1 = .ok (.getfield 16, 3) := dk_180 0 16 (dk_at dksX2_emit_0 1 rfl rfl)
theorem dX2_emit_4 : decode cX2_emit 4 = .ok (.aload_n 0, 1) := dk_42 (dk_at dksX2_emit_0 4 rfl rfl)
theorem dX2_emit_5 : decode cX2_emit 5 = .ok (.getfield 136, 3) := dk_180 0 136 (dk_at dksX2_emit_0 5 rfl rfl)
theorem dX2_emit_8 : decode cX2_emit 8 = .ok (.bipush 97, 2) := dk_16 97 (dk_at dksX2_emit_0 8 rfl rfl)
theorem dX2_emit_10 : decode cX2_emit 10 = .ok (.iadd, 1) := dk_96 (dk_at dksX2_emit_0 10 rfl rfl)
theorem dX2_emit_11 : decode cX2_emit 11 = .ok (.iconst 2, 1) := dk_5 (dk_at dksX2_emit_0 11 rfl rfl)
theorem dX2_emit_12 : decode cX2_emit 12 = .ok (.aload_n 0, 1) := dk_42 (dk_at dksX2_emit_0 12 rfl rfl)
theorem dX2_emit_13 : decode cX2_emit 13 = .ok (.getfield 139, 3) := dk_180 0 139 (dk_at dksX2_emit_0 13 rfl rfl)
theorem dX2_emit_16 : decode cX2_emit 16 = .ok (.imul, 1) := dk_104 (dk_at dksX2_emit_0 16 rfl rfl)
theorem dX2_emit_17 : decode cX2_emit 17 = .ok (.iadd, 1) := dk_96 (dk_at dksX2_emit_0 17 rfl rfl)
theorem dX2_emit_18 : decode cX2_emit 18 = .ok (.iload_n 1, 1) := dk_27 (dk_at dksX2_emit_0 18 rfl rfl)
theorem dX2_emit_19 : decode cX2_emit 19 = .ok (.iastore, 1) := dk_79 (dk_at dksX2_emit_0 19 rfl rfl)
theorem dX2_emit_20 : decode cX2_emit 20 = .ok (.aload_n 0, 1) := dk_42 (dk_at dksX2_emit_0 20 rfl rfl)
theorem dX2_emit_21 : decode cX2_emit 21 = .ok (.getfield 16, 3) := dk_180 0 16 (dk_at dksX2_emit_0 21 rfl rfl)
theorem dX2_emit_24 : decode cX2_emit 24 = .ok (.aload_n 0, 1) := dk_42 (dk_at dksX2_emit_1 0 rfl rfl)
theorem dX2_emit_25 : decode cX2_emit 25 = .ok (.getfield 136, 3) := dk_180 0 136 (dk_at dksX2_emit_1 1 rfl rfl)
theorem dX2_emit_28 : decode cX2_emit 28 = .ok (.bipush 97, 2) := dk_16 97 (dk_at dksX2_emit_1 4 rfl rfl)
theorem dX2_emit_30 : decode cX2_emit 30 = .ok (.iadd, 1) := dk_96 (dk_at dksX2_emit_1 6 rfl rfl)
theorem dX2_emit_31 : decode cX2_emit 31 = .ok (.iconst 2, 1) := dk_5 (dk_at dksX2_emit_1 7 rfl rfl)
theorem dX2_emit_32 : decode cX2_emit 32 = .ok (.aload_n 0, 1) := dk_42 (dk_at dksX2_emit_1 8 rfl rfl)
theorem dX2_emit_33 : decode cX2_emit 33 = .ok (.getfield 139, 3) := dk_180 0 139 (dk_at dksX2_emit_1 9 rfl rfl)
theorem dX2_emit_36 : decode cX2_emit 36 = .ok (.imul, 1) := dk_104 (dk_at dksX2_emit_1 12 rfl rfl)
theorem dX2_emit_37 : decode cX2_emit 37 = .ok (.iadd, 1) := dk_96 (dk_at dksX2_emit_1 13 rfl rfl)
theorem dX2_emit_38 : decode cX2_emit 38 = .ok (.iconst 1, 1) := dk_4 (dk_at dksX2_emit_1 14 rfl rfl)
theorem dX2_emit_39 : decode cX2_emit 39 = .ok (.iadd, 1) := dk_96 (dk_at dksX2_emit_1 15 rfl rfl)
theorem dX2_emit_40 : decode cX2_emit 40 = .ok (.iload_n 2, 1) := dk_28 (dk_at dksX2_emit_1 16 rfl rfl)
theorem dX2_emit_41 : decode cX2_emit 41 = .ok (.iastore, 1) := dk_79 (dk_at dksX2_emit_1 17 rfl rfl)
theorem dX2_emit_42 : decode cX2_emit 42 = .ok (.aload_n 0, 1) := dk_42 (dk_at dksX2_emit_1 18 rfl rfl)
theorem dX2_emit_43 : decode cX2_emit 43 = .ok (.dup, 1) := dk_89 (dk_at dksX2_emit_1 19 rfl rfl)
theorem dX2_emit_44 : decode cX2_emit 44 = .ok (.getfield 139, 3) := dk_180 0 139 (dk_at dksX2_emit_1 20 rfl rfl)
theorem dX2_emit_47 : decode cX2_emit 47 = .ok (.iconst 1, 1) := dk_4 (dk_at dksX2_emit_1 23 rfl rfl)
theorem dX2_emit_48 : decode cX2_emit 48 = .ok (.iadd, 1) := dk_96 (dk_at dksX2_emit_2 0 rfl rfl)
theorem dX2_emit_49 : decode cX2_emit 49 = .ok (.putfield 139, 3) := dk_181 0 139 (dk_at dksX2_emit_2 1 rfl rfl)
theorem dX2_emit_52 : decode cX2_emit 52 = .ok (.return_, 1) := dk_177 (dk_at dksX2_emit_2 4 rfl rfl)
abbrev cX2_partOf : ByteArray := prog_20_method_45_code
def yX2_partOf : MethodName := ⟨RX2, "partOf", "(I)I"⟩
def dkwX2_partOf_5 : List UInt8 := [42, 16, 101, 16, 110, 16, 100, 184, 0, 124, 182, 0, 184, 153, 0, 7, 3, 167, 0, 4, 2, 172, 2, 172]
abbrev dktX2_partOf_5 : List UInt8 := dkwX2_partOf_5 ++ []
def dkwX2_partOf_4 : List UInt8 := [16, 101, 16, 108, 16, 115, 16, 101, 184, 0, 128, 182, 0, 184, 153, 0, 8, 16, 44, 167, 0, 4, 2, 172]
abbrev dktX2_partOf_4 : List UInt8 := dkwX2_partOf_4 ++ dktX2_partOf_5
def dkwX2_partOf_3 : List UInt8 := [184, 0, 128, 182, 0, 184, 153, 0, 15, 42, 182, 0, 198, 153, 0, 8, 16, 43, 167, 0, 4, 2, 172, 42]
abbrev dktX2_partOf_3 : List UInt8 := dkwX2_partOf_3 ++ dktX2_partOf_4
def dkwX2_partOf_2 : List UInt8 := [42, 180, 0, 98, 16, 41, 160, 0, 7, 3, 167, 0, 4, 2, 172, 42, 16, 116, 16, 104, 16, 101, 16, 110]
abbrev dktX2_partOf_2 : List UInt8 := dkwX2_partOf_2 ++ dktX2_partOf_3
def dkwX2_partOf_1 : List UInt8 := [170, 0, 0, 0, 0, 0, 129, 0, 0, 0, 40, 0, 0, 0, 44, 0, 0, 0, 35, 0, 0, 0, 129, 0, 0, 0, 50, 0, 0, 0, 82, 0, 0, 0, 107]
abbrev dktX2_partOf_1 : List UInt8 := dkwX2_partOf_1 ++ dktX2_partOf_2
def dkwX2_partOf_0 : List UInt8 := [27]
abbrev dktX2_partOf_0 : List UInt8 := dkwX2_partOf_0 ++ dktX2_partOf_1
theorem dksX2_partOf_0 : cX2_partOf.data.toList.drop 0 = dktX2_partOf_0 := by decide +kernel
theorem dksX2_partOf_1 : cX2_partOf.data.toList.drop 1 = dktX2_partOf_1 := dk_seg dksX2_partOf_0 1 rfl rfl
theorem dksX2_partOf_2 : cX2_partOf.data.toList.drop 36 = dktX2_partOf_2 := dk_seg dksX2_partOf_1 35 rfl rfl
theorem dksX2_partOf_3 : cX2_partOf.data.toList.drop 60 = dktX2_partOf_3 := dk_seg dksX2_partOf_2 24 rfl rfl
theorem dksX2_partOf_4 : cX2_partOf.data.toList.drop 84 = dktX2_partOf_4 := dk_seg dksX2_partOf_3 24 rfl rfl
theorem dksX2_partOf_5 : cX2_partOf.data.toList.drop 108 = dktX2_partOf_5 := dk_seg dksX2_partOf_4 24 rfl rfl
theorem dX2_partOf_0 : decode cX2_partOf 0 = .ok (.iload_n 1, 1) := dk_27 (dk_at dksX2_partOf_0 0 rfl rfl)
theorem dX2_partOf_1 : decode cX2_partOf 1 = .ok (.tableswitch 129 40 44 #[35, 129, 50, 82, 107], 35) := by decide +kernel
theorem dX2_partOf_36 : decode cX2_partOf 36 = .ok (.aload_n 0, 1) := dk_42 (dk_at dksX2_partOf_2 0 rfl rfl)
theorem dX2_partOf_37 : decode cX2_partOf 37 = .ok (.getfield 98, 3) := dk_180 0 98 (dk_at dksX2_partOf_2 1 rfl rfl)
theorem dX2_partOf_40 : decode cX2_partOf 40 = .ok (.bipush 41, 2) := dk_16 41 (dk_at dksX2_partOf_2 4 rfl rfl)
theorem dX2_partOf_42 : decode cX2_partOf 42 = .ok (.if_icmp .ne 7, 3) := dk_160 0 7 (dk_at dksX2_partOf_2 6 rfl rfl)
theorem dX2_partOf_45 : decode cX2_partOf 45 = .ok (.iconst 0, 1) := dk_3 (dk_at dksX2_partOf_2 9 rfl rfl)
theorem dX2_partOf_46 : decode cX2_partOf 46 = .ok (.goto 4, 3) := dk_167 0 4 (dk_at dksX2_partOf_2 10 rfl rfl)
theorem dX2_partOf_49 : decode cX2_partOf 49 = .ok (.iconst (-1), 1) := dk_2 (dk_at dksX2_partOf_2 13 rfl rfl)
theorem dX2_partOf_50 : decode cX2_partOf 50 = .ok (.ireturn, 1) := dk_172 (dk_at dksX2_partOf_2 14 rfl rfl)
theorem dX2_partOf_51 : decode cX2_partOf 51 = .ok (.aload_n 0, 1) := dk_42 (dk_at dksX2_partOf_2 15 rfl rfl)
theorem dX2_partOf_52 : decode cX2_partOf 52 = .ok (.bipush 116, 2) := dk_16 116 (dk_at dksX2_partOf_2 16 rfl rfl)
theorem dX2_partOf_54 : decode cX2_partOf 54 = .ok (.bipush 104, 2) := dk_16 104 (dk_at dksX2_partOf_2 18 rfl rfl)
theorem dX2_partOf_56 : decode cX2_partOf 56 = .ok (.bipush 101, 2) := dk_16 101 (dk_at dksX2_partOf_2 20 rfl rfl)
theorem dX2_partOf_58 : decode cX2_partOf 58 = .ok (.bipush 110, 2) := dk_16 110 (dk_at dksX2_partOf_2 22 rfl rfl)
theorem dX2_partOf_60 : decode cX2_partOf 60 = .ok (.invokestatic 128, 3) := dk_184 0 128 (dk_at dksX2_partOf_3 0 rfl rfl)
theorem dX2_partOf_63 : decode cX2_partOf 63 = .ok (.invokevirtual 184, 3) := dk_182 0 184 (dk_at dksX2_partOf_3 3 rfl rfl)
theorem dX2_partOf_66 : decode cX2_partOf 66 = .ok (.ifCond .eq 15, 3) := dk_153 0 15 (dk_at dksX2_partOf_3 6 rfl rfl)
theorem dX2_partOf_69 : decode cX2_partOf 69 = .ok (.aload_n 0, 1) := dk_42 (dk_at dksX2_partOf_3 9 rfl rfl)
theorem dX2_partOf_70 : decode cX2_partOf 70 = .ok (.invokevirtual 198, 3) := dk_182 0 198 (dk_at dksX2_partOf_3 10 rfl rfl)
theorem dX2_partOf_73 : decode cX2_partOf 73 = .ok (.ifCond .eq 8, 3) := dk_153 0 8 (dk_at dksX2_partOf_3 13 rfl rfl)
theorem dX2_partOf_76 : decode cX2_partOf 76 = .ok (.bipush 43, 2) := dk_16 43 (dk_at dksX2_partOf_3 16 rfl rfl)
theorem dX2_partOf_78 : decode cX2_partOf 78 = .ok (.goto 4, 3) := dk_167 0 4 (dk_at dksX2_partOf_3 18 rfl rfl)
theorem dX2_partOf_81 : decode cX2_partOf 81 = .ok (.iconst (-1), 1) := dk_2 (dk_at dksX2_partOf_3 21 rfl rfl)
theorem dX2_partOf_82 : decode cX2_partOf 82 = .ok (.ireturn, 1) := dk_172 (dk_at dksX2_partOf_3 22 rfl rfl)
theorem dX2_partOf_83 : decode cX2_partOf 83 = .ok (.aload_n 0, 1) := dk_42 (dk_at dksX2_partOf_3 23 rfl rfl)
theorem dX2_partOf_84 : decode cX2_partOf 84 = .ok (.bipush 101, 2) := dk_16 101 (dk_at dksX2_partOf_4 0 rfl rfl)
theorem dX2_partOf_86 : decode cX2_partOf 86 = .ok (.bipush 108, 2) := dk_16 108 (dk_at dksX2_partOf_4 2 rfl rfl)
theorem dX2_partOf_88 : decode cX2_partOf 88 = .ok (.bipush 115, 2) := dk_16 115 (dk_at dksX2_partOf_4 4 rfl rfl)
theorem dX2_partOf_90 : decode cX2_partOf 90 = .ok (.bipush 101, 2) := dk_16 101 (dk_at dksX2_partOf_4 6 rfl rfl)
theorem dX2_partOf_92 : decode cX2_partOf 92 = .ok (.invokestatic 128, 3) := dk_184 0 128 (dk_at dksX2_partOf_4 8 rfl rfl)
theorem dX2_partOf_95 : decode cX2_partOf 95 = .ok (.invokevirtual 184, 3) := dk_182 0 184 (dk_at dksX2_partOf_4 11 rfl rfl)
theorem dX2_partOf_98 : decode cX2_partOf 98 = .ok (.ifCond .eq 8, 3) := dk_153 0 8 (dk_at dksX2_partOf_4 14 rfl rfl)
theorem dX2_partOf_101 : decode cX2_partOf 101 = .ok (.bipush 44, 2) := dk_16 44 (dk_at dksX2_partOf_4 17 rfl rfl)
theorem dX2_partOf_103 : decode cX2_partOf 103 = .ok (.goto 4, 3) := dk_167 0 4 (dk_at dksX2_partOf_4 19 rfl rfl)
theorem dX2_partOf_106 : decode cX2_partOf 106 = .ok (.iconst (-1), 1) := dk_2 (dk_at dksX2_partOf_4 22 rfl rfl)
theorem dX2_partOf_107 : decode cX2_partOf 107 = .ok (.ireturn, 1) := dk_172 (dk_at dksX2_partOf_4 23 rfl rfl)
theorem dX2_partOf_108 : decode cX2_partOf 108 = .ok (.aload_n 0, 1) := dk_42 (dk_at dksX2_partOf_5 0 rfl rfl)
theorem dX2_partOf_109 : decode cX2_partOf 109 = .ok (.bipush 101, 2) := dk_16 101 (dk_at dksX2_partOf_5 1 rfl rfl)
theorem dX2_partOf_111 : decode cX2_partOf 111 = .ok (.bipush 110, 2) := dk_16 110 (dk_at dksX2_partOf_5 3 rfl rfl)
theorem dX2_partOf_113 : decode cX2_partOf 113 = .ok (.bipush 100, 2) := dk_16 100 (dk_at dksX2_partOf_5 5 rfl rfl)
theorem dX2_partOf_115 : decode cX2_partOf 115 = .ok (.invokestatic 124, 3) := dk_184 0 124 (dk_at dksX2_partOf_5 7 rfl rfl)
theorem dX2_partOf_118 : decode cX2_partOf 118 = .ok (.invokevirtual 184, 3) := dk_182 0 184 (dk_at dksX2_partOf_5 10 rfl rfl)
theorem dX2_partOf_121 : decode cX2_partOf 121 = .ok (.ifCond .eq 7, 3) := dk_153 0 7 (dk_at dksX2_partOf_5 13 rfl rfl)
theorem dX2_partOf_124 : decode cX2_partOf 124 = .ok (.iconst 0, 1) := dk_3 (dk_at dksX2_partOf_5 16 rfl rfl)
theorem dX2_partOf_125 : decode cX2_partOf 125 = .ok (.goto 4, 3) := dk_167 0 4 (dk_at dksX2_partOf_5 17 rfl rfl)
theorem dX2_partOf_128 : decode cX2_partOf 128 = .ok (.iconst (-1), 1) := dk_2 (dk_at dksX2_partOf_5 20 rfl rfl)
theorem dX2_partOf_129 : decode cX2_partOf 129 = .ok (.ireturn, 1) := dk_172 (dk_at dksX2_partOf_5 21 rfl rfl)
theorem dX2_partOf_130 : decode cX2_partOf 130 = .ok (.iconst (-1), 1) := dk_2 (dk_at dksX2_partOf_5 22 rfl rfl)
theorem dX2_partOf_131 : decode cX2_partOf 131 = .ok (.ireturn, 1) := dk_172 (dk_at dksX2_partOf_5 23 rfl rfl)
abbrev cX2_endOne : ByteArray := prog_20_method_42_code
def yX2_endOne : MethodName := ⟨RX2, "endOne", "()I"⟩
def dkwX2_endOne_3 : List UInt8 := [181, 0, 195, 3, 172]
abbrev dktX2_endOne_3 : List UInt8 := dkwX2_endOne_3 ++ []
def dkwX2_endOne_2 : List UInt8 := [154, 0, 5, 4, 172, 42, 182, 0, 165, 42, 180, 0, 29, 42, 180, 0, 145, 4, 100, 7, 79, 42, 3]
abbrev dktX2_endOne_2 : List UInt8 := dkwX2_endOne_2 ++ dktX2_endOne_3
def dkwX2_endOne_1 : List UInt8 := [180, 0, 145, 4, 100, 46, 16, 41, 159, 0, 5, 3, 172, 42, 16, 98, 16, 121, 184, 0, 120, 182, 0, 184]
abbrev dktX2_endOne_1 : List UInt8 := dkwX2_endOne_1 ++ dktX2_endOne_2
def dkwX2_endOne_0 : List UInt8 := [42, 16, 7, 182, 0, 192, 42, 4, 181, 0, 195, 42, 180, 0, 145, 153, 0, 19, 42, 180, 0, 29, 42]
abbrev dktX2_endOne_0 : List UInt8 := dkwX2_endOne_0 ++ dktX2_endOne_1
theorem dksX2_endOne_0 : cX2_endOne.data.toList.drop 0 = dktX2_endOne_0 := by decide +kernel
theorem dksX2_endOne_1 : cX2_endOne.data.toList.drop 23 = dktX2_endOne_1 := dk_seg dksX2_endOne_0 23 rfl rfl
theorem dksX2_endOne_2 : cX2_endOne.data.toList.drop 47 = dktX2_endOne_2 := dk_seg dksX2_endOne_1 24 rfl rfl
theorem dksX2_endOne_3 : cX2_endOne.data.toList.drop 70 = dktX2_endOne_3 := dk_seg dksX2_endOne_2 23 rfl rfl
theorem dX2_endOne_0 : decode cX2_endOne 0 = .ok (.aload_n 0, 1) := dk_42 (dk_at dksX2_endOne_0 0 rfl rfl)
theorem dX2_endOne_1 : decode cX2_endOne 1 = .ok (.bipush 7, 2) := dk_16 7 (dk_at dksX2_endOne_0 1 rfl rfl)
theorem dX2_endOne_3 : decode cX2_endOne 3 = .ok (.invokevirtual 192, 3) := dk_182 0 192 (dk_at dksX2_endOne_0 3 rfl rfl)
theorem dX2_endOne_6 : decode cX2_endOne 6 = .ok (.aload_n 0, 1) := dk_42 (dk_at dksX2_endOne_0 6 rfl rfl)
theorem dX2_endOne_7 : decode cX2_endOne 7 = .ok (.iconst 1, 1) := dk_4 (dk_at dksX2_endOne_0 7 rfl rfl)
theorem dX2_endOne_8 : decode cX2_endOne 8 = .ok (.putfield 195, 3) := dk_181 0 195 (dk_at dksX2_endOne_0 8 rfl rfl)
theorem dX2_endOne_11 : decode cX2_endOne 11 = .ok (.aload_n 0, 1) := dk_42 (dk_at dksX2_endOne_0 11 rfl rfl)
theorem dX2_endOne_12 : decode cX2_endOne 12 = .ok (.getfield 145, 3) := dk_180 0 145 (dk_at dksX2_endOne_0 12 rfl rfl)
theorem dX2_endOne_15 : decode cX2_endOne 15 = .ok (.ifCond .eq 19, 3) := dk_153 0 19 (dk_at dksX2_endOne_0 15 rfl rfl)
theorem dX2_endOne_18 : decode cX2_endOne 18 = .ok (.aload_n 0, 1) := dk_42 (dk_at dksX2_endOne_0 18 rfl rfl)
theorem dX2_endOne_19 : decode cX2_endOne 19 = .ok (.getfield 29, 3) := dk_180 0 29 (dk_at dksX2_endOne_0 19 rfl rfl)
theorem dX2_endOne_22 : decode cX2_endOne 22 = .ok (.aload_n 0, 1) := dk_42 (dk_at dksX2_endOne_0 22 rfl rfl)
theorem dX2_endOne_23 : decode cX2_endOne 23 = .ok (.getfield 145, 3) := dk_180 0 145 (dk_at dksX2_endOne_1 0 rfl rfl)
theorem dX2_endOne_26 : decode cX2_endOne 26 = .ok (.iconst 1, 1) := dk_4 (dk_at dksX2_endOne_1 3 rfl rfl)
theorem dX2_endOne_27 : decode cX2_endOne 27 = .ok (.isub, 1) := dk_100 (dk_at dksX2_endOne_1 4 rfl rfl)
theorem dX2_endOne_28 : decode cX2_endOne 28 = .ok (.iaload, 1) := dk_46 (dk_at dksX2_endOne_1 5 rfl rfl)
theorem dX2_endOne_29 : decode cX2_endOne 29 = .ok (.bipush 41, 2) := dk_16 41 (dk_at dksX2_endOne_1 6 rfl rfl)
theorem dX2_endOne_31 : decode cX2_endOne 31 = .ok (.if_icmp .eq 5, 3) := dk_159 0 5 (dk_at dksX2_endOne_1 8 rfl rfl)
theorem dX2_endOne_34 : decode cX2_endOne 34 = .ok (.iconst 0, 1) := dk_3 (dk_at dksX2_endOne_1 11 rfl rfl)
theorem dX2_endOne_35 : decode cX2_endOne 35 = .ok (.ireturn, 1) := dk_172 (dk_at dksX2_endOne_1 12 rfl rfl)
theorem dX2_endOne_36 : decode cX2_endOne 36 = .ok (.aload_n 0, 1) := dk_42 (dk_at dksX2_endOne_1 13 rfl rfl)
theorem dX2_endOne_37 : decode cX2_endOne 37 = .ok (.bipush 98, 2) := dk_16 98 (dk_at dksX2_endOne_1 14 rfl rfl)
theorem dX2_endOne_39 : decode cX2_endOne 39 = .ok (.bipush 121, 2) := dk_16 121 (dk_at dksX2_endOne_1 16 rfl rfl)
theorem dX2_endOne_41 : decode cX2_endOne 41 = .ok (.invokestatic 120, 3) := dk_184 0 120 (dk_at dksX2_endOne_1 18 rfl rfl)
theorem dX2_endOne_44 : decode cX2_endOne 44 = .ok (.invokevirtual 184, 3) := dk_182 0 184 (dk_at dksX2_endOne_1 21 rfl rfl)
theorem dX2_endOne_47 : decode cX2_endOne 47 = .ok (.ifCond .ne 5, 3) := dk_154 0 5 (dk_at dksX2_endOne_2 0 rfl rfl)
theorem dX2_endOne_50 : decode cX2_endOne 50 = .ok (.iconst 1, 1) := dk_4 (dk_at dksX2_endOne_2 3 rfl rfl)
theorem dX2_endOne_51 : decode cX2_endOne 51 = .ok (.ireturn, 1) := dk_172 (dk_at dksX2_endOne_2 4 rfl rfl)
theorem dX2_endOne_52 : decode cX2_endOne 52 = .ok (.aload_n 0, 1) := dk_42 (dk_at dksX2_endOne_2 5 rfl rfl)
theorem dX2_endOne_53 : decode cX2_endOne 53 = .ok (.invokevirtual 165, 3) := dk_182 0 165 (dk_at dksX2_endOne_2 6 rfl rfl)
theorem dX2_endOne_56 : decode cX2_endOne 56 = .ok (.aload_n 0, 1) := dk_42 (dk_at dksX2_endOne_2 9 rfl rfl)
theorem dX2_endOne_57 : decode cX2_endOne 57 = .ok (.getfield 29, 3) := dk_180 0 29 (dk_at dksX2_endOne_2 10 rfl rfl)
theorem dX2_endOne_60 : decode cX2_endOne 60 = .ok (.aload_n 0, 1) := dk_42 (dk_at dksX2_endOne_2 13 rfl rfl)
theorem dX2_endOne_61 : decode cX2_endOne 61 = .ok (.getfield 145, 3) := dk_180 0 145 (dk_at dksX2_endOne_2 14 rfl rfl)
theorem dX2_endOne_64 : decode cX2_endOne 64 = .ok (.iconst 1, 1) := dk_4 (dk_at dksX2_endOne_2 17 rfl rfl)
theorem dX2_endOne_65 : decode cX2_endOne 65 = .ok (.isub, 1) := dk_100 (dk_at dksX2_endOne_2 18 rfl rfl)
theorem dX2_endOne_66 : decode cX2_endOne 66 = .ok (.iconst 4, 1) := dk_7 (dk_at dksX2_endOne_2 19 rfl rfl)
theorem dX2_endOne_67 : decode cX2_endOne 67 = .ok (.iastore, 1) := dk_79 (dk_at dksX2_endOne_2 20 rfl rfl)
theorem dX2_endOne_68 : decode cX2_endOne 68 = .ok (.aload_n 0, 1) := dk_42 (dk_at dksX2_endOne_2 21 rfl rfl)
theorem dX2_endOne_69 : decode cX2_endOne 69 = .ok (.iconst 0, 1) := dk_3 (dk_at dksX2_endOne_2 22 rfl rfl)
theorem dX2_endOne_70 : decode cX2_endOne 70 = .ok (.putfield 195, 3) := dk_181 0 195 (dk_at dksX2_endOne_3 0 rfl rfl)
theorem dX2_endOne_73 : decode cX2_endOne 73 = .ok (.iconst 0, 1) := dk_3 (dk_at dksX2_endOne_3 3 rfl rfl)
theorem dX2_endOne_74 : decode cX2_endOne 74 = .ok (.ireturn, 1) := dk_172 (dk_at dksX2_endOne_3 4 rfl rfl)
abbrev cX2_beginOne : ByteArray := prog_20_method_41_code
def yX2_beginOne : MethodName := ⟨RX2, "beginOne", "()I"⟩
def dkwX2_beginOne_9 : List UInt8 := [182, 0, 184, 153, 0, 19, 42, 182, 0, 188, 153, 0, 12, 42, 16, 20, 182, 0, 177, 167, 0, 4, 4, 172]
abbrev dktX2_beginOne_9 : List UInt8 := dkwX2_beginOne_9 ++ []
def dkwX2_beginOne_8 : List UInt8 := [182, 0, 184, 153, 0, 10, 42, 16, 42, 182, 0, 177, 172, 42, 16, 110, 16, 111, 16, 116, 184, 0, 124]
abbrev dktX2_beginOne_8 : List UInt8 := dkwX2_beginOne_8 ++ dktX2_beginOne_9
def dkwX2_beginOne_7 : List UInt8 := [184, 0, 132, 182, 0, 184, 153, 0, 9, 42, 5, 182, 0, 177, 172, 42, 16, 105, 16, 102, 184, 0, 120]
abbrev dktX2_beginOne_7 : List UInt8 := dkwX2_beginOne_7 ++ dktX2_beginOne_8
def dkwX2_beginOne_6 : List UInt8 := [182, 0, 184, 153, 0, 10, 42, 16, 41, 182, 0, 177, 172, 42, 16, 114, 16, 97, 16, 110, 16, 107, 16, 115]
abbrev dktX2_beginOne_6 : List UInt8 := dkwX2_beginOne_6 ++ dktX2_beginOne_7
def dkwX2_beginOne_5 : List UInt8 := [42, 8, 182, 0, 177, 172, 42, 16, 104, 16, 97, 16, 108, 16, 118, 16, 101, 16, 115, 184, 0, 180]
abbrev dktX2_beginOne_5 : List UInt8 := dkwX2_beginOne_5 ++ dktX2_beginOne_6
def dkwX2_beginOne_4 : List UInt8 := [180, 0, 98, 16, 40, 160, 0, 10, 42, 16, 40, 182, 0, 177, 172, 42, 180, 0, 98, 16, 45, 160, 0, 9]
abbrev dktX2_beginOne_4 : List UInt8 := dkwX2_beginOne_4 ++ dktX2_beginOne_5
def dkwX2_beginOne_3 : List UInt8 := [160, 0, 10, 42, 180, 0, 104, 167, 0, 4, 27, 182, 0, 151, 42, 182, 0, 165, 42, 182, 0, 174, 172, 42]
abbrev dktX2_beginOne_3 : List UInt8 := dkwX2_beginOne_3 ++ dktX2_beginOne_4
def dkwX2_beginOne_2 : List UInt8 := [155, 0, 45, 42, 42, 180, 0, 98, 4, 160, 0, 7, 3, 167, 0, 4, 4, 42, 180, 0, 98, 4]
abbrev dktX2_beginOne_2 : List UInt8 := dkwX2_beginOne_2 ++ dktX2_beginOne_3
def dkwX2_beginOne_1 : List UInt8 := [60, 27, 155, 0, 13, 42, 27, 182, 0, 171, 154, 0, 5, 8, 172, 42, 180, 0, 98, 4, 159, 0, 7, 27]
abbrev dktX2_beginOne_1 : List UInt8 := dkwX2_beginOne_1 ++ dktX2_beginOne_2
def dkwX2_beginOne_0 : List UInt8 := [42, 180, 0, 98, 4, 160, 0, 15, 42, 180, 0, 104, 17, 39, 15, 164, 0, 5, 5, 172, 42, 182, 0, 168]
abbrev dktX2_beginOne_0 : List UInt8 := dkwX2_beginOne_0 ++ dktX2_beginOne_1
theorem dksX2_beginOne_0 : cX2_beginOne.data.toList.drop 0 = dktX2_beginOne_0 := by decide +kernel
theorem dksX2_beginOne_1 : cX2_beginOne.data.toList.drop 24 = dktX2_beginOne_1 := dk_seg dksX2_beginOne_0 24 rfl rfl
theorem dksX2_beginOne_2 : cX2_beginOne.data.toList.drop 48 = dktX2_beginOne_2 := dk_seg dksX2_beginOne_1 24 rfl rfl
theorem dksX2_beginOne_3 : cX2_beginOne.data.toList.drop 70 = dktX2_beginOne_3 := dk_seg dksX2_beginOne_2 22 rfl rfl
theorem dksX2_beginOne_4 : cX2_beginOne.data.toList.drop 94 = dktX2_beginOne_4 := dk_seg dksX2_beginOne_3 24 rfl rfl
theorem dksX2_beginOne_5 : cX2_beginOne.data.toList.drop 118 = dktX2_beginOne_5 := dk_seg dksX2_beginOne_4 24 rfl rfl
theorem dksX2_beginOne_6 : cX2_beginOne.data.toList.drop 140 = dktX2_beginOne_6 := dk_seg dksX2_beginOne_5 22 rfl rfl
theorem dksX2_beginOne_7 : cX2_beginOne.data.toList.drop 164 = dktX2_beginOne_7 := dk_seg dksX2_beginOne_6 24 rfl rfl
theorem dksX2_beginOne_8 : cX2_beginOne.data.toList.drop 187 = dktX2_beginOne_8 := dk_seg dksX2_beginOne_7 23 rfl rfl
theorem dksX2_beginOne_9 : cX2_beginOne.data.toList.drop 210 = dktX2_beginOne_9 := dk_seg dksX2_beginOne_8 23 rfl rfl
theorem dX2_beginOne_0 : decode cX2_beginOne 0 = .ok (.aload_n 0, 1) := dk_42 (dk_at dksX2_beginOne_0 0 rfl rfl)
theorem dX2_beginOne_1 : decode cX2_beginOne 1 = .ok (.getfield 98, 3) := dk_180 0 98 (dk_at dksX2_beginOne_0 1 rfl rfl)
theorem dX2_beginOne_4 : decode cX2_beginOne 4 = .ok (.iconst 1, 1) := dk_4 (dk_at dksX2_beginOne_0 4 rfl rfl)
theorem dX2_beginOne_5 : decode cX2_beginOne 5 = .ok (.if_icmp .ne 15, 3) := dk_160 0 15 (dk_at dksX2_beginOne_0 5 rfl rfl)
theorem dX2_beginOne_8 : decode cX2_beginOne 8 = .ok (.aload_n 0, 1) := dk_42 (dk_at dksX2_beginOne_0 8 rfl rfl)
theorem dX2_beginOne_9 : decode cX2_beginOne 9 = .ok (.getfield 104, 3) := dk_180 0 104 (dk_at dksX2_beginOne_0 9 rfl rfl)
theorem dX2_beginOne_12 : decode cX2_beginOne 12 = .ok (.sipush 9999, 3) := dk_17 39 15 (dk_at dksX2_beginOne_0 12 rfl rfl)
theorem dX2_beginOne_15 : decode cX2_beginOne 15 = .ok (.if_icmp .le 5, 3) := dk_164 0 5 (dk_at dksX2_beginOne_0 15 rfl rfl)
theorem dX2_beginOne_18 : decode cX2_beginOne 18 = .ok (.iconst 2, 1) := dk_5 (dk_at dksX2_beginOne_0 18 rfl rfl)
theorem dX2_beginOne_19 : decode cX2_beginOne 19 = .ok (.ireturn, 1) := dk_172 (dk_at dksX2_beginOne_0 19 rfl rfl)
theorem dX2_beginOne_20 : decode cX2_beginOne 20 = .ok (.aload_n 0, 1) := dk_42 (dk_at dksX2_beginOne_0 20 rfl rfl)
theorem dX2_beginOne_21 : decode cX2_beginOne 21 = .ok (.invokevirtual 168, 3) := dk_182 0 168 (dk_at dksX2_beginOne_0 21 rfl rfl)
theorem dX2_beginOne_24 : decode cX2_beginOne 24 = .ok (.istore_n 1, 1) := dk_60 (dk_at dksX2_beginOne_1 0 rfl rfl)
theorem dX2_beginOne_25 : decode cX2_beginOne 25 = .ok (.iload_n 1, 1) := dk_27 (dk_at dksX2_beginOne_1 1 rfl rfl)
theorem dX2_beginOne_26 : decode cX2_beginOne 26 = .ok (.ifCond .lt 13, 3) := dk_155 0 13 (dk_at dksX2_beginOne_1 2 rfl rfl)
theorem dX2_beginOne_29 : decode cX2_beginOne 29 = .ok (.aload_n 0, 1) := dk_42 (dk_at dksX2_beginOne_1 5 rfl rfl)
theorem dX2_beginOne_30 : decode cX2_beginOne 30 = .ok (.iload_n 1, 1) := dk_27 (dk_at dksX2_beginOne_1 6 rfl rfl)
theorem dX2_beginOne_31 : decode cX2_beginOne 31 = .ok (.invokevirtual 171, 3) := dk_182 0 171 (dk_at dksX2_beginOne_1 7 rfl rfl)
theorem dX2_beginOne_34 : decode cX2_beginOne 34 = .ok (.ifCond .ne 5, 3) := dk_154 0 5 (dk_at dksX2_beginOne_1 10 rfl rfl)
theorem dX2_beginOne_37 : decode cX2_beginOne 37 = .ok (.iconst 5, 1) := dk_8 (dk_at dksX2_beginOne_1 13 rfl rfl)
theorem dX2_beginOne_38 : decode cX2_beginOne 38 = .ok (.ireturn, 1) := dk_172 (dk_at dksX2_beginOne_1 14 rfl rfl)
theorem dX2_beginOne_39 : decode cX2_beginOne 39 = .ok (.aload_n 0, 1) := dk_42 (dk_at dksX2_beginOne_1 15 rfl rfl)
theorem dX2_beginOne_40 : decode cX2_beginOne 40 = .ok (.getfield 98, 3) := dk_180 0 98 (dk_at dksX2_beginOne_1 16 rfl rfl)
theorem dX2_beginOne_43 : decode cX2_beginOne 43 = .ok (.iconst 1, 1) := dk_4 (dk_at dksX2_beginOne_1 19 rfl rfl)
theorem dX2_beginOne_44 : decode cX2_beginOne 44 = .ok (.if_icmp .eq 7, 3) := dk_159 0 7 (dk_at dksX2_beginOne_1 20 rfl rfl)
theorem dX2_beginOne_47 : decode cX2_beginOne 47 = .ok (.iload_n 1, 1) := dk_27 (dk_at dksX2_beginOne_1 23 rfl rfl)
theorem dX2_beginOne_48 : decode cX2_beginOne 48 = .ok (.ifCond .lt 45, 3) := dk_155 0 45 (dk_at dksX2_beginOne_2 0 rfl rfl)
theorem dX2_beginOne_51 : decode cX2_beginOne 51 = .ok (.aload_n 0, 1) := dk_42 (dk_at dksX2_beginOne_2 3 rfl rfl)
theorem dX2_beginOne_52 : decode cX2_beginOne 52 = .ok (.aload_n 0, 1) := dk_42 (dk_at dksX2_beginOne_2 4 rfl rfl)
theorem dX2_beginOne_53 : decode cX2_beginOne 53 = .ok (.getfield 98, 3) := dk_180 0 98 (dk_at dksX2_beginOne_2 5 rfl rfl)
theorem dX2_beginOne_56 : decode cX2_beginOne 56 = .ok (.iconst 1, 1) := dk_4 (dk_at dksX2_beginOne_2 8 rfl rfl)
theorem dX2_beginOne_57 : decode cX2_beginOne 57 = .ok (.if_icmp .ne 7, 3) := dk_160 0 7 (dk_at dksX2_beginOne_2 9 rfl rfl)
theorem dX2_beginOne_60 : decode cX2_beginOne 60 = .ok (.iconst 0, 1) := dk_3 (dk_at dksX2_beginOne_2 12 rfl rfl)
theorem dX2_beginOne_61 : decode cX2_beginOne 61 = .ok (.goto 4, 3) := dk_167 0 4 (dk_at dksX2_beginOne_2 13 rfl rfl)
theorem dX2_beginOne_64 : decode cX2_beginOne 64 = .ok (.iconst 1, 1) := dk_4 (dk_at dksX2_beginOne_2 16 rfl rfl)
theorem dX2_beginOne_65 : decode cX2_beginOne 65 = .ok (.aload_n 0, 1) := dk_42 (dk_at dksX2_beginOne_2 17 rfl rfl)
theorem dX2_beginOne_66 : decode cX2_beginOne 66 = .ok (.getfield 98, 3) := dk_180 0 98 (dk_at dksX2_beginOne_2 18 rfl rfl)
theorem dX2_beginOne_69 : decode cX2_beginOne 69 = .ok (.iconst 1, 1) := dk_4 (dk_at dksX2_beginOne_2 21 rfl rfl)
theorem dX2_beginOne_70 : decode cX2_beginOne 70 = .ok (.if_icmp .ne 10, 3) := dk_160 0 10 (dk_at dksX2_beginOne_3 0 rfl rfl)
theorem dX2_beginOne_73 : decode cX2_beginOne 73 = .ok (.aload_n 0, 1) := dk_42 (dk_at dksX2_beginOne_3 3 rfl rfl)
theorem dX2_beginOne_74 : decode cX2_beginOne 74 = .ok (.getfield 104, 3) := dk_180 0 104 (dk_at dksX2_beginOne_3 4 rfl rfl)
theorem dX2_beginOne_77 : decode cX2_beginOne 77 = .ok (.goto 4, 3) := dk_167 0 4 (dk_at dksX2_beginOne_3 7 rfl rfl)
theorem dX2_beginOne_80 : decode cX2_beginOne 80 = .ok (.iload_n 1, 1) := dk_27 (dk_at dksX2_beginOne_3 10 rfl rfl)
theorem dX2_beginOne_81 : decode cX2_beginOne 81 = .ok (.invokevirtual 151, 3) := dk_182 0 151 (dk_at dksX2_beginOne_3 11 rfl rfl)
theorem dX2_beginOne_84 : decode cX2_beginOne 84 = .ok (.aload_n 0, 1) := dk_42 (dk_at dksX2_beginOne_3 14 rfl rfl)
theorem dX2_beginOne_85 : decode cX2_beginOne 85 = .ok (.invokevirtual 165, 3) := dk_182 0 165 (dk_at dksX2_beginOne_3 15 rfl rfl)
theorem dX2_beginOne_88 : decode cX2_beginOne 88 = .ok (.aload_n 0, 1) := dk_42 (dk_at dksX2_beginOne_3 18 rfl rfl)
theorem dX2_beginOne_89 : decode cX2_beginOne 89 = .ok (.invokevirtual 174, 3) := dk_182 0 174 (dk_at dksX2_beginOne_3 19 rfl rfl)
theorem dX2_beginOne_92 : decode cX2_beginOne 92 = .ok (.ireturn, 1) := dk_172 (dk_at dksX2_beginOne_3 22 rfl rfl)
theorem dX2_beginOne_93 : decode cX2_beginOne 93 = .ok (.aload_n 0, 1) := dk_42 (dk_at dksX2_beginOne_3 23 rfl rfl)
theorem dX2_beginOne_94 : decode cX2_beginOne 94 = .ok (.getfield 98, 3) := dk_180 0 98 (dk_at dksX2_beginOne_4 0 rfl rfl)
theorem dX2_beginOne_97 : decode cX2_beginOne 97 = .ok (.bipush 40, 2) := dk_16 40 (dk_at dksX2_beginOne_4 3 rfl rfl)
theorem dX2_beginOne_99 : decode cX2_beginOne 99 = .ok (.if_icmp .ne 10, 3) := dk_160 0 10 (dk_at dksX2_beginOne_4 5 rfl rfl)
theorem dX2_beginOne_102 : decode cX2_beginOne 102 = .ok (.aload_n 0, 1) := dk_42 (dk_at dksX2_beginOne_4 8 rfl rfl)
theorem dX2_beginOne_103 : decode cX2_beginOne 103 = .ok (.bipush 40, 2) := dk_16 40 (dk_at dksX2_beginOne_4 9 rfl rfl)
theorem dX2_beginOne_105 : decode cX2_beginOne 105 = .ok (.invokevirtual 177, 3) := dk_182 0 177 (dk_at dksX2_beginOne_4 11 rfl rfl)
theorem dX2_beginOne_108 : decode cX2_beginOne 108 = .ok (.ireturn, 1) := dk_172 (dk_at dksX2_beginOne_4 14 rfl rfl)
theorem dX2_beginOne_109 : decode cX2_beginOne 109 = .ok (.aload_n 0, 1) := dk_42 (dk_at dksX2_beginOne_4 15 rfl rfl)
theorem dX2_beginOne_110 : decode cX2_beginOne 110 = .ok (.getfield 98, 3) := dk_180 0 98 (dk_at dksX2_beginOne_4 16 rfl rfl)
theorem dX2_beginOne_113 : decode cX2_beginOne 113 = .ok (.bipush 45, 2) := dk_16 45 (dk_at dksX2_beginOne_4 19 rfl rfl)
theorem dX2_beginOne_115 : decode cX2_beginOne 115 = .ok (.if_icmp .ne 9, 3) := dk_160 0 9 (dk_at dksX2_beginOne_4 21 rfl rfl)
theorem dX2_beginOne_118 : decode cX2_beginOne 118 = .ok (.aload_n 0, 1) := dk_42 (dk_at dksX2_beginOne_5 0 rfl rfl)
theorem dX2_beginOne_119 : decode cX2_beginOne 119 = .ok (.iconst 5, 1) := dk_8 (dk_at dksX2_beginOne_5 1 rfl rfl)
theorem dX2_beginOne_120 : decode cX2_beginOne 120 = .ok (.invokevirtual 177, 3) := dk_182 0 177 (dk_at dksX2_beginOne_5 2 rfl rfl)
theorem dX2_beginOne_123 : decode cX2_beginOne 123 = .ok (.ireturn, 1) := dk_172 (dk_at dksX2_beginOne_5 5 rfl rfl)
theorem dX2_beginOne_124 : decode cX2_beginOne 124 = .ok (.aload_n 0, 1) := dk_42 (dk_at dksX2_beginOne_5 6 rfl rfl)
theorem dX2_beginOne_125 : decode cX2_beginOne 125 = .ok (.bipush 104, 2) := dk_16 104 (dk_at dksX2_beginOne_5 7 rfl rfl)
theorem dX2_beginOne_127 : decode cX2_beginOne 127 = .ok (.bipush 97, 2) := dk_16 97 (dk_at dksX2_beginOne_5 9 rfl rfl)
theorem dX2_beginOne_129 : decode cX2_beginOne 129 = .ok (.bipush 108, 2) := dk_16 108 (dk_at dksX2_beginOne_5 11 rfl rfl)
theorem dX2_beginOne_131 : decode cX2_beginOne 131 = .ok (.bipush 118, 2) := dk_16 118 (dk_at dksX2_beginOne_5 13 rfl rfl)
theorem dX2_beginOne_133 : decode cX2_beginOne 133 = .ok (.bipush 101, 2) := dk_16 101 (dk_at dksX2_beginOne_5 15 rfl rfl)
theorem dX2_beginOne_135 : decode cX2_beginOne 135 = .ok (.bipush 115, 2) := dk_16 115 (dk_at dksX2_beginOne_5 17 rfl rfl)
theorem dX2_beginOne_137 : decode cX2_beginOne 137 = .ok (.invokestatic 180, 3) := dk_184 0 180 (dk_at dksX2_beginOne_5 19 rfl rfl)
theorem dX2_beginOne_140 : decode cX2_beginOne 140 = .ok (.invokevirtual 184, 3) := dk_182 0 184 (dk_at dksX2_beginOne_6 0 rfl rfl)
theorem dX2_beginOne_143 : decode cX2_beginOne 143 = .ok (.ifCond .eq 10, 3) := dk_153 0 10 (dk_at dksX2_beginOne_6 3 rfl rfl)
theorem dX2_beginOne_146 : decode cX2_beginOne 146 = .ok (.aload_n 0, 1) := dk_42 (dk_at dksX2_beginOne_6 6 rfl rfl)
theorem dX2_beginOne_147 : decode cX2_beginOne 147 = .ok (.bipush 41, 2) := dk_16 41 (dk_at dksX2_beginOne_6 7 rfl rfl)
theorem dX2_beginOne_149 : decode cX2_beginOne 149 = .ok (.invokevirtual 177, 3) := dk_182 0 177 (dk_at dksX2_beginOne_6 9 rfl rfl)
theorem dX2_beginOne_152 : decode cX2_beginOne 152 = .ok (.ireturn, 1) := dk_172 (dk_at dksX2_beginOne_6 12 rfl rfl)
theorem dX2_beginOne_153 : decode cX2_beginOne 153 = .ok (.aload_n 0, 1) := dk_42 (dk_at dksX2_beginOne_6 13 rfl rfl)
theorem dX2_beginOne_154 : decode cX2_beginOne 154 = .ok (.bipush 114, 2) := dk_16 114 (dk_at dksX2_beginOne_6 14 rfl rfl)
theorem dX2_beginOne_156 : decode cX2_beginOne 156 = .ok (.bipush 97, 2) := dk_16 97 (dk_at dksX2_beginOne_6 16 rfl rfl)
theorem dX2_beginOne_158 : decode cX2_beginOne 158 = .ok (.bipush 110, 2) := dk_16 110 (dk_at dksX2_beginOne_6 18 rfl rfl)
theorem dX2_beginOne_160 : decode cX2_beginOne 160 = .ok (.bipush 107, 2) := dk_16 107 (dk_at dksX2_beginOne_6 20 rfl rfl)
theorem dX2_beginOne_162 : decode cX2_beginOne 162 = .ok (.bipush 115, 2) := dk_16 115 (dk_at dksX2_beginOne_6 22 rfl rfl)
theorem dX2_beginOne_164 : decode cX2_beginOne 164 = .ok (.invokestatic 132, 3) := dk_184 0 132 (dk_at dksX2_beginOne_7 0 rfl rfl)
theorem dX2_beginOne_167 : decode cX2_beginOne 167 = .ok (.invokevirtual 184, 3) := dk_182 0 184 (dk_at dksX2_beginOne_7 3 rfl rfl)
theorem dX2_beginOne_170 : decode cX2_beginOne 170 = .ok (.ifCond .eq 9, 3) := dk_153 0 9 (dk_at dksX2_beginOne_7 6 rfl rfl)
theorem dX2_beginOne_173 : decode cX2_beginOne 173 = .ok (.aload_n 0, 1) := dk_42 (dk_at dksX2_beginOne_7 9 rfl rfl)
theorem dX2_beginOne_174 : decode cX2_beginOne 174 = .ok (.iconst 2, 1) := dk_5 (dk_at dksX2_beginOne_7 10 rfl rfl)
theorem dX2_beginOne_175 : decode cX2_beginOne 175 = .ok (.invokevirtual 177, 3) := dk_182 0 177 (dk_at dksX2_beginOne_7 11 rfl rfl)
theorem dX2_beginOne_178 : decode cX2_beginOne 178 = .ok (.ireturn, 1) := dk_172 (dk_at dksX2_beginOne_7 14 rfl rfl)
theorem dX2_beginOne_179 : decode cX2_beginOne 179 = .ok (.aload_n 0, 1) := dk_42 (dk_at dksX2_beginOne_7 15 rfl rfl)
theorem dX2_beginOne_180 : decode cX2_beginOne 180 = .ok (.bipush 105, 2) := dk_16 105 (dk_at dksX2_beginOne_7 16 rfl rfl)
theorem dX2_beginOne_182 : decode cX2_beginOne 182 = .ok (.bipush 102, 2) := dk_16 102 (dk_at dksX2_beginOne_7 18 rfl rfl)
theorem dX2_beginOne_184 : decode cX2_beginOne 184 = .ok (.invokestatic 120, 3) := dk_184 0 120 (dk_at dksX2_beginOne_7 20 rfl rfl)
theorem dX2_beginOne_187 : decode cX2_beginOne 187 = .ok (.invokevirtual 184, 3) := dk_182 0 184 (dk_at dksX2_beginOne_8 0 rfl rfl)
theorem dX2_beginOne_190 : decode cX2_beginOne 190 = .ok (.ifCond .eq 10, 3) := dk_153 0 10 (dk_at dksX2_beginOne_8 3 rfl rfl)
theorem dX2_beginOne_193 : decode cX2_beginOne 193 = .ok (.aload_n 0, 1) := dk_42 (dk_at dksX2_beginOne_8 6 rfl rfl)
theorem dX2_beginOne_194 : decode cX2_beginOne 194 = .ok (.bipush 42, 2) := dk_16 42 (dk_at dksX2_beginOne_8 7 rfl rfl)
theorem dX2_beginOne_196 : decode cX2_beginOne 196 = .ok (.invokevirtual 177, 3) := dk_182 0 177 (dk_at dksX2_beginOne_8 9 rfl rfl)
theorem dX2_beginOne_199 : decode cX2_beginOne 199 = .ok (.ireturn, 1) := dk_172 (dk_at dksX2_beginOne_8 12 rfl rfl)
theorem dX2_beginOne_200 : decode cX2_beginOne 200 = .ok (.aload_n 0, 1) := dk_42 (dk_at dksX2_beginOne_8 13 rfl rfl)
theorem dX2_beginOne_201 : decode cX2_beginOne 201 = .ok (.bipush 110, 2) := dk_16 110 (dk_at dksX2_beginOne_8 14 rfl rfl)
theorem dX2_beginOne_203 : decode cX2_beginOne 203 = .ok (.bipush 111, 2) := dk_16 111 (dk_at dksX2_beginOne_8 16 rfl rfl)
theorem dX2_beginOne_205 : decode cX2_beginOne 205 = .ok (.bipush 116, 2) := dk_16 116 (dk_at dksX2_beginOne_8 18 rfl rfl)
theorem dX2_beginOne_207 : decode cX2_beginOne 207 = .ok (.invokestatic 124, 3) := dk_184 0 124 (dk_at dksX2_beginOne_8 20 rfl rfl)
theorem dX2_beginOne_210 : decode cX2_beginOne 210 = .ok (.invokevirtual 184, 3) := dk_182 0 184 (dk_at dksX2_beginOne_9 0 rfl rfl)
theorem dX2_beginOne_213 : decode cX2_beginOne 213 = .ok (.ifCond .eq 19, 3) := dk_153 0 19 (dk_at dksX2_beginOne_9 3 rfl rfl)
theorem dX2_beginOne_216 : decode cX2_beginOne 216 = .ok (.aload_n 0, 1) := dk_42 (dk_at dksX2_beginOne_9 6 rfl rfl)
theorem dX2_beginOne_217 : decode cX2_beginOne 217 = .ok (.invokevirtual 188, 3) := dk_182 0 188 (dk_at dksX2_beginOne_9 7 rfl rfl)
theorem dX2_beginOne_220 : decode cX2_beginOne 220 = .ok (.ifCond .eq 12, 3) := dk_153 0 12 (dk_at dksX2_beginOne_9 10 rfl rfl)
theorem dX2_beginOne_223 : decode cX2_beginOne 223 = .ok (.aload_n 0, 1) := dk_42 (dk_at dksX2_beginOne_9 13 rfl rfl)
theorem dX2_beginOne_224 : decode cX2_beginOne 224 = .ok (.bipush 20, 2) := dk_16 20 (dk_at dksX2_beginOne_9 14 rfl rfl)
theorem dX2_beginOne_226 : decode cX2_beginOne 226 = .ok (.invokevirtual 177, 3) := dk_182 0 177 (dk_at dksX2_beginOne_9 16 rfl rfl)
theorem dX2_beginOne_229 : decode cX2_beginOne 229 = .ok (.goto 4, 3) := dk_167 0 4 (dk_at dksX2_beginOne_9 19 rfl rfl)
theorem dX2_beginOne_232 : decode cX2_beginOne 232 = .ok (.iconst 1, 1) := dk_4 (dk_at dksX2_beginOne_9 22 rfl rfl)
theorem dX2_beginOne_233 : decode cX2_beginOne 233 = .ok (.ireturn, 1) := dk_172 (dk_at dksX2_beginOne_9 23 rfl rfl)
abbrev cX2_nameOf : ByteArray := prog_20_method_32_code
def yX2_nameOf : MethodName := ⟨RX2, "nameOf", "()I"⟩
def dkwX2_nameOf_8 : List UInt8 := [184, 0, 128, 148, 154, 0, 8, 16, 8, 167, 0, 4, 2, 172]
abbrev dktX2_nameOf_8 : List UInt8 := dkwX2_nameOf_8 ++ []
def dkwX2_nameOf_7 : List UInt8 := [184, 0, 128, 148, 154, 0, 8, 16, 7, 167, 0, 28, 42, 180, 0, 111, 16, 100, 16, 101, 16, 115, 16, 107]
abbrev dktX2_nameOf_7 : List UInt8 := dkwX2_nameOf_7 ++ dktX2_nameOf_8
def dkwX2_nameOf_6 : List UInt8 := [16, 111, 184, 0, 120, 148, 154, 0, 6, 16, 6, 172, 42, 180, 0, 111, 16, 100, 16, 97, 16, 121, 16, 115]
abbrev dktX2_nameOf_6 : List UInt8 := dkwX2_nameOf_6 ++ dktX2_nameOf_7
def dkwX2_nameOf_5 : List UInt8 := [16, 102, 16, 114, 16, 111, 16, 109, 184, 0, 128, 148, 154, 0, 5, 8, 172, 42, 180, 0, 111, 16, 116]
abbrev dktX2_nameOf_5 : List UInt8 := dkwX2_nameOf_5 ++ dktX2_nameOf_6
def dkwX2_nameOf_4 : List UInt8 := [180, 0, 111, 16, 114, 16, 97, 16, 110, 16, 107, 184, 0, 128, 148, 154, 0, 5, 7, 172, 42, 180, 0, 111]
abbrev dktX2_nameOf_4 : List UInt8 := dkwX2_nameOf_4 ++ dktX2_nameOf_5
def dkwX2_nameOf_3 : List UInt8 := [180, 0, 111, 16, 112, 16, 114, 16, 105, 16, 100, 16, 101, 184, 0, 132, 148, 154, 0, 5, 6, 172, 42]
abbrev dktX2_nameOf_3 : List UInt8 := dkwX2_nameOf_3 ++ dktX2_nameOf_4
def dkwX2_nameOf_2 : List UInt8 := [4, 172, 42, 180, 0, 111, 16, 119, 16, 104, 16, 111, 184, 0, 124, 148, 154, 0, 5, 5, 172, 42]
abbrev dktX2_nameOf_2 : List UInt8 := dkwX2_nameOf_2 ++ dktX2_nameOf_3
def dkwX2_nameOf_1 : List UInt8 := [154, 0, 5, 3, 172, 42, 180, 0, 111, 16, 115, 16, 105, 16, 122, 16, 101, 184, 0, 128, 148, 154, 0, 5]
abbrev dktX2_nameOf_1 : List UInt8 := dkwX2_nameOf_1 ++ dktX2_nameOf_2
def dkwX2_nameOf_0 : List UInt8 := [42, 180, 0, 98, 5, 159, 0, 5, 2, 172, 42, 180, 0, 111, 16, 100, 16, 97, 16, 121, 184, 0, 124, 148]
abbrev dktX2_nameOf_0 : List UInt8 := dkwX2_nameOf_0 ++ dktX2_nameOf_1
theorem dksX2_nameOf_0 : cX2_nameOf.data.toList.drop 0 = dktX2_nameOf_0 := by decide +kernel
theorem dksX2_nameOf_1 : cX2_nameOf.data.toList.drop 24 = dktX2_nameOf_1 := dk_seg dksX2_nameOf_0 24 rfl rfl
theorem dksX2_nameOf_2 : cX2_nameOf.data.toList.drop 48 = dktX2_nameOf_2 := dk_seg dksX2_nameOf_1 24 rfl rfl
theorem dksX2_nameOf_3 : cX2_nameOf.data.toList.drop 70 = dktX2_nameOf_3 := dk_seg dksX2_nameOf_2 22 rfl rfl
theorem dksX2_nameOf_4 : cX2_nameOf.data.toList.drop 93 = dktX2_nameOf_4 := dk_seg dksX2_nameOf_3 23 rfl rfl
theorem dksX2_nameOf_5 : cX2_nameOf.data.toList.drop 117 = dktX2_nameOf_5 := dk_seg dksX2_nameOf_4 24 rfl rfl
theorem dksX2_nameOf_6 : cX2_nameOf.data.toList.drop 140 = dktX2_nameOf_6 := dk_seg dksX2_nameOf_5 23 rfl rfl
theorem dksX2_nameOf_7 : cX2_nameOf.data.toList.drop 164 = dktX2_nameOf_7 := dk_seg dksX2_nameOf_6 24 rfl rfl
theorem dksX2_nameOf_8 : cX2_nameOf.data.toList.drop 188 = dktX2_nameOf_8 := dk_seg dksX2_nameOf_7 24 rfl rfl
theorem dX2_nameOf_0 : decode cX2_nameOf 0 = .ok (.aload_n 0, 1) := dk_42 (dk_at dksX2_nameOf_0 0 rfl rfl)
theorem dX2_nameOf_1 : decode cX2_nameOf 1 = .ok (.getfield 98, 3) := dk_180 0 98 (dk_at dksX2_nameOf_0 1 rfl rfl)
theorem dX2_nameOf_4 : decode cX2_nameOf 4 = .ok (.iconst 2, 1) := dk_5 (dk_at dksX2_nameOf_0 4 rfl rfl)
theorem dX2_nameOf_5 : decode cX2_nameOf 5 = .ok (.if_icmp .eq 5, 3) := dk_159 0 5 (dk_at dksX2_nameOf_0 5 rfl rfl)
theorem dX2_nameOf_8 : decode cX2_nameOf 8 = .ok (.iconst (-1), 1) := dk_2 (dk_at dksX2_nameOf_0 8 rfl rfl)
theorem dX2_nameOf_9 : decode cX2_nameOf 9 = .ok (.ireturn, 1) := dk_172 (dk_at dksX2_nameOf_0 9 rfl rfl)
theorem dX2_nameOf_10 : decode cX2_nameOf 10 = .ok (.aload_n 0, 1) := dk_42 (dk_at dksX2_nameOf_0 10 rfl rfl)
theorem dX2_nameOf_11 : decode cX2_nameOf 11 = .ok (.getfield 111, 3) := dk_180 0 111 (dk_at dksX2_nameOf_0 11 rfl rfl)
theorem dX2_nameOf_14 : decode cX2_nameOf 14 = .ok (.bipush 100, 2) := dk_16 100 (dk_at dksX2_nameOf_0 14 rfl rfl)
theorem dX2_nameOf_16 : decode cX2_nameOf 16 = .ok (.bipush 97, 2) := dk_16 97 (dk_at dksX2_nameOf_0 16 rfl rfl)
theorem dX2_nameOf_18 : decode cX2_nameOf 18 = .ok (.bipush 121, 2) := dk_16 121 (dk_at dksX2_nameOf_0 18 rfl rfl)
theorem dX2_nameOf_20 : decode cX2_nameOf 20 = .ok (.invokestatic 124, 3) := dk_184 0 124 (dk_at dksX2_nameOf_0 20 rfl rfl)
theorem dX2_nameOf_23 : decode cX2_nameOf 23 = .ok (.lcmp, 1) := dk_148 (dk_at dksX2_nameOf_0 23 rfl rfl)
theorem dX2_nameOf_24 : decode cX2_nameOf 24 = .ok (.ifCond .ne 5, 3) := dk_154 0 5 (dk_at dksX2_nameOf_1 0 rfl rfl)
theorem dX2_nameOf_27 : decode cX2_nameOf 27 = .ok (.iconst 0, 1) := dk_3 (dk_at dksX2_nameOf_1 3 rfl rfl)
theorem dX2_nameOf_28 : decode cX2_nameOf 28 = .ok (.ireturn, 1) := dk_172 (dk_at dksX2_nameOf_1 4 rfl rfl)
theorem dX2_nameOf_29 : decode cX2_nameOf 29 = .ok (.aload_n 0, 1) := dk_42 (dk_at dksX2_nameOf_1 5 rfl rfl)
theorem dX2_nameOf_30 : decode cX2_nameOf 30 = .ok (.getfield 111, 3) := dk_180 0 111 (dk_at dksX2_nameOf_1 6 rfl rfl)
theorem dX2_nameOf_33 : decode cX2_nameOf 33 = .ok (.bipush 115, 2) := dk_16 115 (dk_at dksX2_nameOf_1 9 rfl rfl)
theorem dX2_nameOf_35 : decode cX2_nameOf 35 = .ok (.bipush 105, 2) := dk_16 105 (dk_at dksX2_nameOf_1 11 rfl rfl)
theorem dX2_nameOf_37 : decode cX2_nameOf 37 = .ok (.bipush 122, 2) := dk_16 122 (dk_at dksX2_nameOf_1 13 rfl rfl)
theorem dX2_nameOf_39 : decode cX2_nameOf 39 = .ok (.bipush 101, 2) := dk_16 101 (dk_at dksX2_nameOf_1 15 rfl rfl)
theorem dX2_nameOf_41 : decode cX2_nameOf 41 = .ok (.invokestatic 128, 3) := dk_184 0 128 (dk_at dksX2_nameOf_1 17 rfl rfl)
theorem dX2_nameOf_44 : decode cX2_nameOf 44 = .ok (.lcmp, 1) := dk_148 (dk_at dksX2_nameOf_1 20 rfl rfl)
theorem dX2_nameOf_45 : decode cX2_nameOf 45 = .ok (.ifCond .ne 5, 3) := dk_154 0 5 (dk_at dksX2_nameOf_1 21 rfl rfl)
theorem dX2_nameOf_48 : decode cX2_nameOf 48 = .ok (.iconst 1, 1) := dk_4 (dk_at dksX2_nameOf_2 0 rfl rfl)
theorem dX2_nameOf_49 : decode cX2_nameOf 49 = .ok (.ireturn, 1) := dk_172 (dk_at dksX2_nameOf_2 1 rfl rfl)
theorem dX2_nameOf_50 : decode cX2_nameOf 50 = .ok (.aload_n 0, 1) := dk_42 (dk_at dksX2_nameOf_2 2 rfl rfl)
theorem dX2_nameOf_51 : decode cX2_nameOf 51 = .ok (.getfield 111, 3) := dk_180 0 111 (dk_at dksX2_nameOf_2 3 rfl rfl)
theorem dX2_nameOf_54 : decode cX2_nameOf 54 = .ok (.bipush 119, 2) := dk_16 119 (dk_at dksX2_nameOf_2 6 rfl rfl)
theorem dX2_nameOf_56 : decode cX2_nameOf 56 = .ok (.bipush 104, 2) := dk_16 104 (dk_at dksX2_nameOf_2 8 rfl rfl)
theorem dX2_nameOf_58 : decode cX2_nameOf 58 = .ok (.bipush 111, 2) := dk_16 111 (dk_at dksX2_nameOf_2 10 rfl rfl)
theorem dX2_nameOf_60 : decode cX2_nameOf 60 = .ok (.invokestatic 124, 3) := dk_184 0 124 (dk_at dksX2_nameOf_2 12 rfl rfl)
theorem dX2_nameOf_63 : decode cX2_nameOf 63 = .ok (.lcmp, 1) := dk_148 (dk_at dksX2_nameOf_2 15 rfl rfl)
theorem dX2_nameOf_64 : decode cX2_nameOf 64 = .ok (.ifCond .ne 5, 3) := dk_154 0 5 (dk_at dksX2_nameOf_2 16 rfl rfl)
theorem dX2_nameOf_67 : decode cX2_nameOf 67 = .ok (.iconst 2, 1) := dk_5 (dk_at dksX2_nameOf_2 19 rfl rfl)
theorem dX2_nameOf_68 : decode cX2_nameOf 68 = .ok (.ireturn, 1) := dk_172 (dk_at dksX2_nameOf_2 20 rfl rfl)
theorem dX2_nameOf_69 : decode cX2_nameOf 69 = .ok (.aload_n 0, 1) := dk_42 (dk_at dksX2_nameOf_2 21 rfl rfl)
theorem dX2_nameOf_70 : decode cX2_nameOf 70 = .ok (.getfield 111, 3) := dk_180 0 111 (dk_at dksX2_nameOf_3 0 rfl rfl)
theorem dX2_nameOf_73 : decode cX2_nameOf 73 = .ok (.bipush 112, 2) := dk_16 112 (dk_at dksX2_nameOf_3 3 rfl rfl)
theorem dX2_nameOf_75 : decode cX2_nameOf 75 = .ok (.bipush 114, 2) := dk_16 114 (dk_at dksX2_nameOf_3 5 rfl rfl)
theorem dX2_nameOf_77 : decode cX2_nameOf 77 = .ok (.bipush 105, 2) := dk_16 105 (dk_at dksX2_nameOf_3 7 rfl rfl)
theorem dX2_nameOf_79 : decode cX2_nameOf 79 = .ok (.bipush 100, 2) := dk_16 100 (dk_at dksX2_nameOf_3 9 rfl rfl)
theorem dX2_nameOf_81 : decode cX2_nameOf 81 = .ok (.bipush 101, 2) := dk_16 101 (dk_at dksX2_nameOf_3 11 rfl rfl)
theorem dX2_nameOf_83 : decode cX2_nameOf 83 = .ok (.invokestatic 132, 3) := dk_184 0 132 (dk_at dksX2_nameOf_3 13 rfl rfl)
theorem dX2_nameOf_86 : decode cX2_nameOf 86 = .ok (.lcmp, 1) := dk_148 (dk_at dksX2_nameOf_3 16 rfl rfl)
theorem dX2_nameOf_87 : decode cX2_nameOf 87 = .ok (.ifCond .ne 5, 3) := dk_154 0 5 (dk_at dksX2_nameOf_3 17 rfl rfl)
theorem dX2_nameOf_90 : decode cX2_nameOf 90 = .ok (.iconst 3, 1) := dk_6 (dk_at dksX2_nameOf_3 20 rfl rfl)
theorem dX2_nameOf_91 : decode cX2_nameOf 91 = .ok (.ireturn, 1) := dk_172 (dk_at dksX2_nameOf_3 21 rfl rfl)
theorem dX2_nameOf_92 : decode cX2_nameOf 92 = .ok (.aload_n 0, 1) := dk_42 (dk_at dksX2_nameOf_3 22 rfl rfl)
theorem dX2_nameOf_93 : decode cX2_nameOf 93 = .ok (.getfield 111, 3) := dk_180 0 111 (dk_at dksX2_nameOf_4 0 rfl rfl)
theorem dX2_nameOf_96 : decode cX2_nameOf 96 = .ok (.bipush 114, 2) := dk_16 114 (dk_at dksX2_nameOf_4 3 rfl rfl)
theorem dX2_nameOf_98 : decode cX2_nameOf 98 = .ok (.bipush 97, 2) := dk_16 97 (dk_at dksX2_nameOf_4 5 rfl rfl)
theorem dX2_nameOf_100 : decode cX2_nameOf 100 = .ok (.bipush 110, 2) := dk_16 110 (dk_at dksX2_nameOf_4 7 rfl rfl)
theorem dX2_nameOf_102 : decode cX2_nameOf 102 = .ok (.bipush 107, 2) := dk_16 107 (dk_at dksX2_nameOf_4 9 rfl rfl)
theorem dX2_nameOf_104 : decode cX2_nameOf 104 = .ok (.invokestatic 128, 3) := dk_184 0 128 (dk_at dksX2_nameOf_4 11 rfl rfl)
theorem dX2_nameOf_107 : decode cX2_nameOf 107 = .ok (.lcmp, 1) := dk_148 (dk_at dksX2_nameOf_4 14 rfl rfl)
theorem dX2_nameOf_108 : decode cX2_nameOf 108 = .ok (.ifCond .ne 5, 3) := dk_154 0 5 (dk_at dksX2_nameOf_4 15 rfl rfl)
theorem dX2_nameOf_111 : decode cX2_nameOf 111 = .ok (.iconst 4, 1) := dk_7 (dk_at dksX2_nameOf_4 18 rfl rfl)
theorem dX2_nameOf_112 : decode cX2_nameOf 112 = .ok (.ireturn, 1) := dk_172 (dk_at dksX2_nameOf_4 19 rfl rfl)
theorem dX2_nameOf_113 : decode cX2_nameOf 113 = .ok (.aload_n 0, 1) := dk_42 (dk_at dksX2_nameOf_4 20 rfl rfl)
theorem dX2_nameOf_114 : decode cX2_nameOf 114 = .ok (.getfield 111, 3) := dk_180 0 111 (dk_at dksX2_nameOf_4 21 rfl rfl)
theorem dX2_nameOf_117 : decode cX2_nameOf 117 = .ok (.bipush 102, 2) := dk_16 102 (dk_at dksX2_nameOf_5 0 rfl rfl)
theorem dX2_nameOf_119 : decode cX2_nameOf 119 = .ok (.bipush 114, 2) := dk_16 114 (dk_at dksX2_nameOf_5 2 rfl rfl)
theorem dX2_nameOf_121 : decode cX2_nameOf 121 = .ok (.bipush 111, 2) := dk_16 111 (dk_at dksX2_nameOf_5 4 rfl rfl)
theorem dX2_nameOf_123 : decode cX2_nameOf 123 = .ok (.bipush 109, 2) := dk_16 109 (dk_at dksX2_nameOf_5 6 rfl rfl)
theorem dX2_nameOf_125 : decode cX2_nameOf 125 = .ok (.invokestatic 128, 3) := dk_184 0 128 (dk_at dksX2_nameOf_5 8 rfl rfl)
theorem dX2_nameOf_128 : decode cX2_nameOf 128 = .ok (.lcmp, 1) := dk_148 (dk_at dksX2_nameOf_5 11 rfl rfl)
theorem dX2_nameOf_129 : decode cX2_nameOf 129 = .ok (.ifCond .ne 5, 3) := dk_154 0 5 (dk_at dksX2_nameOf_5 12 rfl rfl)
theorem dX2_nameOf_132 : decode cX2_nameOf 132 = .ok (.iconst 5, 1) := dk_8 (dk_at dksX2_nameOf_5 15 rfl rfl)
theorem dX2_nameOf_133 : decode cX2_nameOf 133 = .ok (.ireturn, 1) := dk_172 (dk_at dksX2_nameOf_5 16 rfl rfl)
theorem dX2_nameOf_134 : decode cX2_nameOf 134 = .ok (.aload_n 0, 1) := dk_42 (dk_at dksX2_nameOf_5 17 rfl rfl)
theorem dX2_nameOf_135 : decode cX2_nameOf 135 = .ok (.getfield 111, 3) := dk_180 0 111 (dk_at dksX2_nameOf_5 18 rfl rfl)
theorem dX2_nameOf_138 : decode cX2_nameOf 138 = .ok (.bipush 116, 2) := dk_16 116 (dk_at dksX2_nameOf_5 21 rfl rfl)
theorem dX2_nameOf_140 : decode cX2_nameOf 140 = .ok (.bipush 111, 2) := dk_16 111 (dk_at dksX2_nameOf_6 0 rfl rfl)
theorem dX2_nameOf_142 : decode cX2_nameOf 142 = .ok (.invokestatic 120, 3) := dk_184 0 120 (dk_at dksX2_nameOf_6 2 rfl rfl)
theorem dX2_nameOf_145 : decode cX2_nameOf 145 = .ok (.lcmp, 1) := dk_148 (dk_at dksX2_nameOf_6 5 rfl rfl)
theorem dX2_nameOf_146 : decode cX2_nameOf 146 = .ok (.ifCond .ne 6, 3) := dk_154 0 6 (dk_at dksX2_nameOf_6 6 rfl rfl)
theorem dX2_nameOf_149 : decode cX2_nameOf 149 = .ok (.bipush 6, 2) := dk_16 6 (dk_at dksX2_nameOf_6 9 rfl rfl)
theorem dX2_nameOf_151 : decode cX2_nameOf 151 = .ok (.ireturn, 1) := dk_172 (dk_at dksX2_nameOf_6 11 rfl rfl)
theorem dX2_nameOf_152 : decode cX2_nameOf 152 = .ok (.aload_n 0, 1) := dk_42 (dk_at dksX2_nameOf_6 12 rfl rfl)
theorem dX2_nameOf_153 : decode cX2_nameOf 153 = .ok (.getfield 111, 3) := dk_180 0 111 (dk_at dksX2_nameOf_6 13 rfl rfl)
theorem dX2_nameOf_156 : decode cX2_nameOf 156 = .ok (.bipush 100, 2) := dk_16 100 (dk_at dksX2_nameOf_6 16 rfl rfl)
theorem dX2_nameOf_158 : decode cX2_nameOf 158 = .ok (.bipush 97, 2) := dk_16 97 (dk_at dksX2_nameOf_6 18 rfl rfl)
theorem dX2_nameOf_160 : decode cX2_nameOf 160 = .ok (.bipush 121, 2) := dk_16 121 (dk_at dksX2_nameOf_6 20 rfl rfl)
theorem dX2_nameOf_162 : decode cX2_nameOf 162 = .ok (.bipush 115, 2) := dk_16 115 (dk_at dksX2_nameOf_6 22 rfl rfl)
theorem dX2_nameOf_164 : decode cX2_nameOf 164 = .ok (.invokestatic 128, 3) := dk_184 0 128 (dk_at dksX2_nameOf_7 0 rfl rfl)
theorem dX2_nameOf_167 : decode cX2_nameOf 167 = .ok (.lcmp, 1) := dk_148 (dk_at dksX2_nameOf_7 3 rfl rfl)
theorem dX2_nameOf_168 : decode cX2_nameOf 168 = .ok (.ifCond .ne 8, 3) := dk_154 0 8 (dk_at dksX2_nameOf_7 4 rfl rfl)
theorem dX2_nameOf_171 : decode cX2_nameOf 171 = .ok (.bipush 7, 2) := dk_16 7 (dk_at dksX2_nameOf_7 7 rfl rfl)
theorem dX2_nameOf_173 : decode cX2_nameOf 173 = .ok (.goto 28, 3) := dk_167 0 28 (dk_at dksX2_nameOf_7 9 rfl rfl)
theorem dX2_nameOf_176 : decode cX2_nameOf 176 = .ok (.aload_n 0, 1) := dk_42 (dk_at dksX2_nameOf_7 12 rfl rfl)
theorem dX2_nameOf_177 : decode cX2_nameOf 177 = .ok (.getfield 111, 3) := dk_180 0 111 (dk_at dksX2_nameOf_7 13 rfl rfl)
theorem dX2_nameOf_180 : decode cX2_nameOf 180 = .ok (.bipush 100, 2) := dk_16 100 (dk_at dksX2_nameOf_7 16 rfl rfl)
theorem dX2_nameOf_182 : decode cX2_nameOf 182 = .ok (.bipush 101, 2) := dk_16 101 (dk_at dksX2_nameOf_7 18 rfl rfl)
theorem dX2_nameOf_184 : decode cX2_nameOf 184 = .ok (.bipush 115, 2) := dk_16 115 (dk_at dksX2_nameOf_7 20 rfl rfl)
theorem dX2_nameOf_186 : decode cX2_nameOf 186 = .ok (.bipush 107, 2) := dk_16 107 (dk_at dksX2_nameOf_7 22 rfl rfl)
theorem dX2_nameOf_188 : decode cX2_nameOf 188 = .ok (.invokestatic 128, 3) := dk_184 0 128 (dk_at dksX2_nameOf_8 0 rfl rfl)
theorem dX2_nameOf_191 : decode cX2_nameOf 191 = .ok (.lcmp, 1) := dk_148 (dk_at dksX2_nameOf_8 3 rfl rfl)
theorem dX2_nameOf_192 : decode cX2_nameOf 192 = .ok (.ifCond .ne 8, 3) := dk_154 0 8 (dk_at dksX2_nameOf_8 4 rfl rfl)
theorem dX2_nameOf_195 : decode cX2_nameOf 195 = .ok (.bipush 8, 2) := dk_16 8 (dk_at dksX2_nameOf_8 7 rfl rfl)
theorem dX2_nameOf_197 : decode cX2_nameOf 197 = .ok (.goto 4, 3) := dk_167 0 4 (dk_at dksX2_nameOf_8 9 rfl rfl)
theorem dX2_nameOf_200 : decode cX2_nameOf 200 = .ok (.iconst (-1), 1) := dk_2 (dk_at dksX2_nameOf_8 12 rfl rfl)
theorem dX2_nameOf_201 : decode cX2_nameOf 201 = .ok (.ireturn, 1) := dk_172 (dk_at dksX2_nameOf_8 13 rfl rfl)
abbrev cX2_isOf : ByteArray := prog_20_method_33_code
def yX2_isOf : MethodName := ⟨RX2, "isOf", "(I)Z"⟩
def dkwX2_isOf_1 : List UInt8 := [180, 0, 142, 154, 0, 7, 4, 167, 0, 4, 3, 172]
abbrev dktX2_isOf_1 : List UInt8 := dkwX2_isOf_1 ++ []
def dkwX2_isOf_0 : List UInt8 := [27, 16, 7, 161, 0, 27, 27, 16, 7, 160, 0, 14, 42, 180, 0, 142, 5, 159, 0, 17, 167, 0, 10, 42]
abbrev dktX2_isOf_0 : List UInt8 := dkwX2_isOf_0 ++ dktX2_isOf_1
theorem dksX2_isOf_0 : cX2_isOf.data.toList.drop 0 = dktX2_isOf_0 := by decide +kernel
theorem dksX2_isOf_1 : cX2_isOf.data.toList.drop 24 = dktX2_isOf_1 := dk_seg dksX2_isOf_0 24 rfl rfl
theorem dX2_isOf_0 : decode cX2_isOf 0 = .ok (.iload_n 1, 1) := dk_27 (dk_at dksX2_isOf_0 0 rfl rfl)
theorem dX2_isOf_1 : decode cX2_isOf 1 = .ok (.bipush 7, 2) := dk_16 7 (dk_at dksX2_isOf_0 1 rfl rfl)
theorem dX2_isOf_3 : decode cX2_isOf 3 = .ok (.if_icmp .lt 27, 3) := dk_161 0 27 (dk_at dksX2_isOf_0 3 rfl rfl)
theorem dX2_isOf_6 : decode cX2_isOf 6 = .ok (.iload_n 1, 1) := dk_27 (dk_at dksX2_isOf_0 6 rfl rfl)
theorem dX2_isOf_7 : decode cX2_isOf 7 = .ok (.bipush 7, 2) := dk_16 7 (dk_at dksX2_isOf_0 7 rfl rfl)
theorem dX2_isOf_9 : decode cX2_isOf 9 = .ok (.if_icmp .ne 14, 3) := dk_160 0 14 (dk_at dksX2_isOf_0 9 rfl rfl)
theorem dX2_isOf_12 : decode cX2_isOf 12 = .ok (.aload_n 0, 1) := dk_42 (dk_at dksX2_isOf_0 12 rfl rfl)
theorem dX2_isOf_13 : decode cX2_isOf 13 = .ok (.getfield 142, 3) := dk_180 0 142 (dk_at dksX2_isOf_0 13 rfl rfl)
theorem dX2_isOf_16 : decode cX2_isOf 16 = .ok (.iconst 2, 1) := dk_5 (dk_at dksX2_isOf_0 16 rfl rfl)
theorem dX2_isOf_17 : decode cX2_isOf 17 = .ok (.if_icmp .eq 17, 3) := dk_159 0 17 (dk_at dksX2_isOf_0 17 rfl rfl)
theorem dX2_isOf_20 : decode cX2_isOf 20 = .ok (.goto 10, 3) := dk_167 0 10 (dk_at dksX2_isOf_0 20 rfl rfl)
theorem dX2_isOf_23 : decode cX2_isOf 23 = .ok (.aload_n 0, 1) := dk_42 (dk_at dksX2_isOf_0 23 rfl rfl)
theorem dX2_isOf_24 : decode cX2_isOf 24 = .ok (.getfield 142, 3) := dk_180 0 142 (dk_at dksX2_isOf_1 0 rfl rfl)
theorem dX2_isOf_27 : decode cX2_isOf 27 = .ok (.ifCond .ne 7, 3) := dk_154 0 7 (dk_at dksX2_isOf_1 3 rfl rfl)
theorem dX2_isOf_30 : decode cX2_isOf 30 = .ok (.iconst 1, 1) := dk_4 (dk_at dksX2_isOf_1 6 rfl rfl)
theorem dX2_isOf_31 : decode cX2_isOf 31 = .ok (.goto 4, 3) := dk_167 0 4 (dk_at dksX2_isOf_1 7 rfl rfl)
theorem dX2_isOf_34 : decode cX2_isOf 34 = .ok (.iconst 0, 1) := dk_3 (dk_at dksX2_isOf_1 10 rfl rfl)
theorem dX2_isOf_35 : decode cX2_isOf 35 = .ok (.ireturn, 1) := dk_172 (dk_at dksX2_isOf_1 11 rfl rfl)
abbrev cX2_opened : ByteArray := prog_20_method_40_code
def yX2_opened : MethodName := ⟨RX2, "opened", "(I)I"⟩
def dkwX2_opened_2 : List UInt8 := [172]
abbrev dktX2_opened_2 : List UInt8 := dkwX2_opened_2 ++ []
def dkwX2_opened_1 : List UInt8 := [180, 0, 29, 42, 180, 0, 145, 27, 79, 42, 89, 180, 0, 145, 4, 96, 181, 0, 145, 42, 182, 0, 165, 3]
abbrev dktX2_opened_1 : List UInt8 := dkwX2_opened_1 ++ dktX2_opened_2
def dkwX2_opened_0 : List UInt8 := [42, 180, 0, 155, 16, 8, 160, 0, 5, 6, 172, 42, 89, 180, 0, 155, 4, 96, 181, 0, 155, 42]
abbrev dktX2_opened_0 : List UInt8 := dkwX2_opened_0 ++ dktX2_opened_1
theorem dksX2_opened_0 : cX2_opened.data.toList.drop 0 = dktX2_opened_0 := by decide +kernel
theorem dksX2_opened_1 : cX2_opened.data.toList.drop 22 = dktX2_opened_1 := dk_seg dksX2_opened_0 22 rfl rfl
theorem dksX2_opened_2 : cX2_opened.data.toList.drop 46 = dktX2_opened_2 := dk_seg dksX2_opened_1 24 rfl rfl
theorem dX2_opened_0 : decode cX2_opened 0 = .ok (.aload_n 0, 1) := dk_42 (dk_at dksX2_opened_0 0 rfl rfl)
theorem dX2_opened_1 : decode cX2_opened 1 = .ok (.getfield 155, 3) := dk_180 0 155 (dk_at dksX2_opened_0 1 rfl rfl)
theorem dX2_opened_4 : decode cX2_opened 4 = .ok (.bipush 8, 2) := dk_16 8 (dk_at dksX2_opened_0 4 rfl rfl)
theorem dX2_opened_6 : decode cX2_opened 6 = .ok (.if_icmp .ne 5, 3) := dk_160 0 5 (dk_at dksX2_opened_0 6 rfl rfl)
theorem dX2_opened_9 : decode cX2_opened 9 = .ok (.iconst 3, 1) := dk_6 (dk_at dksX2_opened_0 9 rfl rfl)
theorem dX2_opened_10 : decode cX2_opened 10 = .ok (.ireturn, 1) := dk_172 (dk_at dksX2_opened_0 10 rfl rfl)
theorem dX2_opened_11 : decode cX2_opened 11 = .ok (.aload_n 0, 1) := dk_42 (dk_at dksX2_opened_0 11 rfl rfl)
theorem dX2_opened_12 : decode cX2_opened 12 = .ok (.dup, 1) := dk_89 (dk_at dksX2_opened_0 12 rfl rfl)
theorem dX2_opened_13 : decode cX2_opened 13 = .ok (.getfield 155, 3) := dk_180 0 155 (dk_at dksX2_opened_0 13 rfl rfl)
theorem dX2_opened_16 : decode cX2_opened 16 = .ok (.iconst 1, 1) := dk_4 (dk_at dksX2_opened_0 16 rfl rfl)
theorem dX2_opened_17 : decode cX2_opened 17 = .ok (.iadd, 1) := dk_96 (dk_at dksX2_opened_0 17 rfl rfl)
theorem dX2_opened_18 : decode cX2_opened 18 = .ok (.putfield 155, 3) := dk_181 0 155 (dk_at dksX2_opened_0 18 rfl rfl)
theorem dX2_opened_21 : decode cX2_opened 21 = .ok (.aload_n 0, 1) := dk_42 (dk_at dksX2_opened_0 21 rfl rfl)
theorem dX2_opened_22 : decode cX2_opened 22 = .ok (.getfield 29, 3) := dk_180 0 29 (dk_at dksX2_opened_1 0 rfl rfl)
theorem dX2_opened_25 : decode cX2_opened 25 = .ok (.aload_n 0, 1) := dk_42 (dk_at dksX2_opened_1 3 rfl rfl)
theorem dX2_opened_26 : decode cX2_opened 26 = .ok (.getfield 145, 3) := dk_180 0 145 (dk_at dksX2_opened_1 4 rfl rfl)
theorem dX2_opened_29 : decode cX2_opened 29 = .ok (.iload_n 1, 1) := dk_27 (dk_at dksX2_opened_1 7 rfl rfl)
theorem dX2_opened_30 : decode cX2_opened 30 = .ok (.iastore, 1) := dk_79 (dk_at dksX2_opened_1 8 rfl rfl)
theorem dX2_opened_31 : decode cX2_opened 31 = .ok (.aload_n 0, 1) := dk_42 (dk_at dksX2_opened_1 9 rfl rfl)
theorem dX2_opened_32 : decode cX2_opened 32 = .ok (.dup, 1) := dk_89 (dk_at dksX2_opened_1 10 rfl rfl)
theorem dX2_opened_33 : decode cX2_opened 33 = .ok (.getfield 145, 3) := dk_180 0 145 (dk_at dksX2_opened_1 11 rfl rfl)
theorem dX2_opened_36 : decode cX2_opened 36 = .ok (.iconst 1, 1) := dk_4 (dk_at dksX2_opened_1 14 rfl rfl)
theorem dX2_opened_37 : decode cX2_opened 37 = .ok (.iadd, 1) := dk_96 (dk_at dksX2_opened_1 15 rfl rfl)
theorem dX2_opened_38 : decode cX2_opened 38 = .ok (.putfield 145, 3) := dk_181 0 145 (dk_at dksX2_opened_1 16 rfl rfl)
theorem dX2_opened_41 : decode cX2_opened 41 = .ok (.aload_n 0, 1) := dk_42 (dk_at dksX2_opened_1 19 rfl rfl)
theorem dX2_opened_42 : decode cX2_opened 42 = .ok (.invokevirtual 165, 3) := dk_182 0 165 (dk_at dksX2_opened_1 20 rfl rfl)
theorem dX2_opened_45 : decode cX2_opened 45 = .ok (.iconst 0, 1) := dk_3 (dk_at dksX2_opened_1 23 rfl rfl)
theorem dX2_opened_46 : decode cX2_opened 46 = .ok (.ireturn, 1) := dk_172 (dk_at dksX2_opened_2 0 rfl rfl)
abbrev cX2_isAskAhead : ByteArray := prog_20_method_39_code
def yX2_isAskAhead : MethodName := ⟨RX2, "isAskAhead", "()Z"⟩
def dkwX2_isAskAhead_2 : List UInt8 := [153, 0, 7, 4, 167, 0, 4, 3, 172]
abbrev dktX2_isAskAhead_2 : List UInt8 := dkwX2_isAskAhead_2 ++ []
def dkwX2_isAskAhead_1 : List UInt8 := [162, 0, 25, 42, 180, 0, 29, 42, 180, 0, 145, 4, 100, 46, 184, 0, 148, 4, 6, 184, 0, 69]
abbrev dktX2_isAskAhead_1 : List UInt8 := dkwX2_isAskAhead_1 ++ dktX2_isAskAhead_2
def dkwX2_isAskAhead_0 : List UInt8 := [42, 182, 0, 162, 16, 42, 160, 0, 45, 42, 180, 0, 29, 42, 180, 0, 145, 4, 100, 46, 16, 40]
abbrev dktX2_isAskAhead_0 : List UInt8 := dkwX2_isAskAhead_0 ++ dktX2_isAskAhead_1
theorem dksX2_isAskAhead_0 : cX2_isAskAhead.data.toList.drop 0 = dktX2_isAskAhead_0 := by decide +kernel
theorem dksX2_isAskAhead_1 : cX2_isAskAhead.data.toList.drop 22 = dktX2_isAskAhead_1 := dk_seg dksX2_isAskAhead_0 22 rfl rfl
theorem dksX2_isAskAhead_2 : cX2_isAskAhead.data.toList.drop 44 = dktX2_isAskAhead_2 := dk_seg dksX2_isAskAhead_1 22 rfl rfl
theorem dX2_isAskAhead_0 : decode cX2_isAskAhead 0 = .ok (.aload_n 0, 1) := dk_42 (dk_at dksX2_isAskAhead_0 0 rfl rfl)
theorem dX2_isAskAhead_1 : decode cX2_isAskAhead 1 = .ok (.invokevirtual 162, 3) := dk_182 0 162 (dk_at dksX2_isAskAhead_0 1 rfl rfl)
theorem dX2_isAskAhead_4 : decode cX2_isAskAhead 4 = .ok (.bipush 42, 2) := dk_16 42 (dk_at dksX2_isAskAhead_0 4 rfl rfl)
theorem dX2_isAskAhead_6 : decode cX2_isAskAhead 6 = .ok (.if_icmp .ne 45, 3) := dk_160 0 45 (dk_at dksX2_isAskAhead_0 6 rfl rfl)
theorem dX2_isAskAhead_9 : decode cX2_isAskAhead 9 = .ok (.aload_n 0, 1) := dk_42 (dk_at dksX2_isAskAhead_0 9 rfl rfl)
theorem dX2_isAskAhead_10 : decode cX2_isAskAhead 10 = .ok (.getfield 29, 3) := dk_180 0 29 (dk_at dksX2_isAskAhead_0 10 rfl rfl)
theorem dX2_isAskAhead_13 : decode cX2_isAskAhead 13 = .ok (.aload_n 0, 1) := dk_42 (dk_at dksX2_isAskAhead_0 13 rfl rfl)
theorem dX2_isAskAhead_14 : decode cX2_isAskAhead 14 = .ok (.getfield 145, 3) := dk_180 0 145 (dk_at dksX2_isAskAhead_0 14 rfl rfl)
theorem dX2_isAskAhead_17 : decode cX2_isAskAhead 17 = .ok (.iconst 1, 1) := dk_4 (dk_at dksX2_isAskAhead_0 17 rfl rfl)
theorem dX2_isAskAhead_18 : decode cX2_isAskAhead 18 = .ok (.isub, 1) := dk_100 (dk_at dksX2_isAskAhead_0 18 rfl rfl)
theorem dX2_isAskAhead_19 : decode cX2_isAskAhead 19 = .ok (.iaload, 1) := dk_46 (dk_at dksX2_isAskAhead_0 19 rfl rfl)
theorem dX2_isAskAhead_20 : decode cX2_isAskAhead 20 = .ok (.bipush 40, 2) := dk_16 40 (dk_at dksX2_isAskAhead_0 20 rfl rfl)
theorem dX2_isAskAhead_22 : decode cX2_isAskAhead 22 = .ok (.if_icmp .ge 25, 3) := dk_162 0 25 (dk_at dksX2_isAskAhead_1 0 rfl rfl)
theorem dX2_isAskAhead_25 : decode cX2_isAskAhead 25 = .ok (.aload_n 0, 1) := dk_42 (dk_at dksX2_isAskAhead_1 3 rfl rfl)
theorem dX2_isAskAhead_26 : decode cX2_isAskAhead 26 = .ok (.getfield 29, 3) := dk_180 0 29 (dk_at dksX2_isAskAhead_1 4 rfl rfl)
theorem dX2_isAskAhead_29 : decode cX2_isAskAhead 29 = .ok (.aload_n 0, 1) := dk_42 (dk_at dksX2_isAskAhead_1 7 rfl rfl)
theorem dX2_isAskAhead_30 : decode cX2_isAskAhead 30 = .ok (.getfield 145, 3) := dk_180 0 145 (dk_at dksX2_isAskAhead_1 8 rfl rfl)
theorem dX2_isAskAhead_33 : decode cX2_isAskAhead 33 = .ok (.iconst 1, 1) := dk_4 (dk_at dksX2_isAskAhead_1 11 rfl rfl)
theorem dX2_isAskAhead_34 : decode cX2_isAskAhead 34 = .ok (.isub, 1) := dk_100 (dk_at dksX2_isAskAhead_1 12 rfl rfl)
theorem dX2_isAskAhead_35 : decode cX2_isAskAhead 35 = .ok (.iaload, 1) := dk_46 (dk_at dksX2_isAskAhead_1 13 rfl rfl)
theorem dX2_isAskAhead_36 : decode cX2_isAskAhead 36 = .ok (.invokestatic 148, 3) := dk_184 0 148 (dk_at dksX2_isAskAhead_1 14 rfl rfl)
theorem dX2_isAskAhead_39 : decode cX2_isAskAhead 39 = .ok (.iconst 1, 1) := dk_4 (dk_at dksX2_isAskAhead_1 17 rfl rfl)
theorem dX2_isAskAhead_40 : decode cX2_isAskAhead 40 = .ok (.iconst 3, 1) := dk_6 (dk_at dksX2_isAskAhead_1 18 rfl rfl)
theorem dX2_isAskAhead_41 : decode cX2_isAskAhead 41 = .ok (.invokestatic 69, 3) := dk_184 0 69 (dk_at dksX2_isAskAhead_1 19 rfl rfl)
theorem dX2_isAskAhead_44 : decode cX2_isAskAhead 44 = .ok (.ifCond .eq 7, 3) := dk_153 0 7 (dk_at dksX2_isAskAhead_2 0 rfl rfl)
theorem dX2_isAskAhead_47 : decode cX2_isAskAhead 47 = .ok (.iconst 1, 1) := dk_4 (dk_at dksX2_isAskAhead_2 3 rfl rfl)
theorem dX2_isAskAhead_48 : decode cX2_isAskAhead 48 = .ok (.goto 4, 3) := dk_167 0 4 (dk_at dksX2_isAskAhead_2 4 rfl rfl)
theorem dX2_isAskAhead_51 : decode cX2_isAskAhead 51 = .ok (.iconst 0, 1) := dk_3 (dk_at dksX2_isAskAhead_2 7 rfl rfl)
theorem dX2_isAskAhead_52 : decode cX2_isAskAhead 52 = .ok (.ireturn, 1) := dk_172 (dk_at dksX2_isAskAhead_2 8 rfl rfl)
abbrev cX2_fault : ByteArray := prog_20_method_57_code
def yX2_fault : MethodName := ⟨RX2, "fault", "(I)I"⟩
def dkwX2_fault_1 : List UInt8 := [172]
abbrev dktX2_fault_1 : List UInt8 := dkwX2_fault_1 ++ []
def dkwX2_fault_0 : List UInt8 := [27, 154, 0, 10, 42, 180, 0, 22, 167, 0, 16, 27, 4, 160, 0, 10, 42, 180, 0, 26, 167, 0, 4, 2]
abbrev dktX2_fault_0 : List UInt8 := dkwX2_fault_0 ++ dktX2_fault_1
theorem dksX2_fault_0 : cX2_fault.data.toList.drop 0 = dktX2_fault_0 := by decide +kernel
theorem dksX2_fault_1 : cX2_fault.data.toList.drop 24 = dktX2_fault_1 := dk_seg dksX2_fault_0 24 rfl rfl
theorem dX2_fault_0 : decode cX2_fault 0 = .ok (.iload_n 1, 1) := dk_27 (dk_at dksX2_fault_0 0 rfl rfl)
theorem dX2_fault_1 : decode cX2_fault 1 = .ok (.ifCond .ne 10, 3) := dk_154 0 10 (dk_at dksX2_fault_0 1 rfl rfl)
theorem dX2_fault_4 : decode cX2_fault 4 = .ok (.aload_n 0, 1) := dk_42 (dk_at dksX2_fault_0 4 rfl rfl)
theorem dX2_fault_5 : decode cX2_fault 5 = .ok (.getfield 22, 3) := dk_180 0 22 (dk_at dksX2_fault_0 5 rfl rfl)
theorem dX2_fault_8 : decode cX2_fault 8 = .ok (.goto 16, 3) := dk_167 0 16 (dk_at dksX2_fault_0 8 rfl rfl)
theorem dX2_fault_11 : decode cX2_fault 11 = .ok (.iload_n 1, 1) := dk_27 (dk_at dksX2_fault_0 11 rfl rfl)
theorem dX2_fault_12 : decode cX2_fault 12 = .ok (.iconst 1, 1) := dk_4 (dk_at dksX2_fault_0 12 rfl rfl)
theorem dX2_fault_13 : decode cX2_fault 13 = .ok (.if_icmp .ne 10, 3) := dk_160 0 10 (dk_at dksX2_fault_0 13 rfl rfl)
theorem dX2_fault_16 : decode cX2_fault 16 = .ok (.aload_n 0, 1) := dk_42 (dk_at dksX2_fault_0 16 rfl rfl)
theorem dX2_fault_17 : decode cX2_fault 17 = .ok (.getfield 26, 3) := dk_180 0 26 (dk_at dksX2_fault_0 17 rfl rfl)
theorem dX2_fault_20 : decode cX2_fault 20 = .ok (.goto 4, 3) := dk_167 0 4 (dk_at dksX2_fault_0 20 rfl rfl)
theorem dX2_fault_23 : decode cX2_fault 23 = .ok (.iconst (-1), 1) := dk_2 (dk_at dksX2_fault_0 23 rfl rfl)
theorem dX2_fault_24 : decode cX2_fault 24 = .ok (.ireturn, 1) := dk_172 (dk_at dksX2_fault_1 0 rfl rfl)
abbrev cX2_by : ByteArray := prog_20_method_58_code
def yX2_by : MethodName := ⟨RX2, "by", "(I)Z"⟩
def dkwX2_by_1 : List UInt8 := [79, 4, 172]
abbrev dktX2_by_1 : List UInt8 := dkwX2_by_1 ++ []
def dkwX2_by_0 : List UInt8 := [27, 2, 42, 180, 0, 7, 4, 46, 4, 100, 184, 0, 69, 154, 0, 5, 3, 172, 42, 180, 0, 7, 5, 27]
abbrev dktX2_by_0 : List UInt8 := dkwX2_by_0 ++ dktX2_by_1
theorem dksX2_by_0 : cX2_by.data.toList.drop 0 = dktX2_by_0 := by decide +kernel
theorem dksX2_by_1 : cX2_by.data.toList.drop 24 = dktX2_by_1 := dk_seg dksX2_by_0 24 rfl rfl
theorem dX2_by_0 : decode cX2_by 0 = .ok (.iload_n 1, 1) := dk_27 (dk_at dksX2_by_0 0 rfl rfl)
theorem dX2_by_1 : decode cX2_by 1 = .ok (.iconst (-1), 1) := dk_2 (dk_at dksX2_by_0 1 rfl rfl)
theorem dX2_by_2 : decode cX2_by 2 = .ok (.aload_n 0, 1) := dk_42 (dk_at dksX2_by_0 2 rfl rfl)
theorem dX2_by_3 : decode cX2_by 3 = .ok (.getfield 7, 3) := dk_180 0 7 (dk_at dksX2_by_0 3 rfl rfl)
theorem dX2_by_6 : decode cX2_by 6 = .ok (.iconst 1, 1) := dk_4 (dk_at dksX2_by_0 6 rfl rfl)
theorem dX2_by_7 : decode cX2_by 7 = .ok (.iaload, 1) := dk_46 (dk_at dksX2_by_0 7 rfl rfl)
theorem dX2_by_8 : decode cX2_by 8 = .ok (.iconst 1, 1) := dk_4 (dk_at dksX2_by_0 8 rfl rfl)
theorem dX2_by_9 : decode cX2_by 9 = .ok (.isub, 1) := dk_100 (dk_at dksX2_by_0 9 rfl rfl)
theorem dX2_by_10 : decode cX2_by 10 = .ok (.invokestatic 69, 3) := dk_184 0 69 (dk_at dksX2_by_0 10 rfl rfl)
theorem dX2_by_13 : decode cX2_by 13 = .ok (.ifCond .ne 5, 3) := dk_154 0 5 (dk_at dksX2_by_0 13 rfl rfl)
theorem dX2_by_16 : decode cX2_by 16 = .ok (.iconst 0, 1) := dk_3 (dk_at dksX2_by_0 16 rfl rfl)
theorem dX2_by_17 : decode cX2_by 17 = .ok (.ireturn, 1) := dk_172 (dk_at dksX2_by_0 17 rfl rfl)
theorem dX2_by_18 : decode cX2_by 18 = .ok (.aload_n 0, 1) := dk_42 (dk_at dksX2_by_0 18 rfl rfl)
theorem dX2_by_19 : decode cX2_by 19 = .ok (.getfield 7, 3) := dk_180 0 7 (dk_at dksX2_by_0 19 rfl rfl)
theorem dX2_by_22 : decode cX2_by 22 = .ok (.iconst 2, 1) := dk_5 (dk_at dksX2_by_0 22 rfl rfl)
theorem dX2_by_23 : decode cX2_by 23 = .ok (.iload_n 1, 1) := dk_27 (dk_at dksX2_by_0 23 rfl rfl)
theorem dX2_by_24 : decode cX2_by 24 = .ok (.iastore, 1) := dk_79 (dk_at dksX2_by_1 0 rfl rfl)
theorem dX2_by_25 : decode cX2_by 25 = .ok (.iconst 1, 1) := dk_4 (dk_at dksX2_by_1 1 rfl rfl)
theorem dX2_by_26 : decode cX2_by 26 = .ok (.ireturn, 1) := dk_172 (dk_at dksX2_by_1 2 rfl rfl)
abbrev cX2_undo : ByteArray := prog_20_method_80_code
def yX2_undo : MethodName := ⟨RX2, "undo", "()I"⟩
def dkwX2_undo_4 : List UInt8 := [132, 2, 1, 167, 255, 226, 42, 180, 0, 7, 6, 46, 172]
abbrev dktX2_undo_4 : List UInt8 := dkwX2_undo_4 ++ []
def dkwX2_undo_3 : List UInt8 := [162, 0, 30, 42, 180, 0, 7, 17, 17, 132, 28, 96, 42, 180, 0, 7, 27, 16, 84, 96, 28, 96, 46, 79]
abbrev dktX2_undo_3 : List UInt8 := dkwX2_undo_3 ++ dktX2_undo_4
def dkwX2_undo_2 : List UInt8 := [16, 6, 28, 96, 42, 180, 0, 7, 27, 28, 96, 46, 79, 132, 2, 1, 167, 255, 230, 3, 61, 28, 16, 60]
abbrev dktX2_undo_2 : List UInt8 := dkwX2_undo_2 ++ dktX2_undo_3
def dkwX2_undo_1 : List UInt8 := [17, 0, 144, 42, 180, 0, 7, 6, 46, 104, 96, 60, 3, 61, 28, 16, 84, 162, 0, 26, 42, 180, 0, 7]
abbrev dktX2_undo_1 : List UInt8 := dkwX2_undo_1 ++ dktX2_undo_2
def dkwX2_undo_0 : List UInt8 := [42, 180, 0, 7, 6, 46, 154, 0, 5, 2, 172, 42, 180, 0, 7, 6, 92, 46, 4, 100, 79, 17, 0, 164]
abbrev dktX2_undo_0 : List UInt8 := dkwX2_undo_0 ++ dktX2_undo_1
theorem dksX2_undo_0 : cX2_undo.data.toList.drop 0 = dktX2_undo_0 := by decide +kernel
theorem dksX2_undo_1 : cX2_undo.data.toList.drop 24 = dktX2_undo_1 := dk_seg dksX2_undo_0 24 rfl rfl
theorem dksX2_undo_2 : cX2_undo.data.toList.drop 48 = dktX2_undo_2 := dk_seg dksX2_undo_1 24 rfl rfl
theorem dksX2_undo_3 : cX2_undo.data.toList.drop 72 = dktX2_undo_3 := dk_seg dksX2_undo_2 24 rfl rfl
theorem dksX2_undo_4 : cX2_undo.data.toList.drop 96 = dktX2_undo_4 := dk_seg dksX2_undo_3 24 rfl rfl
theorem dX2_undo_0 : decode cX2_undo 0 = .ok (.aload_n 0, 1) := dk_42 (dk_at dksX2_undo_0 0 rfl rfl)
theorem dX2_undo_1 : decode cX2_undo 1 = .ok (.getfield 7, 3) := dk_180 0 7 (dk_at dksX2_undo_0 1 rfl rfl)
theorem dX2_undo_4 : decode cX2_undo 4 = .ok (.iconst 3, 1) := dk_6 (dk_at dksX2_undo_0 4 rfl rfl)
theorem dX2_undo_5 : decode cX2_undo 5 = .ok (.iaload, 1) := dk_46 (dk_at dksX2_undo_0 5 rfl rfl)
theorem dX2_undo_6 : decode cX2_undo 6 = .ok (.ifCond .ne 5, 3) := dk_154 0 5 (dk_at dksX2_undo_0 6 rfl rfl)
theorem dX2_undo_9 : decode cX2_undo 9 = .ok (.iconst (-1), 1) := dk_2 (dk_at dksX2_undo_0 9 rfl rfl)
theorem dX2_undo_10 : decode cX2_undo 10 = .ok (.ireturn, 1) := dk_172 (dk_at dksX2_undo_0 10 rfl rfl)
theorem dX2_undo_11 : decode cX2_undo 11 = .ok (.aload_n 0, 1) := dk_42 (dk_at dksX2_undo_0 11 rfl rfl)
theorem dX2_undo_12 : decode cX2_undo 12 = .ok (.getfield 7, 3) := dk_180 0 7 (dk_at dksX2_undo_0 12 rfl rfl)
theorem dX2_undo_15 : decode cX2_undo 15 = .ok (.iconst 3, 1) := dk_6 (dk_at dksX2_undo_0 15 rfl rfl)
theorem dX2_undo_16 : decode cX2_undo 16 = .ok (.dup2, 1) := dk_92 (dk_at dksX2_undo_0 16 rfl rfl)
theorem dX2_undo_17 : decode cX2_undo 17 = .ok (.iaload, 1) := dk_46 (dk_at dksX2_undo_0 17 rfl rfl)
theorem dX2_undo_18 : decode cX2_undo 18 = .ok (.iconst 1, 1) := dk_4 (dk_at dksX2_undo_0 18 rfl rfl)
theorem dX2_undo_19 : decode cX2_undo 19 = .ok (.isub, 1) := dk_100 (dk_at dksX2_undo_0 19 rfl rfl)
theorem dX2_undo_20 : decode cX2_undo 20 = .ok (.iastore, 1) := dk_79 (dk_at dksX2_undo_0 20 rfl rfl)
theorem dX2_undo_21 : decode cX2_undo 21 = .ok (.sipush 164, 3) := dk_17 0 164 (dk_at dksX2_undo_0 21 rfl rfl)
theorem dX2_undo_24 : decode cX2_undo 24 = .ok (.sipush 144, 3) := dk_17 0 144 (dk_at dksX2_undo_1 0 rfl rfl)
theorem dX2_undo_27 : decode cX2_undo 27 = .ok (.aload_n 0, 1) := dk_42 (dk_at dksX2_undo_1 3 rfl rfl)
theorem dX2_undo_28 : decode cX2_undo 28 = .ok (.getfield 7, 3) := dk_180 0 7 (dk_at dksX2_undo_1 4 rfl rfl)
theorem dX2_undo_31 : decode cX2_undo 31 = .ok (.iconst 3, 1) := dk_6 (dk_at dksX2_undo_1 7 rfl rfl)
theorem dX2_undo_32 : decode cX2_undo 32 = .ok (.iaload, 1) := dk_46 (dk_at dksX2_undo_1 8 rfl rfl)
theorem dX2_undo_33 : decode cX2_undo 33 = .ok (.imul, 1) := dk_104 (dk_at dksX2_undo_1 9 rfl rfl)
theorem dX2_undo_34 : decode cX2_undo 34 = .ok (.iadd, 1) := dk_96 (dk_at dksX2_undo_1 10 rfl rfl)
theorem dX2_undo_35 : decode cX2_undo 35 = .ok (.istore_n 1, 1) := dk_60 (dk_at dksX2_undo_1 11 rfl rfl)
theorem dX2_undo_36 : decode cX2_undo 36 = .ok (.iconst 0, 1) := dk_3 (dk_at dksX2_undo_1 12 rfl rfl)
theorem dX2_undo_37 : decode cX2_undo 37 = .ok (.istore_n 2, 1) := dk_61 (dk_at dksX2_undo_1 13 rfl rfl)
theorem dX2_undo_38 : decode cX2_undo 38 = .ok (.iload_n 2, 1) := dk_28 (dk_at dksX2_undo_1 14 rfl rfl)
theorem dX2_undo_39 : decode cX2_undo 39 = .ok (.bipush 84, 2) := dk_16 84 (dk_at dksX2_undo_1 15 rfl rfl)
theorem dX2_undo_41 : decode cX2_undo 41 = .ok (.if_icmp .ge 26, 3) := dk_162 0 26 (dk_at dksX2_undo_1 17 rfl rfl)
theorem dX2_undo_44 : decode cX2_undo 44 = .ok (.aload_n 0, 1) := dk_42 (dk_at dksX2_undo_1 20 rfl rfl)
theorem dX2_undo_45 : decode cX2_undo 45 = .ok (.getfield 7, 3) := dk_180 0 7 (dk_at dksX2_undo_1 21 rfl rfl)
theorem dX2_undo_48 : decode cX2_undo 48 = .ok (.bipush 6, 2) := dk_16 6 (dk_at dksX2_undo_2 0 rfl rfl)
theorem dX2_undo_50 : decode cX2_undo 50 = .ok (.iload_n 2, 1) := dk_28 (dk_at dksX2_undo_2 2 rfl rfl)
theorem dX2_undo_51 : decode cX2_undo 51 = .ok (.iadd, 1) := dk_96 (dk_at dksX2_undo_2 3 rfl rfl)
theorem dX2_undo_52 : decode cX2_undo 52 = .ok (.aload_n 0, 1) := dk_42 (dk_at dksX2_undo_2 4 rfl rfl)
theorem dX2_undo_53 : decode cX2_undo 53 = .ok (.getfield 7, 3) := dk_180 0 7 (dk_at dksX2_undo_2 5 rfl rfl)
theorem dX2_undo_56 : decode cX2_undo 56 = .ok (.iload_n 1, 1) := dk_27 (dk_at dksX2_undo_2 8 rfl rfl)
theorem dX2_undo_57 : decode cX2_undo 57 = .ok (.iload_n 2, 1) := dk_28 (dk_at dksX2_undo_2 9 rfl rfl)
theorem dX2_undo_58 : decode cX2_undo 58 = .ok (.iadd, 1) := dk_96 (dk_at dksX2_undo_2 10 rfl rfl)
theorem dX2_undo_59 : decode cX2_undo 59 = .ok (.iaload, 1) := dk_46 (dk_at dksX2_undo_2 11 rfl rfl)
theorem dX2_undo_60 : decode cX2_undo 60 = .ok (.iastore, 1) := dk_79 (dk_at dksX2_undo_2 12 rfl rfl)
theorem dX2_undo_61 : decode cX2_undo 61 = .ok (.iinc 2 1, 3) := dk_132 2 1 (dk_at dksX2_undo_2 13 rfl rfl)
theorem dX2_undo_64 : decode cX2_undo 64 = .ok (.goto (-26), 3) := dk_167 255 230 (dk_at dksX2_undo_2 16 rfl rfl)
theorem dX2_undo_67 : decode cX2_undo 67 = .ok (.iconst 0, 1) := dk_3 (dk_at dksX2_undo_2 19 rfl rfl)
theorem dX2_undo_68 : decode cX2_undo 68 = .ok (.istore_n 2, 1) := dk_61 (dk_at dksX2_undo_2 20 rfl rfl)
theorem dX2_undo_69 : decode cX2_undo 69 = .ok (.iload_n 2, 1) := dk_28 (dk_at dksX2_undo_2 21 rfl rfl)
theorem dX2_undo_70 : decode cX2_undo 70 = .ok (.bipush 60, 2) := dk_16 60 (dk_at dksX2_undo_2 22 rfl rfl)
theorem dX2_undo_72 : decode cX2_undo 72 = .ok (.if_icmp .ge 30, 3) := dk_162 0 30 (dk_at dksX2_undo_3 0 rfl rfl)
theorem dX2_undo_75 : decode cX2_undo 75 = .ok (.aload_n 0, 1) := dk_42 (dk_at dksX2_undo_3 3 rfl rfl)
theorem dX2_undo_76 : decode cX2_undo 76 = .ok (.getfield 7, 3) := dk_180 0 7 (dk_at dksX2_undo_3 4 rfl rfl)
theorem dX2_undo_79 : decode cX2_undo 79 = .ok (.sipush 4484, 3) := dk_17 17 132 (dk_at dksX2_undo_3 7 rfl rfl)
theorem dX2_undo_82 : decode cX2_undo 82 = .ok (.iload_n 2, 1) := dk_28 (dk_at dksX2_undo_3 10 rfl rfl)
theorem dX2_undo_83 : decode cX2_undo 83 = .ok (.iadd, 1) := dk_96 (dk_at dksX2_undo_3 11 rfl rfl)
theorem dX2_undo_84 : decode cX2_undo 84 = .ok (.aload_n 0, 1) := dk_42 (dk_at dksX2_undo_3 12 rfl rfl)
theorem dX2_undo_85 : decode cX2_undo 85 = .ok (.getfield 7, 3) := dk_180 0 7 (dk_at dksX2_undo_3 13 rfl rfl)
theorem dX2_undo_88 : decode cX2_undo 88 = .ok (.iload_n 1, 1) := dk_27 (dk_at dksX2_undo_3 16 rfl rfl)
theorem dX2_undo_89 : decode cX2_undo 89 = .ok (.bipush 84, 2) := dk_16 84 (dk_at dksX2_undo_3 17 rfl rfl)
theorem dX2_undo_91 : decode cX2_undo 91 = .ok (.iadd, 1) := dk_96 (dk_at dksX2_undo_3 19 rfl rfl)
theorem dX2_undo_92 : decode cX2_undo 92 = .ok (.iload_n 2, 1) := dk_28 (dk_at dksX2_undo_3 20 rfl rfl)
theorem dX2_undo_93 : decode cX2_undo 93 = .ok (.iadd, 1) := dk_96 (dk_at dksX2_undo_3 21 rfl rfl)
theorem dX2_undo_94 : decode cX2_undo 94 = .ok (.iaload, 1) := dk_46 (dk_at dksX2_undo_3 22 rfl rfl)
theorem dX2_undo_95 : decode cX2_undo 95 = .ok (.iastore, 1) := dk_79 (dk_at dksX2_undo_3 23 rfl rfl)
theorem dX2_undo_96 : decode cX2_undo 96 = .ok (.iinc 2 1, 3) := dk_132 2 1 (dk_at dksX2_undo_4 0 rfl rfl)
theorem dX2_undo_99 : decode cX2_undo 99 = .ok (.goto (-30), 3) := dk_167 255 226 (dk_at dksX2_undo_4 3 rfl rfl)
theorem dX2_undo_102 : decode cX2_undo 102 = .ok (.aload_n 0, 1) := dk_42 (dk_at dksX2_undo_4 6 rfl rfl)
theorem dX2_undo_103 : decode cX2_undo 103 = .ok (.getfield 7, 3) := dk_180 0 7 (dk_at dksX2_undo_4 7 rfl rfl)
theorem dX2_undo_106 : decode cX2_undo 106 = .ok (.iconst 3, 1) := dk_6 (dk_at dksX2_undo_4 10 rfl rfl)
theorem dX2_undo_107 : decode cX2_undo 107 = .ok (.iaload, 1) := dk_46 (dk_at dksX2_undo_4 11 rfl rfl)
theorem dX2_undo_108 : decode cX2_undo 108 = .ok (.ireturn, 1) := dk_172 (dk_at dksX2_undo_4 12 rfl rfl)
abbrev cX2_wrong : ByteArray := prog_20_method_83_code
def yX2_wrong : MethodName := ⟨RX2, "wrong", "(III)I"⟩
def dkwX2_wrong_1 : List UInt8 := [182, 1, 100, 42, 27, 28, 29, 182, 1, 103, 42, 180, 0, 7, 16, 8, 46, 4, 100, 172]
abbrev dktX2_wrong_1 : List UInt8 := dkwX2_wrong_1 ++ []
def dkwX2_wrong_0 : List UInt8 := [42, 27, 28, 182, 1, 97, 153, 0, 14, 29, 4, 17, 39, 15, 184, 0, 69, 154, 0, 5, 2, 172, 42]
abbrev dktX2_wrong_0 : List UInt8 := dkwX2_wrong_0 ++ dktX2_wrong_1
theorem dksX2_wrong_0 : cX2_wrong.data.toList.drop 0 = dktX2_wrong_0 := by decide +kernel
theorem dksX2_wrong_1 : cX2_wrong.data.toList.drop 23 = dktX2_wrong_1 := dk_seg dksX2_wrong_0 23 rfl rfl
theorem dX2_wrong_0 : decode cX2_wrong 0 = .ok (.aload_n 0, 1) := dk_42 (dk_at dksX2_wrong_0 0 rfl rfl)
theorem dX2_wrong_1 : decode cX2_wrong 1 = .ok (.iload_n 1, 1) := dk_27 (dk_at dksX2_wrong_0 1 rfl rfl)
theorem dX2_wrong_2 : decode cX2_wrong 2 = .ok (.iload_n 2, 1) := dk_28 (dk_at dksX2_wrong_0 2 rfl rfl)
theorem dX2_wrong_3 : decode cX2_wrong 3 = .ok (.invokevirtual 353, 3) := dk_182 1 97 (dk_at dksX2_wrong_0 3 rfl rfl)
theorem dX2_wrong_6 : decode cX2_wrong 6 = .ok (.ifCond .eq 14, 3) := dk_153 0 14 (dk_at dksX2_wrong_0 6 rfl rfl)
theorem dX2_wrong_9 : decode cX2_wrong 9 = .ok (.iload_n 3, 1) := dk_29 (dk_at dksX2_wrong_0 9 rfl rfl)
theorem dX2_wrong_10 : decode cX2_wrong 10 = .ok (.iconst 1, 1) := dk_4 (dk_at dksX2_wrong_0 10 rfl rfl)
theorem dX2_wrong_11 : decode cX2_wrong 11 = .ok (.sipush 9999, 3) := dk_17 39 15 (dk_at dksX2_wrong_0 11 rfl rfl)
theorem dX2_wrong_14 : decode cX2_wrong 14 = .ok (.invokestatic 69, 3) := dk_184 0 69 (dk_at dksX2_wrong_0 14 rfl rfl)
theorem dX2_wrong_17 : decode cX2_wrong 17 = .ok (.ifCond .ne 5, 3) := dk_154 0 5 (dk_at dksX2_wrong_0 17 rfl rfl)
theorem dX2_wrong_20 : decode cX2_wrong 20 = .ok (.iconst (-1), 1) := dk_2 (dk_at dksX2_wrong_0 20 rfl rfl)
theorem dX2_wrong_21 : decode cX2_wrong 21 = .ok (.ireturn, 1) := dk_172 (dk_at dksX2_wrong_0 21 rfl rfl)
theorem dX2_wrong_22 : decode cX2_wrong 22 = .ok (.aload_n 0, 1) := dk_42 (dk_at dksX2_wrong_0 22 rfl rfl)
theorem dX2_wrong_23 : decode cX2_wrong 23 = .ok (.invokevirtual 356, 3) := dk_182 1 100 (dk_at dksX2_wrong_1 0 rfl rfl)
theorem dX2_wrong_26 : decode cX2_wrong 26 = .ok (.aload_n 0, 1) := dk_42 (dk_at dksX2_wrong_1 3 rfl rfl)
theorem dX2_wrong_27 : decode cX2_wrong 27 = .ok (.iload_n 1, 1) := dk_27 (dk_at dksX2_wrong_1 4 rfl rfl)
theorem dX2_wrong_28 : decode cX2_wrong 28 = .ok (.iload_n 2, 1) := dk_28 (dk_at dksX2_wrong_1 5 rfl rfl)
theorem dX2_wrong_29 : decode cX2_wrong 29 = .ok (.iload_n 3, 1) := dk_29 (dk_at dksX2_wrong_1 6 rfl rfl)
theorem dX2_wrong_30 : decode cX2_wrong 30 = .ok (.invokevirtual 359, 3) := dk_182 1 103 (dk_at dksX2_wrong_1 7 rfl rfl)
theorem dX2_wrong_33 : decode cX2_wrong 33 = .ok (.aload_n 0, 1) := dk_42 (dk_at dksX2_wrong_1 10 rfl rfl)
theorem dX2_wrong_34 : decode cX2_wrong 34 = .ok (.getfield 7, 3) := dk_180 0 7 (dk_at dksX2_wrong_1 11 rfl rfl)
theorem dX2_wrong_37 : decode cX2_wrong 37 = .ok (.bipush 8, 2) := dk_16 8 (dk_at dksX2_wrong_1 14 rfl rfl)
theorem dX2_wrong_39 : decode cX2_wrong 39 = .ok (.iaload, 1) := dk_46 (dk_at dksX2_wrong_1 16 rfl rfl)
theorem dX2_wrong_40 : decode cX2_wrong 40 = .ok (.iconst 1, 1) := dk_4 (dk_at dksX2_wrong_1 17 rfl rfl)
theorem dX2_wrong_41 : decode cX2_wrong 41 = .ok (.isub, 1) := dk_100 (dk_at dksX2_wrong_1 18 rfl rfl)
theorem dX2_wrong_42 : decode cX2_wrong 42 = .ok (.ireturn, 1) := dk_172 (dk_at dksX2_wrong_1 19 rfl rfl)
abbrev cX2_canWrong : ByteArray := prog_20_method_81_code
def yX2_canWrong : MethodName := ⟨RX2, "canWrong", "(II)Z"⟩
def dkwX2_canWrong_1 : List UInt8 := [153, 0, 19, 42, 180, 0, 7, 16, 8, 46, 16, 10, 162, 0, 7, 4, 167, 0, 4, 3, 172]
abbrev dktX2_canWrong_1 : List UInt8 := dkwX2_canWrong_1 ++ []
def dkwX2_canWrong_0 : List UInt8 := [42, 27, 182, 0, 73, 153, 0, 36, 42, 28, 182, 0, 73, 153, 0, 28, 42, 28, 27, 182, 1, 94]
abbrev dktX2_canWrong_0 : List UInt8 := dkwX2_canWrong_0 ++ dktX2_canWrong_1
theorem dksX2_canWrong_0 : cX2_canWrong.data.toList.drop 0 = dktX2_canWrong_0 := by decide +kernel
theorem dksX2_canWrong_1 : cX2_canWrong.data.toList.drop 22 = dktX2_canWrong_1 := dk_seg dksX2_canWrong_0 22 rfl rfl
theorem dX2_canWrong_0 : decode cX2_canWrong 0 = .ok (.aload_n 0, 1) := dk_42 (dk_at dksX2_canWrong_0 0 rfl rfl)
theorem dX2_canWrong_1 : decode cX2_canWrong 1 = .ok (.iload_n 1, 1) := dk_27 (dk_at dksX2_canWrong_0 1 rfl rfl)
theorem dX2_canWrong_2 : decode cX2_canWrong 2 = .ok (.invokevirtual 73, 3) := dk_182 0 73 (dk_at dksX2_canWrong_0 2 rfl rfl)
theorem dX2_canWrong_5 : decode cX2_canWrong 5 = .ok (.ifCond .eq 36, 3) := dk_153 0 36 (dk_at dksX2_canWrong_0 5 rfl rfl)
theorem dX2_canWrong_8 : decode cX2_canWrong 8 = .ok (.aload_n 0, 1) := dk_42 (dk_at dksX2_canWrong_0 8 rfl rfl)
theorem dX2_canWrong_9 : decode cX2_canWrong 9 = .ok (.iload_n 2, 1) := dk_28 (dk_at dksX2_canWrong_0 9 rfl rfl)
theorem dX2_canWrong_10 : decode cX2_canWrong 10 = .ok (.invokevirtual 73, 3) := dk_182 0 73 (dk_at dksX2_canWrong_0 10 rfl rfl)
theorem dX2_canWrong_13 : decode cX2_canWrong 13 = .ok (.ifCond .eq 28, 3) := dk_153 0 28 (dk_at dksX2_canWrong_0 13 rfl rfl)
theorem dX2_canWrong_16 : decode cX2_canWrong 16 = .ok (.aload_n 0, 1) := dk_42 (dk_at dksX2_canWrong_0 16 rfl rfl)
theorem dX2_canWrong_17 : decode cX2_canWrong 17 = .ok (.iload_n 2, 1) := dk_28 (dk_at dksX2_canWrong_0 17 rfl rfl)
theorem dX2_canWrong_18 : decode cX2_canWrong 18 = .ok (.iload_n 1, 1) := dk_27 (dk_at dksX2_canWrong_0 18 rfl rfl)
theorem dX2_canWrong_19 : decode cX2_canWrong 19 = .ok (.invokevirtual 350, 3) := dk_182 1 94 (dk_at dksX2_canWrong_0 19 rfl rfl)
theorem dX2_canWrong_22 : decode cX2_canWrong 22 = .ok (.ifCond .eq 19, 3) := dk_153 0 19 (dk_at dksX2_canWrong_1 0 rfl rfl)
theorem dX2_canWrong_25 : decode cX2_canWrong 25 = .ok (.aload_n 0, 1) := dk_42 (dk_at dksX2_canWrong_1 3 rfl rfl)
theorem dX2_canWrong_26 : decode cX2_canWrong 26 = .ok (.getfield 7, 3) := dk_180 0 7 (dk_at dksX2_canWrong_1 4 rfl rfl)
theorem dX2_canWrong_29 : decode cX2_canWrong 29 = .ok (.bipush 8, 2) := dk_16 8 (dk_at dksX2_canWrong_1 7 rfl rfl)
theorem dX2_canWrong_31 : decode cX2_canWrong 31 = .ok (.iaload, 1) := dk_46 (dk_at dksX2_canWrong_1 9 rfl rfl)
theorem dX2_canWrong_32 : decode cX2_canWrong 32 = .ok (.bipush 10, 2) := dk_16 10 (dk_at dksX2_canWrong_1 10 rfl rfl)
theorem dX2_canWrong_34 : decode cX2_canWrong 34 = .ok (.if_icmp .ge 7, 3) := dk_162 0 7 (dk_at dksX2_canWrong_1 12 rfl rfl)
theorem dX2_canWrong_37 : decode cX2_canWrong 37 = .ok (.iconst 1, 1) := dk_4 (dk_at dksX2_canWrong_1 15 rfl rfl)
theorem dX2_canWrong_38 : decode cX2_canWrong 38 = .ok (.goto 4, 3) := dk_167 0 4 (dk_at dksX2_canWrong_1 16 rfl rfl)
theorem dX2_canWrong_41 : decode cX2_canWrong 41 = .ok (.iconst 0, 1) := dk_3 (dk_at dksX2_canWrong_1 19 rfl rfl)
theorem dX2_canWrong_42 : decode cX2_canWrong 42 = .ok (.ireturn, 1) := dk_172 (dk_at dksX2_canWrong_1 20 rfl rfl)
abbrev cX2_isAbove : ByteArray := prog_20_method_12_code
def yX2_isAbove : MethodName := ⟨RX2, "isAbove", "(II)Z"⟩
def dkwX2_isAbove_1 : List UInt8 := [180, 0, 7, 16, 90, 29, 96, 46, 62, 167, 255, 234, 3, 172]
abbrev dktX2_isAbove_1 : List UInt8 := dkwX2_isAbove_1 ++ []
def dkwX2_isAbove_0 : List UInt8 := [42, 180, 0, 7, 16, 90, 28, 96, 46, 62, 29, 2, 159, 0, 23, 29, 27, 160, 0, 5, 4, 172, 42]
abbrev dktX2_isAbove_0 : List UInt8 := dkwX2_isAbove_0 ++ dktX2_isAbove_1
theorem dksX2_isAbove_0 : cX2_isAbove.data.toList.drop 0 = dktX2_isAbove_0 := by decide +kernel
theorem dksX2_isAbove_1 : cX2_isAbove.data.toList.drop 23 = dktX2_isAbove_1 := dk_seg dksX2_isAbove_0 23 rfl rfl
theorem dX2_isAbove_0 : decode cX2_isAbove 0 = .ok (.aload_n 0, 1) := dk_42 (dk_at dksX2_isAbove_0 0 rfl rfl)
theorem dX2_isAbove_1 : decode cX2_isAbove 1 = .ok (.getfield 7, 3) := dk_180 0 7 (dk_at dksX2_isAbove_0 1 rfl rfl)
theorem dX2_isAbove_4 : decode cX2_isAbove 4 = .ok (.bipush 90, 2) := dk_16 90 (dk_at dksX2_isAbove_0 4 rfl rfl)
theorem dX2_isAbove_6 : decode cX2_isAbove 6 = .ok (.iload_n 2, 1) := dk_28 (dk_at dksX2_isAbove_0 6 rfl rfl)
theorem dX2_isAbove_7 : decode cX2_isAbove 7 = .ok (.iadd, 1) := dk_96 (dk_at dksX2_isAbove_0 7 rfl rfl)
theorem dX2_isAbove_8 : decode cX2_isAbove 8 = .ok (.iaload, 1) := dk_46 (dk_at dksX2_isAbove_0 8 rfl rfl)
theorem dX2_isAbove_9 : decode cX2_isAbove 9 = .ok (.istore_n 3, 1) := dk_62 (dk_at dksX2_isAbove_0 9 rfl rfl)
theorem dX2_isAbove_10 : decode cX2_isAbove 10 = .ok (.iload_n 3, 1) := dk_29 (dk_at dksX2_isAbove_0 10 rfl rfl)
theorem dX2_isAbove_11 : decode cX2_isAbove 11 = .ok (.iconst (-1), 1) := dk_2 (dk_at dksX2_isAbove_0 11 rfl rfl)
theorem dX2_isAbove_12 : decode cX2_isAbove 12 = .ok (.if_icmp .eq 23, 3) := dk_159 0 23 (dk_at dksX2_isAbove_0 12 rfl rfl)
theorem dX2_isAbove_15 : decode cX2_isAbove 15 = .ok (.iload_n 3, 1) := dk_29 (dk_at dksX2_isAbove_0 15 rfl rfl)
theorem dX2_isAbove_16 : decode cX2_isAbove 16 = .ok (.iload_n 1, 1) := dk_27 (dk_at dksX2_isAbove_0 16 rfl rfl)
theorem dX2_isAbove_17 : decode cX2_isAbove 17 = .ok (.if_icmp .ne 5, 3) := dk_160 0 5 (dk_at dksX2_isAbove_0 17 rfl rfl)
theorem dX2_isAbove_20 : decode cX2_isAbove 20 = .ok (.iconst 1, 1) := dk_4 (dk_at dksX2_isAbove_0 20 rfl rfl)
theorem dX2_isAbove_21 : decode cX2_isAbove 21 = .ok (.ireturn, 1) := dk_172 (dk_at dksX2_isAbove_0 21 rfl rfl)
theorem dX2_isAbove_22 : decode cX2_isAbove 22 = .ok (.aload_n 0, 1) := dk_42 (dk_at dksX2_isAbove_0 22 rfl rfl)
theorem dX2_isAbove_23 : decode cX2_isAbove 23 = .ok (.getfield 7, 3) := dk_180 0 7 (dk_at dksX2_isAbove_1 0 rfl rfl)
theorem dX2_isAbove_26 : decode cX2_isAbove 26 = .ok (.bipush 90, 2) := dk_16 90 (dk_at dksX2_isAbove_1 3 rfl rfl)
theorem dX2_isAbove_28 : decode cX2_isAbove 28 = .ok (.iload_n 3, 1) := dk_29 (dk_at dksX2_isAbove_1 5 rfl rfl)
theorem dX2_isAbove_29 : decode cX2_isAbove 29 = .ok (.iadd, 1) := dk_96 (dk_at dksX2_isAbove_1 6 rfl rfl)
theorem dX2_isAbove_30 : decode cX2_isAbove 30 = .ok (.iaload, 1) := dk_46 (dk_at dksX2_isAbove_1 7 rfl rfl)
theorem dX2_isAbove_31 : decode cX2_isAbove 31 = .ok (.istore_n 3, 1) := dk_62 (dk_at dksX2_isAbove_1 8 rfl rfl)
theorem dX2_isAbove_32 : decode cX2_isAbove 32 = .ok (.goto (-22), 3) := dk_167 255 234 (dk_at dksX2_isAbove_1 9 rfl rfl)
theorem dX2_isAbove_35 : decode cX2_isAbove 35 = .ok (.iconst 0, 1) := dk_3 (dk_at dksX2_isAbove_1 12 rfl rfl)
theorem dX2_isAbove_36 : decode cX2_isAbove 36 = .ok (.ireturn, 1) := dk_172 (dk_at dksX2_isAbove_1 13 rfl rfl)
abbrev cX2_keep : ByteArray := prog_20_method_79_code
def yX2_keep : MethodName := ⟨RX2, "keep", "()V"⟩
def dkwX2_keep_6 : List UInt8 := [46, 4, 96, 79, 177]
abbrev dktX2_keep_6 : List UInt8 := dkwX2_keep_6 ++ []
def dkwX2_keep_5 : List UInt8 := [96, 42, 180, 0, 7, 17, 17, 132, 28, 96, 46, 79, 132, 2, 1, 167, 255, 226, 42, 180, 0, 7, 6, 92]
abbrev dktX2_keep_5 : List UInt8 := dkwX2_keep_5 ++ dktX2_keep_6
def dkwX2_keep_4 : List UInt8 := [79, 132, 2, 1, 167, 255, 230, 3, 61, 28, 16, 60, 162, 0, 30, 42, 180, 0, 7, 27, 16, 84, 96, 28]
abbrev dktX2_keep_4 : List UInt8 := dkwX2_keep_4 ++ dktX2_keep_5
def dkwX2_keep_3 : List UInt8 := [3, 61, 28, 16, 84, 162, 0, 26, 42, 180, 0, 7, 27, 28, 96, 42, 180, 0, 7, 16, 6, 28, 96, 46]
abbrev dktX2_keep_3 : List UInt8 := dkwX2_keep_3 ++ dktX2_keep_4
def dkwX2_keep_2 : List UInt8 := [180, 0, 7, 6, 92, 46, 4, 100, 79, 17, 0, 164, 17, 0, 144, 42, 180, 0, 7, 6, 46, 104, 96, 60]
abbrev dktX2_keep_2 : List UInt8 := dkwX2_keep_2 ++ dktX2_keep_3
def dkwX2_keep_1 : List UInt8 := [17, 0, 164, 27, 96, 42, 180, 0, 7, 17, 1, 52, 27, 96, 46, 79, 132, 1, 1, 167, 255, 226, 42]
abbrev dktX2_keep_1 : List UInt8 := dkwX2_keep_1 ++ dktX2_keep_2
def dkwX2_keep_0 : List UInt8 := [42, 180, 0, 7, 6, 46, 16, 30, 160, 0, 48, 3, 60, 27, 17, 16, 80, 162, 0, 29, 42, 180, 0, 7]
abbrev dktX2_keep_0 : List UInt8 := dkwX2_keep_0 ++ dktX2_keep_1
theorem dksX2_keep_0 : cX2_keep.data.toList.drop 0 = dktX2_keep_0 := by decide +kernel
theorem dksX2_keep_1 : cX2_keep.data.toList.drop 24 = dktX2_keep_1 := dk_seg dksX2_keep_0 24 rfl rfl
theorem dksX2_keep_2 : cX2_keep.data.toList.drop 47 = dktX2_keep_2 := dk_seg dksX2_keep_1 23 rfl rfl
theorem dksX2_keep_3 : cX2_keep.data.toList.drop 71 = dktX2_keep_3 := dk_seg dksX2_keep_2 24 rfl rfl
theorem dksX2_keep_4 : cX2_keep.data.toList.drop 95 = dktX2_keep_4 := dk_seg dksX2_keep_3 24 rfl rfl
theorem dksX2_keep_5 : cX2_keep.data.toList.drop 119 = dktX2_keep_5 := dk_seg dksX2_keep_4 24 rfl rfl
theorem dksX2_keep_6 : cX2_keep.data.toList.drop 143 = dktX2_keep_6 := dk_seg dksX2_keep_5 24 rfl rfl
theorem dX2_keep_0 : decode cX2_keep 0 = .ok (.aload_n 0, 1) := dk_42 (dk_at dksX2_keep_0 0 rfl rfl)
theorem dX2_keep_1 : decode cX2_keep 1 = .ok (.getfield 7, 3) := dk_180 0 7 (dk_at dksX2_keep_0 1 rfl rfl)
theorem dX2_keep_4 : decode cX2_keep 4 = .ok (.iconst 3, 1) := dk_6 (dk_at dksX2_keep_0 4 rfl rfl)
theorem dX2_keep_5 : decode cX2_keep 5 = .ok (.iaload, 1) := dk_46 (dk_at dksX2_keep_0 5 rfl rfl)
theorem dX2_keep_6 : decode cX2_keep 6 = .ok (.bipush 30, 2) := dk_16 30 (dk_at dksX2_keep_0 6 rfl rfl)
theorem dX2_keep_8 : decode cX2_keep 8 = .ok (.if_icmp .ne 48, 3) := dk_160 0 48 (dk_at dksX2_keep_0 8 rfl rfl)
theorem dX2_keep_11 : decode cX2_keep 11 = .ok (.iconst 0, 1) := dk_3 (dk_at dksX2_keep_0 11 rfl rfl)
theorem dX2_keep_12 : decode cX2_keep 12 = .ok (.istore_n 1, 1) := dk_60 (dk_at dksX2_keep_0 12 rfl rfl)
theorem dX2_keep_13 : decode cX2_keep 13 = .ok (.iload_n 1, 1) := dk_27 (dk_at dksX2_keep_0 13 rfl rfl)
theorem dX2_keep_14 : decode cX2_keep 14 = .ok (.sipush 4176, 3) := dk_17 16 80 (dk_at dksX2_keep_0 14 rfl rfl)
theorem dX2_keep_17 : decode cX2_keep 17 = .ok (.if_icmp .ge 29, 3) := dk_162 0 29 (dk_at dksX2_keep_0 17 rfl rfl)
theorem dX2_keep_20 : decode cX2_keep 20 = .ok (.aload_n 0, 1) := dk_42 (dk_at dksX2_keep_0 20 rfl rfl)
theorem dX2_keep_21 : decode cX2_keep 21 = .ok (.getfield 7, 3) := dk_180 0 7 (dk_at dksX2_keep_0 21 rfl rfl)
theorem dX2_keep_24 : decode cX2_keep 24 = .ok (.sipush 164, 3) := dk_17 0 164 (dk_at dksX2_keep_1 0 rfl rfl)
theorem dX2_keep_27 : decode cX2_keep 27 = .ok (.iload_n 1, 1) := dk_27 (dk_at dksX2_keep_1 3 rfl rfl)
theorem dX2_keep_28 : decode cX2_keep 28 = .ok (.iadd, 1) := dk_96 (dk_at dksX2_keep_1 4 rfl rfl)
theorem dX2_keep_29 : decode cX2_keep 29 = .ok (.aload_n 0, 1) := dk_42 (dk_at dksX2_keep_1 5 rfl rfl)
theorem dX2_keep_30 : decode cX2_keep 30 = .ok (.getfield 7, 3) := dk_180 0 7 (dk_at dksX2_keep_1 6 rfl rfl)
theorem dX2_keep_33 : decode cX2_keep 33 = .ok (.sipush 308, 3) := dk_17 1 52 (dk_at dksX2_keep_1 9 rfl rfl)
theorem dX2_keep_36 : decode cX2_keep 36 = .ok (.iload_n 1, 1) := dk_27 (dk_at dksX2_keep_1 12 rfl rfl)
theorem dX2_keep_37 : decode cX2_keep 37 = .ok (.iadd, 1) := dk_96 (dk_at dksX2_keep_1 13 rfl rfl)
theorem dX2_keep_38 : decode cX2_keep 38 = .ok (.iaload, 1) := dk_46 (dk_at dksX2_keep_1 14 rfl rfl)
theorem dX2_keep_39 : decode cX2_keep 39 = .ok (.iastore, 1) := dk_79 (dk_at dksX2_keep_1 15 rfl rfl)
theorem dX2_keep_40 : decode cX2_keep 40 = .ok (.iinc 1 1, 3) := dk_132 1 1 (dk_at dksX2_keep_1 16 rfl rfl)
theorem dX2_keep_43 : decode cX2_keep 43 = .ok (.goto (-30), 3) := dk_167 255 226 (dk_at dksX2_keep_1 19 rfl rfl)
theorem dX2_keep_46 : decode cX2_keep 46 = .ok (.aload_n 0, 1) := dk_42 (dk_at dksX2_keep_1 22 rfl rfl)
theorem dX2_keep_47 : decode cX2_keep 47 = .ok (.getfield 7, 3) := dk_180 0 7 (dk_at dksX2_keep_2 0 rfl rfl)
theorem dX2_keep_50 : decode cX2_keep 50 = .ok (.iconst 3, 1) := dk_6 (dk_at dksX2_keep_2 3 rfl rfl)
theorem dX2_keep_51 : decode cX2_keep 51 = .ok (.dup2, 1) := dk_92 (dk_at dksX2_keep_2 4 rfl rfl)
theorem dX2_keep_52 : decode cX2_keep 52 = .ok (.iaload, 1) := dk_46 (dk_at dksX2_keep_2 5 rfl rfl)
theorem dX2_keep_53 : decode cX2_keep 53 = .ok (.iconst 1, 1) := dk_4 (dk_at dksX2_keep_2 6 rfl rfl)
theorem dX2_keep_54 : decode cX2_keep 54 = .ok (.isub, 1) := dk_100 (dk_at dksX2_keep_2 7 rfl rfl)
theorem dX2_keep_55 : decode cX2_keep 55 = .ok (.iastore, 1) := dk_79 (dk_at dksX2_keep_2 8 rfl rfl)
theorem dX2_keep_56 : decode cX2_keep 56 = .ok (.sipush 164, 3) := dk_17 0 164 (dk_at dksX2_keep_2 9 rfl rfl)
theorem dX2_keep_59 : decode cX2_keep 59 = .ok (.sipush 144, 3) := dk_17 0 144 (dk_at dksX2_keep_2 12 rfl rfl)
theorem dX2_keep_62 : decode cX2_keep 62 = .ok (.aload_n 0, 1) := dk_42 (dk_at dksX2_keep_2 15 rfl rfl)
theorem dX2_keep_63 : decode cX2_keep 63 = .ok (.getfield 7, 3) := dk_180 0 7 (dk_at dksX2_keep_2 16 rfl rfl)
theorem dX2_keep_66 : decode cX2_keep 66 = .ok (.iconst 3, 1) := dk_6 (dk_at dksX2_keep_2 19 rfl rfl)
theorem dX2_keep_67 : decode cX2_keep 67 = .ok (.iaload, 1) := dk_46 (dk_at dksX2_keep_2 20 rfl rfl)
theorem dX2_keep_68 : decode cX2_keep 68 = .ok (.imul, 1) := dk_104 (dk_at dksX2_keep_2 21 rfl rfl)
theorem dX2_keep_69 : decode cX2_keep 69 = .ok (.iadd, 1) := dk_96 (dk_at dksX2_keep_2 22 rfl rfl)
theorem dX2_keep_70 : decode cX2_keep 70 = .ok (.istore_n 1, 1) := dk_60 (dk_at dksX2_keep_2 23 rfl rfl)
theorem dX2_keep_71 : decode cX2_keep 71 = .ok (.iconst 0, 1) := dk_3 (dk_at dksX2_keep_3 0 rfl rfl)
theorem dX2_keep_72 : decode cX2_keep 72 = .ok (.istore_n 2, 1) := dk_61 (dk_at dksX2_keep_3 1 rfl rfl)
theorem dX2_keep_73 : decode cX2_keep 73 = .ok (.iload_n 2, 1) := dk_28 (dk_at dksX2_keep_3 2 rfl rfl)
theorem dX2_keep_74 : decode cX2_keep 74 = .ok (.bipush 84, 2) := dk_16 84 (dk_at dksX2_keep_3 3 rfl rfl)
theorem dX2_keep_76 : decode cX2_keep 76 = .ok (.if_icmp .ge 26, 3) := dk_162 0 26 (dk_at dksX2_keep_3 5 rfl rfl)
theorem dX2_keep_79 : decode cX2_keep 79 = .ok (.aload_n 0, 1) := dk_42 (dk_at dksX2_keep_3 8 rfl rfl)
theorem dX2_keep_80 : decode cX2_keep 80 = .ok (.getfield 7, 3) := dk_180 0 7 (dk_at dksX2_keep_3 9 rfl rfl)
theorem dX2_keep_83 : decode cX2_keep 83 = .ok (.iload_n 1, 1) := dk_27 (dk_at dksX2_keep_3 12 rfl rfl)
theorem dX2_keep_84 : decode cX2_keep 84 = .ok (.iload_n 2, 1) := dk_28 (dk_at dksX2_keep_3 13 rfl rfl)
theorem dX2_keep_85 : decode cX2_keep 85 = .ok (.iadd, 1) := dk_96 (dk_at dksX2_keep_3 14 rfl rfl)
theorem dX2_keep_86 : decode cX2_keep 86 = .ok (.aload_n 0, 1) := dk_42 (dk_at dksX2_keep_3 15 rfl rfl)
theorem dX2_keep_87 : decode cX2_keep 87 = .ok (.getfield 7, 3) := dk_180 0 7 (dk_at dksX2_keep_3 16 rfl rfl)
theorem dX2_keep_90 : decode cX2_keep 90 = .ok (.bipush 6, 2) := dk_16 6 (dk_at dksX2_keep_3 19 rfl rfl)
theorem dX2_keep_92 : decode cX2_keep 92 = .ok (.iload_n 2, 1) := dk_28 (dk_at dksX2_keep_3 21 rfl rfl)
theorem dX2_keep_93 : decode cX2_keep 93 = .ok (.iadd, 1) := dk_96 (dk_at dksX2_keep_3 22 rfl rfl)
theorem dX2_keep_94 : decode cX2_keep 94 = .ok (.iaload, 1) := dk_46 (dk_at dksX2_keep_3 23 rfl rfl)
theorem dX2_keep_95 : decode cX2_keep 95 = .ok (.iastore, 1) := dk_79 (dk_at dksX2_keep_4 0 rfl rfl)
theorem dX2_keep_96 : decode cX2_keep 96 = .ok (.iinc 2 1, 3) := dk_132 2 1 (dk_at dksX2_keep_4 1 rfl rfl)
theorem dX2_keep_99 : decode cX2_keep 99 = .ok (.goto (-26), 3) := dk_167 255 230 (dk_at dksX2_keep_4 4 rfl rfl)
theorem dX2_keep_102 : decode cX2_keep 102 = .ok (.iconst 0, 1) := dk_3 (dk_at dksX2_keep_4 7 rfl rfl)
theorem dX2_keep_103 : decode cX2_keep 103 = .ok (.istore_n 2, 1) := dk_61 (dk_at dksX2_keep_4 8 rfl rfl)
theorem dX2_keep_104 : decode cX2_keep 104 = .ok (.iload_n 2, 1) := dk_28 (dk_at dksX2_keep_4 9 rfl rfl)
theorem dX2_keep_105 : decode cX2_keep 105 = .ok (.bipush 60, 2) := dk_16 60 (dk_at dksX2_keep_4 10 rfl rfl)
theorem dX2_keep_107 : decode cX2_keep 107 = .ok (.if_icmp .ge 30, 3) := dk_162 0 30 (dk_at dksX2_keep_4 12 rfl rfl)
theorem dX2_keep_110 : decode cX2_keep 110 = .ok (.aload_n 0, 1) := dk_42 (dk_at dksX2_keep_4 15 rfl rfl)
theorem dX2_keep_111 : decode cX2_keep 111 = .ok (.getfield 7, 3) := dk_180 0 7 (dk_at dksX2_keep_4 16 rfl rfl)
theorem dX2_keep_114 : decode cX2_keep 114 = .ok (.iload_n 1, 1) := dk_27 (dk_at dksX2_keep_4 19 rfl rfl)
theorem dX2_keep_115 : decode cX2_keep 115 = .ok (.bipush 84, 2) := dk_16 84 (dk_at dksX2_keep_4 20 rfl rfl)
theorem dX2_keep_117 : decode cX2_keep 117 = .ok (.iadd, 1) := dk_96 (dk_at dksX2_keep_4 22 rfl rfl)
theorem dX2_keep_118 : decode cX2_keep 118 = .ok (.iload_n 2, 1) := dk_28 (dk_at dksX2_keep_4 23 rfl rfl)
theorem dX2_keep_119 : decode cX2_keep 119 = .ok (.iadd, 1) := dk_96 (dk_at dksX2_keep_5 0 rfl rfl)
theorem dX2_keep_120 : decode cX2_keep 120 = .ok (.aload_n 0, 1) := dk_42 (dk_at dksX2_keep_5 1 rfl rfl)
theorem dX2_keep_121 : decode cX2_keep 121 = .ok (.getfield 7, 3) := dk_180 0 7 (dk_at dksX2_keep_5 2 rfl rfl)
theorem dX2_keep_124 : decode cX2_keep 124 = .ok (.sipush 4484, 3) := dk_17 17 132 (dk_at dksX2_keep_5 5 rfl rfl)
theorem dX2_keep_127 : decode cX2_keep 127 = .ok (.iload_n 2, 1) := dk_28 (dk_at dksX2_keep_5 8 rfl rfl)
theorem dX2_keep_128 : decode cX2_keep 128 = .ok (.iadd, 1) := dk_96 (dk_at dksX2_keep_5 9 rfl rfl)
theorem dX2_keep_129 : decode cX2_keep 129 = .ok (.iaload, 1) := dk_46 (dk_at dksX2_keep_5 10 rfl rfl)
theorem dX2_keep_130 : decode cX2_keep 130 = .ok (.iastore, 1) := dk_79 (dk_at dksX2_keep_5 11 rfl rfl)
theorem dX2_keep_131 : decode cX2_keep 131 = .ok (.iinc 2 1, 3) := dk_132 2 1 (dk_at dksX2_keep_5 12 rfl rfl)
theorem dX2_keep_134 : decode cX2_keep 134 = .ok (.goto (-30), 3) := dk_167 255 226 (dk_at dksX2_keep_5 15 rfl rfl)
theorem dX2_keep_137 : decode cX2_keep 137 = .ok (.aload_n 0, 1) := dk_42 (dk_at dksX2_keep_5 18 rfl rfl)
theorem dX2_keep_138 : decode cX2_keep 138 = .ok (.getfield 7, 3) := dk_180 0 7 (dk_at dksX2_keep_5 19 rfl rfl)
theorem dX2_keep_141 : decode cX2_keep 141 = .ok (.iconst 3, 1) := dk_6 (dk_at dksX2_keep_5 22 rfl rfl)
theorem dX2_keep_142 : decode cX2_keep 142 = .ok (.dup2, 1) := dk_92 (dk_at dksX2_keep_5 23 rfl rfl)
theorem dX2_keep_143 : decode cX2_keep 143 = .ok (.iaload, 1) := dk_46 (dk_at dksX2_keep_6 0 rfl rfl)
theorem dX2_keep_144 : decode cX2_keep 144 = .ok (.iconst 1, 1) := dk_4 (dk_at dksX2_keep_6 1 rfl rfl)
theorem dX2_keep_145 : decode cX2_keep 145 = .ok (.iadd, 1) := dk_96 (dk_at dksX2_keep_6 2 rfl rfl)
theorem dX2_keep_146 : decode cX2_keep 146 = .ok (.iastore, 1) := dk_79 (dk_at dksX2_keep_6 3 rfl rfl)
theorem dX2_keep_147 : decode cX2_keep 147 = .ok (.return_, 1) := dk_177 (dk_at dksX2_keep_6 4 rfl rfl)
abbrev cX2_wrongNow : ByteArray := prog_20_method_82_code
def yX2_wrongNow : MethodName := ⟨RX2, "wrongNow", "(III)V"⟩
def dkwX2_wrongNow_3 : List UInt8 := [182, 1, 63, 42, 180, 0, 7, 16, 8, 92, 46, 4, 96, 79, 177]
abbrev dktX2_wrongNow_3 : List UInt8 := dkwX2_wrongNow_3 ++ []
def dkwX2_wrongNow_2 : List UInt8 := [182, 1, 63, 42, 21, 4, 8, 42, 180, 0, 7, 16, 6, 46, 182, 1, 63, 42, 21, 4, 16, 6, 3]
abbrev dktX2_wrongNow_2 : List UInt8 := dkwX2_wrongNow_2 ++ dktX2_wrongNow_3
def dkwX2_wrongNow_1 : List UInt8 := [182, 1, 63, 42, 21, 4, 5, 27, 182, 1, 63, 42, 21, 4, 6, 29, 182, 1, 63, 42, 21, 4, 7, 3]
abbrev dktX2_wrongNow_1 : List UInt8 := dkwX2_wrongNow_1 ++ dktX2_wrongNow_2
def dkwX2_wrongNow_0 : List UInt8 := [42, 180, 0, 7, 16, 8, 46, 54, 4, 42, 21, 4, 3, 27, 182, 1, 63, 42, 21, 4, 4, 28]
abbrev dktX2_wrongNow_0 : List UInt8 := dkwX2_wrongNow_0 ++ dktX2_wrongNow_1
theorem dksX2_wrongNow_0 : cX2_wrongNow.data.toList.drop 0 = dktX2_wrongNow_0 := by decide +kernel
theorem dksX2_wrongNow_1 : cX2_wrongNow.data.toList.drop 22 = dktX2_wrongNow_1 := dk_seg dksX2_wrongNow_0 22 rfl rfl
theorem dksX2_wrongNow_2 : cX2_wrongNow.data.toList.drop 46 = dktX2_wrongNow_2 := dk_seg dksX2_wrongNow_1 24 rfl rfl
theorem dksX2_wrongNow_3 : cX2_wrongNow.data.toList.drop 69 = dktX2_wrongNow_3 := dk_seg dksX2_wrongNow_2 23 rfl rfl
theorem dX2_wrongNow_0 : decode cX2_wrongNow 0 = .ok (.aload_n 0, 1) := dk_42 (dk_at dksX2_wrongNow_0 0 rfl rfl)
theorem dX2_wrongNow_1 : decode cX2_wrongNow 1 = .ok (.getfield 7, 3) := dk_180 0 7 (dk_at dksX2_wrongNow_0 1 rfl rfl)
theorem dX2_wrongNow_4 : decode cX2_wrongNow 4 = .ok (.bipush 8, 2) := dk_16 8 (dk_at dksX2_wrongNow_0 4 rfl rfl)
theorem dX2_wrongNow_6 : decode cX2_wrongNow 6 = .ok (.iaload, 1) := dk_46 (dk_at dksX2_wrongNow_0 6 rfl rfl)
theorem dX2_wrongNow_7 : decode cX2_wrongNow 7 = .ok (.istore 4, 2) := dk_54 4 (dk_at dksX2_wrongNow_0 7 rfl rfl)
theorem dX2_wrongNow_9 : decode cX2_wrongNow 9 = .ok (.aload_n 0, 1) := dk_42 (dk_at dksX2_wrongNow_0 9 rfl rfl)
theorem dX2_wrongNow_10 : decode cX2_wrongNow 10 = .ok (.iload 4, 2) := dk_21 4 (dk_at dksX2_wrongNow_0 10 rfl rfl)
theorem dX2_wrongNow_12 : decode cX2_wrongNow 12 = .ok (.iconst 0, 1) := dk_3 (dk_at dksX2_wrongNow_0 12 rfl rfl)
theorem dX2_wrongNow_13 : decode cX2_wrongNow 13 = .ok (.iload_n 1, 1) := dk_27 (dk_at dksX2_wrongNow_0 13 rfl rfl)
theorem dX2_wrongNow_14 : decode cX2_wrongNow 14 = .ok (.invokevirtual 319, 3) := dk_182 1 63 (dk_at dksX2_wrongNow_0 14 rfl rfl)
theorem dX2_wrongNow_17 : decode cX2_wrongNow 17 = .ok (.aload_n 0, 1) := dk_42 (dk_at dksX2_wrongNow_0 17 rfl rfl)
theorem dX2_wrongNow_18 : decode cX2_wrongNow 18 = .ok (.iload 4, 2) := dk_21 4 (dk_at dksX2_wrongNow_0 18 rfl rfl)
theorem dX2_wrongNow_20 : decode cX2_wrongNow 20 = .ok (.iconst 1, 1) := dk_4 (dk_at dksX2_wrongNow_0 20 rfl rfl)
theorem dX2_wrongNow_21 : decode cX2_wrongNow 21 = .ok (.iload_n 2, 1) := dk_28 (dk_at dksX2_wrongNow_0 21 rfl rfl)
theorem dX2_wrongNow_22 : decode cX2_wrongNow 22 = .ok (.invokevirtual 319, 3) := dk_182 1 63 (dk_at dksX2_wrongNow_1 0 rfl rfl)
theorem dX2_wrongNow_25 : decode cX2_wrongNow 25 = .ok (.aload_n 0, 1) := dk_42 (dk_at dksX2_wrongNow_1 3 rfl rfl)
theorem dX2_wrongNow_26 : decode cX2_wrongNow 26 = .ok (.iload 4, 2) := dk_21 4 (dk_at dksX2_wrongNow_1 4 rfl rfl)
theorem dX2_wrongNow_28 : decode cX2_wrongNow 28 = .ok (.iconst 2, 1) := dk_5 (dk_at dksX2_wrongNow_1 6 rfl rfl)
theorem dX2_wrongNow_29 : decode cX2_wrongNow 29 = .ok (.iload_n 1, 1) := dk_27 (dk_at dksX2_wrongNow_1 7 rfl rfl)
theorem dX2_wrongNow_30 : decode cX2_wrongNow 30 = .ok (.invokevirtual 319, 3) := dk_182 1 63 (dk_at dksX2_wrongNow_1 8 rfl rfl)
theorem dX2_wrongNow_33 : decode cX2_wrongNow 33 = .ok (.aload_n 0, 1) := dk_42 (dk_at dksX2_wrongNow_1 11 rfl rfl)
theorem dX2_wrongNow_34 : decode cX2_wrongNow 34 = .ok (.iload 4, 2) := dk_21 4 (dk_at dksX2_wrongNow_1 12 rfl rfl)
theorem dX2_wrongNow_36 : decode cX2_wrongNow 36 = .ok (.iconst 3, 1) := dk_6 (dk_at dksX2_wrongNow_1 14 rfl rfl)
theorem dX2_wrongNow_37 : decode cX2_wrongNow 37 = .ok (.iload_n 3, 1) := dk_29 (dk_at dksX2_wrongNow_1 15 rfl rfl)
theorem dX2_wrongNow_38 : decode cX2_wrongNow 38 = .ok (.invokevirtual 319, 3) := dk_182 1 63 (dk_at dksX2_wrongNow_1 16 rfl rfl)
theorem dX2_wrongNow_41 : decode cX2_wrongNow 41 = .ok (.aload_n 0, 1) := dk_42 (dk_at dksX2_wrongNow_1 19 rfl rfl)
theorem dX2_wrongNow_42 : decode cX2_wrongNow 42 = .ok (.iload 4, 2) := dk_21 4 (dk_at dksX2_wrongNow_1 20 rfl rfl)
theorem dX2_wrongNow_44 : decode cX2_wrongNow 44 = .ok (.iconst 4, 1) := dk_7 (dk_at dksX2_wrongNow_1 22 rfl rfl)
theorem dX2_wrongNow_45 : decode cX2_wrongNow 45 = .ok (.iconst 0, 1) := dk_3 (dk_at dksX2_wrongNow_1 23 rfl rfl)
theorem dX2_wrongNow_46 : decode cX2_wrongNow 46 = .ok (.invokevirtual 319, 3) := dk_182 1 63 (dk_at dksX2_wrongNow_2 0 rfl rfl)
theorem dX2_wrongNow_49 : decode cX2_wrongNow 49 = .ok (.aload_n 0, 1) := dk_42 (dk_at dksX2_wrongNow_2 3 rfl rfl)
theorem dX2_wrongNow_50 : decode cX2_wrongNow 50 = .ok (.iload 4, 2) := dk_21 4 (dk_at dksX2_wrongNow_2 4 rfl rfl)
theorem dX2_wrongNow_52 : decode cX2_wrongNow 52 = .ok (.iconst 5, 1) := dk_8 (dk_at dksX2_wrongNow_2 6 rfl rfl)
theorem dX2_wrongNow_53 : decode cX2_wrongNow 53 = .ok (.aload_n 0, 1) := dk_42 (dk_at dksX2_wrongNow_2 7 rfl rfl)
theorem dX2_wrongNow_54 : decode cX2_wrongNow 54 = .ok (.getfield 7, 3) := dk_180 0 7 (dk_at dksX2_wrongNow_2 8 rfl rfl)
theorem dX2_wrongNow_57 : decode cX2_wrongNow 57 = .ok (.bipush 6, 2) := dk_16 6 (dk_at dksX2_wrongNow_2 11 rfl rfl)
theorem dX2_wrongNow_59 : decode cX2_wrongNow 59 = .ok (.iaload, 1) := dk_46 (dk_at dksX2_wrongNow_2 13 rfl rfl)
theorem dX2_wrongNow_60 : decode cX2_wrongNow 60 = .ok (.invokevirtual 319, 3) := dk_182 1 63 (dk_at dksX2_wrongNow_2 14 rfl rfl)
theorem dX2_wrongNow_63 : decode cX2_wrongNow 63 = .ok (.aload_n 0, 1) := dk_42 (dk_at dksX2_wrongNow_2 17 rfl rfl)
theorem dX2_wrongNow_64 : decode cX2_wrongNow 64 = .ok (.iload 4, 2) := dk_21 4 (dk_at dksX2_wrongNow_2 18 rfl rfl)
theorem dX2_wrongNow_66 : decode cX2_wrongNow 66 = .ok (.bipush 6, 2) := dk_16 6 (dk_at dksX2_wrongNow_2 20 rfl rfl)
theorem dX2_wrongNow_68 : decode cX2_wrongNow 68 = .ok (.iconst 0, 1) := dk_3 (dk_at dksX2_wrongNow_2 22 rfl rfl)
theorem dX2_wrongNow_69 : decode cX2_wrongNow 69 = .ok (.invokevirtual 319, 3) := dk_182 1 63 (dk_at dksX2_wrongNow_3 0 rfl rfl)
theorem dX2_wrongNow_72 : decode cX2_wrongNow 72 = .ok (.aload_n 0, 1) := dk_42 (dk_at dksX2_wrongNow_3 3 rfl rfl)
theorem dX2_wrongNow_73 : decode cX2_wrongNow 73 = .ok (.getfield 7, 3) := dk_180 0 7 (dk_at dksX2_wrongNow_3 4 rfl rfl)
theorem dX2_wrongNow_76 : decode cX2_wrongNow 76 = .ok (.bipush 8, 2) := dk_16 8 (dk_at dksX2_wrongNow_3 7 rfl rfl)
theorem dX2_wrongNow_78 : decode cX2_wrongNow 78 = .ok (.dup2, 1) := dk_92 (dk_at dksX2_wrongNow_3 9 rfl rfl)
theorem dX2_wrongNow_79 : decode cX2_wrongNow 79 = .ok (.iaload, 1) := dk_46 (dk_at dksX2_wrongNow_3 10 rfl rfl)
theorem dX2_wrongNow_80 : decode cX2_wrongNow 80 = .ok (.iconst 1, 1) := dk_4 (dk_at dksX2_wrongNow_3 11 rfl rfl)
theorem dX2_wrongNow_81 : decode cX2_wrongNow 81 = .ok (.iadd, 1) := dk_96 (dk_at dksX2_wrongNow_3 12 rfl rfl)
theorem dX2_wrongNow_82 : decode cX2_wrongNow 82 = .ok (.iastore, 1) := dk_79 (dk_at dksX2_wrongNow_3 13 rfl rfl)
theorem dX2_wrongNow_83 : decode cX2_wrongNow 83 = .ok (.return_, 1) := dk_177 (dk_at dksX2_wrongNow_3 14 rfl rfl)
abbrev cX2_put : ByteArray := prog_20_method_10_code
def yX2_put : MethodName := ⟨RX2, "put", "(III)V"⟩
def dkwX2_put_0 : List UInt8 := [42, 180, 0, 7, 16, 20, 16, 7, 27, 104, 96, 28, 96, 29, 79, 177]
abbrev dktX2_put_0 : List UInt8 := dkwX2_put_0 ++ []
theorem dksX2_put_0 : cX2_put.data.toList.drop 0 = dktX2_put_0 := by decide +kernel
theorem dX2_put_0 : decode cX2_put 0 = .ok (.aload_n 0, 1) := dk_42 (dk_at dksX2_put_0 0 rfl rfl)
theorem dX2_put_1 : decode cX2_put 1 = .ok (.getfield 7, 3) := dk_180 0 7 (dk_at dksX2_put_0 1 rfl rfl)
theorem dX2_put_4 : decode cX2_put 4 = .ok (.bipush 20, 2) := dk_16 20 (dk_at dksX2_put_0 4 rfl rfl)
theorem dX2_put_6 : decode cX2_put 6 = .ok (.bipush 7, 2) := dk_16 7 (dk_at dksX2_put_0 6 rfl rfl)
theorem dX2_put_8 : decode cX2_put 8 = .ok (.iload_n 1, 1) := dk_27 (dk_at dksX2_put_0 8 rfl rfl)
theorem dX2_put_9 : decode cX2_put 9 = .ok (.imul, 1) := dk_104 (dk_at dksX2_put_0 9 rfl rfl)
theorem dX2_put_10 : decode cX2_put 10 = .ok (.iadd, 1) := dk_96 (dk_at dksX2_put_0 10 rfl rfl)
theorem dX2_put_11 : decode cX2_put 11 = .ok (.iload_n 2, 1) := dk_28 (dk_at dksX2_put_0 11 rfl rfl)
theorem dX2_put_12 : decode cX2_put 12 = .ok (.iadd, 1) := dk_96 (dk_at dksX2_put_0 12 rfl rfl)
theorem dX2_put_13 : decode cX2_put 13 = .ok (.iload_n 3, 1) := dk_29 (dk_at dksX2_put_0 13 rfl rfl)
theorem dX2_put_14 : decode cX2_put 14 = .ok (.iastore, 1) := dk_79 (dk_at dksX2_put_0 14 rfl rfl)
theorem dX2_put_15 : decode cX2_put 15 = .ok (.return_, 1) := dk_177 (dk_at dksX2_put_0 15 rfl rfl)
abbrev cX2_away : ByteArray := prog_20_method_84_code
def yX2_away : MethodName := ⟨RX2, "away", "(II)Z"⟩
def dkwX2_away_2 : List UInt8 := [96, 79, 4, 172]
abbrev dktX2_away_2 : List UInt8 := dkwX2_away_2 ++ []
def dkwX2_away_1 : List UInt8 := [42, 180, 0, 7, 16, 10, 27, 96, 28, 154, 0, 7, 3, 167, 0, 12, 42, 180, 0, 7, 16, 6, 46, 28]
abbrev dktX2_away_1 : List UInt8 := dkwX2_away_1 ++ dktX2_away_2
def dkwX2_away_0 : List UInt8 := [42, 27, 182, 0, 73, 153, 0, 13, 28, 3, 16, 99, 184, 0, 69, 154, 0, 5, 3, 172, 42, 182, 1, 100]
abbrev dktX2_away_0 : List UInt8 := dkwX2_away_0 ++ dktX2_away_1
theorem dksX2_away_0 : cX2_away.data.toList.drop 0 = dktX2_away_0 := by decide +kernel
theorem dksX2_away_1 : cX2_away.data.toList.drop 24 = dktX2_away_1 := dk_seg dksX2_away_0 24 rfl rfl
theorem dksX2_away_2 : cX2_away.data.toList.drop 48 = dktX2_away_2 := dk_seg dksX2_away_1 24 rfl rfl
theorem dX2_away_0 : decode cX2_away 0 = .ok (.aload_n 0, 1) := dk_42 (dk_at dksX2_away_0 0 rfl rfl)
theorem dX2_away_1 : decode cX2_away 1 = .ok (.iload_n 1, 1) := dk_27 (dk_at dksX2_away_0 1 rfl rfl)
theorem dX2_away_2 : decode cX2_away 2 = .ok (.invokevirtual 73, 3) := dk_182 0 73 (dk_at dksX2_away_0 2 rfl rfl)
theorem dX2_away_5 : decode cX2_away 5 = .ok (.ifCond .eq 13, 3) := dk_153 0 13 (dk_at dksX2_away_0 5 rfl rfl)
theorem dX2_away_8 : decode cX2_away 8 = .ok (.iload_n 2, 1) := dk_28 (dk_at dksX2_away_0 8 rfl rfl)
theorem dX2_away_9 : decode cX2_away 9 = .ok (.iconst 0, 1) := dk_3 (dk_at dksX2_away_0 9 rfl rfl)
theorem dX2_away_10 : decode cX2_away 10 = .ok (.bipush 99, 2) := dk_16 99 (dk_at dksX2_away_0 10 rfl rfl)
theorem dX2_away_12 : decode cX2_away 12 = .ok (.invokestatic 69, 3) := dk_184 0 69 (dk_at dksX2_away_0 12 rfl rfl)
theorem dX2_away_15 : decode cX2_away 15 = .ok (.ifCond .ne 5, 3) := dk_154 0 5 (dk_at dksX2_away_0 15 rfl rfl)
theorem dX2_away_18 : decode cX2_away 18 = .ok (.iconst 0, 1) := dk_3 (dk_at dksX2_away_0 18 rfl rfl)
theorem dX2_away_19 : decode cX2_away 19 = .ok (.ireturn, 1) := dk_172 (dk_at dksX2_away_0 19 rfl rfl)
theorem dX2_away_20 : decode cX2_away 20 = .ok (.aload_n 0, 1) := dk_42 (dk_at dksX2_away_0 20 rfl rfl)
theorem dX2_away_21 : decode cX2_away 21 = .ok (.invokevirtual 356, 3) := dk_182 1 100 (dk_at dksX2_away_0 21 rfl rfl)
theorem dX2_away_24 : decode cX2_away 24 = .ok (.aload_n 0, 1) := dk_42 (dk_at dksX2_away_1 0 rfl rfl)
theorem dX2_away_25 : decode cX2_away 25 = .ok (.getfield 7, 3) := dk_180 0 7 (dk_at dksX2_away_1 1 rfl rfl)
theorem dX2_away_28 : decode cX2_away 28 = .ok (.bipush 10, 2) := dk_16 10 (dk_at dksX2_away_1 4 rfl rfl)
theorem dX2_away_30 : decode cX2_away 30 = .ok (.iload_n 1, 1) := dk_27 (dk_at dksX2_away_1 6 rfl rfl)
theorem dX2_away_31 : decode cX2_away 31 = .ok (.iadd, 1) := dk_96 (dk_at dksX2_away_1 7 rfl rfl)
theorem dX2_away_32 : decode cX2_away 32 = .ok (.iload_n 2, 1) := dk_28 (dk_at dksX2_away_1 8 rfl rfl)
theorem dX2_away_33 : decode cX2_away 33 = .ok (.ifCond .ne 7, 3) := dk_154 0 7 (dk_at dksX2_away_1 9 rfl rfl)
theorem dX2_away_36 : decode cX2_away 36 = .ok (.iconst 0, 1) := dk_3 (dk_at dksX2_away_1 12 rfl rfl)
theorem dX2_away_37 : decode cX2_away 37 = .ok (.goto 12, 3) := dk_167 0 12 (dk_at dksX2_away_1 13 rfl rfl)
theorem dX2_away_40 : decode cX2_away 40 = .ok (.aload_n 0, 1) := dk_42 (dk_at dksX2_away_1 16 rfl rfl)
theorem dX2_away_41 : decode cX2_away 41 = .ok (.getfield 7, 3) := dk_180 0 7 (dk_at dksX2_away_1 17 rfl rfl)
theorem dX2_away_44 : decode cX2_away 44 = .ok (.bipush 6, 2) := dk_16 6 (dk_at dksX2_away_1 20 rfl rfl)
theorem dX2_away_46 : decode cX2_away 46 = .ok (.iaload, 1) := dk_46 (dk_at dksX2_away_1 22 rfl rfl)
theorem dX2_away_47 : decode cX2_away 47 = .ok (.iload_n 2, 1) := dk_28 (dk_at dksX2_away_1 23 rfl rfl)
theorem dX2_away_48 : decode cX2_away 48 = .ok (.iadd, 1) := dk_96 (dk_at dksX2_away_2 0 rfl rfl)
theorem dX2_away_49 : decode cX2_away 49 = .ok (.iastore, 1) := dk_79 (dk_at dksX2_away_2 1 rfl rfl)
theorem dX2_away_50 : decode cX2_away 50 = .ok (.iconst 1, 1) := dk_4 (dk_at dksX2_away_2 2 rfl rfl)
theorem dX2_away_51 : decode cX2_away 51 = .ok (.ireturn, 1) := dk_172 (dk_at dksX2_away_2 3 rfl rfl)
abbrev cX2_sideways : ByteArray := prog_20_method_86_code
def yX2_sideways : MethodName := ⟨RX2, "sideways", "(II)Z"⟩
def dkwX2_sideways_1 : List UInt8 := [16, 6, 42, 180, 0, 7, 16, 6, 46, 5, 96, 182, 1, 63, 4, 172]
abbrev dktX2_sideways_1 : List UInt8 := dkwX2_sideways_1 ++ []
def dkwX2_sideways_0 : List UInt8 := [42, 27, 28, 182, 1, 109, 154, 0, 5, 3, 172, 42, 182, 1, 100, 42, 27, 5, 28, 182, 1, 63, 42, 27]
abbrev dktX2_sideways_0 : List UInt8 := dkwX2_sideways_0 ++ dktX2_sideways_1
theorem dksX2_sideways_0 : cX2_sideways.data.toList.drop 0 = dktX2_sideways_0 := by decide +kernel
theorem dksX2_sideways_1 : cX2_sideways.data.toList.drop 24 = dktX2_sideways_1 := dk_seg dksX2_sideways_0 24 rfl rfl
theorem dX2_sideways_0 : decode cX2_sideways 0 = .ok (.aload_n 0, 1) := dk_42 (dk_at dksX2_sideways_0 0 rfl rfl)
theorem dX2_sideways_1 : decode cX2_sideways 1 = .ok (.iload_n 1, 1) := dk_27 (dk_at dksX2_sideways_0 1 rfl rfl)
theorem dX2_sideways_2 : decode cX2_sideways 2 = .ok (.iload_n 2, 1) := dk_28 (dk_at dksX2_sideways_0 2 rfl rfl)
theorem dX2_sideways_3 : decode cX2_sideways 3 = .ok (.invokevirtual 365, 3) := dk_182 1 109 (dk_at dksX2_sideways_0 3 rfl rfl)
theorem dX2_sideways_6 : decode cX2_sideways 6 = .ok (.ifCond .ne 5, 3) := dk_154 0 5 (dk_at dksX2_sideways_0 6 rfl rfl)
theorem dX2_sideways_9 : decode cX2_sideways 9 = .ok (.iconst 0, 1) := dk_3 (dk_at dksX2_sideways_0 9 rfl rfl)
theorem dX2_sideways_10 : decode cX2_sideways 10 = .ok (.ireturn, 1) := dk_172 (dk_at dksX2_sideways_0 10 rfl rfl)
theorem dX2_sideways_11 : decode cX2_sideways 11 = .ok (.aload_n 0, 1) := dk_42 (dk_at dksX2_sideways_0 11 rfl rfl)
theorem dX2_sideways_12 : decode cX2_sideways 12 = .ok (.invokevirtual 356, 3) := dk_182 1 100 (dk_at dksX2_sideways_0 12 rfl rfl)
theorem dX2_sideways_15 : decode cX2_sideways 15 = .ok (.aload_n 0, 1) := dk_42 (dk_at dksX2_sideways_0 15 rfl rfl)
theorem dX2_sideways_16 : decode cX2_sideways 16 = .ok (.iload_n 1, 1) := dk_27 (dk_at dksX2_sideways_0 16 rfl rfl)
theorem dX2_sideways_17 : decode cX2_sideways 17 = .ok (.iconst 2, 1) := dk_5 (dk_at dksX2_sideways_0 17 rfl rfl)
theorem dX2_sideways_18 : decode cX2_sideways 18 = .ok (.iload_n 2, 1) := dk_28 (dk_at dksX2_sideways_0 18 rfl rfl)
theorem dX2_sideways_19 : decode cX2_sideways 19 = .ok (.invokevirtual 319, 3) := dk_182 1 63 (dk_at dksX2_sideways_0 19 rfl rfl)
theorem dX2_sideways_22 : decode cX2_sideways 22 = .ok (.aload_n 0, 1) := dk_42 (dk_at dksX2_sideways_0 22 rfl rfl)
theorem dX2_sideways_23 : decode cX2_sideways 23 = .ok (.iload_n 1, 1) := dk_27 (dk_at dksX2_sideways_0 23 rfl rfl)
theorem dX2_sideways_24 : decode cX2_sideways 24 = .ok (.bipush 6, 2) := dk_16 6 (dk_at dksX2_sideways_1 0 rfl rfl)
theorem dX2_sideways_26 : decode cX2_sideways 26 = .ok (.aload_n 0, 1) := dk_42 (dk_at dksX2_sideways_1 2 rfl rfl)
theorem dX2_sideways_27 : decode cX2_sideways 27 = .ok (.getfield 7, 3) := dk_180 0 7 (dk_at dksX2_sideways_1 3 rfl rfl)
theorem dX2_sideways_30 : decode cX2_sideways 30 = .ok (.bipush 6, 2) := dk_16 6 (dk_at dksX2_sideways_1 6 rfl rfl)
theorem dX2_sideways_32 : decode cX2_sideways 32 = .ok (.iaload, 1) := dk_46 (dk_at dksX2_sideways_1 8 rfl rfl)
theorem dX2_sideways_33 : decode cX2_sideways 33 = .ok (.iconst 2, 1) := dk_5 (dk_at dksX2_sideways_1 9 rfl rfl)
theorem dX2_sideways_34 : decode cX2_sideways 34 = .ok (.iadd, 1) := dk_96 (dk_at dksX2_sideways_1 10 rfl rfl)
theorem dX2_sideways_35 : decode cX2_sideways 35 = .ok (.invokevirtual 319, 3) := dk_182 1 63 (dk_at dksX2_sideways_1 11 rfl rfl)
theorem dX2_sideways_38 : decode cX2_sideways 38 = .ok (.iconst 1, 1) := dk_4 (dk_at dksX2_sideways_1 14 rfl rfl)
theorem dX2_sideways_39 : decode cX2_sideways 39 = .ok (.ireturn, 1) := dk_172 (dk_at dksX2_sideways_1 15 rfl rfl)
abbrev cX2_canSend : ByteArray := prog_20_method_85_code
def yX2_canSend : MethodName := ⟨RX2, "canSend", "(II)Z"⟩
def dkwX2_canSend_3 : List UInt8 := [28, 182, 1, 94, 153, 0, 7, 4, 167, 0, 4, 3, 172]
abbrev dktX2_canSend_3 : List UInt8 := dkwX2_canSend_3 ++ []
def dkwX2_canSend_2 : List UInt8 := [16, 110, 42, 27, 5, 182, 1, 48, 96, 46, 28, 184, 0, 77, 153, 0, 21, 42, 42, 27, 4, 182, 1, 48]
abbrev dktX2_canSend_2 : List UInt8 := dkwX2_canSend_2 ++ dktX2_canSend_3
def dkwX2_canSend_1 : List UInt8 := [154, 0, 59, 42, 180, 0, 7, 16, 6, 46, 42, 27, 16, 6, 182, 1, 48, 161, 0, 42, 42, 180, 0, 7]
abbrev dktX2_canSend_1 : List UInt8 := dkwX2_canSend_1 ++ dktX2_canSend_2
def dkwX2_canSend_0 : List UInt8 := [42, 27, 182, 1, 106, 153, 0, 76, 42, 28, 182, 0, 73, 153, 0, 68, 42, 27, 7, 182, 1, 48]
abbrev dktX2_canSend_0 : List UInt8 := dkwX2_canSend_0 ++ dktX2_canSend_1
theorem dksX2_canSend_0 : cX2_canSend.data.toList.drop 0 = dktX2_canSend_0 := by decide +kernel
theorem dksX2_canSend_1 : cX2_canSend.data.toList.drop 22 = dktX2_canSend_1 := dk_seg dksX2_canSend_0 22 rfl rfl
theorem dksX2_canSend_2 : cX2_canSend.data.toList.drop 46 = dktX2_canSend_2 := dk_seg dksX2_canSend_1 24 rfl rfl
theorem dksX2_canSend_3 : cX2_canSend.data.toList.drop 70 = dktX2_canSend_3 := dk_seg dksX2_canSend_2 24 rfl rfl
theorem dX2_canSend_0 : decode cX2_canSend 0 = .ok (.aload_n 0, 1) := dk_42 (dk_at dksX2_canSend_0 0 rfl rfl)
theorem dX2_canSend_1 : decode cX2_canSend 1 = .ok (.iload_n 1, 1) := dk_27 (dk_at dksX2_canSend_0 1 rfl rfl)
theorem dX2_canSend_2 : decode cX2_canSend 2 = .ok (.invokevirtual 362, 3) := dk_182 1 106 (dk_at dksX2_canSend_0 2 rfl rfl)
theorem dX2_canSend_5 : decode cX2_canSend 5 = .ok (.ifCond .eq 76, 3) := dk_153 0 76 (dk_at dksX2_canSend_0 5 rfl rfl)
theorem dX2_canSend_8 : decode cX2_canSend 8 = .ok (.aload_n 0, 1) := dk_42 (dk_at dksX2_canSend_0 8 rfl rfl)
theorem dX2_canSend_9 : decode cX2_canSend 9 = .ok (.iload_n 2, 1) := dk_28 (dk_at dksX2_canSend_0 9 rfl rfl)
theorem dX2_canSend_10 : decode cX2_canSend 10 = .ok (.invokevirtual 73, 3) := dk_182 0 73 (dk_at dksX2_canSend_0 10 rfl rfl)
theorem dX2_canSend_13 : decode cX2_canSend 13 = .ok (.ifCond .eq 68, 3) := dk_153 0 68 (dk_at dksX2_canSend_0 13 rfl rfl)
theorem dX2_canSend_16 : decode cX2_canSend 16 = .ok (.aload_n 0, 1) := dk_42 (dk_at dksX2_canSend_0 16 rfl rfl)
theorem dX2_canSend_17 : decode cX2_canSend 17 = .ok (.iload_n 1, 1) := dk_27 (dk_at dksX2_canSend_0 17 rfl rfl)
theorem dX2_canSend_18 : decode cX2_canSend 18 = .ok (.iconst 4, 1) := dk_7 (dk_at dksX2_canSend_0 18 rfl rfl)
theorem dX2_canSend_19 : decode cX2_canSend 19 = .ok (.invokevirtual 304, 3) := dk_182 1 48 (dk_at dksX2_canSend_0 19 rfl rfl)
theorem dX2_canSend_22 : decode cX2_canSend 22 = .ok (.ifCond .ne 59, 3) := dk_154 0 59 (dk_at dksX2_canSend_1 0 rfl rfl)
theorem dX2_canSend_25 : decode cX2_canSend 25 = .ok (.aload_n 0, 1) := dk_42 (dk_at dksX2_canSend_1 3 rfl rfl)
theorem dX2_canSend_26 : decode cX2_canSend 26 = .ok (.getfield 7, 3) := dk_180 0 7 (dk_at dksX2_canSend_1 4 rfl rfl)
theorem dX2_canSend_29 : decode cX2_canSend 29 = .ok (.bipush 6, 2) := dk_16 6 (dk_at dksX2_canSend_1 7 rfl rfl)
theorem dX2_canSend_31 : decode cX2_canSend 31 = .ok (.iaload, 1) := dk_46 (dk_at dksX2_canSend_1 9 rfl rfl)
theorem dX2_canSend_32 : decode cX2_canSend 32 = .ok (.aload_n 0, 1) := dk_42 (dk_at dksX2_canSend_1 10 rfl rfl)
theorem dX2_canSend_33 : decode cX2_canSend 33 = .ok (.iload_n 1, 1) := dk_27 (dk_at dksX2_canSend_1 11 rfl rfl)
theorem dX2_canSend_34 : decode cX2_canSend 34 = .ok (.bipush 6, 2) := dk_16 6 (dk_at dksX2_canSend_1 12 rfl rfl)
theorem dX2_canSend_36 : decode cX2_canSend 36 = .ok (.invokevirtual 304, 3) := dk_182 1 48 (dk_at dksX2_canSend_1 14 rfl rfl)
theorem dX2_canSend_39 : decode cX2_canSend 39 = .ok (.if_icmp .lt 42, 3) := dk_161 0 42 (dk_at dksX2_canSend_1 17 rfl rfl)
theorem dX2_canSend_42 : decode cX2_canSend 42 = .ok (.aload_n 0, 1) := dk_42 (dk_at dksX2_canSend_1 20 rfl rfl)
theorem dX2_canSend_43 : decode cX2_canSend 43 = .ok (.getfield 7, 3) := dk_180 0 7 (dk_at dksX2_canSend_1 21 rfl rfl)
theorem dX2_canSend_46 : decode cX2_canSend 46 = .ok (.bipush 110, 2) := dk_16 110 (dk_at dksX2_canSend_2 0 rfl rfl)
theorem dX2_canSend_48 : decode cX2_canSend 48 = .ok (.aload_n 0, 1) := dk_42 (dk_at dksX2_canSend_2 2 rfl rfl)
theorem dX2_canSend_49 : decode cX2_canSend 49 = .ok (.iload_n 1, 1) := dk_27 (dk_at dksX2_canSend_2 3 rfl rfl)
theorem dX2_canSend_50 : decode cX2_canSend 50 = .ok (.iconst 2, 1) := dk_5 (dk_at dksX2_canSend_2 4 rfl rfl)
theorem dX2_canSend_51 : decode cX2_canSend 51 = .ok (.invokevirtual 304, 3) := dk_182 1 48 (dk_at dksX2_canSend_2 5 rfl rfl)
theorem dX2_canSend_54 : decode cX2_canSend 54 = .ok (.iadd, 1) := dk_96 (dk_at dksX2_canSend_2 8 rfl rfl)
theorem dX2_canSend_55 : decode cX2_canSend 55 = .ok (.iaload, 1) := dk_46 (dk_at dksX2_canSend_2 9 rfl rfl)
theorem dX2_canSend_56 : decode cX2_canSend 56 = .ok (.iload_n 2, 1) := dk_28 (dk_at dksX2_canSend_2 10 rfl rfl)
theorem dX2_canSend_57 : decode cX2_canSend 57 = .ok (.invokestatic 77, 3) := dk_184 0 77 (dk_at dksX2_canSend_2 11 rfl rfl)
theorem dX2_canSend_60 : decode cX2_canSend 60 = .ok (.ifCond .eq 21, 3) := dk_153 0 21 (dk_at dksX2_canSend_2 14 rfl rfl)
theorem dX2_canSend_63 : decode cX2_canSend 63 = .ok (.aload_n 0, 1) := dk_42 (dk_at dksX2_canSend_2 17 rfl rfl)
theorem dX2_canSend_64 : decode cX2_canSend 64 = .ok (.aload_n 0, 1) := dk_42 (dk_at dksX2_canSend_2 18 rfl rfl)
theorem dX2_canSend_65 : decode cX2_canSend 65 = .ok (.iload_n 1, 1) := dk_27 (dk_at dksX2_canSend_2 19 rfl rfl)
theorem dX2_canSend_66 : decode cX2_canSend 66 = .ok (.iconst 1, 1) := dk_4 (dk_at dksX2_canSend_2 20 rfl rfl)
theorem dX2_canSend_67 : decode cX2_canSend 67 = .ok (.invokevirtual 304, 3) := dk_182 1 48 (dk_at dksX2_canSend_2 21 rfl rfl)
theorem dX2_canSend_70 : decode cX2_canSend 70 = .ok (.iload_n 2, 1) := dk_28 (dk_at dksX2_canSend_3 0 rfl rfl)
theorem dX2_canSend_71 : decode cX2_canSend 71 = .ok (.invokevirtual 350, 3) := dk_182 1 94 (dk_at dksX2_canSend_3 1 rfl rfl)
theorem dX2_canSend_74 : decode cX2_canSend 74 = .ok (.ifCond .eq 7, 3) := dk_153 0 7 (dk_at dksX2_canSend_3 4 rfl rfl)
theorem dX2_canSend_77 : decode cX2_canSend 77 = .ok (.iconst 1, 1) := dk_4 (dk_at dksX2_canSend_3 7 rfl rfl)
theorem dX2_canSend_78 : decode cX2_canSend 78 = .ok (.goto 4, 3) := dk_167 0 4 (dk_at dksX2_canSend_3 8 rfl rfl)
theorem dX2_canSend_81 : decode cX2_canSend 81 = .ok (.iconst 0, 1) := dk_3 (dk_at dksX2_canSend_3 11 rfl rfl)
theorem dX2_canSend_82 : decode cX2_canSend 82 = .ok (.ireturn, 1) := dk_172 (dk_at dksX2_canSend_3 12 rfl rfl)
abbrev cX2_isApology : ByteArray := prog_20_method_8_code
def yX2_isApology : MethodName := ⟨RX2, "isApology", "(I)Z"⟩
def dkwX2_isApology_0 : List UInt8 := [27, 3, 42, 180, 0, 7, 16, 8, 46, 4, 100, 184, 0, 69, 172]
abbrev dktX2_isApology_0 : List UInt8 := dkwX2_isApology_0 ++ []
theorem dksX2_isApology_0 : cX2_isApology.data.toList.drop 0 = dktX2_isApology_0 := by decide +kernel
theorem dX2_isApology_0 : decode cX2_isApology 0 = .ok (.iload_n 1, 1) := dk_27 (dk_at dksX2_isApology_0 0 rfl rfl)
theorem dX2_isApology_1 : decode cX2_isApology 1 = .ok (.iconst 0, 1) := dk_3 (dk_at dksX2_isApology_0 1 rfl rfl)
theorem dX2_isApology_2 : decode cX2_isApology 2 = .ok (.aload_n 0, 1) := dk_42 (dk_at dksX2_isApology_0 2 rfl rfl)
theorem dX2_isApology_3 : decode cX2_isApology 3 = .ok (.getfield 7, 3) := dk_180 0 7 (dk_at dksX2_isApology_0 3 rfl rfl)
theorem dX2_isApology_6 : decode cX2_isApology 6 = .ok (.bipush 8, 2) := dk_16 8 (dk_at dksX2_isApology_0 6 rfl rfl)
theorem dX2_isApology_8 : decode cX2_isApology 8 = .ok (.iaload, 1) := dk_46 (dk_at dksX2_isApology_0 8 rfl rfl)
theorem dX2_isApology_9 : decode cX2_isApology 9 = .ok (.iconst 1, 1) := dk_4 (dk_at dksX2_isApology_0 9 rfl rfl)
theorem dX2_isApology_10 : decode cX2_isApology 10 = .ok (.isub, 1) := dk_100 (dk_at dksX2_isApology_0 10 rfl rfl)
theorem dX2_isApology_11 : decode cX2_isApology 11 = .ok (.invokestatic 69, 3) := dk_184 0 69 (dk_at dksX2_isApology_0 11 rfl rfl)
theorem dX2_isApology_14 : decode cX2_isApology 14 = .ok (.ireturn, 1) := dk_172 (dk_at dksX2_isApology_0 14 rfl rfl)
abbrev cX2_get : ByteArray := prog_20_method_9_code
def yX2_get : MethodName := ⟨RX2, "get", "(II)I"⟩
def dkwX2_get_0 : List UInt8 := [42, 180, 0, 7, 16, 20, 16, 7, 27, 104, 96, 28, 96, 46, 172]
abbrev dktX2_get_0 : List UInt8 := dkwX2_get_0 ++ []
theorem dksX2_get_0 : cX2_get.data.toList.drop 0 = dktX2_get_0 := by decide +kernel
theorem dX2_get_0 : decode cX2_get 0 = .ok (.aload_n 0, 1) := dk_42 (dk_at dksX2_get_0 0 rfl rfl)
theorem dX2_get_1 : decode cX2_get 1 = .ok (.getfield 7, 3) := dk_180 0 7 (dk_at dksX2_get_0 1 rfl rfl)
theorem dX2_get_4 : decode cX2_get 4 = .ok (.bipush 20, 2) := dk_16 20 (dk_at dksX2_get_0 4 rfl rfl)
theorem dX2_get_6 : decode cX2_get 6 = .ok (.bipush 7, 2) := dk_16 7 (dk_at dksX2_get_0 6 rfl rfl)
theorem dX2_get_8 : decode cX2_get 8 = .ok (.iload_n 1, 1) := dk_27 (dk_at dksX2_get_0 8 rfl rfl)
theorem dX2_get_9 : decode cX2_get 9 = .ok (.imul, 1) := dk_104 (dk_at dksX2_get_0 9 rfl rfl)
theorem dX2_get_10 : decode cX2_get 10 = .ok (.iadd, 1) := dk_96 (dk_at dksX2_get_0 10 rfl rfl)
theorem dX2_get_11 : decode cX2_get 11 = .ok (.iload_n 2, 1) := dk_28 (dk_at dksX2_get_0 11 rfl rfl)
theorem dX2_get_12 : decode cX2_get 12 = .ok (.iadd, 1) := dk_96 (dk_at dksX2_get_0 12 rfl rfl)
theorem dX2_get_13 : decode cX2_get 13 = .ok (.iaload, 1) := dk_46 (dk_at dksX2_get_0 13 rfl rfl)
theorem dX2_get_14 : decode cX2_get 14 = .ok (.ireturn, 1) := dk_172 (dk_at dksX2_get_0 14 rfl rfl)
abbrev cX2_day : ByteArray := prog_20_method_88_code
def yX2_day : MethodName := ⟨RX2, "day", "(I)I"⟩
def dkwX2_day_1 : List UInt8 := [163, 0, 18, 42, 27, 182, 1, 115, 153, 0, 10, 42, 180, 1, 76, 167, 0, 4, 2, 172]
abbrev dktX2_day_1 : List UInt8 := dkwX2_day_1 ++ []
def dkwX2_day_0 : List UInt8 := [27, 4, 16, 60, 184, 0, 69, 153, 0, 33, 42, 180, 0, 7, 16, 6, 46, 27, 96, 17, 39, 15]
abbrev dktX2_day_0 : List UInt8 := dkwX2_day_0 ++ dktX2_day_1
theorem dksX2_day_0 : cX2_day.data.toList.drop 0 = dktX2_day_0 := by decide +kernel
theorem dksX2_day_1 : cX2_day.data.toList.drop 22 = dktX2_day_1 := dk_seg dksX2_day_0 22 rfl rfl
theorem dX2_day_0 : decode cX2_day 0 = .ok (.iload_n 1, 1) := dk_27 (dk_at dksX2_day_0 0 rfl rfl)
theorem dX2_day_1 : decode cX2_day 1 = .ok (.iconst 1, 1) := dk_4 (dk_at dksX2_day_0 1 rfl rfl)
theorem dX2_day_2 : decode cX2_day 2 = .ok (.bipush 60, 2) := dk_16 60 (dk_at dksX2_day_0 2 rfl rfl)
theorem dX2_day_4 : decode cX2_day 4 = .ok (.invokestatic 69, 3) := dk_184 0 69 (dk_at dksX2_day_0 4 rfl rfl)
theorem dX2_day_7 : decode cX2_day 7 = .ok (.ifCond .eq 33, 3) := dk_153 0 33 (dk_at dksX2_day_0 7 rfl rfl)
theorem dX2_day_10 : decode cX2_day 10 = .ok (.aload_n 0, 1) := dk_42 (dk_at dksX2_day_0 10 rfl rfl)
theorem dX2_day_11 : decode cX2_day 11 = .ok (.getfield 7, 3) := dk_180 0 7 (dk_at dksX2_day_0 11 rfl rfl)
theorem dX2_day_14 : decode cX2_day 14 = .ok (.bipush 6, 2) := dk_16 6 (dk_at dksX2_day_0 14 rfl rfl)
theorem dX2_day_16 : decode cX2_day 16 = .ok (.iaload, 1) := dk_46 (dk_at dksX2_day_0 16 rfl rfl)
theorem dX2_day_17 : decode cX2_day 17 = .ok (.iload_n 1, 1) := dk_27 (dk_at dksX2_day_0 17 rfl rfl)
theorem dX2_day_18 : decode cX2_day 18 = .ok (.iadd, 1) := dk_96 (dk_at dksX2_day_0 18 rfl rfl)
theorem dX2_day_19 : decode cX2_day 19 = .ok (.sipush 9999, 3) := dk_17 39 15 (dk_at dksX2_day_0 19 rfl rfl)
theorem dX2_day_22 : decode cX2_day 22 = .ok (.if_icmp .gt 18, 3) := dk_163 0 18 (dk_at dksX2_day_1 0 rfl rfl)
theorem dX2_day_25 : decode cX2_day 25 = .ok (.aload_n 0, 1) := dk_42 (dk_at dksX2_day_1 3 rfl rfl)
theorem dX2_day_26 : decode cX2_day 26 = .ok (.iload_n 1, 1) := dk_27 (dk_at dksX2_day_1 4 rfl rfl)
theorem dX2_day_27 : decode cX2_day 27 = .ok (.invokevirtual 371, 3) := dk_182 1 115 (dk_at dksX2_day_1 5 rfl rfl)
theorem dX2_day_30 : decode cX2_day 30 = .ok (.ifCond .eq 10, 3) := dk_153 0 10 (dk_at dksX2_day_1 8 rfl rfl)
theorem dX2_day_33 : decode cX2_day 33 = .ok (.aload_n 0, 1) := dk_42 (dk_at dksX2_day_1 11 rfl rfl)
theorem dX2_day_34 : decode cX2_day 34 = .ok (.getfield 332, 3) := dk_180 1 76 (dk_at dksX2_day_1 12 rfl rfl)
theorem dX2_day_37 : decode cX2_day 37 = .ok (.goto 4, 3) := dk_167 0 4 (dk_at dksX2_day_1 15 rfl rfl)
theorem dX2_day_40 : decode cX2_day 40 = .ok (.iconst (-1), 1) := dk_2 (dk_at dksX2_day_1 18 rfl rfl)
theorem dX2_day_41 : decode cX2_day 41 = .ok (.ireturn, 1) := dk_172 (dk_at dksX2_day_1 19 rfl rfl)
abbrev cX2_arePassed : ByteArray := prog_20_method_87_code
def yX2_arePassed : MethodName := ⟨RX2, "arePassed", "(I)Z"⟩
def dkwX2_arePassed_1 : List UInt8 := [160, 0, 5, 3, 172, 42, 182, 1, 100, 42, 182, 1, 112, 132, 2, 1, 167, 255, 225, 4, 172]
abbrev dktX2_arePassed_1 : List UInt8 := dkwX2_arePassed_1 ++ []
def dkwX2_arePassed_0 : List UInt8 := [42, 3, 181, 1, 76, 3, 61, 28, 27, 162, 0, 32, 42, 180, 0, 7, 16, 6, 46, 17, 39, 15]
abbrev dktX2_arePassed_0 : List UInt8 := dkwX2_arePassed_0 ++ dktX2_arePassed_1
theorem dksX2_arePassed_0 : cX2_arePassed.data.toList.drop 0 = dktX2_arePassed_0 := by decide +kernel
theorem dksX2_arePassed_1 : cX2_arePassed.data.toList.drop 22 = dktX2_arePassed_1 := dk_seg dksX2_arePassed_0 22 rfl rfl
theorem dX2_arePassed_0 : decode cX2_arePassed 0 = .ok (.aload_n 0, 1) := dk_42 (dk_at dksX2_arePassed_0 0 rfl rfl)
theorem dX2_arePassed_1 : decode cX2_arePassed 1 = .ok (.iconst 0, 1) := dk_3 (dk_at dksX2_arePassed_0 1 rfl rfl)
theorem dX2_arePassed_2 : decode cX2_arePassed 2 = .ok (.putfield 332, 3) := dk_181 1 76 (dk_at dksX2_arePassed_0 2 rfl rfl)
theorem dX2_arePassed_5 : decode cX2_arePassed 5 = .ok (.iconst 0, 1) := dk_3 (dk_at dksX2_arePassed_0 5 rfl rfl)
theorem dX2_arePassed_6 : decode cX2_arePassed 6 = .ok (.istore_n 2, 1) := dk_61 (dk_at dksX2_arePassed_0 6 rfl rfl)
theorem dX2_arePassed_7 : decode cX2_arePassed 7 = .ok (.iload_n 2, 1) := dk_28 (dk_at dksX2_arePassed_0 7 rfl rfl)
theorem dX2_arePassed_8 : decode cX2_arePassed 8 = .ok (.iload_n 1, 1) := dk_27 (dk_at dksX2_arePassed_0 8 rfl rfl)
theorem dX2_arePassed_9 : decode cX2_arePassed 9 = .ok (.if_icmp .ge 32, 3) := dk_162 0 32 (dk_at dksX2_arePassed_0 9 rfl rfl)
theorem dX2_arePassed_12 : decode cX2_arePassed 12 = .ok (.aload_n 0, 1) := dk_42 (dk_at dksX2_arePassed_0 12 rfl rfl)
theorem dX2_arePassed_13 : decode cX2_arePassed 13 = .ok (.getfield 7, 3) := dk_180 0 7 (dk_at dksX2_arePassed_0 13 rfl rfl)
theorem dX2_arePassed_16 : decode cX2_arePassed 16 = .ok (.bipush 6, 2) := dk_16 6 (dk_at dksX2_arePassed_0 16 rfl rfl)
theorem dX2_arePassed_18 : decode cX2_arePassed 18 = .ok (.iaload, 1) := dk_46 (dk_at dksX2_arePassed_0 18 rfl rfl)
theorem dX2_arePassed_19 : decode cX2_arePassed 19 = .ok (.sipush 9999, 3) := dk_17 39 15 (dk_at dksX2_arePassed_0 19 rfl rfl)
theorem dX2_arePassed_22 : decode cX2_arePassed 22 = .ok (.if_icmp .ne 5, 3) := dk_160 0 5 (dk_at dksX2_arePassed_1 0 rfl rfl)
theorem dX2_arePassed_25 : decode cX2_arePassed 25 = .ok (.iconst 0, 1) := dk_3 (dk_at dksX2_arePassed_1 3 rfl rfl)
theorem dX2_arePassed_26 : decode cX2_arePassed 26 = .ok (.ireturn, 1) := dk_172 (dk_at dksX2_arePassed_1 4 rfl rfl)
theorem dX2_arePassed_27 : decode cX2_arePassed 27 = .ok (.aload_n 0, 1) := dk_42 (dk_at dksX2_arePassed_1 5 rfl rfl)
theorem dX2_arePassed_28 : decode cX2_arePassed 28 = .ok (.invokevirtual 356, 3) := dk_182 1 100 (dk_at dksX2_arePassed_1 6 rfl rfl)
theorem dX2_arePassed_31 : decode cX2_arePassed 31 = .ok (.aload_n 0, 1) := dk_42 (dk_at dksX2_arePassed_1 9 rfl rfl)
theorem dX2_arePassed_32 : decode cX2_arePassed 32 = .ok (.invokevirtual 368, 3) := dk_182 1 112 (dk_at dksX2_arePassed_1 10 rfl rfl)
theorem dX2_arePassed_35 : decode cX2_arePassed 35 = .ok (.iinc 2 1, 3) := dk_132 2 1 (dk_at dksX2_arePassed_1 13 rfl rfl)
theorem dX2_arePassed_38 : decode cX2_arePassed 38 = .ok (.goto (-31), 3) := dk_167 255 225 (dk_at dksX2_arePassed_1 16 rfl rfl)
theorem dX2_arePassed_41 : decode cX2_arePassed 41 = .ok (.iconst 1, 1) := dk_4 (dk_at dksX2_arePassed_1 19 rfl rfl)
theorem dX2_arePassed_42 : decode cX2_arePassed 42 = .ok (.ireturn, 1) := dk_172 (dk_at dksX2_arePassed_1 20 rfl rfl)
abbrev cX2_pass : ByteArray := prog_20_method_78_code
def yX2_pass : MethodName := ⟨RX2, "pass", "()V"⟩
def dkwX2_pass_8 : List UInt8 := [167, 255, 167, 42, 180, 0, 7, 16, 6, 92, 46, 4, 96, 79, 177]
abbrev dktX2_pass_8 : List UInt8 := dkwX2_pass_8 ++ []
def dkwX2_pass_7 : List UInt8 := [42, 28, 5, 182, 1, 48, 160, 0, 9, 42, 27, 28, 182, 1, 91, 132, 2, 1, 167, 255, 188, 132, 1, 1]
abbrev dktX2_pass_7 : List UInt8 := dkwX2_pass_7 ++ dktX2_pass_8
def dkwX2_pass_6 : List UInt8 := [154, 0, 39, 42, 27, 4, 182, 1, 48, 42, 28, 4, 182, 1, 48, 160, 0, 24, 42, 27, 5, 182, 1, 48]
abbrev dktX2_pass_6 : List UInt8 := dkwX2_pass_6 ++ dktX2_pass_7
def dkwX2_pass_5 : List UInt8 := [180, 0, 7, 16, 8, 46, 162, 0, 63, 42, 27, 7, 182, 1, 48, 154, 0, 48, 42, 28, 7, 182, 1, 48]
abbrev dktX2_pass_5 : List UInt8 := dkwX2_pass_5 ++ dktX2_pass_6
def dkwX2_pass_4 : List UInt8 := [167, 255, 166, 3, 60, 27, 42, 180, 0, 7, 16, 8, 46, 162, 0, 84, 27, 4, 96, 61, 28, 42]
abbrev dktX2_pass_4 : List UInt8 := dkwX2_pass_4 ++ dktX2_pass_5
def dkwX2_pass_3 : List UInt8 := [182, 1, 48, 154, 0, 11, 42, 27, 182, 1, 85, 167, 0, 8, 42, 27, 182, 1, 88, 132, 1, 1]
abbrev dktX2_pass_3 : List UInt8 := dkwX2_pass_3 ++ dktX2_pass_4
def dkwX2_pass_2 : List UInt8 := [180, 0, 7, 16, 10, 42, 27, 5, 182, 1, 48, 96, 46, 162, 0, 6, 167, 0, 25, 42, 27, 7]
abbrev dktX2_pass_2 : List UInt8 := dkwX2_pass_2 ++ dktX2_pass_3
def dkwX2_pass_1 : List UInt8 := [180, 0, 7, 16, 6, 46, 42, 27, 16, 6, 182, 1, 48, 161, 0, 52, 42, 180, 0, 7, 16, 6, 46, 42]
abbrev dktX2_pass_1 : List UInt8 := dkwX2_pass_1 ++ dktX2_pass_2
def dkwX2_pass_0 : List UInt8 := [3, 60, 27, 42, 180, 0, 7, 16, 8, 46, 162, 0, 85, 42, 27, 7, 182, 1, 48, 5, 159, 0, 69, 42]
abbrev dktX2_pass_0 : List UInt8 := dkwX2_pass_0 ++ dktX2_pass_1
theorem dksX2_pass_0 : cX2_pass.data.toList.drop 0 = dktX2_pass_0 := by decide +kernel
theorem dksX2_pass_1 : cX2_pass.data.toList.drop 24 = dktX2_pass_1 := dk_seg dksX2_pass_0 24 rfl rfl
theorem dksX2_pass_2 : cX2_pass.data.toList.drop 48 = dktX2_pass_2 := dk_seg dksX2_pass_1 24 rfl rfl
theorem dksX2_pass_3 : cX2_pass.data.toList.drop 70 = dktX2_pass_3 := dk_seg dksX2_pass_2 22 rfl rfl
theorem dksX2_pass_4 : cX2_pass.data.toList.drop 92 = dktX2_pass_4 := dk_seg dksX2_pass_3 22 rfl rfl
theorem dksX2_pass_5 : cX2_pass.data.toList.drop 114 = dktX2_pass_5 := dk_seg dksX2_pass_4 22 rfl rfl
theorem dksX2_pass_6 : cX2_pass.data.toList.drop 138 = dktX2_pass_6 := dk_seg dksX2_pass_5 24 rfl rfl
theorem dksX2_pass_7 : cX2_pass.data.toList.drop 162 = dktX2_pass_7 := dk_seg dksX2_pass_6 24 rfl rfl
theorem dksX2_pass_8 : cX2_pass.data.toList.drop 186 = dktX2_pass_8 := dk_seg dksX2_pass_7 24 rfl rfl
theorem dX2_pass_0 : decode cX2_pass 0 = .ok (.iconst 0, 1) := dk_3 (dk_at dksX2_pass_0 0 rfl rfl)
theorem dX2_pass_1 : decode cX2_pass 1 = .ok (.istore_n 1, 1) := dk_60 (dk_at dksX2_pass_0 1 rfl rfl)
theorem dX2_pass_2 : decode cX2_pass 2 = .ok (.iload_n 1, 1) := dk_27 (dk_at dksX2_pass_0 2 rfl rfl)
theorem dX2_pass_3 : decode cX2_pass 3 = .ok (.aload_n 0, 1) := dk_42 (dk_at dksX2_pass_0 3 rfl rfl)
theorem dX2_pass_4 : decode cX2_pass 4 = .ok (.getfield 7, 3) := dk_180 0 7 (dk_at dksX2_pass_0 4 rfl rfl)
theorem dX2_pass_7 : decode cX2_pass 7 = .ok (.bipush 8, 2) := dk_16 8 (dk_at dksX2_pass_0 7 rfl rfl)
theorem dX2_pass_9 : decode cX2_pass 9 = .ok (.iaload, 1) := dk_46 (dk_at dksX2_pass_0 9 rfl rfl)
theorem dX2_pass_10 : decode cX2_pass 10 = .ok (.if_icmp .ge 85, 3) := dk_162 0 85 (dk_at dksX2_pass_0 10 rfl rfl)
theorem dX2_pass_13 : decode cX2_pass 13 = .ok (.aload_n 0, 1) := dk_42 (dk_at dksX2_pass_0 13 rfl rfl)
theorem dX2_pass_14 : decode cX2_pass 14 = .ok (.iload_n 1, 1) := dk_27 (dk_at dksX2_pass_0 14 rfl rfl)
theorem dX2_pass_15 : decode cX2_pass 15 = .ok (.iconst 4, 1) := dk_7 (dk_at dksX2_pass_0 15 rfl rfl)
theorem dX2_pass_16 : decode cX2_pass 16 = .ok (.invokevirtual 304, 3) := dk_182 1 48 (dk_at dksX2_pass_0 16 rfl rfl)
theorem dX2_pass_19 : decode cX2_pass 19 = .ok (.iconst 2, 1) := dk_5 (dk_at dksX2_pass_0 19 rfl rfl)
theorem dX2_pass_20 : decode cX2_pass 20 = .ok (.if_icmp .eq 69, 3) := dk_159 0 69 (dk_at dksX2_pass_0 20 rfl rfl)
theorem dX2_pass_23 : decode cX2_pass 23 = .ok (.aload_n 0, 1) := dk_42 (dk_at dksX2_pass_0 23 rfl rfl)
theorem dX2_pass_24 : decode cX2_pass 24 = .ok (.getfield 7, 3) := dk_180 0 7 (dk_at dksX2_pass_1 0 rfl rfl)
theorem dX2_pass_27 : decode cX2_pass 27 = .ok (.bipush 6, 2) := dk_16 6 (dk_at dksX2_pass_1 3 rfl rfl)
theorem dX2_pass_29 : decode cX2_pass 29 = .ok (.iaload, 1) := dk_46 (dk_at dksX2_pass_1 5 rfl rfl)
theorem dX2_pass_30 : decode cX2_pass 30 = .ok (.aload_n 0, 1) := dk_42 (dk_at dksX2_pass_1 6 rfl rfl)
theorem dX2_pass_31 : decode cX2_pass 31 = .ok (.iload_n 1, 1) := dk_27 (dk_at dksX2_pass_1 7 rfl rfl)
theorem dX2_pass_32 : decode cX2_pass 32 = .ok (.bipush 6, 2) := dk_16 6 (dk_at dksX2_pass_1 8 rfl rfl)
theorem dX2_pass_34 : decode cX2_pass 34 = .ok (.invokevirtual 304, 3) := dk_182 1 48 (dk_at dksX2_pass_1 10 rfl rfl)
theorem dX2_pass_37 : decode cX2_pass 37 = .ok (.if_icmp .lt 52, 3) := dk_161 0 52 (dk_at dksX2_pass_1 13 rfl rfl)
theorem dX2_pass_40 : decode cX2_pass 40 = .ok (.aload_n 0, 1) := dk_42 (dk_at dksX2_pass_1 16 rfl rfl)
theorem dX2_pass_41 : decode cX2_pass 41 = .ok (.getfield 7, 3) := dk_180 0 7 (dk_at dksX2_pass_1 17 rfl rfl)
theorem dX2_pass_44 : decode cX2_pass 44 = .ok (.bipush 6, 2) := dk_16 6 (dk_at dksX2_pass_1 20 rfl rfl)
theorem dX2_pass_46 : decode cX2_pass 46 = .ok (.iaload, 1) := dk_46 (dk_at dksX2_pass_1 22 rfl rfl)
theorem dX2_pass_47 : decode cX2_pass 47 = .ok (.aload_n 0, 1) := dk_42 (dk_at dksX2_pass_1 23 rfl rfl)
theorem dX2_pass_48 : decode cX2_pass 48 = .ok (.getfield 7, 3) := dk_180 0 7 (dk_at dksX2_pass_2 0 rfl rfl)
theorem dX2_pass_51 : decode cX2_pass 51 = .ok (.bipush 10, 2) := dk_16 10 (dk_at dksX2_pass_2 3 rfl rfl)
theorem dX2_pass_53 : decode cX2_pass 53 = .ok (.aload_n 0, 1) := dk_42 (dk_at dksX2_pass_2 5 rfl rfl)
theorem dX2_pass_54 : decode cX2_pass 54 = .ok (.iload_n 1, 1) := dk_27 (dk_at dksX2_pass_2 6 rfl rfl)
theorem dX2_pass_55 : decode cX2_pass 55 = .ok (.iconst 2, 1) := dk_5 (dk_at dksX2_pass_2 7 rfl rfl)
theorem dX2_pass_56 : decode cX2_pass 56 = .ok (.invokevirtual 304, 3) := dk_182 1 48 (dk_at dksX2_pass_2 8 rfl rfl)
theorem dX2_pass_59 : decode cX2_pass 59 = .ok (.iadd, 1) := dk_96 (dk_at dksX2_pass_2 11 rfl rfl)
theorem dX2_pass_60 : decode cX2_pass 60 = .ok (.iaload, 1) := dk_46 (dk_at dksX2_pass_2 12 rfl rfl)
theorem dX2_pass_61 : decode cX2_pass 61 = .ok (.if_icmp .ge 6, 3) := dk_162 0 6 (dk_at dksX2_pass_2 13 rfl rfl)
theorem dX2_pass_64 : decode cX2_pass 64 = .ok (.goto 25, 3) := dk_167 0 25 (dk_at dksX2_pass_2 16 rfl rfl)
theorem dX2_pass_67 : decode cX2_pass 67 = .ok (.aload_n 0, 1) := dk_42 (dk_at dksX2_pass_2 19 rfl rfl)
theorem dX2_pass_68 : decode cX2_pass 68 = .ok (.iload_n 1, 1) := dk_27 (dk_at dksX2_pass_2 20 rfl rfl)
theorem dX2_pass_69 : decode cX2_pass 69 = .ok (.iconst 4, 1) := dk_7 (dk_at dksX2_pass_2 21 rfl rfl)
theorem dX2_pass_70 : decode cX2_pass 70 = .ok (.invokevirtual 304, 3) := dk_182 1 48 (dk_at dksX2_pass_3 0 rfl rfl)
theorem dX2_pass_73 : decode cX2_pass 73 = .ok (.ifCond .ne 11, 3) := dk_154 0 11 (dk_at dksX2_pass_3 3 rfl rfl)
theorem dX2_pass_76 : decode cX2_pass 76 = .ok (.aload_n 0, 1) := dk_42 (dk_at dksX2_pass_3 6 rfl rfl)
theorem dX2_pass_77 : decode cX2_pass 77 = .ok (.iload_n 1, 1) := dk_27 (dk_at dksX2_pass_3 7 rfl rfl)
theorem dX2_pass_78 : decode cX2_pass 78 = .ok (.invokevirtual 341, 3) := dk_182 1 85 (dk_at dksX2_pass_3 8 rfl rfl)
theorem dX2_pass_81 : decode cX2_pass 81 = .ok (.goto 8, 3) := dk_167 0 8 (dk_at dksX2_pass_3 11 rfl rfl)
theorem dX2_pass_84 : decode cX2_pass 84 = .ok (.aload_n 0, 1) := dk_42 (dk_at dksX2_pass_3 14 rfl rfl)
theorem dX2_pass_85 : decode cX2_pass 85 = .ok (.iload_n 1, 1) := dk_27 (dk_at dksX2_pass_3 15 rfl rfl)
theorem dX2_pass_86 : decode cX2_pass 86 = .ok (.invokevirtual 344, 3) := dk_182 1 88 (dk_at dksX2_pass_3 16 rfl rfl)
theorem dX2_pass_89 : decode cX2_pass 89 = .ok (.iinc 1 1, 3) := dk_132 1 1 (dk_at dksX2_pass_3 19 rfl rfl)
theorem dX2_pass_92 : decode cX2_pass 92 = .ok (.goto (-90), 3) := dk_167 255 166 (dk_at dksX2_pass_4 0 rfl rfl)
theorem dX2_pass_95 : decode cX2_pass 95 = .ok (.iconst 0, 1) := dk_3 (dk_at dksX2_pass_4 3 rfl rfl)
theorem dX2_pass_96 : decode cX2_pass 96 = .ok (.istore_n 1, 1) := dk_60 (dk_at dksX2_pass_4 4 rfl rfl)
theorem dX2_pass_97 : decode cX2_pass 97 = .ok (.iload_n 1, 1) := dk_27 (dk_at dksX2_pass_4 5 rfl rfl)
theorem dX2_pass_98 : decode cX2_pass 98 = .ok (.aload_n 0, 1) := dk_42 (dk_at dksX2_pass_4 6 rfl rfl)
theorem dX2_pass_99 : decode cX2_pass 99 = .ok (.getfield 7, 3) := dk_180 0 7 (dk_at dksX2_pass_4 7 rfl rfl)
theorem dX2_pass_102 : decode cX2_pass 102 = .ok (.bipush 8, 2) := dk_16 8 (dk_at dksX2_pass_4 10 rfl rfl)
theorem dX2_pass_104 : decode cX2_pass 104 = .ok (.iaload, 1) := dk_46 (dk_at dksX2_pass_4 12 rfl rfl)
theorem dX2_pass_105 : decode cX2_pass 105 = .ok (.if_icmp .ge 84, 3) := dk_162 0 84 (dk_at dksX2_pass_4 13 rfl rfl)
theorem dX2_pass_108 : decode cX2_pass 108 = .ok (.iload_n 1, 1) := dk_27 (dk_at dksX2_pass_4 16 rfl rfl)
theorem dX2_pass_109 : decode cX2_pass 109 = .ok (.iconst 1, 1) := dk_4 (dk_at dksX2_pass_4 17 rfl rfl)
theorem dX2_pass_110 : decode cX2_pass 110 = .ok (.iadd, 1) := dk_96 (dk_at dksX2_pass_4 18 rfl rfl)
theorem dX2_pass_111 : decode cX2_pass 111 = .ok (.istore_n 2, 1) := dk_61 (dk_at dksX2_pass_4 19 rfl rfl)
theorem dX2_pass_112 : decode cX2_pass 112 = .ok (.iload_n 2, 1) := dk_28 (dk_at dksX2_pass_4 20 rfl rfl)
theorem dX2_pass_113 : decode cX2_pass 113 = .ok (.aload_n 0, 1) := dk_42 (dk_at dksX2_pass_4 21 rfl rfl)
theorem dX2_pass_114 : decode cX2_pass 114 = .ok (.getfield 7, 3) := dk_180 0 7 (dk_at dksX2_pass_5 0 rfl rfl)
theorem dX2_pass_117 : decode cX2_pass 117 = .ok (.bipush 8, 2) := dk_16 8 (dk_at dksX2_pass_5 3 rfl rfl)
theorem dX2_pass_119 : decode cX2_pass 119 = .ok (.iaload, 1) := dk_46 (dk_at dksX2_pass_5 5 rfl rfl)
theorem dX2_pass_120 : decode cX2_pass 120 = .ok (.if_icmp .ge 63, 3) := dk_162 0 63 (dk_at dksX2_pass_5 6 rfl rfl)
theorem dX2_pass_123 : decode cX2_pass 123 = .ok (.aload_n 0, 1) := dk_42 (dk_at dksX2_pass_5 9 rfl rfl)
theorem dX2_pass_124 : decode cX2_pass 124 = .ok (.iload_n 1, 1) := dk_27 (dk_at dksX2_pass_5 10 rfl rfl)
theorem dX2_pass_125 : decode cX2_pass 125 = .ok (.iconst 4, 1) := dk_7 (dk_at dksX2_pass_5 11 rfl rfl)
theorem dX2_pass_126 : decode cX2_pass 126 = .ok (.invokevirtual 304, 3) := dk_182 1 48 (dk_at dksX2_pass_5 12 rfl rfl)
theorem dX2_pass_129 : decode cX2_pass 129 = .ok (.ifCond .ne 48, 3) := dk_154 0 48 (dk_at dksX2_pass_5 15 rfl rfl)
theorem dX2_pass_132 : decode cX2_pass 132 = .ok (.aload_n 0, 1) := dk_42 (dk_at dksX2_pass_5 18 rfl rfl)
theorem dX2_pass_133 : decode cX2_pass 133 = .ok (.iload_n 2, 1) := dk_28 (dk_at dksX2_pass_5 19 rfl rfl)
theorem dX2_pass_134 : decode cX2_pass 134 = .ok (.iconst 4, 1) := dk_7 (dk_at dksX2_pass_5 20 rfl rfl)
theorem dX2_pass_135 : decode cX2_pass 135 = .ok (.invokevirtual 304, 3) := dk_182 1 48 (dk_at dksX2_pass_5 21 rfl rfl)
theorem dX2_pass_138 : decode cX2_pass 138 = .ok (.ifCond .ne 39, 3) := dk_154 0 39 (dk_at dksX2_pass_6 0 rfl rfl)
theorem dX2_pass_141 : decode cX2_pass 141 = .ok (.aload_n 0, 1) := dk_42 (dk_at dksX2_pass_6 3 rfl rfl)
theorem dX2_pass_142 : decode cX2_pass 142 = .ok (.iload_n 1, 1) := dk_27 (dk_at dksX2_pass_6 4 rfl rfl)
theorem dX2_pass_143 : decode cX2_pass 143 = .ok (.iconst 1, 1) := dk_4 (dk_at dksX2_pass_6 5 rfl rfl)
theorem dX2_pass_144 : decode cX2_pass 144 = .ok (.invokevirtual 304, 3) := dk_182 1 48 (dk_at dksX2_pass_6 6 rfl rfl)
theorem dX2_pass_147 : decode cX2_pass 147 = .ok (.aload_n 0, 1) := dk_42 (dk_at dksX2_pass_6 9 rfl rfl)
theorem dX2_pass_148 : decode cX2_pass 148 = .ok (.iload_n 2, 1) := dk_28 (dk_at dksX2_pass_6 10 rfl rfl)
theorem dX2_pass_149 : decode cX2_pass 149 = .ok (.iconst 1, 1) := dk_4 (dk_at dksX2_pass_6 11 rfl rfl)
theorem dX2_pass_150 : decode cX2_pass 150 = .ok (.invokevirtual 304, 3) := dk_182 1 48 (dk_at dksX2_pass_6 12 rfl rfl)
theorem dX2_pass_153 : decode cX2_pass 153 = .ok (.if_icmp .ne 24, 3) := dk_160 0 24 (dk_at dksX2_pass_6 15 rfl rfl)
theorem dX2_pass_156 : decode cX2_pass 156 = .ok (.aload_n 0, 1) := dk_42 (dk_at dksX2_pass_6 18 rfl rfl)
theorem dX2_pass_157 : decode cX2_pass 157 = .ok (.iload_n 1, 1) := dk_27 (dk_at dksX2_pass_6 19 rfl rfl)
theorem dX2_pass_158 : decode cX2_pass 158 = .ok (.iconst 2, 1) := dk_5 (dk_at dksX2_pass_6 20 rfl rfl)
theorem dX2_pass_159 : decode cX2_pass 159 = .ok (.invokevirtual 304, 3) := dk_182 1 48 (dk_at dksX2_pass_6 21 rfl rfl)
theorem dX2_pass_162 : decode cX2_pass 162 = .ok (.aload_n 0, 1) := dk_42 (dk_at dksX2_pass_7 0 rfl rfl)
theorem dX2_pass_163 : decode cX2_pass 163 = .ok (.iload_n 2, 1) := dk_28 (dk_at dksX2_pass_7 1 rfl rfl)
theorem dX2_pass_164 : decode cX2_pass 164 = .ok (.iconst 2, 1) := dk_5 (dk_at dksX2_pass_7 2 rfl rfl)
theorem dX2_pass_165 : decode cX2_pass 165 = .ok (.invokevirtual 304, 3) := dk_182 1 48 (dk_at dksX2_pass_7 3 rfl rfl)
theorem dX2_pass_168 : decode cX2_pass 168 = .ok (.if_icmp .ne 9, 3) := dk_160 0 9 (dk_at dksX2_pass_7 6 rfl rfl)
theorem dX2_pass_171 : decode cX2_pass 171 = .ok (.aload_n 0, 1) := dk_42 (dk_at dksX2_pass_7 9 rfl rfl)
theorem dX2_pass_172 : decode cX2_pass 172 = .ok (.iload_n 1, 1) := dk_27 (dk_at dksX2_pass_7 10 rfl rfl)
theorem dX2_pass_173 : decode cX2_pass 173 = .ok (.iload_n 2, 1) := dk_28 (dk_at dksX2_pass_7 11 rfl rfl)
theorem dX2_pass_174 : decode cX2_pass 174 = .ok (.invokevirtual 347, 3) := dk_182 1 91 (dk_at dksX2_pass_7 12 rfl rfl)
theorem dX2_pass_177 : decode cX2_pass 177 = .ok (.iinc 2 1, 3) := dk_132 2 1 (dk_at dksX2_pass_7 15 rfl rfl)
theorem dX2_pass_180 : decode cX2_pass 180 = .ok (.goto (-68), 3) := dk_167 255 188 (dk_at dksX2_pass_7 18 rfl rfl)
theorem dX2_pass_183 : decode cX2_pass 183 = .ok (.iinc 1 1, 3) := dk_132 1 1 (dk_at dksX2_pass_7 21 rfl rfl)
theorem dX2_pass_186 : decode cX2_pass 186 = .ok (.goto (-89), 3) := dk_167 255 167 (dk_at dksX2_pass_8 0 rfl rfl)
theorem dX2_pass_189 : decode cX2_pass 189 = .ok (.aload_n 0, 1) := dk_42 (dk_at dksX2_pass_8 3 rfl rfl)
theorem dX2_pass_190 : decode cX2_pass 190 = .ok (.getfield 7, 3) := dk_180 0 7 (dk_at dksX2_pass_8 4 rfl rfl)
theorem dX2_pass_193 : decode cX2_pass 193 = .ok (.bipush 6, 2) := dk_16 6 (dk_at dksX2_pass_8 7 rfl rfl)
theorem dX2_pass_195 : decode cX2_pass 195 = .ok (.dup2, 1) := dk_92 (dk_at dksX2_pass_8 9 rfl rfl)
theorem dX2_pass_196 : decode cX2_pass 196 = .ok (.iaload, 1) := dk_46 (dk_at dksX2_pass_8 10 rfl rfl)
theorem dX2_pass_197 : decode cX2_pass 197 = .ok (.iconst 1, 1) := dk_4 (dk_at dksX2_pass_8 11 rfl rfl)
theorem dX2_pass_198 : decode cX2_pass 198 = .ok (.iadd, 1) := dk_96 (dk_at dksX2_pass_8 12 rfl rfl)
theorem dX2_pass_199 : decode cX2_pass 199 = .ok (.iastore, 1) := dk_79 (dk_at dksX2_pass_8 13 rfl rfl)
theorem dX2_pass_200 : decode cX2_pass 200 = .ok (.return_, 1) := dk_177 (dk_at dksX2_pass_8 14 rfl rfl)
abbrev cX2_goUp : ByteArray := prog_20_method_74_code
def yX2_goUp : MethodName := ⟨RX2, "goUp", "(I)V"⟩
def dkwX2_goUp_8 : List UInt8 := [4, 182, 1, 73, 177]
abbrev dktX2_goUp_8 : List UInt8 := dkwX2_goUp_8 ++ []
def dkwX2_goUp_7 : List UInt8 := [3, 17, 39, 15, 184, 1, 33, 182, 1, 63, 42, 27, 5, 42, 27, 3, 182, 1, 48, 182, 1, 63, 42, 27]
abbrev dktX2_goUp_7 : List UInt8 := dkwX2_goUp_7 ++ dktX2_goUp_8
def dkwX2_goUp_6 : List UInt8 := [120, 128, 181, 1, 70, 42, 27, 3, 182, 1, 73, 177, 42, 27, 6, 5, 42, 27, 6, 182, 1, 48, 104, 133]
abbrev dktX2_goUp_6 : List UInt8 := dkwX2_goUp_6 ++ dktX2_goUp_7
def dkwX2_goUp_5 : List UInt8 := [3, 62, 42, 182, 1, 67, 29, 153, 0, 29, 42, 27, 7, 4, 182, 1, 63, 42, 89, 180, 1, 70, 4, 27]
abbrev dktX2_goUp_5 : List UInt8 := dkwX2_goUp_5 ++ dktX2_goUp_6
def dkwX2_goUp_4 : List UInt8 := [16, 10, 42, 180, 0, 7, 16, 100, 28, 96, 46, 100, 16, 10, 182, 1, 37, 162, 0, 7, 4, 167, 0, 4]
abbrev dktX2_goUp_4 : List UInt8 := dkwX2_goUp_4 ++ dktX2_goUp_5
def dkwX2_goUp_3 : List UInt8 := [42, 27, 28, 182, 1, 60, 42, 180, 0, 7, 16, 7, 46, 16, 10, 112, 42, 42, 180, 0, 7, 5, 46, 4]
abbrev dktX2_goUp_3 : List UInt8 := dkwX2_goUp_3 ++ dktX2_goUp_4
def dkwX2_goUp_2 : List UInt8 := [184, 1, 33, 182, 1, 63, 42, 27, 5, 28, 182, 1, 63, 28, 42, 27, 4, 182, 1, 48, 159, 0, 4, 177]
abbrev dktX2_goUp_2 : List UInt8 := dkwX2_goUp_2 ++ dktX2_goUp_3
def dkwX2_goUp_1 : List UInt8 := [42, 27, 6, 182, 1, 48, 42, 42, 180, 0, 7, 5, 46, 182, 1, 45, 96, 133, 3, 17, 39, 15]
abbrev dktX2_goUp_1 : List UInt8 := dkwX2_goUp_1 ++ dktX2_goUp_2
def dkwX2_goUp_0 : List UInt8 := [42, 180, 0, 7, 16, 90, 42, 27, 5, 182, 1, 48, 96, 46, 61, 42, 27, 28, 182, 1, 60, 42, 27, 6]
abbrev dktX2_goUp_0 : List UInt8 := dkwX2_goUp_0 ++ dktX2_goUp_1
theorem dksX2_goUp_0 : cX2_goUp.data.toList.drop 0 = dktX2_goUp_0 := by decide +kernel
theorem dksX2_goUp_1 : cX2_goUp.data.toList.drop 24 = dktX2_goUp_1 := dk_seg dksX2_goUp_0 24 rfl rfl
theorem dksX2_goUp_2 : cX2_goUp.data.toList.drop 46 = dktX2_goUp_2 := dk_seg dksX2_goUp_1 22 rfl rfl
theorem dksX2_goUp_3 : cX2_goUp.data.toList.drop 70 = dktX2_goUp_3 := dk_seg dksX2_goUp_2 24 rfl rfl
theorem dksX2_goUp_4 : cX2_goUp.data.toList.drop 94 = dktX2_goUp_4 := dk_seg dksX2_goUp_3 24 rfl rfl
theorem dksX2_goUp_5 : cX2_goUp.data.toList.drop 118 = dktX2_goUp_5 := dk_seg dksX2_goUp_4 24 rfl rfl
theorem dksX2_goUp_6 : cX2_goUp.data.toList.drop 142 = dktX2_goUp_6 := dk_seg dksX2_goUp_5 24 rfl rfl
theorem dksX2_goUp_7 : cX2_goUp.data.toList.drop 166 = dktX2_goUp_7 := dk_seg dksX2_goUp_6 24 rfl rfl
theorem dksX2_goUp_8 : cX2_goUp.data.toList.drop 190 = dktX2_goUp_8 := dk_seg dksX2_goUp_7 24 rfl rfl
theorem dX2_goUp_0 : decode cX2_goUp 0 = .ok (.aload_n 0, 1) := dk_42 (dk_at dksX2_goUp_0 0 rfl rfl)
theorem dX2_goUp_1 : decode cX2_goUp 1 = .ok (.getfield 7, 3) := dk_180 0 7 (dk_at dksX2_goUp_0 1 rfl rfl)
theorem dX2_goUp_4 : decode cX2_goUp 4 = .ok (.bipush 90, 2) := dk_16 90 (dk_at dksX2_goUp_0 4 rfl rfl)
theorem dX2_goUp_6 : decode cX2_goUp 6 = .ok (.aload_n 0, 1) := dk_42 (dk_at dksX2_goUp_0 6 rfl rfl)
theorem dX2_goUp_7 : decode cX2_goUp 7 = .ok (.iload_n 1, 1) := dk_27 (dk_at dksX2_goUp_0 7 rfl rfl)
theorem dX2_goUp_8 : decode cX2_goUp 8 = .ok (.iconst 2, 1) := dk_5 (dk_at dksX2_goUp_0 8 rfl rfl)
theorem dX2_goUp_9 : decode cX2_goUp 9 = .ok (.invokevirtual 304, 3) := dk_182 1 48 (dk_at dksX2_goUp_0 9 rfl rfl)
theorem dX2_goUp_12 : decode cX2_goUp 12 = .ok (.iadd, 1) := dk_96 (dk_at dksX2_goUp_0 12 rfl rfl)
theorem dX2_goUp_13 : decode cX2_goUp 13 = .ok (.iaload, 1) := dk_46 (dk_at dksX2_goUp_0 13 rfl rfl)
theorem dX2_goUp_14 : decode cX2_goUp 14 = .ok (.istore_n 2, 1) := dk_61 (dk_at dksX2_goUp_0 14 rfl rfl)
theorem dX2_goUp_15 : decode cX2_goUp 15 = .ok (.aload_n 0, 1) := dk_42 (dk_at dksX2_goUp_0 15 rfl rfl)
theorem dX2_goUp_16 : decode cX2_goUp 16 = .ok (.iload_n 1, 1) := dk_27 (dk_at dksX2_goUp_0 16 rfl rfl)
theorem dX2_goUp_17 : decode cX2_goUp 17 = .ok (.iload_n 2, 1) := dk_28 (dk_at dksX2_goUp_0 17 rfl rfl)
theorem dX2_goUp_18 : decode cX2_goUp 18 = .ok (.invokevirtual 316, 3) := dk_182 1 60 (dk_at dksX2_goUp_0 18 rfl rfl)
theorem dX2_goUp_21 : decode cX2_goUp 21 = .ok (.aload_n 0, 1) := dk_42 (dk_at dksX2_goUp_0 21 rfl rfl)
theorem dX2_goUp_22 : decode cX2_goUp 22 = .ok (.iload_n 1, 1) := dk_27 (dk_at dksX2_goUp_0 22 rfl rfl)
theorem dX2_goUp_23 : decode cX2_goUp 23 = .ok (.iconst 3, 1) := dk_6 (dk_at dksX2_goUp_0 23 rfl rfl)
theorem dX2_goUp_24 : decode cX2_goUp 24 = .ok (.aload_n 0, 1) := dk_42 (dk_at dksX2_goUp_1 0 rfl rfl)
theorem dX2_goUp_25 : decode cX2_goUp 25 = .ok (.iload_n 1, 1) := dk_27 (dk_at dksX2_goUp_1 1 rfl rfl)
theorem dX2_goUp_26 : decode cX2_goUp 26 = .ok (.iconst 3, 1) := dk_6 (dk_at dksX2_goUp_1 2 rfl rfl)
theorem dX2_goUp_27 : decode cX2_goUp 27 = .ok (.invokevirtual 304, 3) := dk_182 1 48 (dk_at dksX2_goUp_1 3 rfl rfl)
theorem dX2_goUp_30 : decode cX2_goUp 30 = .ok (.aload_n 0, 1) := dk_42 (dk_at dksX2_goUp_1 6 rfl rfl)
theorem dX2_goUp_31 : decode cX2_goUp 31 = .ok (.aload_n 0, 1) := dk_42 (dk_at dksX2_goUp_1 7 rfl rfl)
theorem dX2_goUp_32 : decode cX2_goUp 32 = .ok (.getfield 7, 3) := dk_180 0 7 (dk_at dksX2_goUp_1 8 rfl rfl)
theorem dX2_goUp_35 : decode cX2_goUp 35 = .ok (.iconst 2, 1) := dk_5 (dk_at dksX2_goUp_1 11 rfl rfl)
theorem dX2_goUp_36 : decode cX2_goUp 36 = .ok (.iaload, 1) := dk_46 (dk_at dksX2_goUp_1 12 rfl rfl)
theorem dX2_goUp_37 : decode cX2_goUp 37 = .ok (.invokevirtual 301, 3) := dk_182 1 45 (dk_at dksX2_goUp_1 13 rfl rfl)
theorem dX2_goUp_40 : decode cX2_goUp 40 = .ok (.iadd, 1) := dk_96 (dk_at dksX2_goUp_1 16 rfl rfl)
theorem dX2_goUp_41 : decode cX2_goUp 41 = .ok (.i2l, 1) := dk_133 (dk_at dksX2_goUp_1 17 rfl rfl)
theorem dX2_goUp_42 : decode cX2_goUp 42 = .ok (.iconst 0, 1) := dk_3 (dk_at dksX2_goUp_1 18 rfl rfl)
theorem dX2_goUp_43 : decode cX2_goUp 43 = .ok (.sipush 9999, 3) := dk_17 39 15 (dk_at dksX2_goUp_1 19 rfl rfl)
theorem dX2_goUp_46 : decode cX2_goUp 46 = .ok (.invokestatic 289, 3) := dk_184 1 33 (dk_at dksX2_goUp_2 0 rfl rfl)
theorem dX2_goUp_49 : decode cX2_goUp 49 = .ok (.invokevirtual 319, 3) := dk_182 1 63 (dk_at dksX2_goUp_2 3 rfl rfl)
theorem dX2_goUp_52 : decode cX2_goUp 52 = .ok (.aload_n 0, 1) := dk_42 (dk_at dksX2_goUp_2 6 rfl rfl)
theorem dX2_goUp_53 : decode cX2_goUp 53 = .ok (.iload_n 1, 1) := dk_27 (dk_at dksX2_goUp_2 7 rfl rfl)
theorem dX2_goUp_54 : decode cX2_goUp 54 = .ok (.iconst 2, 1) := dk_5 (dk_at dksX2_goUp_2 8 rfl rfl)
theorem dX2_goUp_55 : decode cX2_goUp 55 = .ok (.iload_n 2, 1) := dk_28 (dk_at dksX2_goUp_2 9 rfl rfl)
theorem dX2_goUp_56 : decode cX2_goUp 56 = .ok (.invokevirtual 319, 3) := dk_182 1 63 (dk_at dksX2_goUp_2 10 rfl rfl)
theorem dX2_goUp_59 : decode cX2_goUp 59 = .ok (.iload_n 2, 1) := dk_28 (dk_at dksX2_goUp_2 13 rfl rfl)
theorem dX2_goUp_60 : decode cX2_goUp 60 = .ok (.aload_n 0, 1) := dk_42 (dk_at dksX2_goUp_2 14 rfl rfl)
theorem dX2_goUp_61 : decode cX2_goUp 61 = .ok (.iload_n 1, 1) := dk_27 (dk_at dksX2_goUp_2 15 rfl rfl)
theorem dX2_goUp_62 : decode cX2_goUp 62 = .ok (.iconst 1, 1) := dk_4 (dk_at dksX2_goUp_2 16 rfl rfl)
theorem dX2_goUp_63 : decode cX2_goUp 63 = .ok (.invokevirtual 304, 3) := dk_182 1 48 (dk_at dksX2_goUp_2 17 rfl rfl)
theorem dX2_goUp_66 : decode cX2_goUp 66 = .ok (.if_icmp .eq 4, 3) := dk_159 0 4 (dk_at dksX2_goUp_2 20 rfl rfl)
theorem dX2_goUp_69 : decode cX2_goUp 69 = .ok (.return_, 1) := dk_177 (dk_at dksX2_goUp_2 23 rfl rfl)
theorem dX2_goUp_70 : decode cX2_goUp 70 = .ok (.aload_n 0, 1) := dk_42 (dk_at dksX2_goUp_3 0 rfl rfl)
theorem dX2_goUp_71 : decode cX2_goUp 71 = .ok (.iload_n 1, 1) := dk_27 (dk_at dksX2_goUp_3 1 rfl rfl)
theorem dX2_goUp_72 : decode cX2_goUp 72 = .ok (.iload_n 2, 1) := dk_28 (dk_at dksX2_goUp_3 2 rfl rfl)
theorem dX2_goUp_73 : decode cX2_goUp 73 = .ok (.invokevirtual 316, 3) := dk_182 1 60 (dk_at dksX2_goUp_3 3 rfl rfl)
theorem dX2_goUp_76 : decode cX2_goUp 76 = .ok (.aload_n 0, 1) := dk_42 (dk_at dksX2_goUp_3 6 rfl rfl)
theorem dX2_goUp_77 : decode cX2_goUp 77 = .ok (.getfield 7, 3) := dk_180 0 7 (dk_at dksX2_goUp_3 7 rfl rfl)
theorem dX2_goUp_80 : decode cX2_goUp 80 = .ok (.bipush 7, 2) := dk_16 7 (dk_at dksX2_goUp_3 10 rfl rfl)
theorem dX2_goUp_82 : decode cX2_goUp 82 = .ok (.iaload, 1) := dk_46 (dk_at dksX2_goUp_3 12 rfl rfl)
theorem dX2_goUp_83 : decode cX2_goUp 83 = .ok (.bipush 10, 2) := dk_16 10 (dk_at dksX2_goUp_3 13 rfl rfl)
theorem dX2_goUp_85 : decode cX2_goUp 85 = .ok (.irem, 1) := dk_112 (dk_at dksX2_goUp_3 15 rfl rfl)
theorem dX2_goUp_86 : decode cX2_goUp 86 = .ok (.aload_n 0, 1) := dk_42 (dk_at dksX2_goUp_3 16 rfl rfl)
theorem dX2_goUp_87 : decode cX2_goUp 87 = .ok (.aload_n 0, 1) := dk_42 (dk_at dksX2_goUp_3 17 rfl rfl)
theorem dX2_goUp_88 : decode cX2_goUp 88 = .ok (.getfield 7, 3) := dk_180 0 7 (dk_at dksX2_goUp_3 18 rfl rfl)
theorem dX2_goUp_91 : decode cX2_goUp 91 = .ok (.iconst 2, 1) := dk_5 (dk_at dksX2_goUp_3 21 rfl rfl)
theorem dX2_goUp_92 : decode cX2_goUp 92 = .ok (.iaload, 1) := dk_46 (dk_at dksX2_goUp_3 22 rfl rfl)
theorem dX2_goUp_93 : decode cX2_goUp 93 = .ok (.iconst 1, 1) := dk_4 (dk_at dksX2_goUp_3 23 rfl rfl)
theorem dX2_goUp_94 : decode cX2_goUp 94 = .ok (.bipush 10, 2) := dk_16 10 (dk_at dksX2_goUp_4 0 rfl rfl)
theorem dX2_goUp_96 : decode cX2_goUp 96 = .ok (.aload_n 0, 1) := dk_42 (dk_at dksX2_goUp_4 2 rfl rfl)
theorem dX2_goUp_97 : decode cX2_goUp 97 = .ok (.getfield 7, 3) := dk_180 0 7 (dk_at dksX2_goUp_4 3 rfl rfl)
theorem dX2_goUp_100 : decode cX2_goUp 100 = .ok (.bipush 100, 2) := dk_16 100 (dk_at dksX2_goUp_4 6 rfl rfl)
theorem dX2_goUp_102 : decode cX2_goUp 102 = .ok (.iload_n 2, 1) := dk_28 (dk_at dksX2_goUp_4 8 rfl rfl)
theorem dX2_goUp_103 : decode cX2_goUp 103 = .ok (.iadd, 1) := dk_96 (dk_at dksX2_goUp_4 9 rfl rfl)
theorem dX2_goUp_104 : decode cX2_goUp 104 = .ok (.iaload, 1) := dk_46 (dk_at dksX2_goUp_4 10 rfl rfl)
theorem dX2_goUp_105 : decode cX2_goUp 105 = .ok (.isub, 1) := dk_100 (dk_at dksX2_goUp_4 11 rfl rfl)
theorem dX2_goUp_106 : decode cX2_goUp 106 = .ok (.bipush 10, 2) := dk_16 10 (dk_at dksX2_goUp_4 12 rfl rfl)
theorem dX2_goUp_108 : decode cX2_goUp 108 = .ok (.invokevirtual 293, 3) := dk_182 1 37 (dk_at dksX2_goUp_4 14 rfl rfl)
theorem dX2_goUp_111 : decode cX2_goUp 111 = .ok (.if_icmp .ge 7, 3) := dk_162 0 7 (dk_at dksX2_goUp_4 17 rfl rfl)
theorem dX2_goUp_114 : decode cX2_goUp 114 = .ok (.iconst 1, 1) := dk_4 (dk_at dksX2_goUp_4 20 rfl rfl)
theorem dX2_goUp_115 : decode cX2_goUp 115 = .ok (.goto 4, 3) := dk_167 0 4 (dk_at dksX2_goUp_4 21 rfl rfl)
theorem dX2_goUp_118 : decode cX2_goUp 118 = .ok (.iconst 0, 1) := dk_3 (dk_at dksX2_goUp_5 0 rfl rfl)
theorem dX2_goUp_119 : decode cX2_goUp 119 = .ok (.istore_n 3, 1) := dk_62 (dk_at dksX2_goUp_5 1 rfl rfl)
theorem dX2_goUp_120 : decode cX2_goUp 120 = .ok (.aload_n 0, 1) := dk_42 (dk_at dksX2_goUp_5 2 rfl rfl)
theorem dX2_goUp_121 : decode cX2_goUp 121 = .ok (.invokevirtual 323, 3) := dk_182 1 67 (dk_at dksX2_goUp_5 3 rfl rfl)
theorem dX2_goUp_124 : decode cX2_goUp 124 = .ok (.iload_n 3, 1) := dk_29 (dk_at dksX2_goUp_5 6 rfl rfl)
theorem dX2_goUp_125 : decode cX2_goUp 125 = .ok (.ifCond .eq 29, 3) := dk_153 0 29 (dk_at dksX2_goUp_5 7 rfl rfl)
theorem dX2_goUp_128 : decode cX2_goUp 128 = .ok (.aload_n 0, 1) := dk_42 (dk_at dksX2_goUp_5 10 rfl rfl)
theorem dX2_goUp_129 : decode cX2_goUp 129 = .ok (.iload_n 1, 1) := dk_27 (dk_at dksX2_goUp_5 11 rfl rfl)
theorem dX2_goUp_130 : decode cX2_goUp 130 = .ok (.iconst 4, 1) := dk_7 (dk_at dksX2_goUp_5 12 rfl rfl)
theorem dX2_goUp_131 : decode cX2_goUp 131 = .ok (.iconst 1, 1) := dk_4 (dk_at dksX2_goUp_5 13 rfl rfl)
theorem dX2_goUp_132 : decode cX2_goUp 132 = .ok (.invokevirtual 319, 3) := dk_182 1 63 (dk_at dksX2_goUp_5 14 rfl rfl)
theorem dX2_goUp_135 : decode cX2_goUp 135 = .ok (.aload_n 0, 1) := dk_42 (dk_at dksX2_goUp_5 17 rfl rfl)
theorem dX2_goUp_136 : decode cX2_goUp 136 = .ok (.dup, 1) := dk_89 (dk_at dksX2_goUp_5 18 rfl rfl)
theorem dX2_goUp_137 : decode cX2_goUp 137 = .ok (.getfield 326, 3) := dk_180 1 70 (dk_at dksX2_goUp_5 19 rfl rfl)
theorem dX2_goUp_140 : decode cX2_goUp 140 = .ok (.iconst 1, 1) := dk_4 (dk_at dksX2_goUp_5 22 rfl rfl)
theorem dX2_goUp_141 : decode cX2_goUp 141 = .ok (.iload_n 1, 1) := dk_27 (dk_at dksX2_goUp_5 23 rfl rfl)
theorem dX2_goUp_142 : decode cX2_goUp 142 = .ok (.ishl, 1) := dk_120 (dk_at dksX2_goUp_6 0 rfl rfl)
theorem dX2_goUp_143 : decode cX2_goUp 143 = .ok (.ior, 1) := dk_128 (dk_at dksX2_goUp_6 1 rfl rfl)
theorem dX2_goUp_144 : decode cX2_goUp 144 = .ok (.putfield 326, 3) := dk_181 1 70 (dk_at dksX2_goUp_6 2 rfl rfl)
theorem dX2_goUp_147 : decode cX2_goUp 147 = .ok (.aload_n 0, 1) := dk_42 (dk_at dksX2_goUp_6 5 rfl rfl)
theorem dX2_goUp_148 : decode cX2_goUp 148 = .ok (.iload_n 1, 1) := dk_27 (dk_at dksX2_goUp_6 6 rfl rfl)
theorem dX2_goUp_149 : decode cX2_goUp 149 = .ok (.iconst 0, 1) := dk_3 (dk_at dksX2_goUp_6 7 rfl rfl)
theorem dX2_goUp_150 : decode cX2_goUp 150 = .ok (.invokevirtual 329, 3) := dk_182 1 73 (dk_at dksX2_goUp_6 8 rfl rfl)
theorem dX2_goUp_153 : decode cX2_goUp 153 = .ok (.return_, 1) := dk_177 (dk_at dksX2_goUp_6 11 rfl rfl)
theorem dX2_goUp_154 : decode cX2_goUp 154 = .ok (.aload_n 0, 1) := dk_42 (dk_at dksX2_goUp_6 12 rfl rfl)
theorem dX2_goUp_155 : decode cX2_goUp 155 = .ok (.iload_n 1, 1) := dk_27 (dk_at dksX2_goUp_6 13 rfl rfl)
theorem dX2_goUp_156 : decode cX2_goUp 156 = .ok (.iconst 3, 1) := dk_6 (dk_at dksX2_goUp_6 14 rfl rfl)
theorem dX2_goUp_157 : decode cX2_goUp 157 = .ok (.iconst 2, 1) := dk_5 (dk_at dksX2_goUp_6 15 rfl rfl)
theorem dX2_goUp_158 : decode cX2_goUp 158 = .ok (.aload_n 0, 1) := dk_42 (dk_at dksX2_goUp_6 16 rfl rfl)
theorem dX2_goUp_159 : decode cX2_goUp 159 = .ok (.iload_n 1, 1) := dk_27 (dk_at dksX2_goUp_6 17 rfl rfl)
theorem dX2_goUp_160 : decode cX2_goUp 160 = .ok (.iconst 3, 1) := dk_6 (dk_at dksX2_goUp_6 18 rfl rfl)
theorem dX2_goUp_161 : decode cX2_goUp 161 = .ok (.invokevirtual 304, 3) := dk_182 1 48 (dk_at dksX2_goUp_6 19 rfl rfl)
theorem dX2_goUp_164 : decode cX2_goUp 164 = .ok (.imul, 1) := dk_104 (dk_at dksX2_goUp_6 22 rfl rfl)
theorem dX2_goUp_165 : decode cX2_goUp 165 = .ok (.i2l, 1) := dk_133 (dk_at dksX2_goUp_6 23 rfl rfl)
theorem dX2_goUp_166 : decode cX2_goUp 166 = .ok (.iconst 0, 1) := dk_3 (dk_at dksX2_goUp_7 0 rfl rfl)
theorem dX2_goUp_167 : decode cX2_goUp 167 = .ok (.sipush 9999, 3) := dk_17 39 15 (dk_at dksX2_goUp_7 1 rfl rfl)
theorem dX2_goUp_170 : decode cX2_goUp 170 = .ok (.invokestatic 289, 3) := dk_184 1 33 (dk_at dksX2_goUp_7 4 rfl rfl)
theorem dX2_goUp_173 : decode cX2_goUp 173 = .ok (.invokevirtual 319, 3) := dk_182 1 63 (dk_at dksX2_goUp_7 7 rfl rfl)
theorem dX2_goUp_176 : decode cX2_goUp 176 = .ok (.aload_n 0, 1) := dk_42 (dk_at dksX2_goUp_7 10 rfl rfl)
theorem dX2_goUp_177 : decode cX2_goUp 177 = .ok (.iload_n 1, 1) := dk_27 (dk_at dksX2_goUp_7 11 rfl rfl)
theorem dX2_goUp_178 : decode cX2_goUp 178 = .ok (.iconst 2, 1) := dk_5 (dk_at dksX2_goUp_7 12 rfl rfl)
theorem dX2_goUp_179 : decode cX2_goUp 179 = .ok (.aload_n 0, 1) := dk_42 (dk_at dksX2_goUp_7 13 rfl rfl)
theorem dX2_goUp_180 : decode cX2_goUp 180 = .ok (.iload_n 1, 1) := dk_27 (dk_at dksX2_goUp_7 14 rfl rfl)
theorem dX2_goUp_181 : decode cX2_goUp 181 = .ok (.iconst 0, 1) := dk_3 (dk_at dksX2_goUp_7 15 rfl rfl)
theorem dX2_goUp_182 : decode cX2_goUp 182 = .ok (.invokevirtual 304, 3) := dk_182 1 48 (dk_at dksX2_goUp_7 16 rfl rfl)
theorem dX2_goUp_185 : decode cX2_goUp 185 = .ok (.invokevirtual 319, 3) := dk_182 1 63 (dk_at dksX2_goUp_7 19 rfl rfl)
theorem dX2_goUp_188 : decode cX2_goUp 188 = .ok (.aload_n 0, 1) := dk_42 (dk_at dksX2_goUp_7 22 rfl rfl)
theorem dX2_goUp_189 : decode cX2_goUp 189 = .ok (.iload_n 1, 1) := dk_27 (dk_at dksX2_goUp_7 23 rfl rfl)
theorem dX2_goUp_190 : decode cX2_goUp 190 = .ok (.iconst 1, 1) := dk_4 (dk_at dksX2_goUp_8 0 rfl rfl)
theorem dX2_goUp_191 : decode cX2_goUp 191 = .ok (.invokevirtual 329, 3) := dk_182 1 73 (dk_at dksX2_goUp_8 1 rfl rfl)
theorem dX2_goUp_194 : decode cX2_goUp 194 = .ok (.return_, 1) := dk_177 (dk_at dksX2_goUp_8 4 rfl rfl)
abbrev cX2_nameApology : ByteArray := prog_20_method_71_code
def yX2_nameApology : MethodName := ⟨RX2, "nameApology", "(II)V"⟩
def dkwX2_nameApology_2 : List UInt8 := [16, 8, 42, 28, 27, 182, 1, 51, 79, 177]
abbrev dktX2_nameApology_2 : List UInt8 := dkwX2_nameApology_2 ++ []
def dkwX2_nameApology_1 : List UInt8 := [180, 0, 32, 16, 7, 42, 180, 0, 7, 16, 6, 46, 42, 27, 8, 182, 1, 48, 100, 79, 42, 180, 0, 32]
abbrev dktX2_nameApology_1 : List UInt8 := dkwX2_nameApology_1 ++ dktX2_nameApology_2
def dkwX2_nameApology_0 : List UInt8 := [42, 28, 42, 27, 6, 182, 1, 48, 42, 27, 3, 182, 1, 48, 42, 27, 4, 182, 1, 48, 182, 1, 41, 42]
abbrev dktX2_nameApology_0 : List UInt8 := dkwX2_nameApology_0 ++ dktX2_nameApology_1
theorem dksX2_nameApology_0 : cX2_nameApology.data.toList.drop 0 = dktX2_nameApology_0 := by decide +kernel
theorem dksX2_nameApology_1 : cX2_nameApology.data.toList.drop 24 = dktX2_nameApology_1 := dk_seg dksX2_nameApology_0 24 rfl rfl
theorem dksX2_nameApology_2 : cX2_nameApology.data.toList.drop 48 = dktX2_nameApology_2 := dk_seg dksX2_nameApology_1 24 rfl rfl
theorem dX2_nameApology_0 : decode cX2_nameApology 0 = .ok (.aload_n 0, 1) := dk_42 (dk_at dksX2_nameApology_0 0 rfl rfl)
theorem dX2_nameApology_1 : decode cX2_nameApology 1 = .ok (.iload_n 2, 1) := dk_28 (dk_at dksX2_nameApology_0 1 rfl rfl)
theorem dX2_nameApology_2 : decode cX2_nameApology 2 = .ok (.aload_n 0, 1) := dk_42 (dk_at dksX2_nameApology_0 2 rfl rfl)
theorem dX2_nameApology_3 : decode cX2_nameApology 3 = .ok (.iload_n 1, 1) := dk_27 (dk_at dksX2_nameApology_0 3 rfl rfl)
theorem dX2_nameApology_4 : decode cX2_nameApology 4 = .ok (.iconst 3, 1) := dk_6 (dk_at dksX2_nameApology_0 4 rfl rfl)
theorem dX2_nameApology_5 : decode cX2_nameApology 5 = .ok (.invokevirtual 304, 3) := dk_182 1 48 (dk_at dksX2_nameApology_0 5 rfl rfl)
theorem dX2_nameApology_8 : decode cX2_nameApology 8 = .ok (.aload_n 0, 1) := dk_42 (dk_at dksX2_nameApology_0 8 rfl rfl)
theorem dX2_nameApology_9 : decode cX2_nameApology 9 = .ok (.iload_n 1, 1) := dk_27 (dk_at dksX2_nameApology_0 9 rfl rfl)
theorem dX2_nameApology_10 : decode cX2_nameApology 10 = .ok (.iconst 0, 1) := dk_3 (dk_at dksX2_nameApology_0 10 rfl rfl)
theorem dX2_nameApology_11 : decode cX2_nameApology 11 = .ok (.invokevirtual 304, 3) := dk_182 1 48 (dk_at dksX2_nameApology_0 11 rfl rfl)
theorem dX2_nameApology_14 : decode cX2_nameApology 14 = .ok (.aload_n 0, 1) := dk_42 (dk_at dksX2_nameApology_0 14 rfl rfl)
theorem dX2_nameApology_15 : decode cX2_nameApology 15 = .ok (.iload_n 1, 1) := dk_27 (dk_at dksX2_nameApology_0 15 rfl rfl)
theorem dX2_nameApology_16 : decode cX2_nameApology 16 = .ok (.iconst 1, 1) := dk_4 (dk_at dksX2_nameApology_0 16 rfl rfl)
theorem dX2_nameApology_17 : decode cX2_nameApology 17 = .ok (.invokevirtual 304, 3) := dk_182 1 48 (dk_at dksX2_nameApology_0 17 rfl rfl)
theorem dX2_nameApology_20 : decode cX2_nameApology 20 = .ok (.invokevirtual 297, 3) := dk_182 1 41 (dk_at dksX2_nameApology_0 20 rfl rfl)
theorem dX2_nameApology_23 : decode cX2_nameApology 23 = .ok (.aload_n 0, 1) := dk_42 (dk_at dksX2_nameApology_0 23 rfl rfl)
theorem dX2_nameApology_24 : decode cX2_nameApology 24 = .ok (.getfield 32, 3) := dk_180 0 32 (dk_at dksX2_nameApology_1 0 rfl rfl)
theorem dX2_nameApology_27 : decode cX2_nameApology 27 = .ok (.bipush 7, 2) := dk_16 7 (dk_at dksX2_nameApology_1 3 rfl rfl)
theorem dX2_nameApology_29 : decode cX2_nameApology 29 = .ok (.aload_n 0, 1) := dk_42 (dk_at dksX2_nameApology_1 5 rfl rfl)
theorem dX2_nameApology_30 : decode cX2_nameApology 30 = .ok (.getfield 7, 3) := dk_180 0 7 (dk_at dksX2_nameApology_1 6 rfl rfl)
theorem dX2_nameApology_33 : decode cX2_nameApology 33 = .ok (.bipush 6, 2) := dk_16 6 (dk_at dksX2_nameApology_1 9 rfl rfl)
theorem dX2_nameApology_35 : decode cX2_nameApology 35 = .ok (.iaload, 1) := dk_46 (dk_at dksX2_nameApology_1 11 rfl rfl)
theorem dX2_nameApology_36 : decode cX2_nameApology 36 = .ok (.aload_n 0, 1) := dk_42 (dk_at dksX2_nameApology_1 12 rfl rfl)
theorem dX2_nameApology_37 : decode cX2_nameApology 37 = .ok (.iload_n 1, 1) := dk_27 (dk_at dksX2_nameApology_1 13 rfl rfl)
theorem dX2_nameApology_38 : decode cX2_nameApology 38 = .ok (.iconst 5, 1) := dk_8 (dk_at dksX2_nameApology_1 14 rfl rfl)
theorem dX2_nameApology_39 : decode cX2_nameApology 39 = .ok (.invokevirtual 304, 3) := dk_182 1 48 (dk_at dksX2_nameApology_1 15 rfl rfl)
theorem dX2_nameApology_42 : decode cX2_nameApology 42 = .ok (.isub, 1) := dk_100 (dk_at dksX2_nameApology_1 18 rfl rfl)
theorem dX2_nameApology_43 : decode cX2_nameApology 43 = .ok (.iastore, 1) := dk_79 (dk_at dksX2_nameApology_1 19 rfl rfl)
theorem dX2_nameApology_44 : decode cX2_nameApology 44 = .ok (.aload_n 0, 1) := dk_42 (dk_at dksX2_nameApology_1 20 rfl rfl)
theorem dX2_nameApology_45 : decode cX2_nameApology 45 = .ok (.getfield 32, 3) := dk_180 0 32 (dk_at dksX2_nameApology_1 21 rfl rfl)
theorem dX2_nameApology_48 : decode cX2_nameApology 48 = .ok (.bipush 8, 2) := dk_16 8 (dk_at dksX2_nameApology_2 0 rfl rfl)
theorem dX2_nameApology_50 : decode cX2_nameApology 50 = .ok (.aload_n 0, 1) := dk_42 (dk_at dksX2_nameApology_2 2 rfl rfl)
theorem dX2_nameApology_51 : decode cX2_nameApology 51 = .ok (.iload_n 2, 1) := dk_28 (dk_at dksX2_nameApology_2 3 rfl rfl)
theorem dX2_nameApology_52 : decode cX2_nameApology 52 = .ok (.iload_n 1, 1) := dk_27 (dk_at dksX2_nameApology_2 4 rfl rfl)
theorem dX2_nameApology_53 : decode cX2_nameApology 53 = .ok (.invokevirtual 307, 3) := dk_182 1 51 (dk_at dksX2_nameApology_2 5 rfl rfl)
theorem dX2_nameApology_56 : decode cX2_nameApology 56 = .ok (.iastore, 1) := dk_79 (dk_at dksX2_nameApology_2 8 rfl rfl)
theorem dX2_nameApology_57 : decode cX2_nameApology 57 = .ok (.return_, 1) := dk_177 (dk_at dksX2_nameApology_2 9 rfl rfl)
abbrev cX2_name : ByteArray := prog_20_method_67_code
def yX2_name : MethodName := ⟨RX2, "name", "(IIII)V"⟩
def dkwX2_name_3 : List UInt8 := [180, 0, 32, 16, 7, 3, 79, 42, 180, 0, 32, 16, 8, 3, 79, 177]
abbrev dktX2_name_3 : List UInt8 := dkwX2_name_3 ++ []
def dkwX2_name_2 : List UInt8 := [27, 182, 1, 6, 79, 42, 180, 0, 32, 8, 29, 79, 42, 180, 0, 32, 16, 6, 21, 4, 79, 42]
abbrev dktX2_name_2 : List UInt8 := dkwX2_name_2 ++ dktX2_name_3
def dkwX2_name_1 : List UInt8 := [5, 27, 79, 42, 180, 0, 32, 6, 42, 180, 0, 7, 16, 100, 27, 96, 46, 79, 42, 180, 0, 32, 7, 42]
abbrev dktX2_name_1 : List UInt8 := dkwX2_name_1 ++ dktX2_name_2
def dkwX2_name_0 : List UInt8 := [42, 180, 0, 32, 3, 42, 180, 0, 7, 16, 6, 46, 79, 42, 180, 0, 32, 4, 28, 79, 42, 180, 0, 32]
abbrev dktX2_name_0 : List UInt8 := dkwX2_name_0 ++ dktX2_name_1
theorem dksX2_name_0 : cX2_name.data.toList.drop 0 = dktX2_name_0 := by decide +kernel
theorem dksX2_name_1 : cX2_name.data.toList.drop 24 = dktX2_name_1 := dk_seg dksX2_name_0 24 rfl rfl
theorem dksX2_name_2 : cX2_name.data.toList.drop 48 = dktX2_name_2 := dk_seg dksX2_name_1 24 rfl rfl
theorem dksX2_name_3 : cX2_name.data.toList.drop 70 = dktX2_name_3 := dk_seg dksX2_name_2 22 rfl rfl
theorem dX2_name_0 : decode cX2_name 0 = .ok (.aload_n 0, 1) := dk_42 (dk_at dksX2_name_0 0 rfl rfl)
theorem dX2_name_1 : decode cX2_name 1 = .ok (.getfield 32, 3) := dk_180 0 32 (dk_at dksX2_name_0 1 rfl rfl)
theorem dX2_name_4 : decode cX2_name 4 = .ok (.iconst 0, 1) := dk_3 (dk_at dksX2_name_0 4 rfl rfl)
theorem dX2_name_5 : decode cX2_name 5 = .ok (.aload_n 0, 1) := dk_42 (dk_at dksX2_name_0 5 rfl rfl)
theorem dX2_name_6 : decode cX2_name 6 = .ok (.getfield 7, 3) := dk_180 0 7 (dk_at dksX2_name_0 6 rfl rfl)
theorem dX2_name_9 : decode cX2_name 9 = .ok (.bipush 6, 2) := dk_16 6 (dk_at dksX2_name_0 9 rfl rfl)
theorem dX2_name_11 : decode cX2_name 11 = .ok (.iaload, 1) := dk_46 (dk_at dksX2_name_0 11 rfl rfl)
theorem dX2_name_12 : decode cX2_name 12 = .ok (.iastore, 1) := dk_79 (dk_at dksX2_name_0 12 rfl rfl)
theorem dX2_name_13 : decode cX2_name 13 = .ok (.aload_n 0, 1) := dk_42 (dk_at dksX2_name_0 13 rfl rfl)
theorem dX2_name_14 : decode cX2_name 14 = .ok (.getfield 32, 3) := dk_180 0 32 (dk_at dksX2_name_0 14 rfl rfl)
theorem dX2_name_17 : decode cX2_name 17 = .ok (.iconst 1, 1) := dk_4 (dk_at dksX2_name_0 17 rfl rfl)
theorem dX2_name_18 : decode cX2_name 18 = .ok (.iload_n 2, 1) := dk_28 (dk_at dksX2_name_0 18 rfl rfl)
theorem dX2_name_19 : decode cX2_name 19 = .ok (.iastore, 1) := dk_79 (dk_at dksX2_name_0 19 rfl rfl)
theorem dX2_name_20 : decode cX2_name 20 = .ok (.aload_n 0, 1) := dk_42 (dk_at dksX2_name_0 20 rfl rfl)
theorem dX2_name_21 : decode cX2_name 21 = .ok (.getfield 32, 3) := dk_180 0 32 (dk_at dksX2_name_0 21 rfl rfl)
theorem dX2_name_24 : decode cX2_name 24 = .ok (.iconst 2, 1) := dk_5 (dk_at dksX2_name_1 0 rfl rfl)
theorem dX2_name_25 : decode cX2_name 25 = .ok (.iload_n 1, 1) := dk_27 (dk_at dksX2_name_1 1 rfl rfl)
theorem dX2_name_26 : decode cX2_name 26 = .ok (.iastore, 1) := dk_79 (dk_at dksX2_name_1 2 rfl rfl)
theorem dX2_name_27 : decode cX2_name 27 = .ok (.aload_n 0, 1) := dk_42 (dk_at dksX2_name_1 3 rfl rfl)
theorem dX2_name_28 : decode cX2_name 28 = .ok (.getfield 32, 3) := dk_180 0 32 (dk_at dksX2_name_1 4 rfl rfl)
theorem dX2_name_31 : decode cX2_name 31 = .ok (.iconst 3, 1) := dk_6 (dk_at dksX2_name_1 7 rfl rfl)
theorem dX2_name_32 : decode cX2_name 32 = .ok (.aload_n 0, 1) := dk_42 (dk_at dksX2_name_1 8 rfl rfl)
theorem dX2_name_33 : decode cX2_name 33 = .ok (.getfield 7, 3) := dk_180 0 7 (dk_at dksX2_name_1 9 rfl rfl)
theorem dX2_name_36 : decode cX2_name 36 = .ok (.bipush 100, 2) := dk_16 100 (dk_at dksX2_name_1 12 rfl rfl)
theorem dX2_name_38 : decode cX2_name 38 = .ok (.iload_n 1, 1) := dk_27 (dk_at dksX2_name_1 14 rfl rfl)
theorem dX2_name_39 : decode cX2_name 39 = .ok (.iadd, 1) := dk_96 (dk_at dksX2_name_1 15 rfl rfl)
theorem dX2_name_40 : decode cX2_name 40 = .ok (.iaload, 1) := dk_46 (dk_at dksX2_name_1 16 rfl rfl)
theorem dX2_name_41 : decode cX2_name 41 = .ok (.iastore, 1) := dk_79 (dk_at dksX2_name_1 17 rfl rfl)
theorem dX2_name_42 : decode cX2_name 42 = .ok (.aload_n 0, 1) := dk_42 (dk_at dksX2_name_1 18 rfl rfl)
theorem dX2_name_43 : decode cX2_name 43 = .ok (.getfield 32, 3) := dk_180 0 32 (dk_at dksX2_name_1 19 rfl rfl)
theorem dX2_name_46 : decode cX2_name 46 = .ok (.iconst 4, 1) := dk_7 (dk_at dksX2_name_1 22 rfl rfl)
theorem dX2_name_47 : decode cX2_name 47 = .ok (.aload_n 0, 1) := dk_42 (dk_at dksX2_name_1 23 rfl rfl)
theorem dX2_name_48 : decode cX2_name 48 = .ok (.iload_n 1, 1) := dk_27 (dk_at dksX2_name_2 0 rfl rfl)
theorem dX2_name_49 : decode cX2_name 49 = .ok (.invokevirtual 262, 3) := dk_182 1 6 (dk_at dksX2_name_2 1 rfl rfl)
theorem dX2_name_52 : decode cX2_name 52 = .ok (.iastore, 1) := dk_79 (dk_at dksX2_name_2 4 rfl rfl)
theorem dX2_name_53 : decode cX2_name 53 = .ok (.aload_n 0, 1) := dk_42 (dk_at dksX2_name_2 5 rfl rfl)
theorem dX2_name_54 : decode cX2_name 54 = .ok (.getfield 32, 3) := dk_180 0 32 (dk_at dksX2_name_2 6 rfl rfl)
theorem dX2_name_57 : decode cX2_name 57 = .ok (.iconst 5, 1) := dk_8 (dk_at dksX2_name_2 9 rfl rfl)
theorem dX2_name_58 : decode cX2_name 58 = .ok (.iload_n 3, 1) := dk_29 (dk_at dksX2_name_2 10 rfl rfl)
theorem dX2_name_59 : decode cX2_name 59 = .ok (.iastore, 1) := dk_79 (dk_at dksX2_name_2 11 rfl rfl)
theorem dX2_name_60 : decode cX2_name 60 = .ok (.aload_n 0, 1) := dk_42 (dk_at dksX2_name_2 12 rfl rfl)
theorem dX2_name_61 : decode cX2_name 61 = .ok (.getfield 32, 3) := dk_180 0 32 (dk_at dksX2_name_2 13 rfl rfl)
theorem dX2_name_64 : decode cX2_name 64 = .ok (.bipush 6, 2) := dk_16 6 (dk_at dksX2_name_2 16 rfl rfl)
theorem dX2_name_66 : decode cX2_name 66 = .ok (.iload 4, 2) := dk_21 4 (dk_at dksX2_name_2 18 rfl rfl)
theorem dX2_name_68 : decode cX2_name 68 = .ok (.iastore, 1) := dk_79 (dk_at dksX2_name_2 20 rfl rfl)
theorem dX2_name_69 : decode cX2_name 69 = .ok (.aload_n 0, 1) := dk_42 (dk_at dksX2_name_2 21 rfl rfl)
theorem dX2_name_70 : decode cX2_name 70 = .ok (.getfield 32, 3) := dk_180 0 32 (dk_at dksX2_name_3 0 rfl rfl)
theorem dX2_name_73 : decode cX2_name 73 = .ok (.bipush 7, 2) := dk_16 7 (dk_at dksX2_name_3 3 rfl rfl)
theorem dX2_name_75 : decode cX2_name 75 = .ok (.iconst 0, 1) := dk_3 (dk_at dksX2_name_3 5 rfl rfl)
theorem dX2_name_76 : decode cX2_name 76 = .ok (.iastore, 1) := dk_79 (dk_at dksX2_name_3 6 rfl rfl)
theorem dX2_name_77 : decode cX2_name 77 = .ok (.aload_n 0, 1) := dk_42 (dk_at dksX2_name_3 7 rfl rfl)
theorem dX2_name_78 : decode cX2_name 78 = .ok (.getfield 32, 3) := dk_180 0 32 (dk_at dksX2_name_3 8 rfl rfl)
theorem dX2_name_81 : decode cX2_name 81 = .ok (.bipush 8, 2) := dk_16 8 (dk_at dksX2_name_3 11 rfl rfl)
theorem dX2_name_83 : decode cX2_name 83 = .ok (.iconst 0, 1) := dk_3 (dk_at dksX2_name_3 13 rfl rfl)
theorem dX2_name_84 : decode cX2_name 84 = .ok (.iastore, 1) := dk_79 (dk_at dksX2_name_3 14 rfl rfl)
theorem dX2_name_85 : decode cX2_name 85 = .ok (.return_, 1) := dk_177 (dk_at dksX2_name_3 15 rfl rfl)
abbrev cX2_rankOf : ByteArray := prog_20_method_11_code
def yX2_rankOf : MethodName := ⟨RX2, "rankOf", "(I)I"⟩
def dkwX2_rankOf_1 : List UInt8 := [16, 90, 29, 96, 46, 62, 167, 255, 238, 28, 172]
abbrev dktX2_rankOf_1 : List UInt8 := dkwX2_rankOf_1 ++ []
def dkwX2_rankOf_0 : List UInt8 := [3, 61, 42, 180, 0, 7, 16, 90, 27, 96, 46, 62, 29, 2, 159, 0, 19, 132, 2, 1, 42, 180, 0, 7]
abbrev dktX2_rankOf_0 : List UInt8 := dkwX2_rankOf_0 ++ dktX2_rankOf_1
theorem dksX2_rankOf_0 : cX2_rankOf.data.toList.drop 0 = dktX2_rankOf_0 := by decide +kernel
theorem dksX2_rankOf_1 : cX2_rankOf.data.toList.drop 24 = dktX2_rankOf_1 := dk_seg dksX2_rankOf_0 24 rfl rfl
theorem dX2_rankOf_0 : decode cX2_rankOf 0 = .ok (.iconst 0, 1) := dk_3 (dk_at dksX2_rankOf_0 0 rfl rfl)
theorem dX2_rankOf_1 : decode cX2_rankOf 1 = .ok (.istore_n 2, 1) := dk_61 (dk_at dksX2_rankOf_0 1 rfl rfl)
theorem dX2_rankOf_2 : decode cX2_rankOf 2 = .ok (.aload_n 0, 1) := dk_42 (dk_at dksX2_rankOf_0 2 rfl rfl)
theorem dX2_rankOf_3 : decode cX2_rankOf 3 = .ok (.getfield 7, 3) := dk_180 0 7 (dk_at dksX2_rankOf_0 3 rfl rfl)
theorem dX2_rankOf_6 : decode cX2_rankOf 6 = .ok (.bipush 90, 2) := dk_16 90 (dk_at dksX2_rankOf_0 6 rfl rfl)
theorem dX2_rankOf_8 : decode cX2_rankOf 8 = .ok (.iload_n 1, 1) := dk_27 (dk_at dksX2_rankOf_0 8 rfl rfl)
theorem dX2_rankOf_9 : decode cX2_rankOf 9 = .ok (.iadd, 1) := dk_96 (dk_at dksX2_rankOf_0 9 rfl rfl)
theorem dX2_rankOf_10 : decode cX2_rankOf 10 = .ok (.iaload, 1) := dk_46 (dk_at dksX2_rankOf_0 10 rfl rfl)
theorem dX2_rankOf_11 : decode cX2_rankOf 11 = .ok (.istore_n 3, 1) := dk_62 (dk_at dksX2_rankOf_0 11 rfl rfl)
theorem dX2_rankOf_12 : decode cX2_rankOf 12 = .ok (.iload_n 3, 1) := dk_29 (dk_at dksX2_rankOf_0 12 rfl rfl)
theorem dX2_rankOf_13 : decode cX2_rankOf 13 = .ok (.iconst (-1), 1) := dk_2 (dk_at dksX2_rankOf_0 13 rfl rfl)
theorem dX2_rankOf_14 : decode cX2_rankOf 14 = .ok (.if_icmp .eq 19, 3) := dk_159 0 19 (dk_at dksX2_rankOf_0 14 rfl rfl)
theorem dX2_rankOf_17 : decode cX2_rankOf 17 = .ok (.iinc 2 1, 3) := dk_132 2 1 (dk_at dksX2_rankOf_0 17 rfl rfl)
theorem dX2_rankOf_20 : decode cX2_rankOf 20 = .ok (.aload_n 0, 1) := dk_42 (dk_at dksX2_rankOf_0 20 rfl rfl)
theorem dX2_rankOf_21 : decode cX2_rankOf 21 = .ok (.getfield 7, 3) := dk_180 0 7 (dk_at dksX2_rankOf_0 21 rfl rfl)
theorem dX2_rankOf_24 : decode cX2_rankOf 24 = .ok (.bipush 90, 2) := dk_16 90 (dk_at dksX2_rankOf_1 0 rfl rfl)
theorem dX2_rankOf_26 : decode cX2_rankOf 26 = .ok (.iload_n 3, 1) := dk_29 (dk_at dksX2_rankOf_1 2 rfl rfl)
theorem dX2_rankOf_27 : decode cX2_rankOf 27 = .ok (.iadd, 1) := dk_96 (dk_at dksX2_rankOf_1 3 rfl rfl)
theorem dX2_rankOf_28 : decode cX2_rankOf 28 = .ok (.iaload, 1) := dk_46 (dk_at dksX2_rankOf_1 4 rfl rfl)
theorem dX2_rankOf_29 : decode cX2_rankOf 29 = .ok (.istore_n 3, 1) := dk_62 (dk_at dksX2_rankOf_1 5 rfl rfl)
theorem dX2_rankOf_30 : decode cX2_rankOf 30 = .ok (.goto (-18), 3) := dk_167 255 238 (dk_at dksX2_rankOf_1 6 rfl rfl)
theorem dX2_rankOf_33 : decode cX2_rankOf 33 = .ok (.iload_n 2, 1) := dk_28 (dk_at dksX2_rankOf_1 9 rfl rfl)
theorem dX2_rankOf_34 : decode cX2_rankOf 34 = .ok (.ireturn, 1) := dk_172 (dk_at dksX2_rankOf_1 10 rfl rfl)
abbrev cX2_deskOf : ByteArray := prog_20_method_70_code
def yX2_deskOf : MethodName := ⟨RX2, "deskOf", "(II)I"⟩
def dkwX2_deskOf_2 : List UInt8 := [167, 0, 4, 3, 96, 62, 132, 4, 1, 167, 255, 205, 29, 172]
abbrev dktX2_deskOf_2 : List UInt8 := dkwX2_deskOf_2 ++ []
def dkwX2_deskOf_1 : List UInt8 := [42, 21, 4, 7, 182, 1, 48, 5, 159, 0, 18, 42, 21, 4, 5, 182, 1, 48, 27, 160, 0, 7, 4]
abbrev dktX2_deskOf_1 : List UInt8 := dkwX2_deskOf_1 ++ dktX2_deskOf_2
def dkwX2_deskOf_0 : List UInt8 := [3, 62, 3, 54, 4, 21, 4, 42, 180, 0, 7, 16, 8, 46, 162, 0, 45, 29, 21, 4, 28, 159, 0, 29]
abbrev dktX2_deskOf_0 : List UInt8 := dkwX2_deskOf_0 ++ dktX2_deskOf_1
theorem dksX2_deskOf_0 : cX2_deskOf.data.toList.drop 0 = dktX2_deskOf_0 := by decide +kernel
theorem dksX2_deskOf_1 : cX2_deskOf.data.toList.drop 24 = dktX2_deskOf_1 := dk_seg dksX2_deskOf_0 24 rfl rfl
theorem dksX2_deskOf_2 : cX2_deskOf.data.toList.drop 47 = dktX2_deskOf_2 := dk_seg dksX2_deskOf_1 23 rfl rfl
theorem dX2_deskOf_0 : decode cX2_deskOf 0 = .ok (.iconst 0, 1) := dk_3 (dk_at dksX2_deskOf_0 0 rfl rfl)
theorem dX2_deskOf_1 : decode cX2_deskOf 1 = .ok (.istore_n 3, 1) := dk_62 (dk_at dksX2_deskOf_0 1 rfl rfl)
theorem dX2_deskOf_2 : decode cX2_deskOf 2 = .ok (.iconst 0, 1) := dk_3 (dk_at dksX2_deskOf_0 2 rfl rfl)
theorem dX2_deskOf_3 : decode cX2_deskOf 3 = .ok (.istore 4, 2) := dk_54 4 (dk_at dksX2_deskOf_0 3 rfl rfl)
theorem dX2_deskOf_5 : decode cX2_deskOf 5 = .ok (.iload 4, 2) := dk_21 4 (dk_at dksX2_deskOf_0 5 rfl rfl)
theorem dX2_deskOf_7 : decode cX2_deskOf 7 = .ok (.aload_n 0, 1) := dk_42 (dk_at dksX2_deskOf_0 7 rfl rfl)
theorem dX2_deskOf_8 : decode cX2_deskOf 8 = .ok (.getfield 7, 3) := dk_180 0 7 (dk_at dksX2_deskOf_0 8 rfl rfl)
theorem dX2_deskOf_11 : decode cX2_deskOf 11 = .ok (.bipush 8, 2) := dk_16 8 (dk_at dksX2_deskOf_0 11 rfl rfl)
theorem dX2_deskOf_13 : decode cX2_deskOf 13 = .ok (.iaload, 1) := dk_46 (dk_at dksX2_deskOf_0 13 rfl rfl)
theorem dX2_deskOf_14 : decode cX2_deskOf 14 = .ok (.if_icmp .ge 45, 3) := dk_162 0 45 (dk_at dksX2_deskOf_0 14 rfl rfl)
theorem dX2_deskOf_17 : decode cX2_deskOf 17 = .ok (.iload_n 3, 1) := dk_29 (dk_at dksX2_deskOf_0 17 rfl rfl)
theorem dX2_deskOf_18 : decode cX2_deskOf 18 = .ok (.iload 4, 2) := dk_21 4 (dk_at dksX2_deskOf_0 18 rfl rfl)
theorem dX2_deskOf_20 : decode cX2_deskOf 20 = .ok (.iload_n 2, 1) := dk_28 (dk_at dksX2_deskOf_0 20 rfl rfl)
theorem dX2_deskOf_21 : decode cX2_deskOf 21 = .ok (.if_icmp .eq 29, 3) := dk_159 0 29 (dk_at dksX2_deskOf_0 21 rfl rfl)
theorem dX2_deskOf_24 : decode cX2_deskOf 24 = .ok (.aload_n 0, 1) := dk_42 (dk_at dksX2_deskOf_1 0 rfl rfl)
theorem dX2_deskOf_25 : decode cX2_deskOf 25 = .ok (.iload 4, 2) := dk_21 4 (dk_at dksX2_deskOf_1 1 rfl rfl)
theorem dX2_deskOf_27 : decode cX2_deskOf 27 = .ok (.iconst 4, 1) := dk_7 (dk_at dksX2_deskOf_1 3 rfl rfl)
theorem dX2_deskOf_28 : decode cX2_deskOf 28 = .ok (.invokevirtual 304, 3) := dk_182 1 48 (dk_at dksX2_deskOf_1 4 rfl rfl)
theorem dX2_deskOf_31 : decode cX2_deskOf 31 = .ok (.iconst 2, 1) := dk_5 (dk_at dksX2_deskOf_1 7 rfl rfl)
theorem dX2_deskOf_32 : decode cX2_deskOf 32 = .ok (.if_icmp .eq 18, 3) := dk_159 0 18 (dk_at dksX2_deskOf_1 8 rfl rfl)
theorem dX2_deskOf_35 : decode cX2_deskOf 35 = .ok (.aload_n 0, 1) := dk_42 (dk_at dksX2_deskOf_1 11 rfl rfl)
theorem dX2_deskOf_36 : decode cX2_deskOf 36 = .ok (.iload 4, 2) := dk_21 4 (dk_at dksX2_deskOf_1 12 rfl rfl)
theorem dX2_deskOf_38 : decode cX2_deskOf 38 = .ok (.iconst 2, 1) := dk_5 (dk_at dksX2_deskOf_1 14 rfl rfl)
theorem dX2_deskOf_39 : decode cX2_deskOf 39 = .ok (.invokevirtual 304, 3) := dk_182 1 48 (dk_at dksX2_deskOf_1 15 rfl rfl)
theorem dX2_deskOf_42 : decode cX2_deskOf 42 = .ok (.iload_n 1, 1) := dk_27 (dk_at dksX2_deskOf_1 18 rfl rfl)
theorem dX2_deskOf_43 : decode cX2_deskOf 43 = .ok (.if_icmp .ne 7, 3) := dk_160 0 7 (dk_at dksX2_deskOf_1 19 rfl rfl)
theorem dX2_deskOf_46 : decode cX2_deskOf 46 = .ok (.iconst 1, 1) := dk_4 (dk_at dksX2_deskOf_1 22 rfl rfl)
theorem dX2_deskOf_47 : decode cX2_deskOf 47 = .ok (.goto 4, 3) := dk_167 0 4 (dk_at dksX2_deskOf_2 0 rfl rfl)
theorem dX2_deskOf_50 : decode cX2_deskOf 50 = .ok (.iconst 0, 1) := dk_3 (dk_at dksX2_deskOf_2 3 rfl rfl)
theorem dX2_deskOf_51 : decode cX2_deskOf 51 = .ok (.iadd, 1) := dk_96 (dk_at dksX2_deskOf_2 4 rfl rfl)
theorem dX2_deskOf_52 : decode cX2_deskOf 52 = .ok (.istore_n 3, 1) := dk_62 (dk_at dksX2_deskOf_2 5 rfl rfl)
theorem dX2_deskOf_53 : decode cX2_deskOf 53 = .ok (.iinc 4 1, 3) := dk_132 4 1 (dk_at dksX2_deskOf_2 6 rfl rfl)
theorem dX2_deskOf_56 : decode cX2_deskOf 56 = .ok (.goto (-51), 3) := dk_167 255 205 (dk_at dksX2_deskOf_2 9 rfl rfl)
theorem dX2_deskOf_59 : decode cX2_deskOf 59 = .ok (.iload_n 3, 1) := dk_29 (dk_at dksX2_deskOf_2 12 rfl rfl)
theorem dX2_deskOf_60 : decode cX2_deskOf 60 = .ok (.ireturn, 1) := dk_172 (dk_at dksX2_deskOf_2 13 rfl rfl)
abbrev cX2_addsBy : ByteArray := prog_20_method_68_code
def yX2_addsBy : MethodName := ⟨RX2, "addsBy", "(I)I"⟩
def dkwX2_addsBy_0 : List UInt8 := [42, 27, 3, 42, 180, 0, 32, 6, 46, 4, 96, 17, 3, 231, 182, 1, 37, 172]
abbrev dktX2_addsBy_0 : List UInt8 := dkwX2_addsBy_0 ++ []
theorem dksX2_addsBy_0 : cX2_addsBy.data.toList.drop 0 = dktX2_addsBy_0 := by decide +kernel
theorem dX2_addsBy_0 : decode cX2_addsBy 0 = .ok (.aload_n 0, 1) := dk_42 (dk_at dksX2_addsBy_0 0 rfl rfl)
theorem dX2_addsBy_1 : decode cX2_addsBy 1 = .ok (.iload_n 1, 1) := dk_27 (dk_at dksX2_addsBy_0 1 rfl rfl)
theorem dX2_addsBy_2 : decode cX2_addsBy 2 = .ok (.iconst 0, 1) := dk_3 (dk_at dksX2_addsBy_0 2 rfl rfl)
theorem dX2_addsBy_3 : decode cX2_addsBy 3 = .ok (.aload_n 0, 1) := dk_42 (dk_at dksX2_addsBy_0 3 rfl rfl)
theorem dX2_addsBy_4 : decode cX2_addsBy 4 = .ok (.getfield 32, 3) := dk_180 0 32 (dk_at dksX2_addsBy_0 4 rfl rfl)
theorem dX2_addsBy_7 : decode cX2_addsBy 7 = .ok (.iconst 3, 1) := dk_6 (dk_at dksX2_addsBy_0 7 rfl rfl)
theorem dX2_addsBy_8 : decode cX2_addsBy 8 = .ok (.iaload, 1) := dk_46 (dk_at dksX2_addsBy_0 8 rfl rfl)
theorem dX2_addsBy_9 : decode cX2_addsBy 9 = .ok (.iconst 1, 1) := dk_4 (dk_at dksX2_addsBy_0 9 rfl rfl)
theorem dX2_addsBy_10 : decode cX2_addsBy 10 = .ok (.iadd, 1) := dk_96 (dk_at dksX2_addsBy_0 10 rfl rfl)
theorem dX2_addsBy_11 : decode cX2_addsBy 11 = .ok (.sipush 999, 3) := dk_17 3 231 (dk_at dksX2_addsBy_0 11 rfl rfl)
theorem dX2_addsBy_14 : decode cX2_addsBy 14 = .ok (.invokevirtual 293, 3) := dk_182 1 37 (dk_at dksX2_addsBy_0 14 rfl rfl)
theorem dX2_addsBy_17 : decode cX2_addsBy 17 = .ok (.ireturn, 1) := dk_172 (dk_at dksX2_addsBy_0 17 rfl rfl)
abbrev cX2_says : ByteArray := prog_20_method_66_code
def yX2_says : MethodName := ⟨RX2, "says", "(IIII)I"⟩
def dkwX2_says_3 : List UInt8 := [172]
abbrev dktX2_says_3 : List UInt8 := dkwX2_says_3 ++ []
def dkwX2_says_2 : List UInt8 := [182, 1, 30, 3, 21, 4, 184, 1, 33, 172, 132, 5, 1, 167, 255, 199, 29, 133, 3, 21, 4, 184, 1, 33]
abbrev dktX2_says_2 : List UInt8 := dkwX2_says_2 ++ dktX2_says_3
def dkwX2_says_1 : List UInt8 := [180, 0, 16, 17, 2, 193, 27, 104, 4, 96, 7, 21, 5, 104, 96, 46, 28, 160, 0, 17, 42, 27, 21, 5]
abbrev dktX2_says_1 : List UInt8 := dkwX2_says_1 ++ dktX2_says_2
def dkwX2_says_0 : List UInt8 := [3, 54, 5, 27, 155, 0, 59, 21, 5, 42, 180, 0, 16, 17, 2, 193, 27, 104, 46, 162, 0, 44, 42]
abbrev dktX2_says_0 : List UInt8 := dkwX2_says_0 ++ dktX2_says_1
theorem dksX2_says_0 : cX2_says.data.toList.drop 0 = dktX2_says_0 := by decide +kernel
theorem dksX2_says_1 : cX2_says.data.toList.drop 23 = dktX2_says_1 := dk_seg dksX2_says_0 23 rfl rfl
theorem dksX2_says_2 : cX2_says.data.toList.drop 47 = dktX2_says_2 := dk_seg dksX2_says_1 24 rfl rfl
theorem dksX2_says_3 : cX2_says.data.toList.drop 71 = dktX2_says_3 := dk_seg dksX2_says_2 24 rfl rfl
theorem dX2_says_0 : decode cX2_says 0 = .ok (.iconst 0, 1) := dk_3 (dk_at dksX2_says_0 0 rfl rfl)
theorem dX2_says_1 : decode cX2_says 1 = .ok (.istore 5, 2) := dk_54 5 (dk_at dksX2_says_0 1 rfl rfl)
theorem dX2_says_3 : decode cX2_says 3 = .ok (.iload_n 1, 1) := dk_27 (dk_at dksX2_says_0 3 rfl rfl)
theorem dX2_says_4 : decode cX2_says 4 = .ok (.ifCond .lt 59, 3) := dk_155 0 59 (dk_at dksX2_says_0 4 rfl rfl)
theorem dX2_says_7 : decode cX2_says 7 = .ok (.iload 5, 2) := dk_21 5 (dk_at dksX2_says_0 7 rfl rfl)
theorem dX2_says_9 : decode cX2_says 9 = .ok (.aload_n 0, 1) := dk_42 (dk_at dksX2_says_0 9 rfl rfl)
theorem dX2_says_10 : decode cX2_says 10 = .ok (.getfield 16, 3) := dk_180 0 16 (dk_at dksX2_says_0 10 rfl rfl)
theorem dX2_says_13 : decode cX2_says 13 = .ok (.sipush 705, 3) := dk_17 2 193 (dk_at dksX2_says_0 13 rfl rfl)
theorem dX2_says_16 : decode cX2_says 16 = .ok (.iload_n 1, 1) := dk_27 (dk_at dksX2_says_0 16 rfl rfl)
theorem dX2_says_17 : decode cX2_says 17 = .ok (.imul, 1) := dk_104 (dk_at dksX2_says_0 17 rfl rfl)
theorem dX2_says_18 : decode cX2_says 18 = .ok (.iaload, 1) := dk_46 (dk_at dksX2_says_0 18 rfl rfl)
theorem dX2_says_19 : decode cX2_says 19 = .ok (.if_icmp .ge 44, 3) := dk_162 0 44 (dk_at dksX2_says_0 19 rfl rfl)
theorem dX2_says_22 : decode cX2_says 22 = .ok (.aload_n 0, 1) := dk_42 (dk_at dksX2_says_0 22 rfl rfl)
theorem dX2_says_23 : decode cX2_says 23 = .ok (.getfield 16, 3) := dk_180 0 16 (dk_at dksX2_says_1 0 rfl rfl)
theorem dX2_says_26 : decode cX2_says 26 = .ok (.sipush 705, 3) := dk_17 2 193 (dk_at dksX2_says_1 3 rfl rfl)
theorem dX2_says_29 : decode cX2_says 29 = .ok (.iload_n 1, 1) := dk_27 (dk_at dksX2_says_1 6 rfl rfl)
theorem dX2_says_30 : decode cX2_says 30 = .ok (.imul, 1) := dk_104 (dk_at dksX2_says_1 7 rfl rfl)
theorem dX2_says_31 : decode cX2_says 31 = .ok (.iconst 1, 1) := dk_4 (dk_at dksX2_says_1 8 rfl rfl)
theorem dX2_says_32 : decode cX2_says 32 = .ok (.iadd, 1) := dk_96 (dk_at dksX2_says_1 9 rfl rfl)
theorem dX2_says_33 : decode cX2_says 33 = .ok (.iconst 4, 1) := dk_7 (dk_at dksX2_says_1 10 rfl rfl)
theorem dX2_says_34 : decode cX2_says 34 = .ok (.iload 5, 2) := dk_21 5 (dk_at dksX2_says_1 11 rfl rfl)
theorem dX2_says_36 : decode cX2_says 36 = .ok (.imul, 1) := dk_104 (dk_at dksX2_says_1 13 rfl rfl)
theorem dX2_says_37 : decode cX2_says 37 = .ok (.iadd, 1) := dk_96 (dk_at dksX2_says_1 14 rfl rfl)
theorem dX2_says_38 : decode cX2_says 38 = .ok (.iaload, 1) := dk_46 (dk_at dksX2_says_1 15 rfl rfl)
theorem dX2_says_39 : decode cX2_says 39 = .ok (.iload_n 2, 1) := dk_28 (dk_at dksX2_says_1 16 rfl rfl)
theorem dX2_says_40 : decode cX2_says 40 = .ok (.if_icmp .ne 17, 3) := dk_160 0 17 (dk_at dksX2_says_1 17 rfl rfl)
theorem dX2_says_43 : decode cX2_says 43 = .ok (.aload_n 0, 1) := dk_42 (dk_at dksX2_says_1 20 rfl rfl)
theorem dX2_says_44 : decode cX2_says 44 = .ok (.iload_n 1, 1) := dk_27 (dk_at dksX2_says_1 21 rfl rfl)
theorem dX2_says_45 : decode cX2_says 45 = .ok (.iload 5, 2) := dk_21 5 (dk_at dksX2_says_1 22 rfl rfl)
theorem dX2_says_47 : decode cX2_says 47 = .ok (.invokevirtual 286, 3) := dk_182 1 30 (dk_at dksX2_says_2 0 rfl rfl)
theorem dX2_says_50 : decode cX2_says 50 = .ok (.iconst 0, 1) := dk_3 (dk_at dksX2_says_2 3 rfl rfl)
theorem dX2_says_51 : decode cX2_says 51 = .ok (.iload 4, 2) := dk_21 4 (dk_at dksX2_says_2 4 rfl rfl)
theorem dX2_says_53 : decode cX2_says 53 = .ok (.invokestatic 289, 3) := dk_184 1 33 (dk_at dksX2_says_2 6 rfl rfl)
theorem dX2_says_56 : decode cX2_says 56 = .ok (.ireturn, 1) := dk_172 (dk_at dksX2_says_2 9 rfl rfl)
theorem dX2_says_57 : decode cX2_says 57 = .ok (.iinc 5 1, 3) := dk_132 5 1 (dk_at dksX2_says_2 10 rfl rfl)
theorem dX2_says_60 : decode cX2_says 60 = .ok (.goto (-57), 3) := dk_167 255 199 (dk_at dksX2_says_2 13 rfl rfl)
theorem dX2_says_63 : decode cX2_says 63 = .ok (.iload_n 3, 1) := dk_29 (dk_at dksX2_says_2 16 rfl rfl)
theorem dX2_says_64 : decode cX2_says 64 = .ok (.i2l, 1) := dk_133 (dk_at dksX2_says_2 17 rfl rfl)
theorem dX2_says_65 : decode cX2_says 65 = .ok (.iconst 0, 1) := dk_3 (dk_at dksX2_says_2 18 rfl rfl)
theorem dX2_says_66 : decode cX2_says 66 = .ok (.iload 4, 2) := dk_21 4 (dk_at dksX2_says_2 19 rfl rfl)
theorem dX2_says_68 : decode cX2_says 68 = .ok (.invokestatic 289, 3) := dk_184 1 33 (dk_at dksX2_says_2 21 rfl rfl)
theorem dX2_says_71 : decode cX2_says 71 = .ok (.ireturn, 1) := dk_172 (dk_at dksX2_says_3 0 rfl rfl)
abbrev cX2_summedUp : ByteArray := prog_20_method_65_code
def yX2_summedUp : MethodName := ⟨RX2, "summedUp", "(II)J"⟩
def dkwX2_summedUp_17 : List UInt8 := [132, 7, 1, 167, 254, 147, 42, 180, 0, 35, 3, 47, 173]
abbrev dktX2_summedUp_17 : List UInt8 := dkwX2_summedUp_17 ++ []
def dkwX2_summedUp_16 : List UInt8 := [4, 100, 21, 8, 42, 180, 0, 39, 21, 6, 4, 100, 51, 42, 180, 0, 39, 21, 6, 51, 184, 1, 26, 84]
abbrev dktX2_summedUp_16 : List UInt8 := dkwX2_summedUp_16 ++ dktX2_summedUp_17
def dkwX2_summedUp_15 : List UInt8 := [4, 100, 51, 154, 0, 7, 4, 167, 0, 4, 3, 84, 167, 0, 36, 132, 6, 255, 42, 180, 0, 39, 21, 6]
abbrev dktX2_summedUp_15 : List UInt8 := dkwX2_summedUp_15 ++ dktX2_summedUp_16
def dkwX2_summedUp_14 : List UInt8 := [167, 0, 72, 21, 8, 16, 20, 160, 0, 32, 42, 180, 0, 39, 21, 6, 4, 100, 42, 180, 0, 39, 21, 6]
abbrev dktX2_summedUp_14 : List UInt8 := dkwX2_summedUp_14 ++ dktX2_summedUp_15
def dkwX2_summedUp_13 : List UInt8 := [180, 0, 35, 21, 5, 47, 42, 180, 0, 35, 21, 5, 4, 96, 47, 184, 1, 22, 84, 132, 6, 1]
abbrev dktX2_summedUp_13 : List UInt8 := dkwX2_summedUp_13 ++ dktX2_summedUp_14
def dkwX2_summedUp_12 : List UInt8 := [80, 167, 0, 116, 21, 8, 16, 20, 162, 0, 40, 132, 5, 254, 42, 180, 0, 39, 21, 6, 21, 8, 42]
abbrev dktX2_summedUp_12 : List UInt8 := dkwX2_summedUp_12 ++ dktX2_summedUp_13
def dkwX2_summedUp_11 : List UInt8 := [167, 0, 24, 21, 8, 42, 180, 0, 35, 21, 5, 4, 100, 47, 42, 180, 0, 35, 21, 5, 47, 184, 1, 18]
abbrev dktX2_summedUp_11 : List UInt8 := dkwX2_summedUp_11 ++ dktX2_summedUp_12
def dkwX2_summedUp_10 : List UInt8 := [160, 0, 25, 42, 180, 0, 35, 21, 5, 4, 100, 47, 42, 180, 0, 35, 21, 5, 47, 184, 1, 14]
abbrev dktX2_summedUp_10 : List UInt8 := dkwX2_summedUp_10 ++ dktX2_summedUp_11
def dkwX2_summedUp_9 : List UInt8 := [167, 0, 187, 21, 8, 16, 10, 162, 0, 67, 132, 5, 255, 42, 180, 0, 35, 21, 5, 4, 100, 21, 8, 7]
abbrev dktX2_summedUp_9 : List UInt8 := dkwX2_summedUp_9 ++ dktX2_summedUp_10
def dkwX2_summedUp_8 : List UInt8 := [21, 5, 4, 100, 47, 117, 167, 0, 16, 42, 42, 180, 0, 35, 21, 5, 4, 100, 47, 182, 1, 11, 80]
abbrev dktX2_summedUp_8 : List UInt8 := dkwX2_summedUp_8 ++ dktX2_summedUp_9
def dkwX2_summedUp_7 : List UInt8 := [21, 8, 5, 160, 0, 47, 42, 180, 0, 35, 21, 5, 4, 100, 21, 8, 8, 160, 0, 16, 42, 180, 0, 35]
abbrev dktX2_summedUp_7 : List UInt8 := dkwX2_summedUp_7 ++ dktX2_summedUp_8
def dkwX2_summedUp_6 : List UInt8 := [180, 0, 35, 21, 5, 4, 100, 42, 180, 0, 35, 21, 5, 47, 80, 167, 0, 243, 21, 8, 8, 159, 0, 9]
abbrev dktX2_summedUp_6 : List UInt8 := dkwX2_summedUp_6 ++ dktX2_summedUp_7
def dkwX2_summedUp_5 : List UInt8 := [21, 8, 6, 160, 0, 38, 132, 5, 255, 132, 6, 255, 42, 180, 0, 39, 21, 6, 51, 154, 1, 6, 42]
abbrev dktX2_summedUp_5 : List UInt8 := dkwX2_summedUp_5 ++ dktX2_summedUp_6
def dkwX2_summedUp_4 : List UInt8 := [154, 0, 9, 21, 9, 133, 167, 0, 11, 42, 180, 0, 32, 21, 9, 46, 133, 80, 132, 5, 1, 167, 1, 28]
abbrev dktX2_summedUp_4 : List UInt8 := dkwX2_summedUp_4 ++ dktX2_summedUp_5
def dkwX2_summedUp_3 : List UInt8 := [5, 21, 7, 104, 96, 4, 96, 46, 54, 9, 21, 8, 4, 163, 0, 35, 42, 180, 0, 35, 21, 5, 21, 8]
abbrev dktX2_summedUp_3 : List UInt8 := dkwX2_summedUp_3 ++ dktX2_summedUp_4
def dkwX2_summedUp_2 : List UInt8 := [46, 162, 1, 102, 42, 180, 0, 16, 21, 4, 5, 21, 7, 104, 96, 46, 54, 8, 42, 180, 0, 16, 21, 4]
abbrev dktX2_summedUp_2 : List UInt8 := dkwX2_summedUp_2 ++ dktX2_summedUp_3
def dkwX2_summedUp_1 : List UInt8 := [54, 5, 3, 54, 6, 42, 180, 0, 16, 29, 4, 96, 46, 54, 7, 21, 7, 42, 180, 0, 16, 29, 5, 96]
abbrev dktX2_summedUp_1 : List UInt8 := dkwX2_summedUp_1 ++ dktX2_summedUp_2
def dkwX2_summedUp_0 : List UInt8 := [17, 2, 193, 27, 104, 4, 96, 7, 28, 104, 96, 62, 17, 2, 193, 27, 104, 16, 97, 96, 54, 4, 3]
abbrev dktX2_summedUp_0 : List UInt8 := dkwX2_summedUp_0 ++ dktX2_summedUp_1
theorem dksX2_summedUp_0 : cX2_summedUp.data.toList.drop 0 = dktX2_summedUp_0 := by decide +kernel
theorem dksX2_summedUp_1 : cX2_summedUp.data.toList.drop 23 = dktX2_summedUp_1 := dk_seg dksX2_summedUp_0 23 rfl rfl
theorem dksX2_summedUp_2 : cX2_summedUp.data.toList.drop 47 = dktX2_summedUp_2 := dk_seg dksX2_summedUp_1 24 rfl rfl
theorem dksX2_summedUp_3 : cX2_summedUp.data.toList.drop 71 = dktX2_summedUp_3 := dk_seg dksX2_summedUp_2 24 rfl rfl
theorem dksX2_summedUp_4 : cX2_summedUp.data.toList.drop 95 = dktX2_summedUp_4 := dk_seg dksX2_summedUp_3 24 rfl rfl
theorem dksX2_summedUp_5 : cX2_summedUp.data.toList.drop 119 = dktX2_summedUp_5 := dk_seg dksX2_summedUp_4 24 rfl rfl
theorem dksX2_summedUp_6 : cX2_summedUp.data.toList.drop 142 = dktX2_summedUp_6 := dk_seg dksX2_summedUp_5 23 rfl rfl
theorem dksX2_summedUp_7 : cX2_summedUp.data.toList.drop 166 = dktX2_summedUp_7 := dk_seg dksX2_summedUp_6 24 rfl rfl
theorem dksX2_summedUp_8 : cX2_summedUp.data.toList.drop 190 = dktX2_summedUp_8 := dk_seg dksX2_summedUp_7 24 rfl rfl
theorem dksX2_summedUp_9 : cX2_summedUp.data.toList.drop 213 = dktX2_summedUp_9 := dk_seg dksX2_summedUp_8 23 rfl rfl
theorem dksX2_summedUp_10 : cX2_summedUp.data.toList.drop 237 = dktX2_summedUp_10 := dk_seg dksX2_summedUp_9 24 rfl rfl
theorem dksX2_summedUp_11 : cX2_summedUp.data.toList.drop 259 = dktX2_summedUp_11 := dk_seg dksX2_summedUp_10 22 rfl rfl
theorem dksX2_summedUp_12 : cX2_summedUp.data.toList.drop 283 = dktX2_summedUp_12 := dk_seg dksX2_summedUp_11 24 rfl rfl
theorem dksX2_summedUp_13 : cX2_summedUp.data.toList.drop 306 = dktX2_summedUp_13 := dk_seg dksX2_summedUp_12 23 rfl rfl
theorem dksX2_summedUp_14 : cX2_summedUp.data.toList.drop 328 = dktX2_summedUp_14 := dk_seg dksX2_summedUp_13 22 rfl rfl
theorem dksX2_summedUp_15 : cX2_summedUp.data.toList.drop 352 = dktX2_summedUp_15 := dk_seg dksX2_summedUp_14 24 rfl rfl
theorem dksX2_summedUp_16 : cX2_summedUp.data.toList.drop 376 = dktX2_summedUp_16 := dk_seg dksX2_summedUp_15 24 rfl rfl
theorem dksX2_summedUp_17 : cX2_summedUp.data.toList.drop 400 = dktX2_summedUp_17 := dk_seg dksX2_summedUp_16 24 rfl rfl
theorem dX2_summedUp_0 : decode cX2_summedUp 0 = .ok (.sipush 705, 3) := dk_17 2 193 (dk_at dksX2_summedUp_0 0 rfl rfl)
theorem dX2_summedUp_3 : decode cX2_summedUp 3 = .ok (.iload_n 1, 1) := dk_27 (dk_at dksX2_summedUp_0 3 rfl rfl)
theorem dX2_summedUp_4 : decode cX2_summedUp 4 = .ok (.imul, 1) := dk_104 (dk_at dksX2_summedUp_0 4 rfl rfl)
theorem dX2_summedUp_5 : decode cX2_summedUp 5 = .ok (.iconst 1, 1) := dk_4 (dk_at dksX2_summedUp_0 5 rfl rfl)
theorem dX2_summedUp_6 : decode cX2_summedUp 6 = .ok (.iadd, 1) := dk_96 (dk_at dksX2_summedUp_0 6 rfl rfl)
theorem dX2_summedUp_7 : decode cX2_summedUp 7 = .ok (.iconst 4, 1) := dk_7 (dk_at dksX2_summedUp_0 7 rfl rfl)
theorem dX2_summedUp_8 : decode cX2_summedUp 8 = .ok (.iload_n 2, 1) := dk_28 (dk_at dksX2_summedUp_0 8 rfl rfl)
theorem dX2_summedUp_9 : decode cX2_summedUp 9 = .ok (.imul, 1) := dk_104 (dk_at dksX2_summedUp_0 9 rfl rfl)
theorem dX2_summedUp_10 : decode cX2_summedUp 10 = .ok (.iadd, 1) := dk_96 (dk_at dksX2_summedUp_0 10 rfl rfl)
theorem dX2_summedUp_11 : decode cX2_summedUp 11 = .ok (.istore_n 3, 1) := dk_62 (dk_at dksX2_summedUp_0 11 rfl rfl)
theorem dX2_summedUp_12 : decode cX2_summedUp 12 = .ok (.sipush 705, 3) := dk_17 2 193 (dk_at dksX2_summedUp_0 12 rfl rfl)
theorem dX2_summedUp_15 : decode cX2_summedUp 15 = .ok (.iload_n 1, 1) := dk_27 (dk_at dksX2_summedUp_0 15 rfl rfl)
theorem dX2_summedUp_16 : decode cX2_summedUp 16 = .ok (.imul, 1) := dk_104 (dk_at dksX2_summedUp_0 16 rfl rfl)
theorem dX2_summedUp_17 : decode cX2_summedUp 17 = .ok (.bipush 97, 2) := dk_16 97 (dk_at dksX2_summedUp_0 17 rfl rfl)
theorem dX2_summedUp_19 : decode cX2_summedUp 19 = .ok (.iadd, 1) := dk_96 (dk_at dksX2_summedUp_0 19 rfl rfl)
theorem dX2_summedUp_20 : decode cX2_summedUp 20 = .ok (.istore 4, 2) := dk_54 4 (dk_at dksX2_summedUp_0 20 rfl rfl)
theorem dX2_summedUp_22 : decode cX2_summedUp 22 = .ok (.iconst 0, 1) := dk_3 (dk_at dksX2_summedUp_0 22 rfl rfl)
theorem dX2_summedUp_23 : decode cX2_summedUp 23 = .ok (.istore 5, 2) := dk_54 5 (dk_at dksX2_summedUp_1 0 rfl rfl)
theorem dX2_summedUp_25 : decode cX2_summedUp 25 = .ok (.iconst 0, 1) := dk_3 (dk_at dksX2_summedUp_1 2 rfl rfl)
theorem dX2_summedUp_26 : decode cX2_summedUp 26 = .ok (.istore 6, 2) := dk_54 6 (dk_at dksX2_summedUp_1 3 rfl rfl)
theorem dX2_summedUp_28 : decode cX2_summedUp 28 = .ok (.aload_n 0, 1) := dk_42 (dk_at dksX2_summedUp_1 5 rfl rfl)
theorem dX2_summedUp_29 : decode cX2_summedUp 29 = .ok (.getfield 16, 3) := dk_180 0 16 (dk_at dksX2_summedUp_1 6 rfl rfl)
theorem dX2_summedUp_32 : decode cX2_summedUp 32 = .ok (.iload_n 3, 1) := dk_29 (dk_at dksX2_summedUp_1 9 rfl rfl)
theorem dX2_summedUp_33 : decode cX2_summedUp 33 = .ok (.iconst 1, 1) := dk_4 (dk_at dksX2_summedUp_1 10 rfl rfl)
theorem dX2_summedUp_34 : decode cX2_summedUp 34 = .ok (.iadd, 1) := dk_96 (dk_at dksX2_summedUp_1 11 rfl rfl)
theorem dX2_summedUp_35 : decode cX2_summedUp 35 = .ok (.iaload, 1) := dk_46 (dk_at dksX2_summedUp_1 12 rfl rfl)
theorem dX2_summedUp_36 : decode cX2_summedUp 36 = .ok (.istore 7, 2) := dk_54 7 (dk_at dksX2_summedUp_1 13 rfl rfl)
theorem dX2_summedUp_38 : decode cX2_summedUp 38 = .ok (.iload 7, 2) := dk_21 7 (dk_at dksX2_summedUp_1 15 rfl rfl)
theorem dX2_summedUp_40 : decode cX2_summedUp 40 = .ok (.aload_n 0, 1) := dk_42 (dk_at dksX2_summedUp_1 17 rfl rfl)
theorem dX2_summedUp_41 : decode cX2_summedUp 41 = .ok (.getfield 16, 3) := dk_180 0 16 (dk_at dksX2_summedUp_1 18 rfl rfl)
theorem dX2_summedUp_44 : decode cX2_summedUp 44 = .ok (.iload_n 3, 1) := dk_29 (dk_at dksX2_summedUp_1 21 rfl rfl)
theorem dX2_summedUp_45 : decode cX2_summedUp 45 = .ok (.iconst 2, 1) := dk_5 (dk_at dksX2_summedUp_1 22 rfl rfl)
theorem dX2_summedUp_46 : decode cX2_summedUp 46 = .ok (.iadd, 1) := dk_96 (dk_at dksX2_summedUp_1 23 rfl rfl)
theorem dX2_summedUp_47 : decode cX2_summedUp 47 = .ok (.iaload, 1) := dk_46 (dk_at dksX2_summedUp_2 0 rfl rfl)
theorem dX2_summedUp_48 : decode cX2_summedUp 48 = .ok (.if_icmp .ge 358, 3) := dk_162 1 102 (dk_at dksX2_summedUp_2 1 rfl rfl)
theorem dX2_summedUp_51 : decode cX2_summedUp 51 = .ok (.aload_n 0, 1) := dk_42 (dk_at dksX2_summedUp_2 4 rfl rfl)
theorem dX2_summedUp_52 : decode cX2_summedUp 52 = .ok (.getfield 16, 3) := dk_180 0 16 (dk_at dksX2_summedUp_2 5 rfl rfl)
theorem dX2_summedUp_55 : decode cX2_summedUp 55 = .ok (.iload 4, 2) := dk_21 4 (dk_at dksX2_summedUp_2 8 rfl rfl)
theorem dX2_summedUp_57 : decode cX2_summedUp 57 = .ok (.iconst 2, 1) := dk_5 (dk_at dksX2_summedUp_2 10 rfl rfl)
theorem dX2_summedUp_58 : decode cX2_summedUp 58 = .ok (.iload 7, 2) := dk_21 7 (dk_at dksX2_summedUp_2 11 rfl rfl)
theorem dX2_summedUp_60 : decode cX2_summedUp 60 = .ok (.imul, 1) := dk_104 (dk_at dksX2_summedUp_2 13 rfl rfl)
theorem dX2_summedUp_61 : decode cX2_summedUp 61 = .ok (.iadd, 1) := dk_96 (dk_at dksX2_summedUp_2 14 rfl rfl)
theorem dX2_summedUp_62 : decode cX2_summedUp 62 = .ok (.iaload, 1) := dk_46 (dk_at dksX2_summedUp_2 15 rfl rfl)
theorem dX2_summedUp_63 : decode cX2_summedUp 63 = .ok (.istore 8, 2) := dk_54 8 (dk_at dksX2_summedUp_2 16 rfl rfl)
theorem dX2_summedUp_65 : decode cX2_summedUp 65 = .ok (.aload_n 0, 1) := dk_42 (dk_at dksX2_summedUp_2 18 rfl rfl)
theorem dX2_summedUp_66 : decode cX2_summedUp 66 = .ok (.getfield 16, 3) := dk_180 0 16 (dk_at dksX2_summedUp_2 19 rfl rfl)
theorem dX2_summedUp_69 : decode cX2_summedUp 69 = .ok (.iload 4, 2) := dk_21 4 (dk_at dksX2_summedUp_2 22 rfl rfl)
theorem dX2_summedUp_71 : decode cX2_summedUp 71 = .ok (.iconst 2, 1) := dk_5 (dk_at dksX2_summedUp_3 0 rfl rfl)
theorem dX2_summedUp_72 : decode cX2_summedUp 72 = .ok (.iload 7, 2) := dk_21 7 (dk_at dksX2_summedUp_3 1 rfl rfl)
theorem dX2_summedUp_74 : decode cX2_summedUp 74 = .ok (.imul, 1) := dk_104 (dk_at dksX2_summedUp_3 3 rfl rfl)
theorem dX2_summedUp_75 : decode cX2_summedUp 75 = .ok (.iadd, 1) := dk_96 (dk_at dksX2_summedUp_3 4 rfl rfl)
theorem dX2_summedUp_76 : decode cX2_summedUp 76 = .ok (.iconst 1, 1) := dk_4 (dk_at dksX2_summedUp_3 5 rfl rfl)
theorem dX2_summedUp_77 : decode cX2_summedUp 77 = .ok (.iadd, 1) := dk_96 (dk_at dksX2_summedUp_3 6 rfl rfl)
theorem dX2_summedUp_78 : decode cX2_summedUp 78 = .ok (.iaload, 1) := dk_46 (dk_at dksX2_summedUp_3 7 rfl rfl)
theorem dX2_summedUp_79 : decode cX2_summedUp 79 = .ok (.istore 9, 2) := dk_54 9 (dk_at dksX2_summedUp_3 8 rfl rfl)
theorem dX2_summedUp_81 : decode cX2_summedUp 81 = .ok (.iload 8, 2) := dk_21 8 (dk_at dksX2_summedUp_3 10 rfl rfl)
theorem dX2_summedUp_83 : decode cX2_summedUp 83 = .ok (.iconst 1, 1) := dk_4 (dk_at dksX2_summedUp_3 12 rfl rfl)
theorem dX2_summedUp_84 : decode cX2_summedUp 84 = .ok (.if_icmp .gt 35, 3) := dk_163 0 35 (dk_at dksX2_summedUp_3 13 rfl rfl)
theorem dX2_summedUp_87 : decode cX2_summedUp 87 = .ok (.aload_n 0, 1) := dk_42 (dk_at dksX2_summedUp_3 16 rfl rfl)
theorem dX2_summedUp_88 : decode cX2_summedUp 88 = .ok (.getfield 35, 3) := dk_180 0 35 (dk_at dksX2_summedUp_3 17 rfl rfl)
theorem dX2_summedUp_91 : decode cX2_summedUp 91 = .ok (.iload 5, 2) := dk_21 5 (dk_at dksX2_summedUp_3 20 rfl rfl)
theorem dX2_summedUp_93 : decode cX2_summedUp 93 = .ok (.iload 8, 2) := dk_21 8 (dk_at dksX2_summedUp_3 22 rfl rfl)
theorem dX2_summedUp_95 : decode cX2_summedUp 95 = .ok (.ifCond .ne 9, 3) := dk_154 0 9 (dk_at dksX2_summedUp_4 0 rfl rfl)
theorem dX2_summedUp_98 : decode cX2_summedUp 98 = .ok (.iload 9, 2) := dk_21 9 (dk_at dksX2_summedUp_4 3 rfl rfl)
theorem dX2_summedUp_100 : decode cX2_summedUp 100 = .ok (.i2l, 1) := dk_133 (dk_at dksX2_summedUp_4 5 rfl rfl)
theorem dX2_summedUp_101 : decode cX2_summedUp 101 = .ok (.goto 11, 3) := dk_167 0 11 (dk_at dksX2_summedUp_4 6 rfl rfl)
theorem dX2_summedUp_104 : decode cX2_summedUp 104 = .ok (.aload_n 0, 1) := dk_42 (dk_at dksX2_summedUp_4 9 rfl rfl)
theorem dX2_summedUp_105 : decode cX2_summedUp 105 = .ok (.getfield 32, 3) := dk_180 0 32 (dk_at dksX2_summedUp_4 10 rfl rfl)
theorem dX2_summedUp_108 : decode cX2_summedUp 108 = .ok (.iload 9, 2) := dk_21 9 (dk_at dksX2_summedUp_4 13 rfl rfl)
theorem dX2_summedUp_110 : decode cX2_summedUp 110 = .ok (.iaload, 1) := dk_46 (dk_at dksX2_summedUp_4 15 rfl rfl)
theorem dX2_summedUp_111 : decode cX2_summedUp 111 = .ok (.i2l, 1) := dk_133 (dk_at dksX2_summedUp_4 16 rfl rfl)
theorem dX2_summedUp_112 : decode cX2_summedUp 112 = .ok (.lastore, 1) := dk_80 (dk_at dksX2_summedUp_4 17 rfl rfl)
theorem dX2_summedUp_113 : decode cX2_summedUp 113 = .ok (.iinc 5 1, 3) := dk_132 5 1 (dk_at dksX2_summedUp_4 18 rfl rfl)
theorem dX2_summedUp_116 : decode cX2_summedUp 116 = .ok (.goto 284, 3) := dk_167 1 28 (dk_at dksX2_summedUp_4 21 rfl rfl)
theorem dX2_summedUp_119 : decode cX2_summedUp 119 = .ok (.iload 8, 2) := dk_21 8 (dk_at dksX2_summedUp_5 0 rfl rfl)
theorem dX2_summedUp_121 : decode cX2_summedUp 121 = .ok (.iconst 3, 1) := dk_6 (dk_at dksX2_summedUp_5 2 rfl rfl)
theorem dX2_summedUp_122 : decode cX2_summedUp 122 = .ok (.if_icmp .ne 38, 3) := dk_160 0 38 (dk_at dksX2_summedUp_5 3 rfl rfl)
theorem dX2_summedUp_125 : decode cX2_summedUp 125 = .ok (.iinc 5 (-1), 3) := dk_132 5 255 (dk_at dksX2_summedUp_5 6 rfl rfl)
theorem dX2_summedUp_128 : decode cX2_summedUp 128 = .ok (.iinc 6 (-1), 3) := dk_132 6 255 (dk_at dksX2_summedUp_5 9 rfl rfl)
theorem dX2_summedUp_131 : decode cX2_summedUp 131 = .ok (.aload_n 0, 1) := dk_42 (dk_at dksX2_summedUp_5 12 rfl rfl)
theorem dX2_summedUp_132 : decode cX2_summedUp 132 = .ok (.getfield 39, 3) := dk_180 0 39 (dk_at dksX2_summedUp_5 13 rfl rfl)
theorem dX2_summedUp_135 : decode cX2_summedUp 135 = .ok (.iload 6, 2) := dk_21 6 (dk_at dksX2_summedUp_5 16 rfl rfl)
theorem dX2_summedUp_137 : decode cX2_summedUp 137 = .ok (.baload, 1) := dk_51 (dk_at dksX2_summedUp_5 18 rfl rfl)
theorem dX2_summedUp_138 : decode cX2_summedUp 138 = .ok (.ifCond .ne 262, 3) := dk_154 1 6 (dk_at dksX2_summedUp_5 19 rfl rfl)
theorem dX2_summedUp_141 : decode cX2_summedUp 141 = .ok (.aload_n 0, 1) := dk_42 (dk_at dksX2_summedUp_5 22 rfl rfl)
theorem dX2_summedUp_142 : decode cX2_summedUp 142 = .ok (.getfield 35, 3) := dk_180 0 35 (dk_at dksX2_summedUp_6 0 rfl rfl)
theorem dX2_summedUp_145 : decode cX2_summedUp 145 = .ok (.iload 5, 2) := dk_21 5 (dk_at dksX2_summedUp_6 3 rfl rfl)
theorem dX2_summedUp_147 : decode cX2_summedUp 147 = .ok (.iconst 1, 1) := dk_4 (dk_at dksX2_summedUp_6 5 rfl rfl)
theorem dX2_summedUp_148 : decode cX2_summedUp 148 = .ok (.isub, 1) := dk_100 (dk_at dksX2_summedUp_6 6 rfl rfl)
theorem dX2_summedUp_149 : decode cX2_summedUp 149 = .ok (.aload_n 0, 1) := dk_42 (dk_at dksX2_summedUp_6 7 rfl rfl)
theorem dX2_summedUp_150 : decode cX2_summedUp 150 = .ok (.getfield 35, 3) := dk_180 0 35 (dk_at dksX2_summedUp_6 8 rfl rfl)
theorem dX2_summedUp_153 : decode cX2_summedUp 153 = .ok (.iload 5, 2) := dk_21 5 (dk_at dksX2_summedUp_6 11 rfl rfl)
theorem dX2_summedUp_155 : decode cX2_summedUp 155 = .ok (.laload, 1) := dk_47 (dk_at dksX2_summedUp_6 13 rfl rfl)
theorem dX2_summedUp_156 : decode cX2_summedUp 156 = .ok (.lastore, 1) := dk_80 (dk_at dksX2_summedUp_6 14 rfl rfl)
theorem dX2_summedUp_157 : decode cX2_summedUp 157 = .ok (.goto 243, 3) := dk_167 0 243 (dk_at dksX2_summedUp_6 15 rfl rfl)
theorem dX2_summedUp_160 : decode cX2_summedUp 160 = .ok (.iload 8, 2) := dk_21 8 (dk_at dksX2_summedUp_6 18 rfl rfl)
theorem dX2_summedUp_162 : decode cX2_summedUp 162 = .ok (.iconst 5, 1) := dk_8 (dk_at dksX2_summedUp_6 20 rfl rfl)
theorem dX2_summedUp_163 : decode cX2_summedUp 163 = .ok (.if_icmp .eq 9, 3) := dk_159 0 9 (dk_at dksX2_summedUp_6 21 rfl rfl)
theorem dX2_summedUp_166 : decode cX2_summedUp 166 = .ok (.iload 8, 2) := dk_21 8 (dk_at dksX2_summedUp_7 0 rfl rfl)
theorem dX2_summedUp_168 : decode cX2_summedUp 168 = .ok (.iconst 2, 1) := dk_5 (dk_at dksX2_summedUp_7 2 rfl rfl)
theorem dX2_summedUp_169 : decode cX2_summedUp 169 = .ok (.if_icmp .ne 47, 3) := dk_160 0 47 (dk_at dksX2_summedUp_7 3 rfl rfl)
theorem dX2_summedUp_172 : decode cX2_summedUp 172 = .ok (.aload_n 0, 1) := dk_42 (dk_at dksX2_summedUp_7 6 rfl rfl)
theorem dX2_summedUp_173 : decode cX2_summedUp 173 = .ok (.getfield 35, 3) := dk_180 0 35 (dk_at dksX2_summedUp_7 7 rfl rfl)
theorem dX2_summedUp_176 : decode cX2_summedUp 176 = .ok (.iload 5, 2) := dk_21 5 (dk_at dksX2_summedUp_7 10 rfl rfl)
theorem dX2_summedUp_178 : decode cX2_summedUp 178 = .ok (.iconst 1, 1) := dk_4 (dk_at dksX2_summedUp_7 12 rfl rfl)
theorem dX2_summedUp_179 : decode cX2_summedUp 179 = .ok (.isub, 1) := dk_100 (dk_at dksX2_summedUp_7 13 rfl rfl)
theorem dX2_summedUp_180 : decode cX2_summedUp 180 = .ok (.iload 8, 2) := dk_21 8 (dk_at dksX2_summedUp_7 14 rfl rfl)
theorem dX2_summedUp_182 : decode cX2_summedUp 182 = .ok (.iconst 5, 1) := dk_8 (dk_at dksX2_summedUp_7 16 rfl rfl)
theorem dX2_summedUp_183 : decode cX2_summedUp 183 = .ok (.if_icmp .ne 16, 3) := dk_160 0 16 (dk_at dksX2_summedUp_7 17 rfl rfl)
theorem dX2_summedUp_186 : decode cX2_summedUp 186 = .ok (.aload_n 0, 1) := dk_42 (dk_at dksX2_summedUp_7 20 rfl rfl)
theorem dX2_summedUp_187 : decode cX2_summedUp 187 = .ok (.getfield 35, 3) := dk_180 0 35 (dk_at dksX2_summedUp_7 21 rfl rfl)
theorem dX2_summedUp_190 : decode cX2_summedUp 190 = .ok (.iload 5, 2) := dk_21 5 (dk_at dksX2_summedUp_8 0 rfl rfl)
theorem dX2_summedUp_192 : decode cX2_summedUp 192 = .ok (.iconst 1, 1) := dk_4 (dk_at dksX2_summedUp_8 2 rfl rfl)
theorem dX2_summedUp_193 : decode cX2_summedUp 193 = .ok (.isub, 1) := dk_100 (dk_at dksX2_summedUp_8 3 rfl rfl)
theorem dX2_summedUp_194 : decode cX2_summedUp 194 = .ok (.laload, 1) := dk_47 (dk_at dksX2_summedUp_8 4 rfl rfl)
theorem dX2_summedUp_195 : decode cX2_summedUp 195 = .ok (.lneg, 1) := dk_117 (dk_at dksX2_summedUp_8 5 rfl rfl)
theorem dX2_summedUp_196 : decode cX2_summedUp 196 = .ok (.goto 16, 3) := dk_167 0 16 (dk_at dksX2_summedUp_8 6 rfl rfl)
theorem dX2_summedUp_199 : decode cX2_summedUp 199 = .ok (.aload_n 0, 1) := dk_42 (dk_at dksX2_summedUp_8 9 rfl rfl)
theorem dX2_summedUp_200 : decode cX2_summedUp 200 = .ok (.aload_n 0, 1) := dk_42 (dk_at dksX2_summedUp_8 10 rfl rfl)
theorem dX2_summedUp_201 : decode cX2_summedUp 201 = .ok (.getfield 35, 3) := dk_180 0 35 (dk_at dksX2_summedUp_8 11 rfl rfl)
theorem dX2_summedUp_204 : decode cX2_summedUp 204 = .ok (.iload 5, 2) := dk_21 5 (dk_at dksX2_summedUp_8 14 rfl rfl)
theorem dX2_summedUp_206 : decode cX2_summedUp 206 = .ok (.iconst 1, 1) := dk_4 (dk_at dksX2_summedUp_8 16 rfl rfl)
theorem dX2_summedUp_207 : decode cX2_summedUp 207 = .ok (.isub, 1) := dk_100 (dk_at dksX2_summedUp_8 17 rfl rfl)
theorem dX2_summedUp_208 : decode cX2_summedUp 208 = .ok (.laload, 1) := dk_47 (dk_at dksX2_summedUp_8 18 rfl rfl)
theorem dX2_summedUp_209 : decode cX2_summedUp 209 = .ok (.invokevirtual 267, 3) := dk_182 1 11 (dk_at dksX2_summedUp_8 19 rfl rfl)
theorem dX2_summedUp_212 : decode cX2_summedUp 212 = .ok (.lastore, 1) := dk_80 (dk_at dksX2_summedUp_8 22 rfl rfl)
theorem dX2_summedUp_213 : decode cX2_summedUp 213 = .ok (.goto 187, 3) := dk_167 0 187 (dk_at dksX2_summedUp_9 0 rfl rfl)
theorem dX2_summedUp_216 : decode cX2_summedUp 216 = .ok (.iload 8, 2) := dk_21 8 (dk_at dksX2_summedUp_9 3 rfl rfl)
theorem dX2_summedUp_218 : decode cX2_summedUp 218 = .ok (.bipush 10, 2) := dk_16 10 (dk_at dksX2_summedUp_9 5 rfl rfl)
theorem dX2_summedUp_220 : decode cX2_summedUp 220 = .ok (.if_icmp .ge 67, 3) := dk_162 0 67 (dk_at dksX2_summedUp_9 7 rfl rfl)
theorem dX2_summedUp_223 : decode cX2_summedUp 223 = .ok (.iinc 5 (-1), 3) := dk_132 5 255 (dk_at dksX2_summedUp_9 10 rfl rfl)
theorem dX2_summedUp_226 : decode cX2_summedUp 226 = .ok (.aload_n 0, 1) := dk_42 (dk_at dksX2_summedUp_9 13 rfl rfl)
theorem dX2_summedUp_227 : decode cX2_summedUp 227 = .ok (.getfield 35, 3) := dk_180 0 35 (dk_at dksX2_summedUp_9 14 rfl rfl)
theorem dX2_summedUp_230 : decode cX2_summedUp 230 = .ok (.iload 5, 2) := dk_21 5 (dk_at dksX2_summedUp_9 17 rfl rfl)
theorem dX2_summedUp_232 : decode cX2_summedUp 232 = .ok (.iconst 1, 1) := dk_4 (dk_at dksX2_summedUp_9 19 rfl rfl)
theorem dX2_summedUp_233 : decode cX2_summedUp 233 = .ok (.isub, 1) := dk_100 (dk_at dksX2_summedUp_9 20 rfl rfl)
theorem dX2_summedUp_234 : decode cX2_summedUp 234 = .ok (.iload 8, 2) := dk_21 8 (dk_at dksX2_summedUp_9 21 rfl rfl)
theorem dX2_summedUp_236 : decode cX2_summedUp 236 = .ok (.iconst 4, 1) := dk_7 (dk_at dksX2_summedUp_9 23 rfl rfl)
theorem dX2_summedUp_237 : decode cX2_summedUp 237 = .ok (.if_icmp .ne 25, 3) := dk_160 0 25 (dk_at dksX2_summedUp_10 0 rfl rfl)
theorem dX2_summedUp_240 : decode cX2_summedUp 240 = .ok (.aload_n 0, 1) := dk_42 (dk_at dksX2_summedUp_10 3 rfl rfl)
theorem dX2_summedUp_241 : decode cX2_summedUp 241 = .ok (.getfield 35, 3) := dk_180 0 35 (dk_at dksX2_summedUp_10 4 rfl rfl)
theorem dX2_summedUp_244 : decode cX2_summedUp 244 = .ok (.iload 5, 2) := dk_21 5 (dk_at dksX2_summedUp_10 7 rfl rfl)
theorem dX2_summedUp_246 : decode cX2_summedUp 246 = .ok (.iconst 1, 1) := dk_4 (dk_at dksX2_summedUp_10 9 rfl rfl)
theorem dX2_summedUp_247 : decode cX2_summedUp 247 = .ok (.isub, 1) := dk_100 (dk_at dksX2_summedUp_10 10 rfl rfl)
theorem dX2_summedUp_248 : decode cX2_summedUp 248 = .ok (.laload, 1) := dk_47 (dk_at dksX2_summedUp_10 11 rfl rfl)
theorem dX2_summedUp_249 : decode cX2_summedUp 249 = .ok (.aload_n 0, 1) := dk_42 (dk_at dksX2_summedUp_10 12 rfl rfl)
theorem dX2_summedUp_250 : decode cX2_summedUp 250 = .ok (.getfield 35, 3) := dk_180 0 35 (dk_at dksX2_summedUp_10 13 rfl rfl)
theorem dX2_summedUp_253 : decode cX2_summedUp 253 = .ok (.iload 5, 2) := dk_21 5 (dk_at dksX2_summedUp_10 16 rfl rfl)
theorem dX2_summedUp_255 : decode cX2_summedUp 255 = .ok (.laload, 1) := dk_47 (dk_at dksX2_summedUp_10 18 rfl rfl)
theorem dX2_summedUp_256 : decode cX2_summedUp 256 = .ok (.invokestatic 270, 3) := dk_184 1 14 (dk_at dksX2_summedUp_10 19 rfl rfl)
theorem dX2_summedUp_259 : decode cX2_summedUp 259 = .ok (.goto 24, 3) := dk_167 0 24 (dk_at dksX2_summedUp_11 0 rfl rfl)
theorem dX2_summedUp_262 : decode cX2_summedUp 262 = .ok (.iload 8, 2) := dk_21 8 (dk_at dksX2_summedUp_11 3 rfl rfl)
theorem dX2_summedUp_264 : decode cX2_summedUp 264 = .ok (.aload_n 0, 1) := dk_42 (dk_at dksX2_summedUp_11 5 rfl rfl)
theorem dX2_summedUp_265 : decode cX2_summedUp 265 = .ok (.getfield 35, 3) := dk_180 0 35 (dk_at dksX2_summedUp_11 6 rfl rfl)
theorem dX2_summedUp_268 : decode cX2_summedUp 268 = .ok (.iload 5, 2) := dk_21 5 (dk_at dksX2_summedUp_11 9 rfl rfl)
theorem dX2_summedUp_270 : decode cX2_summedUp 270 = .ok (.iconst 1, 1) := dk_4 (dk_at dksX2_summedUp_11 11 rfl rfl)
theorem dX2_summedUp_271 : decode cX2_summedUp 271 = .ok (.isub, 1) := dk_100 (dk_at dksX2_summedUp_11 12 rfl rfl)
theorem dX2_summedUp_272 : decode cX2_summedUp 272 = .ok (.laload, 1) := dk_47 (dk_at dksX2_summedUp_11 13 rfl rfl)
theorem dX2_summedUp_273 : decode cX2_summedUp 273 = .ok (.aload_n 0, 1) := dk_42 (dk_at dksX2_summedUp_11 14 rfl rfl)
theorem dX2_summedUp_274 : decode cX2_summedUp 274 = .ok (.getfield 35, 3) := dk_180 0 35 (dk_at dksX2_summedUp_11 15 rfl rfl)
theorem dX2_summedUp_277 : decode cX2_summedUp 277 = .ok (.iload 5, 2) := dk_21 5 (dk_at dksX2_summedUp_11 18 rfl rfl)
theorem dX2_summedUp_279 : decode cX2_summedUp 279 = .ok (.laload, 1) := dk_47 (dk_at dksX2_summedUp_11 20 rfl rfl)
theorem dX2_summedUp_280 : decode cX2_summedUp 280 = .ok (.invokestatic 274, 3) := dk_184 1 18 (dk_at dksX2_summedUp_11 21 rfl rfl)
theorem dX2_summedUp_283 : decode cX2_summedUp 283 = .ok (.lastore, 1) := dk_80 (dk_at dksX2_summedUp_12 0 rfl rfl)
theorem dX2_summedUp_284 : decode cX2_summedUp 284 = .ok (.goto 116, 3) := dk_167 0 116 (dk_at dksX2_summedUp_12 1 rfl rfl)
theorem dX2_summedUp_287 : decode cX2_summedUp 287 = .ok (.iload 8, 2) := dk_21 8 (dk_at dksX2_summedUp_12 4 rfl rfl)
theorem dX2_summedUp_289 : decode cX2_summedUp 289 = .ok (.bipush 20, 2) := dk_16 20 (dk_at dksX2_summedUp_12 6 rfl rfl)
theorem dX2_summedUp_291 : decode cX2_summedUp 291 = .ok (.if_icmp .ge 40, 3) := dk_162 0 40 (dk_at dksX2_summedUp_12 8 rfl rfl)
theorem dX2_summedUp_294 : decode cX2_summedUp 294 = .ok (.iinc 5 (-2), 3) := dk_132 5 254 (dk_at dksX2_summedUp_12 11 rfl rfl)
theorem dX2_summedUp_297 : decode cX2_summedUp 297 = .ok (.aload_n 0, 1) := dk_42 (dk_at dksX2_summedUp_12 14 rfl rfl)
theorem dX2_summedUp_298 : decode cX2_summedUp 298 = .ok (.getfield 39, 3) := dk_180 0 39 (dk_at dksX2_summedUp_12 15 rfl rfl)
theorem dX2_summedUp_301 : decode cX2_summedUp 301 = .ok (.iload 6, 2) := dk_21 6 (dk_at dksX2_summedUp_12 18 rfl rfl)
theorem dX2_summedUp_303 : decode cX2_summedUp 303 = .ok (.iload 8, 2) := dk_21 8 (dk_at dksX2_summedUp_12 20 rfl rfl)
theorem dX2_summedUp_305 : decode cX2_summedUp 305 = .ok (.aload_n 0, 1) := dk_42 (dk_at dksX2_summedUp_12 22 rfl rfl)
theorem dX2_summedUp_306 : decode cX2_summedUp 306 = .ok (.getfield 35, 3) := dk_180 0 35 (dk_at dksX2_summedUp_13 0 rfl rfl)
theorem dX2_summedUp_309 : decode cX2_summedUp 309 = .ok (.iload 5, 2) := dk_21 5 (dk_at dksX2_summedUp_13 3 rfl rfl)
theorem dX2_summedUp_311 : decode cX2_summedUp 311 = .ok (.laload, 1) := dk_47 (dk_at dksX2_summedUp_13 5 rfl rfl)
theorem dX2_summedUp_312 : decode cX2_summedUp 312 = .ok (.aload_n 0, 1) := dk_42 (dk_at dksX2_summedUp_13 6 rfl rfl)
theorem dX2_summedUp_313 : decode cX2_summedUp 313 = .ok (.getfield 35, 3) := dk_180 0 35 (dk_at dksX2_summedUp_13 7 rfl rfl)
theorem dX2_summedUp_316 : decode cX2_summedUp 316 = .ok (.iload 5, 2) := dk_21 5 (dk_at dksX2_summedUp_13 10 rfl rfl)
theorem dX2_summedUp_318 : decode cX2_summedUp 318 = .ok (.iconst 1, 1) := dk_4 (dk_at dksX2_summedUp_13 12 rfl rfl)
theorem dX2_summedUp_319 : decode cX2_summedUp 319 = .ok (.iadd, 1) := dk_96 (dk_at dksX2_summedUp_13 13 rfl rfl)
theorem dX2_summedUp_320 : decode cX2_summedUp 320 = .ok (.laload, 1) := dk_47 (dk_at dksX2_summedUp_13 14 rfl rfl)
theorem dX2_summedUp_321 : decode cX2_summedUp 321 = .ok (.invokestatic 278, 3) := dk_184 1 22 (dk_at dksX2_summedUp_13 15 rfl rfl)
theorem dX2_summedUp_324 : decode cX2_summedUp 324 = .ok (.bastore, 1) := dk_84 (dk_at dksX2_summedUp_13 18 rfl rfl)
theorem dX2_summedUp_325 : decode cX2_summedUp 325 = .ok (.iinc 6 1, 3) := dk_132 6 1 (dk_at dksX2_summedUp_13 19 rfl rfl)
theorem dX2_summedUp_328 : decode cX2_summedUp 328 = .ok (.goto 72, 3) := dk_167 0 72 (dk_at dksX2_summedUp_14 0 rfl rfl)
theorem dX2_summedUp_331 : decode cX2_summedUp 331 = .ok (.iload 8, 2) := dk_21 8 (dk_at dksX2_summedUp_14 3 rfl rfl)
theorem dX2_summedUp_333 : decode cX2_summedUp 333 = .ok (.bipush 20, 2) := dk_16 20 (dk_at dksX2_summedUp_14 5 rfl rfl)
theorem dX2_summedUp_335 : decode cX2_summedUp 335 = .ok (.if_icmp .ne 32, 3) := dk_160 0 32 (dk_at dksX2_summedUp_14 7 rfl rfl)
theorem dX2_summedUp_338 : decode cX2_summedUp 338 = .ok (.aload_n 0, 1) := dk_42 (dk_at dksX2_summedUp_14 10 rfl rfl)
theorem dX2_summedUp_339 : decode cX2_summedUp 339 = .ok (.getfield 39, 3) := dk_180 0 39 (dk_at dksX2_summedUp_14 11 rfl rfl)
theorem dX2_summedUp_342 : decode cX2_summedUp 342 = .ok (.iload 6, 2) := dk_21 6 (dk_at dksX2_summedUp_14 14 rfl rfl)
theorem dX2_summedUp_344 : decode cX2_summedUp 344 = .ok (.iconst 1, 1) := dk_4 (dk_at dksX2_summedUp_14 16 rfl rfl)
theorem dX2_summedUp_345 : decode cX2_summedUp 345 = .ok (.isub, 1) := dk_100 (dk_at dksX2_summedUp_14 17 rfl rfl)
theorem dX2_summedUp_346 : decode cX2_summedUp 346 = .ok (.aload_n 0, 1) := dk_42 (dk_at dksX2_summedUp_14 18 rfl rfl)
theorem dX2_summedUp_347 : decode cX2_summedUp 347 = .ok (.getfield 39, 3) := dk_180 0 39 (dk_at dksX2_summedUp_14 19 rfl rfl)
theorem dX2_summedUp_350 : decode cX2_summedUp 350 = .ok (.iload 6, 2) := dk_21 6 (dk_at dksX2_summedUp_14 22 rfl rfl)
theorem dX2_summedUp_352 : decode cX2_summedUp 352 = .ok (.iconst 1, 1) := dk_4 (dk_at dksX2_summedUp_15 0 rfl rfl)
theorem dX2_summedUp_353 : decode cX2_summedUp 353 = .ok (.isub, 1) := dk_100 (dk_at dksX2_summedUp_15 1 rfl rfl)
theorem dX2_summedUp_354 : decode cX2_summedUp 354 = .ok (.baload, 1) := dk_51 (dk_at dksX2_summedUp_15 2 rfl rfl)
theorem dX2_summedUp_355 : decode cX2_summedUp 355 = .ok (.ifCond .ne 7, 3) := dk_154 0 7 (dk_at dksX2_summedUp_15 3 rfl rfl)
theorem dX2_summedUp_358 : decode cX2_summedUp 358 = .ok (.iconst 1, 1) := dk_4 (dk_at dksX2_summedUp_15 6 rfl rfl)
theorem dX2_summedUp_359 : decode cX2_summedUp 359 = .ok (.goto 4, 3) := dk_167 0 4 (dk_at dksX2_summedUp_15 7 rfl rfl)
theorem dX2_summedUp_362 : decode cX2_summedUp 362 = .ok (.iconst 0, 1) := dk_3 (dk_at dksX2_summedUp_15 10 rfl rfl)
theorem dX2_summedUp_363 : decode cX2_summedUp 363 = .ok (.bastore, 1) := dk_84 (dk_at dksX2_summedUp_15 11 rfl rfl)
theorem dX2_summedUp_364 : decode cX2_summedUp 364 = .ok (.goto 36, 3) := dk_167 0 36 (dk_at dksX2_summedUp_15 12 rfl rfl)
theorem dX2_summedUp_367 : decode cX2_summedUp 367 = .ok (.iinc 6 (-1), 3) := dk_132 6 255 (dk_at dksX2_summedUp_15 15 rfl rfl)
theorem dX2_summedUp_370 : decode cX2_summedUp 370 = .ok (.aload_n 0, 1) := dk_42 (dk_at dksX2_summedUp_15 18 rfl rfl)
theorem dX2_summedUp_371 : decode cX2_summedUp 371 = .ok (.getfield 39, 3) := dk_180 0 39 (dk_at dksX2_summedUp_15 19 rfl rfl)
theorem dX2_summedUp_374 : decode cX2_summedUp 374 = .ok (.iload 6, 2) := dk_21 6 (dk_at dksX2_summedUp_15 22 rfl rfl)
theorem dX2_summedUp_376 : decode cX2_summedUp 376 = .ok (.iconst 1, 1) := dk_4 (dk_at dksX2_summedUp_16 0 rfl rfl)
theorem dX2_summedUp_377 : decode cX2_summedUp 377 = .ok (.isub, 1) := dk_100 (dk_at dksX2_summedUp_16 1 rfl rfl)
theorem dX2_summedUp_378 : decode cX2_summedUp 378 = .ok (.iload 8, 2) := dk_21 8 (dk_at dksX2_summedUp_16 2 rfl rfl)
theorem dX2_summedUp_380 : decode cX2_summedUp 380 = .ok (.aload_n 0, 1) := dk_42 (dk_at dksX2_summedUp_16 4 rfl rfl)
theorem dX2_summedUp_381 : decode cX2_summedUp 381 = .ok (.getfield 39, 3) := dk_180 0 39 (dk_at dksX2_summedUp_16 5 rfl rfl)
theorem dX2_summedUp_384 : decode cX2_summedUp 384 = .ok (.iload 6, 2) := dk_21 6 (dk_at dksX2_summedUp_16 8 rfl rfl)
theorem dX2_summedUp_386 : decode cX2_summedUp 386 = .ok (.iconst 1, 1) := dk_4 (dk_at dksX2_summedUp_16 10 rfl rfl)
theorem dX2_summedUp_387 : decode cX2_summedUp 387 = .ok (.isub, 1) := dk_100 (dk_at dksX2_summedUp_16 11 rfl rfl)
theorem dX2_summedUp_388 : decode cX2_summedUp 388 = .ok (.baload, 1) := dk_51 (dk_at dksX2_summedUp_16 12 rfl rfl)
theorem dX2_summedUp_389 : decode cX2_summedUp 389 = .ok (.aload_n 0, 1) := dk_42 (dk_at dksX2_summedUp_16 13 rfl rfl)
theorem dX2_summedUp_390 : decode cX2_summedUp 390 = .ok (.getfield 39, 3) := dk_180 0 39 (dk_at dksX2_summedUp_16 14 rfl rfl)
theorem dX2_summedUp_393 : decode cX2_summedUp 393 = .ok (.iload 6, 2) := dk_21 6 (dk_at dksX2_summedUp_16 17 rfl rfl)
theorem dX2_summedUp_395 : decode cX2_summedUp 395 = .ok (.baload, 1) := dk_51 (dk_at dksX2_summedUp_16 19 rfl rfl)
theorem dX2_summedUp_396 : decode cX2_summedUp 396 = .ok (.invokestatic 282, 3) := dk_184 1 26 (dk_at dksX2_summedUp_16 20 rfl rfl)
theorem dX2_summedUp_399 : decode cX2_summedUp 399 = .ok (.bastore, 1) := dk_84 (dk_at dksX2_summedUp_16 23 rfl rfl)
theorem dX2_summedUp_400 : decode cX2_summedUp 400 = .ok (.iinc 7 1, 3) := dk_132 7 1 (dk_at dksX2_summedUp_17 0 rfl rfl)
theorem dX2_summedUp_403 : decode cX2_summedUp 403 = .ok (.goto (-365), 3) := dk_167 254 147 (dk_at dksX2_summedUp_17 3 rfl rfl)
theorem dX2_summedUp_406 : decode cX2_summedUp 406 = .ok (.aload_n 0, 1) := dk_42 (dk_at dksX2_summedUp_17 6 rfl rfl)
theorem dX2_summedUp_407 : decode cX2_summedUp 407 = .ok (.getfield 35, 3) := dk_180 0 35 (dk_at dksX2_summedUp_17 7 rfl rfl)
theorem dX2_summedUp_410 : decode cX2_summedUp 410 = .ok (.iconst 0, 1) := dk_3 (dk_at dksX2_summedUp_17 10 rfl rfl)
theorem dX2_summedUp_411 : decode cX2_summedUp 411 = .ok (.laload, 1) := dk_47 (dk_at dksX2_summedUp_17 11 rfl rfl)
theorem dX2_summedUp_412 : decode cX2_summedUp 412 = .ok (.lreturn, 1) := dk_173 (dk_at dksX2_summedUp_17 12 rfl rfl)
abbrev cX2_ranksOf : ByteArray := prog_20_method_62_code
def yX2_ranksOf : MethodName := ⟨RX2, "ranksOf", "(J)J"⟩
def dkwX2_ranksOf_1 : List UInt8 := [133, 167, 0, 4, 9, 173]
abbrev dktX2_ranksOf_1 : List UInt8 := dkwX2_ranksOf_1 ++ []
def dkwX2_ranksOf_0 : List UInt8 := [31, 9, 148, 155, 0, 25, 31, 42, 180, 0, 7, 3, 46, 133, 148, 156, 0, 13, 42, 31, 136, 182, 1, 6]
abbrev dktX2_ranksOf_0 : List UInt8 := dkwX2_ranksOf_0 ++ dktX2_ranksOf_1
theorem dksX2_ranksOf_0 : cX2_ranksOf.data.toList.drop 0 = dktX2_ranksOf_0 := by decide +kernel
theorem dksX2_ranksOf_1 : cX2_ranksOf.data.toList.drop 24 = dktX2_ranksOf_1 := dk_seg dksX2_ranksOf_0 24 rfl rfl
theorem dX2_ranksOf_0 : decode cX2_ranksOf 0 = .ok (.lload_n 1, 1) := dk_31 (dk_at dksX2_ranksOf_0 0 rfl rfl)
theorem dX2_ranksOf_1 : decode cX2_ranksOf 1 = .ok (.lconst 0, 1) := dk_9 (dk_at dksX2_ranksOf_0 1 rfl rfl)
theorem dX2_ranksOf_2 : decode cX2_ranksOf 2 = .ok (.lcmp, 1) := dk_148 (dk_at dksX2_ranksOf_0 2 rfl rfl)
theorem dX2_ranksOf_3 : decode cX2_ranksOf 3 = .ok (.ifCond .lt 25, 3) := dk_155 0 25 (dk_at dksX2_ranksOf_0 3 rfl rfl)
theorem dX2_ranksOf_6 : decode cX2_ranksOf 6 = .ok (.lload_n 1, 1) := dk_31 (dk_at dksX2_ranksOf_0 6 rfl rfl)
theorem dX2_ranksOf_7 : decode cX2_ranksOf 7 = .ok (.aload_n 0, 1) := dk_42 (dk_at dksX2_ranksOf_0 7 rfl rfl)
theorem dX2_ranksOf_8 : decode cX2_ranksOf 8 = .ok (.getfield 7, 3) := dk_180 0 7 (dk_at dksX2_ranksOf_0 8 rfl rfl)
theorem dX2_ranksOf_11 : decode cX2_ranksOf 11 = .ok (.iconst 0, 1) := dk_3 (dk_at dksX2_ranksOf_0 11 rfl rfl)
theorem dX2_ranksOf_12 : decode cX2_ranksOf 12 = .ok (.iaload, 1) := dk_46 (dk_at dksX2_ranksOf_0 12 rfl rfl)
theorem dX2_ranksOf_13 : decode cX2_ranksOf 13 = .ok (.i2l, 1) := dk_133 (dk_at dksX2_ranksOf_0 13 rfl rfl)
theorem dX2_ranksOf_14 : decode cX2_ranksOf 14 = .ok (.lcmp, 1) := dk_148 (dk_at dksX2_ranksOf_0 14 rfl rfl)
theorem dX2_ranksOf_15 : decode cX2_ranksOf 15 = .ok (.ifCond .ge 13, 3) := dk_156 0 13 (dk_at dksX2_ranksOf_0 15 rfl rfl)
theorem dX2_ranksOf_18 : decode cX2_ranksOf 18 = .ok (.aload_n 0, 1) := dk_42 (dk_at dksX2_ranksOf_0 18 rfl rfl)
theorem dX2_ranksOf_19 : decode cX2_ranksOf 19 = .ok (.lload_n 1, 1) := dk_31 (dk_at dksX2_ranksOf_0 19 rfl rfl)
theorem dX2_ranksOf_20 : decode cX2_ranksOf 20 = .ok (.l2i, 1) := dk_136 (dk_at dksX2_ranksOf_0 20 rfl rfl)
theorem dX2_ranksOf_21 : decode cX2_ranksOf 21 = .ok (.invokevirtual 262, 3) := dk_182 1 6 (dk_at dksX2_ranksOf_0 21 rfl rfl)
theorem dX2_ranksOf_24 : decode cX2_ranksOf 24 = .ok (.i2l, 1) := dk_133 (dk_at dksX2_ranksOf_1 0 rfl rfl)
theorem dX2_ranksOf_25 : decode cX2_ranksOf 25 = .ok (.goto 4, 3) := dk_167 0 4 (dk_at dksX2_ranksOf_1 1 rfl rfl)
theorem dX2_ranksOf_28 : decode cX2_ranksOf 28 = .ok (.lconst 0, 1) := dk_9 (dk_at dksX2_ranksOf_1 4 rfl rfl)
theorem dX2_ranksOf_29 : decode cX2_ranksOf 29 = .ok (.lreturn, 1) := dk_173 (dk_at dksX2_ranksOf_1 5 rfl rfl)
abbrev cX2_halved : ByteArray := prog_20_method_63_code
def yX2_halved : MethodName := ⟨RX2, "halved", "(JJ)J"⟩
def dkwX2_halved_1 : List UInt8 := [20, 1, 9, 109, 55, 4, 22, 6, 10, 97, 55, 6, 167, 255, 228, 22, 4, 173]
abbrev dktX2_halved_1 : List UInt8 := dkwX2_halved_1 ++ []
def dkwX2_halved_0 : List UInt8 := [30, 55, 4, 9, 55, 6, 22, 6, 32, 148, 156, 0, 27, 22, 4, 9, 148, 153, 0, 20, 22, 4]
abbrev dktX2_halved_0 : List UInt8 := dkwX2_halved_0 ++ dktX2_halved_1
theorem dksX2_halved_0 : cX2_halved.data.toList.drop 0 = dktX2_halved_0 := by decide +kernel
theorem dksX2_halved_1 : cX2_halved.data.toList.drop 22 = dktX2_halved_1 := dk_seg dksX2_halved_0 22 rfl rfl
theorem dX2_halved_0 : decode cX2_halved 0 = .ok (.lload_n 0, 1) := dk_30 (dk_at dksX2_halved_0 0 rfl rfl)
theorem dX2_halved_1 : decode cX2_halved 1 = .ok (.lstore 4, 2) := dk_55 4 (dk_at dksX2_halved_0 1 rfl rfl)
theorem dX2_halved_3 : decode cX2_halved 3 = .ok (.lconst 0, 1) := dk_9 (dk_at dksX2_halved_0 3 rfl rfl)
theorem dX2_halved_4 : decode cX2_halved 4 = .ok (.lstore 6, 2) := dk_55 6 (dk_at dksX2_halved_0 4 rfl rfl)
theorem dX2_halved_6 : decode cX2_halved 6 = .ok (.lload 6, 2) := dk_22 6 (dk_at dksX2_halved_0 6 rfl rfl)
theorem dX2_halved_8 : decode cX2_halved 8 = .ok (.lload_n 2, 1) := dk_32 (dk_at dksX2_halved_0 8 rfl rfl)
theorem dX2_halved_9 : decode cX2_halved 9 = .ok (.lcmp, 1) := dk_148 (dk_at dksX2_halved_0 9 rfl rfl)
theorem dX2_halved_10 : decode cX2_halved 10 = .ok (.ifCond .ge 27, 3) := dk_156 0 27 (dk_at dksX2_halved_0 10 rfl rfl)
theorem dX2_halved_13 : decode cX2_halved 13 = .ok (.lload 4, 2) := dk_22 4 (dk_at dksX2_halved_0 13 rfl rfl)
theorem dX2_halved_15 : decode cX2_halved 15 = .ok (.lconst 0, 1) := dk_9 (dk_at dksX2_halved_0 15 rfl rfl)
theorem dX2_halved_16 : decode cX2_halved 16 = .ok (.lcmp, 1) := dk_148 (dk_at dksX2_halved_0 16 rfl rfl)
theorem dX2_halved_17 : decode cX2_halved 17 = .ok (.ifCond .eq 20, 3) := dk_153 0 20 (dk_at dksX2_halved_0 17 rfl rfl)
theorem dX2_halved_20 : decode cX2_halved 20 = .ok (.lload 4, 2) := dk_22 4 (dk_at dksX2_halved_0 20 rfl rfl)
theorem dX2_halved_22 : decode cX2_halved 22 = .ok (.ldc2_w 265, 3) := dk_20 1 9 (dk_at dksX2_halved_1 0 rfl rfl)
theorem dX2_halved_25 : decode cX2_halved 25 = .ok (.ldiv, 1) := dk_109 (dk_at dksX2_halved_1 3 rfl rfl)
theorem dX2_halved_26 : decode cX2_halved 26 = .ok (.lstore 4, 2) := dk_55 4 (dk_at dksX2_halved_1 4 rfl rfl)
theorem dX2_halved_28 : decode cX2_halved 28 = .ok (.lload 6, 2) := dk_22 6 (dk_at dksX2_halved_1 6 rfl rfl)
theorem dX2_halved_30 : decode cX2_halved 30 = .ok (.lconst 1, 1) := dk_10 (dk_at dksX2_halved_1 8 rfl rfl)
theorem dX2_halved_31 : decode cX2_halved 31 = .ok (.ladd, 1) := dk_97 (dk_at dksX2_halved_1 9 rfl rfl)
theorem dX2_halved_32 : decode cX2_halved 32 = .ok (.lstore 6, 2) := dk_55 6 (dk_at dksX2_halved_1 10 rfl rfl)
theorem dX2_halved_34 : decode cX2_halved 34 = .ok (.goto (-28), 3) := dk_167 255 228 (dk_at dksX2_halved_1 12 rfl rfl)
theorem dX2_halved_37 : decode cX2_halved 37 = .ok (.lload 4, 2) := dk_22 4 (dk_at dksX2_halved_1 15 rfl rfl)
theorem dX2_halved_39 : decode cX2_halved 39 = .ok (.lreturn, 1) := dk_173 (dk_at dksX2_halved_1 17 rfl rfl)
abbrev cX2_two : ByteArray := prog_20_method_60_code
def yX2_two : MethodName := ⟨RX2, "two", "(IJJ)J"⟩
def dkwX2_two_3 : List UInt8 := [154, 0, 7, 9, 167, 0, 9, 31, 33, 109, 184, 1, 2, 173]
abbrev dktX2_two_3 : List UInt8 := dkwX2_two_3 ++ []
def dkwX2_two_2 : List UInt8 := [31, 33, 97, 184, 1, 2, 173, 31, 33, 101, 184, 1, 2, 173, 31, 33, 105, 184, 1, 2, 173, 33, 9, 148]
abbrev dktX2_two_2 : List UInt8 := dkwX2_two_2 ++ dktX2_two_3
def dkwX2_two_1 : List UInt8 := [170, 0, 0, 0, 0, 0, 48, 0, 0, 0, 6, 0, 0, 0, 8, 0, 0, 0, 27, 0, 0, 0, 34, 0, 0, 0, 41]
abbrev dktX2_two_1 : List UInt8 := dkwX2_two_1 ++ dktX2_two_2
def dkwX2_two_0 : List UInt8 := [26]
abbrev dktX2_two_0 : List UInt8 := dkwX2_two_0 ++ dktX2_two_1
theorem dksX2_two_0 : cX2_two.data.toList.drop 0 = dktX2_two_0 := by decide +kernel
theorem dksX2_two_1 : cX2_two.data.toList.drop 1 = dktX2_two_1 := dk_seg dksX2_two_0 1 rfl rfl
theorem dksX2_two_2 : cX2_two.data.toList.drop 28 = dktX2_two_2 := dk_seg dksX2_two_1 27 rfl rfl
theorem dksX2_two_3 : cX2_two.data.toList.drop 52 = dktX2_two_3 := dk_seg dksX2_two_2 24 rfl rfl
theorem dX2_two_0 : decode cX2_two 0 = .ok (.iload_n 0, 1) := dk_26 (dk_at dksX2_two_0 0 rfl rfl)
theorem dX2_two_1 : decode cX2_two 1 = .ok (.tableswitch 48 6 8 #[27, 34, 41], 27) := by decide +kernel
theorem dX2_two_28 : decode cX2_two 28 = .ok (.lload_n 1, 1) := dk_31 (dk_at dksX2_two_2 0 rfl rfl)
theorem dX2_two_29 : decode cX2_two 29 = .ok (.lload_n 3, 1) := dk_33 (dk_at dksX2_two_2 1 rfl rfl)
theorem dX2_two_30 : decode cX2_two 30 = .ok (.ladd, 1) := dk_97 (dk_at dksX2_two_2 2 rfl rfl)
theorem dX2_two_31 : decode cX2_two 31 = .ok (.invokestatic 258, 3) := dk_184 1 2 (dk_at dksX2_two_2 3 rfl rfl)
theorem dX2_two_34 : decode cX2_two 34 = .ok (.lreturn, 1) := dk_173 (dk_at dksX2_two_2 6 rfl rfl)
theorem dX2_two_35 : decode cX2_two 35 = .ok (.lload_n 1, 1) := dk_31 (dk_at dksX2_two_2 7 rfl rfl)
theorem dX2_two_36 : decode cX2_two 36 = .ok (.lload_n 3, 1) := dk_33 (dk_at dksX2_two_2 8 rfl rfl)
theorem dX2_two_37 : decode cX2_two 37 = .ok (.lsub, 1) := dk_101 (dk_at dksX2_two_2 9 rfl rfl)
theorem dX2_two_38 : decode cX2_two 38 = .ok (.invokestatic 258, 3) := dk_184 1 2 (dk_at dksX2_two_2 10 rfl rfl)
theorem dX2_two_41 : decode cX2_two 41 = .ok (.lreturn, 1) := dk_173 (dk_at dksX2_two_2 13 rfl rfl)
theorem dX2_two_42 : decode cX2_two 42 = .ok (.lload_n 1, 1) := dk_31 (dk_at dksX2_two_2 14 rfl rfl)
theorem dX2_two_43 : decode cX2_two 43 = .ok (.lload_n 3, 1) := dk_33 (dk_at dksX2_two_2 15 rfl rfl)
theorem dX2_two_44 : decode cX2_two 44 = .ok (.lmul, 1) := dk_105 (dk_at dksX2_two_2 16 rfl rfl)
theorem dX2_two_45 : decode cX2_two 45 = .ok (.invokestatic 258, 3) := dk_184 1 2 (dk_at dksX2_two_2 17 rfl rfl)
theorem dX2_two_48 : decode cX2_two 48 = .ok (.lreturn, 1) := dk_173 (dk_at dksX2_two_2 20 rfl rfl)
theorem dX2_two_49 : decode cX2_two 49 = .ok (.lload_n 3, 1) := dk_33 (dk_at dksX2_two_2 21 rfl rfl)
theorem dX2_two_50 : decode cX2_two 50 = .ok (.lconst 0, 1) := dk_9 (dk_at dksX2_two_2 22 rfl rfl)
theorem dX2_two_51 : decode cX2_two 51 = .ok (.lcmp, 1) := dk_148 (dk_at dksX2_two_2 23 rfl rfl)
theorem dX2_two_52 : decode cX2_two 52 = .ok (.ifCond .ne 7, 3) := dk_154 0 7 (dk_at dksX2_two_3 0 rfl rfl)
theorem dX2_two_55 : decode cX2_two 55 = .ok (.lconst 0, 1) := dk_9 (dk_at dksX2_two_3 3 rfl rfl)
theorem dX2_two_56 : decode cX2_two 56 = .ok (.goto 9, 3) := dk_167 0 9 (dk_at dksX2_two_3 4 rfl rfl)
theorem dX2_two_59 : decode cX2_two 59 = .ok (.lload_n 1, 1) := dk_31 (dk_at dksX2_two_3 7 rfl rfl)
theorem dX2_two_60 : decode cX2_two 60 = .ok (.lload_n 3, 1) := dk_33 (dk_at dksX2_two_3 8 rfl rfl)
theorem dX2_two_61 : decode cX2_two 61 = .ok (.ldiv, 1) := dk_109 (dk_at dksX2_two_3 9 rfl rfl)
theorem dX2_two_62 : decode cX2_two 62 = .ok (.invokestatic 258, 3) := dk_184 1 2 (dk_at dksX2_two_3 10 rfl rfl)
theorem dX2_two_65 : decode cX2_two 65 = .ok (.lreturn, 1) := dk_173 (dk_at dksX2_two_3 13 rfl rfl)
abbrev cX2_clip : ByteArray := prog_20_method_59_code
def yX2_clip : MethodName := ⟨RX2, "clip", "(J)J"⟩
def dkwX2_clip_1 : List UInt8 := [20, 1, 0, 167, 0, 4, 30, 173]
abbrev dktX2_clip_1 : List UInt8 := dkwX2_clip_1 ++ []
def dkwX2_clip_0 : List UInt8 := [30, 20, 0, 254, 148, 158, 0, 9, 20, 0, 254, 167, 0, 18, 30, 20, 1, 0, 148, 156, 0, 9]
abbrev dktX2_clip_0 : List UInt8 := dkwX2_clip_0 ++ dktX2_clip_1
theorem dksX2_clip_0 : cX2_clip.data.toList.drop 0 = dktX2_clip_0 := by decide +kernel
theorem dksX2_clip_1 : cX2_clip.data.toList.drop 22 = dktX2_clip_1 := dk_seg dksX2_clip_0 22 rfl rfl
theorem dX2_clip_0 : decode cX2_clip 0 = .ok (.lload_n 0, 1) := dk_30 (dk_at dksX2_clip_0 0 rfl rfl)
theorem dX2_clip_1 : decode cX2_clip 1 = .ok (.ldc2_w 254, 3) := dk_20 0 254 (dk_at dksX2_clip_0 1 rfl rfl)
theorem dX2_clip_4 : decode cX2_clip 4 = .ok (.lcmp, 1) := dk_148 (dk_at dksX2_clip_0 4 rfl rfl)
theorem dX2_clip_5 : decode cX2_clip 5 = .ok (.ifCond .le 9, 3) := dk_158 0 9 (dk_at dksX2_clip_0 5 rfl rfl)
theorem dX2_clip_8 : decode cX2_clip 8 = .ok (.ldc2_w 254, 3) := dk_20 0 254 (dk_at dksX2_clip_0 8 rfl rfl)
theorem dX2_clip_11 : decode cX2_clip 11 = .ok (.goto 18, 3) := dk_167 0 18 (dk_at dksX2_clip_0 11 rfl rfl)
theorem dX2_clip_14 : decode cX2_clip 14 = .ok (.lload_n 0, 1) := dk_30 (dk_at dksX2_clip_0 14 rfl rfl)
theorem dX2_clip_15 : decode cX2_clip 15 = .ok (.ldc2_w 256, 3) := dk_20 1 0 (dk_at dksX2_clip_0 15 rfl rfl)
theorem dX2_clip_18 : decode cX2_clip 18 = .ok (.lcmp, 1) := dk_148 (dk_at dksX2_clip_0 18 rfl rfl)
theorem dX2_clip_19 : decode cX2_clip 19 = .ok (.ifCond .ge 9, 3) := dk_156 0 9 (dk_at dksX2_clip_0 19 rfl rfl)
theorem dX2_clip_22 : decode cX2_clip 22 = .ok (.ldc2_w 256, 3) := dk_20 1 0 (dk_at dksX2_clip_1 0 rfl rfl)
theorem dX2_clip_25 : decode cX2_clip 25 = .ok (.goto 4, 3) := dk_167 0 4 (dk_at dksX2_clip_1 3 rfl rfl)
theorem dX2_clip_28 : decode cX2_clip 28 = .ok (.lload_n 0, 1) := dk_30 (dk_at dksX2_clip_1 6 rfl rfl)
theorem dX2_clip_29 : decode cX2_clip 29 = .ok (.lreturn, 1) := dk_173 (dk_at dksX2_clip_1 7 rfl rfl)
abbrev cX2_isAsked : ByteArray := prog_20_method_61_code
def yX2_isAsked : MethodName := ⟨RX2, "isAsked", "(IJJ)Z"⟩
def dkwX2_isAsked_4 : List UInt8 := [167, 0, 18, 3, 167, 0, 14, 31, 33, 148, 153, 0, 7, 4, 167, 0, 4, 3, 172]
abbrev dktX2_isAsked_4 : List UInt8 := dkwX2_isAsked_4 ++ []
def dkwX2_isAsked_3 : List UInt8 := [155, 0, 7, 4, 167, 0, 38, 3, 167, 0, 34, 26, 16, 14, 160, 0, 17, 31, 33, 148, 154, 0, 7, 4]
abbrev dktX2_isAsked_3 : List UInt8 := dkwX2_isAsked_3 ++ dktX2_isAsked_4
def dkwX2_isAsked_2 : List UInt8 := [33, 148, 158, 0, 7, 4, 167, 0, 58, 3, 167, 0, 54, 26, 16, 13, 160, 0, 17, 31, 33, 148]
abbrev dktX2_isAsked_2 : List UInt8 := dkwX2_isAsked_2 ++ dktX2_isAsked_3
def dkwX2_isAsked_1 : List UInt8 := [160, 0, 17, 31, 33, 148, 157, 0, 7, 4, 167, 0, 78, 3, 167, 0, 74, 26, 16, 12, 160, 0, 17, 31]
abbrev dktX2_isAsked_1 : List UInt8 := dkwX2_isAsked_1 ++ dktX2_isAsked_2
def dkwX2_isAsked_0 : List UInt8 := [26, 16, 10, 160, 0, 17, 31, 33, 148, 156, 0, 7, 4, 167, 0, 98, 3, 167, 0, 94, 26, 16, 11]
abbrev dktX2_isAsked_0 : List UInt8 := dkwX2_isAsked_0 ++ dktX2_isAsked_1
theorem dksX2_isAsked_0 : cX2_isAsked.data.toList.drop 0 = dktX2_isAsked_0 := by decide +kernel
theorem dksX2_isAsked_1 : cX2_isAsked.data.toList.drop 23 = dktX2_isAsked_1 := dk_seg dksX2_isAsked_0 23 rfl rfl
theorem dksX2_isAsked_2 : cX2_isAsked.data.toList.drop 47 = dktX2_isAsked_2 := dk_seg dksX2_isAsked_1 24 rfl rfl
theorem dksX2_isAsked_3 : cX2_isAsked.data.toList.drop 69 = dktX2_isAsked_3 := dk_seg dksX2_isAsked_2 22 rfl rfl
theorem dksX2_isAsked_4 : cX2_isAsked.data.toList.drop 93 = dktX2_isAsked_4 := dk_seg dksX2_isAsked_3 24 rfl rfl
theorem dX2_isAsked_0 : decode cX2_isAsked 0 = .ok (.iload_n 0, 1) := dk_26 (dk_at dksX2_isAsked_0 0 rfl rfl)
theorem dX2_isAsked_1 : decode cX2_isAsked 1 = .ok (.bipush 10, 2) := dk_16 10 (dk_at dksX2_isAsked_0 1 rfl rfl)
theorem dX2_isAsked_3 : decode cX2_isAsked 3 = .ok (.if_icmp .ne 17, 3) := dk_160 0 17 (dk_at dksX2_isAsked_0 3 rfl rfl)
theorem dX2_isAsked_6 : decode cX2_isAsked 6 = .ok (.lload_n 1, 1) := dk_31 (dk_at dksX2_isAsked_0 6 rfl rfl)
theorem dX2_isAsked_7 : decode cX2_isAsked 7 = .ok (.lload_n 3, 1) := dk_33 (dk_at dksX2_isAsked_0 7 rfl rfl)
theorem dX2_isAsked_8 : decode cX2_isAsked 8 = .ok (.lcmp, 1) := dk_148 (dk_at dksX2_isAsked_0 8 rfl rfl)
theorem dX2_isAsked_9 : decode cX2_isAsked 9 = .ok (.ifCond .ge 7, 3) := dk_156 0 7 (dk_at dksX2_isAsked_0 9 rfl rfl)
theorem dX2_isAsked_12 : decode cX2_isAsked 12 = .ok (.iconst 1, 1) := dk_4 (dk_at dksX2_isAsked_0 12 rfl rfl)
theorem dX2_isAsked_13 : decode cX2_isAsked 13 = .ok (.goto 98, 3) := dk_167 0 98 (dk_at dksX2_isAsked_0 13 rfl rfl)
theorem dX2_isAsked_16 : decode cX2_isAsked 16 = .ok (.iconst 0, 1) := dk_3 (dk_at dksX2_isAsked_0 16 rfl rfl)
theorem dX2_isAsked_17 : decode cX2_isAsked 17 = .ok (.goto 94, 3) := dk_167 0 94 (dk_at dksX2_isAsked_0 17 rfl rfl)
theorem dX2_isAsked_20 : decode cX2_isAsked 20 = .ok (.iload_n 0, 1) := dk_26 (dk_at dksX2_isAsked_0 20 rfl rfl)
theorem dX2_isAsked_21 : decode cX2_isAsked 21 = .ok (.bipush 11, 2) := dk_16 11 (dk_at dksX2_isAsked_0 21 rfl rfl)
theorem dX2_isAsked_23 : decode cX2_isAsked 23 = .ok (.if_icmp .ne 17, 3) := dk_160 0 17 (dk_at dksX2_isAsked_1 0 rfl rfl)
theorem dX2_isAsked_26 : decode cX2_isAsked 26 = .ok (.lload_n 1, 1) := dk_31 (dk_at dksX2_isAsked_1 3 rfl rfl)
theorem dX2_isAsked_27 : decode cX2_isAsked 27 = .ok (.lload_n 3, 1) := dk_33 (dk_at dksX2_isAsked_1 4 rfl rfl)
theorem dX2_isAsked_28 : decode cX2_isAsked 28 = .ok (.lcmp, 1) := dk_148 (dk_at dksX2_isAsked_1 5 rfl rfl)
theorem dX2_isAsked_29 : decode cX2_isAsked 29 = .ok (.ifCond .gt 7, 3) := dk_157 0 7 (dk_at dksX2_isAsked_1 6 rfl rfl)
theorem dX2_isAsked_32 : decode cX2_isAsked 32 = .ok (.iconst 1, 1) := dk_4 (dk_at dksX2_isAsked_1 9 rfl rfl)
theorem dX2_isAsked_33 : decode cX2_isAsked 33 = .ok (.goto 78, 3) := dk_167 0 78 (dk_at dksX2_isAsked_1 10 rfl rfl)
theorem dX2_isAsked_36 : decode cX2_isAsked 36 = .ok (.iconst 0, 1) := dk_3 (dk_at dksX2_isAsked_1 13 rfl rfl)
theorem dX2_isAsked_37 : decode cX2_isAsked 37 = .ok (.goto 74, 3) := dk_167 0 74 (dk_at dksX2_isAsked_1 14 rfl rfl)
theorem dX2_isAsked_40 : decode cX2_isAsked 40 = .ok (.iload_n 0, 1) := dk_26 (dk_at dksX2_isAsked_1 17 rfl rfl)
theorem dX2_isAsked_41 : decode cX2_isAsked 41 = .ok (.bipush 12, 2) := dk_16 12 (dk_at dksX2_isAsked_1 18 rfl rfl)
theorem dX2_isAsked_43 : decode cX2_isAsked 43 = .ok (.if_icmp .ne 17, 3) := dk_160 0 17 (dk_at dksX2_isAsked_1 20 rfl rfl)
theorem dX2_isAsked_46 : decode cX2_isAsked 46 = .ok (.lload_n 1, 1) := dk_31 (dk_at dksX2_isAsked_1 23 rfl rfl)
theorem dX2_isAsked_47 : decode cX2_isAsked 47 = .ok (.lload_n 3, 1) := dk_33 (dk_at dksX2_isAsked_2 0 rfl rfl)
theorem dX2_isAsked_48 : decode cX2_isAsked 48 = .ok (.lcmp, 1) := dk_148 (dk_at dksX2_isAsked_2 1 rfl rfl)
theorem dX2_isAsked_49 : decode cX2_isAsked 49 = .ok (.ifCond .le 7, 3) := dk_158 0 7 (dk_at dksX2_isAsked_2 2 rfl rfl)
theorem dX2_isAsked_52 : decode cX2_isAsked 52 = .ok (.iconst 1, 1) := dk_4 (dk_at dksX2_isAsked_2 5 rfl rfl)
theorem dX2_isAsked_53 : decode cX2_isAsked 53 = .ok (.goto 58, 3) := dk_167 0 58 (dk_at dksX2_isAsked_2 6 rfl rfl)
theorem dX2_isAsked_56 : decode cX2_isAsked 56 = .ok (.iconst 0, 1) := dk_3 (dk_at dksX2_isAsked_2 9 rfl rfl)
theorem dX2_isAsked_57 : decode cX2_isAsked 57 = .ok (.goto 54, 3) := dk_167 0 54 (dk_at dksX2_isAsked_2 10 rfl rfl)
theorem dX2_isAsked_60 : decode cX2_isAsked 60 = .ok (.iload_n 0, 1) := dk_26 (dk_at dksX2_isAsked_2 13 rfl rfl)
theorem dX2_isAsked_61 : decode cX2_isAsked 61 = .ok (.bipush 13, 2) := dk_16 13 (dk_at dksX2_isAsked_2 14 rfl rfl)
theorem dX2_isAsked_63 : decode cX2_isAsked 63 = .ok (.if_icmp .ne 17, 3) := dk_160 0 17 (dk_at dksX2_isAsked_2 16 rfl rfl)
theorem dX2_isAsked_66 : decode cX2_isAsked 66 = .ok (.lload_n 1, 1) := dk_31 (dk_at dksX2_isAsked_2 19 rfl rfl)
theorem dX2_isAsked_67 : decode cX2_isAsked 67 = .ok (.lload_n 3, 1) := dk_33 (dk_at dksX2_isAsked_2 20 rfl rfl)
theorem dX2_isAsked_68 : decode cX2_isAsked 68 = .ok (.lcmp, 1) := dk_148 (dk_at dksX2_isAsked_2 21 rfl rfl)
theorem dX2_isAsked_69 : decode cX2_isAsked 69 = .ok (.ifCond .lt 7, 3) := dk_155 0 7 (dk_at dksX2_isAsked_3 0 rfl rfl)
theorem dX2_isAsked_72 : decode cX2_isAsked 72 = .ok (.iconst 1, 1) := dk_4 (dk_at dksX2_isAsked_3 3 rfl rfl)
theorem dX2_isAsked_73 : decode cX2_isAsked 73 = .ok (.goto 38, 3) := dk_167 0 38 (dk_at dksX2_isAsked_3 4 rfl rfl)
theorem dX2_isAsked_76 : decode cX2_isAsked 76 = .ok (.iconst 0, 1) := dk_3 (dk_at dksX2_isAsked_3 7 rfl rfl)
theorem dX2_isAsked_77 : decode cX2_isAsked 77 = .ok (.goto 34, 3) := dk_167 0 34 (dk_at dksX2_isAsked_3 8 rfl rfl)
theorem dX2_isAsked_80 : decode cX2_isAsked 80 = .ok (.iload_n 0, 1) := dk_26 (dk_at dksX2_isAsked_3 11 rfl rfl)
theorem dX2_isAsked_81 : decode cX2_isAsked 81 = .ok (.bipush 14, 2) := dk_16 14 (dk_at dksX2_isAsked_3 12 rfl rfl)
theorem dX2_isAsked_83 : decode cX2_isAsked 83 = .ok (.if_icmp .ne 17, 3) := dk_160 0 17 (dk_at dksX2_isAsked_3 14 rfl rfl)
theorem dX2_isAsked_86 : decode cX2_isAsked 86 = .ok (.lload_n 1, 1) := dk_31 (dk_at dksX2_isAsked_3 17 rfl rfl)
theorem dX2_isAsked_87 : decode cX2_isAsked 87 = .ok (.lload_n 3, 1) := dk_33 (dk_at dksX2_isAsked_3 18 rfl rfl)
theorem dX2_isAsked_88 : decode cX2_isAsked 88 = .ok (.lcmp, 1) := dk_148 (dk_at dksX2_isAsked_3 19 rfl rfl)
theorem dX2_isAsked_89 : decode cX2_isAsked 89 = .ok (.ifCond .ne 7, 3) := dk_154 0 7 (dk_at dksX2_isAsked_3 20 rfl rfl)
theorem dX2_isAsked_92 : decode cX2_isAsked 92 = .ok (.iconst 1, 1) := dk_4 (dk_at dksX2_isAsked_3 23 rfl rfl)
theorem dX2_isAsked_93 : decode cX2_isAsked 93 = .ok (.goto 18, 3) := dk_167 0 18 (dk_at dksX2_isAsked_4 0 rfl rfl)
theorem dX2_isAsked_96 : decode cX2_isAsked 96 = .ok (.iconst 0, 1) := dk_3 (dk_at dksX2_isAsked_4 3 rfl rfl)
theorem dX2_isAsked_97 : decode cX2_isAsked 97 = .ok (.goto 14, 3) := dk_167 0 14 (dk_at dksX2_isAsked_4 4 rfl rfl)
theorem dX2_isAsked_100 : decode cX2_isAsked 100 = .ok (.lload_n 1, 1) := dk_31 (dk_at dksX2_isAsked_4 7 rfl rfl)
theorem dX2_isAsked_101 : decode cX2_isAsked 101 = .ok (.lload_n 3, 1) := dk_33 (dk_at dksX2_isAsked_4 8 rfl rfl)
theorem dX2_isAsked_102 : decode cX2_isAsked 102 = .ok (.lcmp, 1) := dk_148 (dk_at dksX2_isAsked_4 9 rfl rfl)
theorem dX2_isAsked_103 : decode cX2_isAsked 103 = .ok (.ifCond .eq 7, 3) := dk_153 0 7 (dk_at dksX2_isAsked_4 10 rfl rfl)
theorem dX2_isAsked_106 : decode cX2_isAsked 106 = .ok (.iconst 1, 1) := dk_4 (dk_at dksX2_isAsked_4 13 rfl rfl)
theorem dX2_isAsked_107 : decode cX2_isAsked 107 = .ok (.goto 4, 3) := dk_167 0 4 (dk_at dksX2_isAsked_4 14 rfl rfl)
theorem dX2_isAsked_110 : decode cX2_isAsked 110 = .ok (.iconst 0, 1) := dk_3 (dk_at dksX2_isAsked_4 17 rfl rfl)
theorem dX2_isAsked_111 : decode cX2_isAsked 111 = .ok (.ireturn, 1) := dk_172 (dk_at dksX2_isAsked_4 18 rfl rfl)
abbrev cX2_joined : ByteArray := prog_20_method_64_code
def yX2_joined : MethodName := ⟨RX2, "joined", "(IZZ)Z"⟩
def dkwX2_joined_1 : List UInt8 := [154, 0, 7, 28, 153, 0, 7, 4, 167, 0, 4, 3, 172]
abbrev dktX2_joined_1 : List UInt8 := dkwX2_joined_1 ++ []
def dkwX2_joined_0 : List UInt8 := [26, 16, 21, 160, 0, 19, 27, 153, 0, 11, 28, 153, 0, 7, 4, 167, 0, 20, 3, 167, 0, 16, 27]
abbrev dktX2_joined_0 : List UInt8 := dkwX2_joined_0 ++ dktX2_joined_1
theorem dksX2_joined_0 : cX2_joined.data.toList.drop 0 = dktX2_joined_0 := by decide +kernel
theorem dksX2_joined_1 : cX2_joined.data.toList.drop 23 = dktX2_joined_1 := dk_seg dksX2_joined_0 23 rfl rfl
theorem dX2_joined_0 : decode cX2_joined 0 = .ok (.iload_n 0, 1) := dk_26 (dk_at dksX2_joined_0 0 rfl rfl)
theorem dX2_joined_1 : decode cX2_joined 1 = .ok (.bipush 21, 2) := dk_16 21 (dk_at dksX2_joined_0 1 rfl rfl)
theorem dX2_joined_3 : decode cX2_joined 3 = .ok (.if_icmp .ne 19, 3) := dk_160 0 19 (dk_at dksX2_joined_0 3 rfl rfl)
theorem dX2_joined_6 : decode cX2_joined 6 = .ok (.iload_n 1, 1) := dk_27 (dk_at dksX2_joined_0 6 rfl rfl)
theorem dX2_joined_7 : decode cX2_joined 7 = .ok (.ifCond .eq 11, 3) := dk_153 0 11 (dk_at dksX2_joined_0 7 rfl rfl)
theorem dX2_joined_10 : decode cX2_joined 10 = .ok (.iload_n 2, 1) := dk_28 (dk_at dksX2_joined_0 10 rfl rfl)
theorem dX2_joined_11 : decode cX2_joined 11 = .ok (.ifCond .eq 7, 3) := dk_153 0 7 (dk_at dksX2_joined_0 11 rfl rfl)
theorem dX2_joined_14 : decode cX2_joined 14 = .ok (.iconst 1, 1) := dk_4 (dk_at dksX2_joined_0 14 rfl rfl)
theorem dX2_joined_15 : decode cX2_joined 15 = .ok (.goto 20, 3) := dk_167 0 20 (dk_at dksX2_joined_0 15 rfl rfl)
theorem dX2_joined_18 : decode cX2_joined 18 = .ok (.iconst 0, 1) := dk_3 (dk_at dksX2_joined_0 18 rfl rfl)
theorem dX2_joined_19 : decode cX2_joined 19 = .ok (.goto 16, 3) := dk_167 0 16 (dk_at dksX2_joined_0 19 rfl rfl)
theorem dX2_joined_22 : decode cX2_joined 22 = .ok (.iload_n 1, 1) := dk_27 (dk_at dksX2_joined_0 22 rfl rfl)
theorem dX2_joined_23 : decode cX2_joined 23 = .ok (.ifCond .ne 7, 3) := dk_154 0 7 (dk_at dksX2_joined_1 0 rfl rfl)
theorem dX2_joined_26 : decode cX2_joined 26 = .ok (.iload_n 2, 1) := dk_28 (dk_at dksX2_joined_1 3 rfl rfl)
theorem dX2_joined_27 : decode cX2_joined 27 = .ok (.ifCond .eq 7, 3) := dk_153 0 7 (dk_at dksX2_joined_1 4 rfl rfl)
theorem dX2_joined_30 : decode cX2_joined 30 = .ok (.iconst 1, 1) := dk_4 (dk_at dksX2_joined_1 7 rfl rfl)
theorem dX2_joined_31 : decode cX2_joined 31 = .ok (.goto 4, 3) := dk_167 0 4 (dk_at dksX2_joined_1 8 rfl rfl)
theorem dX2_joined_34 : decode cX2_joined 34 = .ok (.iconst 0, 1) := dk_3 (dk_at dksX2_joined_1 11 rfl rfl)
theorem dX2_joined_35 : decode cX2_joined 35 = .ok (.ireturn, 1) := dk_172 (dk_at dksX2_joined_1 12 rfl rfl)
abbrev cX2_cut : ByteArray := prog_20_method_4_code
def yX2_cut : MethodName := ⟨RX2, "cut", "(JII)I"⟩
def dkwX2_cut_1 : List UInt8 := [172]
abbrev dktX2_cut_1 : List UInt8 := dkwX2_cut_1 ++ []
def dkwX2_cut_0 : List UInt8 := [30, 28, 133, 148, 156, 0, 7, 28, 167, 0, 16, 30, 29, 133, 148, 158, 0, 7, 29, 167, 0, 5, 30, 136]
abbrev dktX2_cut_0 : List UInt8 := dkwX2_cut_0 ++ dktX2_cut_1
theorem dksX2_cut_0 : cX2_cut.data.toList.drop 0 = dktX2_cut_0 := by decide +kernel
theorem dksX2_cut_1 : cX2_cut.data.toList.drop 24 = dktX2_cut_1 := dk_seg dksX2_cut_0 24 rfl rfl
theorem dX2_cut_0 : decode cX2_cut 0 = .ok (.lload_n 0, 1) := dk_30 (dk_at dksX2_cut_0 0 rfl rfl)
theorem dX2_cut_1 : decode cX2_cut 1 = .ok (.iload_n 2, 1) := dk_28 (dk_at dksX2_cut_0 1 rfl rfl)
theorem dX2_cut_2 : decode cX2_cut 2 = .ok (.i2l, 1) := dk_133 (dk_at dksX2_cut_0 2 rfl rfl)
theorem dX2_cut_3 : decode cX2_cut 3 = .ok (.lcmp, 1) := dk_148 (dk_at dksX2_cut_0 3 rfl rfl)
theorem dX2_cut_4 : decode cX2_cut 4 = .ok (.ifCond .ge 7, 3) := dk_156 0 7 (dk_at dksX2_cut_0 4 rfl rfl)
theorem dX2_cut_7 : decode cX2_cut 7 = .ok (.iload_n 2, 1) := dk_28 (dk_at dksX2_cut_0 7 rfl rfl)
theorem dX2_cut_8 : decode cX2_cut 8 = .ok (.goto 16, 3) := dk_167 0 16 (dk_at dksX2_cut_0 8 rfl rfl)
theorem dX2_cut_11 : decode cX2_cut 11 = .ok (.lload_n 0, 1) := dk_30 (dk_at dksX2_cut_0 11 rfl rfl)
theorem dX2_cut_12 : decode cX2_cut 12 = .ok (.iload_n 3, 1) := dk_29 (dk_at dksX2_cut_0 12 rfl rfl)
theorem dX2_cut_13 : decode cX2_cut 13 = .ok (.i2l, 1) := dk_133 (dk_at dksX2_cut_0 13 rfl rfl)
theorem dX2_cut_14 : decode cX2_cut 14 = .ok (.lcmp, 1) := dk_148 (dk_at dksX2_cut_0 14 rfl rfl)
theorem dX2_cut_15 : decode cX2_cut 15 = .ok (.ifCond .le 7, 3) := dk_158 0 7 (dk_at dksX2_cut_0 15 rfl rfl)
theorem dX2_cut_18 : decode cX2_cut 18 = .ok (.iload_n 3, 1) := dk_29 (dk_at dksX2_cut_0 18 rfl rfl)
theorem dX2_cut_19 : decode cX2_cut 19 = .ok (.goto 5, 3) := dk_167 0 5 (dk_at dksX2_cut_0 19 rfl rfl)
theorem dX2_cut_22 : decode cX2_cut 22 = .ok (.lload_n 0, 1) := dk_30 (dk_at dksX2_cut_0 22 rfl rfl)
theorem dX2_cut_23 : decode cX2_cut 23 = .ok (.l2i, 1) := dk_136 (dk_at dksX2_cut_0 23 rfl rfl)
theorem dX2_cut_24 : decode cX2_cut 24 = .ok (.ireturn, 1) := dk_172 (dk_at dksX2_cut_1 0 rfl rfl)
abbrev cX2_anew : ByteArray := prog_20_method_73_code
def yX2_anew : MethodName := ⟨RX2, "anew", "()V"⟩
def dkwX2_anew_1 : List UInt8 := [20, 1, 58, 113, 136, 79, 177]
abbrev dktX2_anew_1 : List UInt8 := dkwX2_anew_1 ++ []
def dkwX2_anew_0 : List UInt8 := [42, 180, 0, 7, 16, 7, 42, 180, 0, 7, 16, 7, 46, 133, 20, 1, 54, 105, 20, 1, 56, 97]
abbrev dktX2_anew_0 : List UInt8 := dkwX2_anew_0 ++ dktX2_anew_1
theorem dksX2_anew_0 : cX2_anew.data.toList.drop 0 = dktX2_anew_0 := by decide +kernel
theorem dksX2_anew_1 : cX2_anew.data.toList.drop 22 = dktX2_anew_1 := dk_seg dksX2_anew_0 22 rfl rfl
theorem dX2_anew_0 : decode cX2_anew 0 = .ok (.aload_n 0, 1) := dk_42 (dk_at dksX2_anew_0 0 rfl rfl)
theorem dX2_anew_1 : decode cX2_anew 1 = .ok (.getfield 7, 3) := dk_180 0 7 (dk_at dksX2_anew_0 1 rfl rfl)
theorem dX2_anew_4 : decode cX2_anew 4 = .ok (.bipush 7, 2) := dk_16 7 (dk_at dksX2_anew_0 4 rfl rfl)
theorem dX2_anew_6 : decode cX2_anew 6 = .ok (.aload_n 0, 1) := dk_42 (dk_at dksX2_anew_0 6 rfl rfl)
theorem dX2_anew_7 : decode cX2_anew 7 = .ok (.getfield 7, 3) := dk_180 0 7 (dk_at dksX2_anew_0 7 rfl rfl)
theorem dX2_anew_10 : decode cX2_anew 10 = .ok (.bipush 7, 2) := dk_16 7 (dk_at dksX2_anew_0 10 rfl rfl)
theorem dX2_anew_12 : decode cX2_anew 12 = .ok (.iaload, 1) := dk_46 (dk_at dksX2_anew_0 12 rfl rfl)
theorem dX2_anew_13 : decode cX2_anew 13 = .ok (.i2l, 1) := dk_133 (dk_at dksX2_anew_0 13 rfl rfl)
theorem dX2_anew_14 : decode cX2_anew 14 = .ok (.ldc2_w 310, 3) := dk_20 1 54 (dk_at dksX2_anew_0 14 rfl rfl)
theorem dX2_anew_17 : decode cX2_anew 17 = .ok (.lmul, 1) := dk_105 (dk_at dksX2_anew_0 17 rfl rfl)
theorem dX2_anew_18 : decode cX2_anew 18 = .ok (.ldc2_w 312, 3) := dk_20 1 56 (dk_at dksX2_anew_0 18 rfl rfl)
theorem dX2_anew_21 : decode cX2_anew 21 = .ok (.ladd, 1) := dk_97 (dk_at dksX2_anew_0 21 rfl rfl)
theorem dX2_anew_22 : decode cX2_anew 22 = .ok (.ldc2_w 314, 3) := dk_20 1 58 (dk_at dksX2_anew_1 0 rfl rfl)
theorem dX2_anew_25 : decode cX2_anew 25 = .ok (.lrem, 1) := dk_113 (dk_at dksX2_anew_1 3 rfl rfl)
theorem dX2_anew_26 : decode cX2_anew 26 = .ok (.l2i, 1) := dk_136 (dk_at dksX2_anew_1 4 rfl rfl)
theorem dX2_anew_27 : decode cX2_anew 27 = .ok (.iastore, 1) := dk_79 (dk_at dksX2_anew_1 5 rfl rfl)
theorem dX2_anew_28 : decode cX2_anew 28 = .ok (.return_, 1) := dk_177 (dk_at dksX2_anew_1 6 rfl rfl)
abbrev cX2_write : ByteArray := prog_20_method_72_code
def yX2_write : MethodName := ⟨RX2, "write", "(II)V"⟩
def dkwX2_write_5 : List UInt8 := [17, 39, 16, 104, 42, 27, 6, 182, 1, 48, 96, 79, 42, 180, 0, 7, 16, 9, 92, 46, 4, 96, 79, 177]
abbrev dktX2_write_5 : List UInt8 := dkwX2_write_5 ++ []
def dkwX2_write_4 : List UInt8 := [180, 0, 7, 17, 17, 132, 5, 42, 180, 0, 7, 16, 9, 46, 104, 96, 4, 96, 27, 7, 104, 28, 96]
abbrev dktX2_write_4 : List UInt8 := dkwX2_write_4 ++ dktX2_write_5
def dkwX2_write_3 : List UInt8 := [17, 17, 132, 5, 42, 180, 0, 7, 16, 9, 46, 104, 96, 42, 180, 0, 7, 16, 6, 46, 79, 42]
abbrev dktX2_write_3 : List UInt8 := dkwX2_write_3 ++ dktX2_write_4
def dkwX2_write_2 : List UInt8 := [96, 46, 79, 132, 3, 1, 167, 255, 225, 42, 180, 0, 7, 16, 9, 92, 46, 4, 100, 79, 42, 180, 0, 7]
abbrev dktX2_write_2 : List UInt8 := dkwX2_write_2 ++ dktX2_write_3
def dkwX2_write_1 : List UInt8 := [16, 60, 162, 0, 31, 42, 180, 0, 7, 17, 17, 132, 29, 96, 5, 100, 42, 180, 0, 7, 17, 17, 132, 29]
abbrev dktX2_write_1 : List UInt8 := dkwX2_write_1 ++ dktX2_write_2
def dkwX2_write_0 : List UInt8 := [42, 180, 0, 43, 154, 0, 4, 177, 42, 180, 0, 7, 16, 9, 46, 16, 30, 160, 0, 50, 5, 62, 29]
abbrev dktX2_write_0 : List UInt8 := dkwX2_write_0 ++ dktX2_write_1
theorem dksX2_write_0 : cX2_write.data.toList.drop 0 = dktX2_write_0 := by decide +kernel
theorem dksX2_write_1 : cX2_write.data.toList.drop 23 = dktX2_write_1 := dk_seg dksX2_write_0 23 rfl rfl
theorem dksX2_write_2 : cX2_write.data.toList.drop 47 = dktX2_write_2 := dk_seg dksX2_write_1 24 rfl rfl
theorem dksX2_write_3 : cX2_write.data.toList.drop 71 = dktX2_write_3 := dk_seg dksX2_write_2 24 rfl rfl
theorem dksX2_write_4 : cX2_write.data.toList.drop 93 = dktX2_write_4 := dk_seg dksX2_write_3 22 rfl rfl
theorem dksX2_write_5 : cX2_write.data.toList.drop 116 = dktX2_write_5 := dk_seg dksX2_write_4 23 rfl rfl
theorem dX2_write_0 : decode cX2_write 0 = .ok (.aload_n 0, 1) := dk_42 (dk_at dksX2_write_0 0 rfl rfl)
theorem dX2_write_1 : decode cX2_write 1 = .ok (.getfield 43, 3) := dk_180 0 43 (dk_at dksX2_write_0 1 rfl rfl)
theorem dX2_write_4 : decode cX2_write 4 = .ok (.ifCond .ne 4, 3) := dk_154 0 4 (dk_at dksX2_write_0 4 rfl rfl)
theorem dX2_write_7 : decode cX2_write 7 = .ok (.return_, 1) := dk_177 (dk_at dksX2_write_0 7 rfl rfl)
theorem dX2_write_8 : decode cX2_write 8 = .ok (.aload_n 0, 1) := dk_42 (dk_at dksX2_write_0 8 rfl rfl)
theorem dX2_write_9 : decode cX2_write 9 = .ok (.getfield 7, 3) := dk_180 0 7 (dk_at dksX2_write_0 9 rfl rfl)
theorem dX2_write_12 : decode cX2_write 12 = .ok (.bipush 9, 2) := dk_16 9 (dk_at dksX2_write_0 12 rfl rfl)
theorem dX2_write_14 : decode cX2_write 14 = .ok (.iaload, 1) := dk_46 (dk_at dksX2_write_0 14 rfl rfl)
theorem dX2_write_15 : decode cX2_write 15 = .ok (.bipush 30, 2) := dk_16 30 (dk_at dksX2_write_0 15 rfl rfl)
theorem dX2_write_17 : decode cX2_write 17 = .ok (.if_icmp .ne 50, 3) := dk_160 0 50 (dk_at dksX2_write_0 17 rfl rfl)
theorem dX2_write_20 : decode cX2_write 20 = .ok (.iconst 2, 1) := dk_5 (dk_at dksX2_write_0 20 rfl rfl)
theorem dX2_write_21 : decode cX2_write 21 = .ok (.istore_n 3, 1) := dk_62 (dk_at dksX2_write_0 21 rfl rfl)
theorem dX2_write_22 : decode cX2_write 22 = .ok (.iload_n 3, 1) := dk_29 (dk_at dksX2_write_0 22 rfl rfl)
theorem dX2_write_23 : decode cX2_write 23 = .ok (.bipush 60, 2) := dk_16 60 (dk_at dksX2_write_1 0 rfl rfl)
theorem dX2_write_25 : decode cX2_write 25 = .ok (.if_icmp .ge 31, 3) := dk_162 0 31 (dk_at dksX2_write_1 2 rfl rfl)
theorem dX2_write_28 : decode cX2_write 28 = .ok (.aload_n 0, 1) := dk_42 (dk_at dksX2_write_1 5 rfl rfl)
theorem dX2_write_29 : decode cX2_write 29 = .ok (.getfield 7, 3) := dk_180 0 7 (dk_at dksX2_write_1 6 rfl rfl)
theorem dX2_write_32 : decode cX2_write 32 = .ok (.sipush 4484, 3) := dk_17 17 132 (dk_at dksX2_write_1 9 rfl rfl)
theorem dX2_write_35 : decode cX2_write 35 = .ok (.iload_n 3, 1) := dk_29 (dk_at dksX2_write_1 12 rfl rfl)
theorem dX2_write_36 : decode cX2_write 36 = .ok (.iadd, 1) := dk_96 (dk_at dksX2_write_1 13 rfl rfl)
theorem dX2_write_37 : decode cX2_write 37 = .ok (.iconst 2, 1) := dk_5 (dk_at dksX2_write_1 14 rfl rfl)
theorem dX2_write_38 : decode cX2_write 38 = .ok (.isub, 1) := dk_100 (dk_at dksX2_write_1 15 rfl rfl)
theorem dX2_write_39 : decode cX2_write 39 = .ok (.aload_n 0, 1) := dk_42 (dk_at dksX2_write_1 16 rfl rfl)
theorem dX2_write_40 : decode cX2_write 40 = .ok (.getfield 7, 3) := dk_180 0 7 (dk_at dksX2_write_1 17 rfl rfl)
theorem dX2_write_43 : decode cX2_write 43 = .ok (.sipush 4484, 3) := dk_17 17 132 (dk_at dksX2_write_1 20 rfl rfl)
theorem dX2_write_46 : decode cX2_write 46 = .ok (.iload_n 3, 1) := dk_29 (dk_at dksX2_write_1 23 rfl rfl)
theorem dX2_write_47 : decode cX2_write 47 = .ok (.iadd, 1) := dk_96 (dk_at dksX2_write_2 0 rfl rfl)
theorem dX2_write_48 : decode cX2_write 48 = .ok (.iaload, 1) := dk_46 (dk_at dksX2_write_2 1 rfl rfl)
theorem dX2_write_49 : decode cX2_write 49 = .ok (.iastore, 1) := dk_79 (dk_at dksX2_write_2 2 rfl rfl)
theorem dX2_write_50 : decode cX2_write 50 = .ok (.iinc 3 1, 3) := dk_132 3 1 (dk_at dksX2_write_2 3 rfl rfl)
theorem dX2_write_53 : decode cX2_write 53 = .ok (.goto (-31), 3) := dk_167 255 225 (dk_at dksX2_write_2 6 rfl rfl)
theorem dX2_write_56 : decode cX2_write 56 = .ok (.aload_n 0, 1) := dk_42 (dk_at dksX2_write_2 9 rfl rfl)
theorem dX2_write_57 : decode cX2_write 57 = .ok (.getfield 7, 3) := dk_180 0 7 (dk_at dksX2_write_2 10 rfl rfl)
theorem dX2_write_60 : decode cX2_write 60 = .ok (.bipush 9, 2) := dk_16 9 (dk_at dksX2_write_2 13 rfl rfl)
theorem dX2_write_62 : decode cX2_write 62 = .ok (.dup2, 1) := dk_92 (dk_at dksX2_write_2 15 rfl rfl)
theorem dX2_write_63 : decode cX2_write 63 = .ok (.iaload, 1) := dk_46 (dk_at dksX2_write_2 16 rfl rfl)
theorem dX2_write_64 : decode cX2_write 64 = .ok (.iconst 1, 1) := dk_4 (dk_at dksX2_write_2 17 rfl rfl)
theorem dX2_write_65 : decode cX2_write 65 = .ok (.isub, 1) := dk_100 (dk_at dksX2_write_2 18 rfl rfl)
theorem dX2_write_66 : decode cX2_write 66 = .ok (.iastore, 1) := dk_79 (dk_at dksX2_write_2 19 rfl rfl)
theorem dX2_write_67 : decode cX2_write 67 = .ok (.aload_n 0, 1) := dk_42 (dk_at dksX2_write_2 20 rfl rfl)
theorem dX2_write_68 : decode cX2_write 68 = .ok (.getfield 7, 3) := dk_180 0 7 (dk_at dksX2_write_2 21 rfl rfl)
theorem dX2_write_71 : decode cX2_write 71 = .ok (.sipush 4484, 3) := dk_17 17 132 (dk_at dksX2_write_3 0 rfl rfl)
theorem dX2_write_74 : decode cX2_write 74 = .ok (.iconst 2, 1) := dk_5 (dk_at dksX2_write_3 3 rfl rfl)
theorem dX2_write_75 : decode cX2_write 75 = .ok (.aload_n 0, 1) := dk_42 (dk_at dksX2_write_3 4 rfl rfl)
theorem dX2_write_76 : decode cX2_write 76 = .ok (.getfield 7, 3) := dk_180 0 7 (dk_at dksX2_write_3 5 rfl rfl)
theorem dX2_write_79 : decode cX2_write 79 = .ok (.bipush 9, 2) := dk_16 9 (dk_at dksX2_write_3 8 rfl rfl)
theorem dX2_write_81 : decode cX2_write 81 = .ok (.iaload, 1) := dk_46 (dk_at dksX2_write_3 10 rfl rfl)
theorem dX2_write_82 : decode cX2_write 82 = .ok (.imul, 1) := dk_104 (dk_at dksX2_write_3 11 rfl rfl)
theorem dX2_write_83 : decode cX2_write 83 = .ok (.iadd, 1) := dk_96 (dk_at dksX2_write_3 12 rfl rfl)
theorem dX2_write_84 : decode cX2_write 84 = .ok (.aload_n 0, 1) := dk_42 (dk_at dksX2_write_3 13 rfl rfl)
theorem dX2_write_85 : decode cX2_write 85 = .ok (.getfield 7, 3) := dk_180 0 7 (dk_at dksX2_write_3 14 rfl rfl)
theorem dX2_write_88 : decode cX2_write 88 = .ok (.bipush 6, 2) := dk_16 6 (dk_at dksX2_write_3 17 rfl rfl)
theorem dX2_write_90 : decode cX2_write 90 = .ok (.iaload, 1) := dk_46 (dk_at dksX2_write_3 19 rfl rfl)
theorem dX2_write_91 : decode cX2_write 91 = .ok (.iastore, 1) := dk_79 (dk_at dksX2_write_3 20 rfl rfl)
theorem dX2_write_92 : decode cX2_write 92 = .ok (.aload_n 0, 1) := dk_42 (dk_at dksX2_write_3 21 rfl rfl)
theorem dX2_write_93 : decode cX2_write 93 = .ok (.getfield 7, 3) := dk_180 0 7 (dk_at dksX2_write_4 0 rfl rfl)
theorem dX2_write_96 : decode cX2_write 96 = .ok (.sipush 4484, 3) := dk_17 17 132 (dk_at dksX2_write_4 3 rfl rfl)
theorem dX2_write_99 : decode cX2_write 99 = .ok (.iconst 2, 1) := dk_5 (dk_at dksX2_write_4 6 rfl rfl)
theorem dX2_write_100 : decode cX2_write 100 = .ok (.aload_n 0, 1) := dk_42 (dk_at dksX2_write_4 7 rfl rfl)
theorem dX2_write_101 : decode cX2_write 101 = .ok (.getfield 7, 3) := dk_180 0 7 (dk_at dksX2_write_4 8 rfl rfl)
theorem dX2_write_104 : decode cX2_write 104 = .ok (.bipush 9, 2) := dk_16 9 (dk_at dksX2_write_4 11 rfl rfl)
theorem dX2_write_106 : decode cX2_write 106 = .ok (.iaload, 1) := dk_46 (dk_at dksX2_write_4 13 rfl rfl)
theorem dX2_write_107 : decode cX2_write 107 = .ok (.imul, 1) := dk_104 (dk_at dksX2_write_4 14 rfl rfl)
theorem dX2_write_108 : decode cX2_write 108 = .ok (.iadd, 1) := dk_96 (dk_at dksX2_write_4 15 rfl rfl)
theorem dX2_write_109 : decode cX2_write 109 = .ok (.iconst 1, 1) := dk_4 (dk_at dksX2_write_4 16 rfl rfl)
theorem dX2_write_110 : decode cX2_write 110 = .ok (.iadd, 1) := dk_96 (dk_at dksX2_write_4 17 rfl rfl)
theorem dX2_write_111 : decode cX2_write 111 = .ok (.iload_n 1, 1) := dk_27 (dk_at dksX2_write_4 18 rfl rfl)
theorem dX2_write_112 : decode cX2_write 112 = .ok (.iconst 4, 1) := dk_7 (dk_at dksX2_write_4 19 rfl rfl)
theorem dX2_write_113 : decode cX2_write 113 = .ok (.imul, 1) := dk_104 (dk_at dksX2_write_4 20 rfl rfl)
theorem dX2_write_114 : decode cX2_write 114 = .ok (.iload_n 2, 1) := dk_28 (dk_at dksX2_write_4 21 rfl rfl)
theorem dX2_write_115 : decode cX2_write 115 = .ok (.iadd, 1) := dk_96 (dk_at dksX2_write_4 22 rfl rfl)
theorem dX2_write_116 : decode cX2_write 116 = .ok (.sipush 10000, 3) := dk_17 39 16 (dk_at dksX2_write_5 0 rfl rfl)
theorem dX2_write_119 : decode cX2_write 119 = .ok (.imul, 1) := dk_104 (dk_at dksX2_write_5 3 rfl rfl)
theorem dX2_write_120 : decode cX2_write 120 = .ok (.aload_n 0, 1) := dk_42 (dk_at dksX2_write_5 4 rfl rfl)
theorem dX2_write_121 : decode cX2_write 121 = .ok (.iload_n 1, 1) := dk_27 (dk_at dksX2_write_5 5 rfl rfl)
theorem dX2_write_122 : decode cX2_write 122 = .ok (.iconst 3, 1) := dk_6 (dk_at dksX2_write_5 6 rfl rfl)
theorem dX2_write_123 : decode cX2_write 123 = .ok (.invokevirtual 304, 3) := dk_182 1 48 (dk_at dksX2_write_5 7 rfl rfl)
theorem dX2_write_126 : decode cX2_write 126 = .ok (.iadd, 1) := dk_96 (dk_at dksX2_write_5 10 rfl rfl)
theorem dX2_write_127 : decode cX2_write 127 = .ok (.iastore, 1) := dk_79 (dk_at dksX2_write_5 11 rfl rfl)
theorem dX2_write_128 : decode cX2_write 128 = .ok (.aload_n 0, 1) := dk_42 (dk_at dksX2_write_5 12 rfl rfl)
theorem dX2_write_129 : decode cX2_write 129 = .ok (.getfield 7, 3) := dk_180 0 7 (dk_at dksX2_write_5 13 rfl rfl)
theorem dX2_write_132 : decode cX2_write 132 = .ok (.bipush 9, 2) := dk_16 9 (dk_at dksX2_write_5 16 rfl rfl)
theorem dX2_write_134 : decode cX2_write 134 = .ok (.dup2, 1) := dk_92 (dk_at dksX2_write_5 18 rfl rfl)
theorem dX2_write_135 : decode cX2_write 135 = .ok (.iaload, 1) := dk_46 (dk_at dksX2_write_5 19 rfl rfl)
theorem dX2_write_136 : decode cX2_write 136 = .ok (.iconst 1, 1) := dk_4 (dk_at dksX2_write_5 20 rfl rfl)
theorem dX2_write_137 : decode cX2_write 137 = .ok (.iadd, 1) := dk_96 (dk_at dksX2_write_5 21 rfl rfl)
theorem dX2_write_138 : decode cX2_write 138 = .ok (.iastore, 1) := dk_79 (dk_at dksX2_write_5 22 rfl rfl)
theorem dX2_write_139 : decode cX2_write 139 = .ok (.return_, 1) := dk_177 (dk_at dksX2_write_5 23 rfl rfl)
abbrev cX2_goDown : ByteArray := prog_20_method_76_code
def yX2_goDown : MethodName := ⟨RX2, "goDown", "(I)V"⟩
def dkwX2_goDown_3 : List UInt8 := [182, 1, 82, 177]
abbrev dktX2_goDown_3 : List UInt8 := dkwX2_goDown_3 ++ []
def dkwX2_goDown_2 : List UInt8 := [182, 1, 63, 42, 27, 5, 28, 182, 1, 63, 28, 42, 27, 3, 182, 1, 48, 160, 0, 9, 42, 27, 5]
abbrev dktX2_goDown_2 : List UInt8 := dkwX2_goDown_2 ++ dktX2_goDown_3
def dkwX2_goDown_1 : List UInt8 := [27, 6, 42, 42, 180, 0, 7, 5, 46, 5, 42, 27, 6, 182, 1, 48, 5, 108, 17, 39, 15, 182, 1, 37]
abbrev dktX2_goDown_1 : List UInt8 := dkwX2_goDown_1 ++ dktX2_goDown_2
def dkwX2_goDown_0 : List UInt8 := [42, 42, 27, 5, 182, 1, 48, 42, 27, 3, 182, 1, 48, 182, 1, 79, 61, 42, 27, 28, 182, 1, 60, 42]
abbrev dktX2_goDown_0 : List UInt8 := dkwX2_goDown_0 ++ dktX2_goDown_1
theorem dksX2_goDown_0 : cX2_goDown.data.toList.drop 0 = dktX2_goDown_0 := by decide +kernel
theorem dksX2_goDown_1 : cX2_goDown.data.toList.drop 24 = dktX2_goDown_1 := dk_seg dksX2_goDown_0 24 rfl rfl
theorem dksX2_goDown_2 : cX2_goDown.data.toList.drop 48 = dktX2_goDown_2 := dk_seg dksX2_goDown_1 24 rfl rfl
theorem dksX2_goDown_3 : cX2_goDown.data.toList.drop 71 = dktX2_goDown_3 := dk_seg dksX2_goDown_2 23 rfl rfl
theorem dX2_goDown_0 : decode cX2_goDown 0 = .ok (.aload_n 0, 1) := dk_42 (dk_at dksX2_goDown_0 0 rfl rfl)
theorem dX2_goDown_1 : decode cX2_goDown 1 = .ok (.aload_n 0, 1) := dk_42 (dk_at dksX2_goDown_0 1 rfl rfl)
theorem dX2_goDown_2 : decode cX2_goDown 2 = .ok (.iload_n 1, 1) := dk_27 (dk_at dksX2_goDown_0 2 rfl rfl)
theorem dX2_goDown_3 : decode cX2_goDown 3 = .ok (.iconst 2, 1) := dk_5 (dk_at dksX2_goDown_0 3 rfl rfl)
theorem dX2_goDown_4 : decode cX2_goDown 4 = .ok (.invokevirtual 304, 3) := dk_182 1 48 (dk_at dksX2_goDown_0 4 rfl rfl)
theorem dX2_goDown_7 : decode cX2_goDown 7 = .ok (.aload_n 0, 1) := dk_42 (dk_at dksX2_goDown_0 7 rfl rfl)
theorem dX2_goDown_8 : decode cX2_goDown 8 = .ok (.iload_n 1, 1) := dk_27 (dk_at dksX2_goDown_0 8 rfl rfl)
theorem dX2_goDown_9 : decode cX2_goDown 9 = .ok (.iconst 0, 1) := dk_3 (dk_at dksX2_goDown_0 9 rfl rfl)
theorem dX2_goDown_10 : decode cX2_goDown 10 = .ok (.invokevirtual 304, 3) := dk_182 1 48 (dk_at dksX2_goDown_0 10 rfl rfl)
theorem dX2_goDown_13 : decode cX2_goDown 13 = .ok (.invokevirtual 335, 3) := dk_182 1 79 (dk_at dksX2_goDown_0 13 rfl rfl)
theorem dX2_goDown_16 : decode cX2_goDown 16 = .ok (.istore_n 2, 1) := dk_61 (dk_at dksX2_goDown_0 16 rfl rfl)
theorem dX2_goDown_17 : decode cX2_goDown 17 = .ok (.aload_n 0, 1) := dk_42 (dk_at dksX2_goDown_0 17 rfl rfl)
theorem dX2_goDown_18 : decode cX2_goDown 18 = .ok (.iload_n 1, 1) := dk_27 (dk_at dksX2_goDown_0 18 rfl rfl)
theorem dX2_goDown_19 : decode cX2_goDown 19 = .ok (.iload_n 2, 1) := dk_28 (dk_at dksX2_goDown_0 19 rfl rfl)
theorem dX2_goDown_20 : decode cX2_goDown 20 = .ok (.invokevirtual 316, 3) := dk_182 1 60 (dk_at dksX2_goDown_0 20 rfl rfl)
theorem dX2_goDown_23 : decode cX2_goDown 23 = .ok (.aload_n 0, 1) := dk_42 (dk_at dksX2_goDown_0 23 rfl rfl)
theorem dX2_goDown_24 : decode cX2_goDown 24 = .ok (.iload_n 1, 1) := dk_27 (dk_at dksX2_goDown_1 0 rfl rfl)
theorem dX2_goDown_25 : decode cX2_goDown 25 = .ok (.iconst 3, 1) := dk_6 (dk_at dksX2_goDown_1 1 rfl rfl)
theorem dX2_goDown_26 : decode cX2_goDown 26 = .ok (.aload_n 0, 1) := dk_42 (dk_at dksX2_goDown_1 2 rfl rfl)
theorem dX2_goDown_27 : decode cX2_goDown 27 = .ok (.aload_n 0, 1) := dk_42 (dk_at dksX2_goDown_1 3 rfl rfl)
theorem dX2_goDown_28 : decode cX2_goDown 28 = .ok (.getfield 7, 3) := dk_180 0 7 (dk_at dksX2_goDown_1 4 rfl rfl)
theorem dX2_goDown_31 : decode cX2_goDown 31 = .ok (.iconst 2, 1) := dk_5 (dk_at dksX2_goDown_1 7 rfl rfl)
theorem dX2_goDown_32 : decode cX2_goDown 32 = .ok (.iaload, 1) := dk_46 (dk_at dksX2_goDown_1 8 rfl rfl)
theorem dX2_goDown_33 : decode cX2_goDown 33 = .ok (.iconst 2, 1) := dk_5 (dk_at dksX2_goDown_1 9 rfl rfl)
theorem dX2_goDown_34 : decode cX2_goDown 34 = .ok (.aload_n 0, 1) := dk_42 (dk_at dksX2_goDown_1 10 rfl rfl)
theorem dX2_goDown_35 : decode cX2_goDown 35 = .ok (.iload_n 1, 1) := dk_27 (dk_at dksX2_goDown_1 11 rfl rfl)
theorem dX2_goDown_36 : decode cX2_goDown 36 = .ok (.iconst 3, 1) := dk_6 (dk_at dksX2_goDown_1 12 rfl rfl)
theorem dX2_goDown_37 : decode cX2_goDown 37 = .ok (.invokevirtual 304, 3) := dk_182 1 48 (dk_at dksX2_goDown_1 13 rfl rfl)
theorem dX2_goDown_40 : decode cX2_goDown 40 = .ok (.iconst 2, 1) := dk_5 (dk_at dksX2_goDown_1 16 rfl rfl)
theorem dX2_goDown_41 : decode cX2_goDown 41 = .ok (.idiv, 1) := dk_108 (dk_at dksX2_goDown_1 17 rfl rfl)
theorem dX2_goDown_42 : decode cX2_goDown 42 = .ok (.sipush 9999, 3) := dk_17 39 15 (dk_at dksX2_goDown_1 18 rfl rfl)
theorem dX2_goDown_45 : decode cX2_goDown 45 = .ok (.invokevirtual 293, 3) := dk_182 1 37 (dk_at dksX2_goDown_1 21 rfl rfl)
theorem dX2_goDown_48 : decode cX2_goDown 48 = .ok (.invokevirtual 319, 3) := dk_182 1 63 (dk_at dksX2_goDown_2 0 rfl rfl)
theorem dX2_goDown_51 : decode cX2_goDown 51 = .ok (.aload_n 0, 1) := dk_42 (dk_at dksX2_goDown_2 3 rfl rfl)
theorem dX2_goDown_52 : decode cX2_goDown 52 = .ok (.iload_n 1, 1) := dk_27 (dk_at dksX2_goDown_2 4 rfl rfl)
theorem dX2_goDown_53 : decode cX2_goDown 53 = .ok (.iconst 2, 1) := dk_5 (dk_at dksX2_goDown_2 5 rfl rfl)
theorem dX2_goDown_54 : decode cX2_goDown 54 = .ok (.iload_n 2, 1) := dk_28 (dk_at dksX2_goDown_2 6 rfl rfl)
theorem dX2_goDown_55 : decode cX2_goDown 55 = .ok (.invokevirtual 319, 3) := dk_182 1 63 (dk_at dksX2_goDown_2 7 rfl rfl)
theorem dX2_goDown_58 : decode cX2_goDown 58 = .ok (.iload_n 2, 1) := dk_28 (dk_at dksX2_goDown_2 10 rfl rfl)
theorem dX2_goDown_59 : decode cX2_goDown 59 = .ok (.aload_n 0, 1) := dk_42 (dk_at dksX2_goDown_2 11 rfl rfl)
theorem dX2_goDown_60 : decode cX2_goDown 60 = .ok (.iload_n 1, 1) := dk_27 (dk_at dksX2_goDown_2 12 rfl rfl)
theorem dX2_goDown_61 : decode cX2_goDown 61 = .ok (.iconst 0, 1) := dk_3 (dk_at dksX2_goDown_2 13 rfl rfl)
theorem dX2_goDown_62 : decode cX2_goDown 62 = .ok (.invokevirtual 304, 3) := dk_182 1 48 (dk_at dksX2_goDown_2 14 rfl rfl)
theorem dX2_goDown_65 : decode cX2_goDown 65 = .ok (.if_icmp .ne 9, 3) := dk_160 0 9 (dk_at dksX2_goDown_2 17 rfl rfl)
theorem dX2_goDown_68 : decode cX2_goDown 68 = .ok (.aload_n 0, 1) := dk_42 (dk_at dksX2_goDown_2 20 rfl rfl)
theorem dX2_goDown_69 : decode cX2_goDown 69 = .ok (.iload_n 1, 1) := dk_27 (dk_at dksX2_goDown_2 21 rfl rfl)
theorem dX2_goDown_70 : decode cX2_goDown 70 = .ok (.iconst 2, 1) := dk_5 (dk_at dksX2_goDown_2 22 rfl rfl)
theorem dX2_goDown_71 : decode cX2_goDown 71 = .ok (.invokevirtual 338, 3) := dk_182 1 82 (dk_at dksX2_goDown_3 0 rfl rfl)
theorem dX2_goDown_74 : decode cX2_goDown 74 = .ok (.return_, 1) := dk_177 (dk_at dksX2_goDown_3 3 rfl rfl)
abbrev cX2_downTo : ByteArray := prog_20_method_13_code
def yX2_downTo : MethodName := ⟨RX2, "downTo", "(II)I"⟩
def dkwX2_downTo_1 : List UInt8 := [62, 167, 255, 233, 29, 172]
abbrev dktX2_downTo_1 : List UInt8 := dkwX2_downTo_1 ++ []
def dkwX2_downTo_0 : List UInt8 := [28, 62, 42, 180, 0, 7, 16, 90, 29, 96, 46, 27, 159, 0, 16, 42, 180, 0, 7, 16, 90, 29, 96, 46]
abbrev dktX2_downTo_0 : List UInt8 := dkwX2_downTo_0 ++ dktX2_downTo_1
theorem dksX2_downTo_0 : cX2_downTo.data.toList.drop 0 = dktX2_downTo_0 := by decide +kernel
theorem dksX2_downTo_1 : cX2_downTo.data.toList.drop 24 = dktX2_downTo_1 := dk_seg dksX2_downTo_0 24 rfl rfl
theorem dX2_downTo_0 : decode cX2_downTo 0 = .ok (.iload_n 2, 1) := dk_28 (dk_at dksX2_downTo_0 0 rfl rfl)
theorem dX2_downTo_1 : decode cX2_downTo 1 = .ok (.istore_n 3, 1) := dk_62 (dk_at dksX2_downTo_0 1 rfl rfl)
theorem dX2_downTo_2 : decode cX2_downTo 2 = .ok (.aload_n 0, 1) := dk_42 (dk_at dksX2_downTo_0 2 rfl rfl)
theorem dX2_downTo_3 : decode cX2_downTo 3 = .ok (.getfield 7, 3) := dk_180 0 7 (dk_at dksX2_downTo_0 3 rfl rfl)
theorem dX2_downTo_6 : decode cX2_downTo 6 = .ok (.bipush 90, 2) := dk_16 90 (dk_at dksX2_downTo_0 6 rfl rfl)
theorem dX2_downTo_8 : decode cX2_downTo 8 = .ok (.iload_n 3, 1) := dk_29 (dk_at dksX2_downTo_0 8 rfl rfl)
theorem dX2_downTo_9 : decode cX2_downTo 9 = .ok (.iadd, 1) := dk_96 (dk_at dksX2_downTo_0 9 rfl rfl)
theorem dX2_downTo_10 : decode cX2_downTo 10 = .ok (.iaload, 1) := dk_46 (dk_at dksX2_downTo_0 10 rfl rfl)
theorem dX2_downTo_11 : decode cX2_downTo 11 = .ok (.iload_n 1, 1) := dk_27 (dk_at dksX2_downTo_0 11 rfl rfl)
theorem dX2_downTo_12 : decode cX2_downTo 12 = .ok (.if_icmp .eq 16, 3) := dk_159 0 16 (dk_at dksX2_downTo_0 12 rfl rfl)
theorem dX2_downTo_15 : decode cX2_downTo 15 = .ok (.aload_n 0, 1) := dk_42 (dk_at dksX2_downTo_0 15 rfl rfl)
theorem dX2_downTo_16 : decode cX2_downTo 16 = .ok (.getfield 7, 3) := dk_180 0 7 (dk_at dksX2_downTo_0 16 rfl rfl)
theorem dX2_downTo_19 : decode cX2_downTo 19 = .ok (.bipush 90, 2) := dk_16 90 (dk_at dksX2_downTo_0 19 rfl rfl)
theorem dX2_downTo_21 : decode cX2_downTo 21 = .ok (.iload_n 3, 1) := dk_29 (dk_at dksX2_downTo_0 21 rfl rfl)
theorem dX2_downTo_22 : decode cX2_downTo 22 = .ok (.iadd, 1) := dk_96 (dk_at dksX2_downTo_0 22 rfl rfl)
theorem dX2_downTo_23 : decode cX2_downTo 23 = .ok (.iaload, 1) := dk_46 (dk_at dksX2_downTo_0 23 rfl rfl)
theorem dX2_downTo_24 : decode cX2_downTo 24 = .ok (.istore_n 3, 1) := dk_62 (dk_at dksX2_downTo_1 0 rfl rfl)
theorem dX2_downTo_25 : decode cX2_downTo 25 = .ok (.goto (-23), 3) := dk_167 255 233 (dk_at dksX2_downTo_1 1 rfl rfl)
theorem dX2_downTo_28 : decode cX2_downTo 28 = .ok (.iload_n 3, 1) := dk_29 (dk_at dksX2_downTo_1 4 rfl rfl)
theorem dX2_downTo_29 : decode cX2_downTo 29 = .ok (.ireturn, 1) := dk_172 (dk_at dksX2_downTo_1 5 rfl rfl)
abbrev cX2_finish : ByteArray := prog_20_method_75_code
def yX2_finish : MethodName := ⟨RX2, "finish", "(II)V"⟩
def dkwX2_finish_0 : List UInt8 := [42, 27, 7, 5, 182, 1, 63, 42, 89, 180, 1, 76, 4, 96, 181, 1, 76, 42, 27, 28, 182, 1, 73, 177]
abbrev dktX2_finish_0 : List UInt8 := dkwX2_finish_0 ++ []
theorem dksX2_finish_0 : cX2_finish.data.toList.drop 0 = dktX2_finish_0 := by decide +kernel
theorem dX2_finish_0 : decode cX2_finish 0 = .ok (.aload_n 0, 1) := dk_42 (dk_at dksX2_finish_0 0 rfl rfl)
theorem dX2_finish_1 : decode cX2_finish 1 = .ok (.iload_n 1, 1) := dk_27 (dk_at dksX2_finish_0 1 rfl rfl)
theorem dX2_finish_2 : decode cX2_finish 2 = .ok (.iconst 4, 1) := dk_7 (dk_at dksX2_finish_0 2 rfl rfl)
theorem dX2_finish_3 : decode cX2_finish 3 = .ok (.iconst 2, 1) := dk_5 (dk_at dksX2_finish_0 3 rfl rfl)
theorem dX2_finish_4 : decode cX2_finish 4 = .ok (.invokevirtual 319, 3) := dk_182 1 63 (dk_at dksX2_finish_0 4 rfl rfl)
theorem dX2_finish_7 : decode cX2_finish 7 = .ok (.aload_n 0, 1) := dk_42 (dk_at dksX2_finish_0 7 rfl rfl)
theorem dX2_finish_8 : decode cX2_finish 8 = .ok (.dup, 1) := dk_89 (dk_at dksX2_finish_0 8 rfl rfl)
theorem dX2_finish_9 : decode cX2_finish 9 = .ok (.getfield 332, 3) := dk_180 1 76 (dk_at dksX2_finish_0 9 rfl rfl)
theorem dX2_finish_12 : decode cX2_finish 12 = .ok (.iconst 1, 1) := dk_4 (dk_at dksX2_finish_0 12 rfl rfl)
theorem dX2_finish_13 : decode cX2_finish 13 = .ok (.iadd, 1) := dk_96 (dk_at dksX2_finish_0 13 rfl rfl)
theorem dX2_finish_14 : decode cX2_finish 14 = .ok (.putfield 332, 3) := dk_181 1 76 (dk_at dksX2_finish_0 14 rfl rfl)
theorem dX2_finish_17 : decode cX2_finish 17 = .ok (.aload_n 0, 1) := dk_42 (dk_at dksX2_finish_0 17 rfl rfl)
theorem dX2_finish_18 : decode cX2_finish 18 = .ok (.iload_n 1, 1) := dk_27 (dk_at dksX2_finish_0 18 rfl rfl)
theorem dX2_finish_19 : decode cX2_finish 19 = .ok (.iload_n 2, 1) := dk_28 (dk_at dksX2_finish_0 19 rfl rfl)
theorem dX2_finish_20 : decode cX2_finish 20 = .ok (.invokevirtual 329, 3) := dk_182 1 73 (dk_at dksX2_finish_0 20 rfl rfl)
theorem dX2_finish_23 : decode cX2_finish 23 = .ok (.return_, 1) := dk_177 (dk_at dksX2_finish_0 23 rfl rfl)
abbrev cX2_merge : ByteArray := prog_20_method_77_code
def yX2_merge : MethodName := ⟨RX2, "merge", "(II)V"⟩
def dkwX2_merge_3 : List UInt8 := [182, 1, 63, 42, 28, 6, 182, 1, 82, 177]
abbrev dktX2_merge_3 : List UInt8 := dkwX2_merge_3 ++ []
def dkwX2_merge_2 : List UInt8 := [42, 27, 6, 29, 21, 4, 5, 108, 96, 133, 3, 17, 39, 15, 184, 1, 33, 182, 1, 63, 42, 28, 6, 3]
abbrev dktX2_merge_2 : List UInt8 := dkwX2_merge_2 ++ dktX2_merge_3
def dkwX2_merge_1 : List UInt8 := [42, 28, 6, 182, 1, 48, 62, 42, 27, 6, 182, 1, 48, 42, 28, 6, 182, 1, 48, 96, 29, 100, 54, 4]
abbrev dktX2_merge_1 : List UInt8 := dkwX2_merge_1 ++ dktX2_merge_2
def dkwX2_merge_0 : List UInt8 := [42, 27, 6, 182, 1, 48, 42, 28, 6, 182, 1, 48, 164, 0, 12, 42, 27, 6, 182, 1, 48, 167, 0, 9]
abbrev dktX2_merge_0 : List UInt8 := dkwX2_merge_0 ++ dktX2_merge_1
theorem dksX2_merge_0 : cX2_merge.data.toList.drop 0 = dktX2_merge_0 := by decide +kernel
theorem dksX2_merge_1 : cX2_merge.data.toList.drop 24 = dktX2_merge_1 := dk_seg dksX2_merge_0 24 rfl rfl
theorem dksX2_merge_2 : cX2_merge.data.toList.drop 48 = dktX2_merge_2 := dk_seg dksX2_merge_1 24 rfl rfl
theorem dksX2_merge_3 : cX2_merge.data.toList.drop 72 = dktX2_merge_3 := dk_seg dksX2_merge_2 24 rfl rfl
theorem dX2_merge_0 : decode cX2_merge 0 = .ok (.aload_n 0, 1) := dk_42 (dk_at dksX2_merge_0 0 rfl rfl)
theorem dX2_merge_1 : decode cX2_merge 1 = .ok (.iload_n 1, 1) := dk_27 (dk_at dksX2_merge_0 1 rfl rfl)
theorem dX2_merge_2 : decode cX2_merge 2 = .ok (.iconst 3, 1) := dk_6 (dk_at dksX2_merge_0 2 rfl rfl)
theorem dX2_merge_3 : decode cX2_merge 3 = .ok (.invokevirtual 304, 3) := dk_182 1 48 (dk_at dksX2_merge_0 3 rfl rfl)
theorem dX2_merge_6 : decode cX2_merge 6 = .ok (.aload_n 0, 1) := dk_42 (dk_at dksX2_merge_0 6 rfl rfl)
theorem dX2_merge_7 : decode cX2_merge 7 = .ok (.iload_n 2, 1) := dk_28 (dk_at dksX2_merge_0 7 rfl rfl)
theorem dX2_merge_8 : decode cX2_merge 8 = .ok (.iconst 3, 1) := dk_6 (dk_at dksX2_merge_0 8 rfl rfl)
theorem dX2_merge_9 : decode cX2_merge 9 = .ok (.invokevirtual 304, 3) := dk_182 1 48 (dk_at dksX2_merge_0 9 rfl rfl)
theorem dX2_merge_12 : decode cX2_merge 12 = .ok (.if_icmp .le 12, 3) := dk_164 0 12 (dk_at dksX2_merge_0 12 rfl rfl)
theorem dX2_merge_15 : decode cX2_merge 15 = .ok (.aload_n 0, 1) := dk_42 (dk_at dksX2_merge_0 15 rfl rfl)
theorem dX2_merge_16 : decode cX2_merge 16 = .ok (.iload_n 1, 1) := dk_27 (dk_at dksX2_merge_0 16 rfl rfl)
theorem dX2_merge_17 : decode cX2_merge 17 = .ok (.iconst 3, 1) := dk_6 (dk_at dksX2_merge_0 17 rfl rfl)
theorem dX2_merge_18 : decode cX2_merge 18 = .ok (.invokevirtual 304, 3) := dk_182 1 48 (dk_at dksX2_merge_0 18 rfl rfl)
theorem dX2_merge_21 : decode cX2_merge 21 = .ok (.goto 9, 3) := dk_167 0 9 (dk_at dksX2_merge_0 21 rfl rfl)
theorem dX2_merge_24 : decode cX2_merge 24 = .ok (.aload_n 0, 1) := dk_42 (dk_at dksX2_merge_1 0 rfl rfl)
theorem dX2_merge_25 : decode cX2_merge 25 = .ok (.iload_n 2, 1) := dk_28 (dk_at dksX2_merge_1 1 rfl rfl)
theorem dX2_merge_26 : decode cX2_merge 26 = .ok (.iconst 3, 1) := dk_6 (dk_at dksX2_merge_1 2 rfl rfl)
theorem dX2_merge_27 : decode cX2_merge 27 = .ok (.invokevirtual 304, 3) := dk_182 1 48 (dk_at dksX2_merge_1 3 rfl rfl)
theorem dX2_merge_30 : decode cX2_merge 30 = .ok (.istore_n 3, 1) := dk_62 (dk_at dksX2_merge_1 6 rfl rfl)
theorem dX2_merge_31 : decode cX2_merge 31 = .ok (.aload_n 0, 1) := dk_42 (dk_at dksX2_merge_1 7 rfl rfl)
theorem dX2_merge_32 : decode cX2_merge 32 = .ok (.iload_n 1, 1) := dk_27 (dk_at dksX2_merge_1 8 rfl rfl)
theorem dX2_merge_33 : decode cX2_merge 33 = .ok (.iconst 3, 1) := dk_6 (dk_at dksX2_merge_1 9 rfl rfl)
theorem dX2_merge_34 : decode cX2_merge 34 = .ok (.invokevirtual 304, 3) := dk_182 1 48 (dk_at dksX2_merge_1 10 rfl rfl)
theorem dX2_merge_37 : decode cX2_merge 37 = .ok (.aload_n 0, 1) := dk_42 (dk_at dksX2_merge_1 13 rfl rfl)
theorem dX2_merge_38 : decode cX2_merge 38 = .ok (.iload_n 2, 1) := dk_28 (dk_at dksX2_merge_1 14 rfl rfl)
theorem dX2_merge_39 : decode cX2_merge 39 = .ok (.iconst 3, 1) := dk_6 (dk_at dksX2_merge_1 15 rfl rfl)
theorem dX2_merge_40 : decode cX2_merge 40 = .ok (.invokevirtual 304, 3) := dk_182 1 48 (dk_at dksX2_merge_1 16 rfl rfl)
theorem dX2_merge_43 : decode cX2_merge 43 = .ok (.iadd, 1) := dk_96 (dk_at dksX2_merge_1 19 rfl rfl)
theorem dX2_merge_44 : decode cX2_merge 44 = .ok (.iload_n 3, 1) := dk_29 (dk_at dksX2_merge_1 20 rfl rfl)
theorem dX2_merge_45 : decode cX2_merge 45 = .ok (.isub, 1) := dk_100 (dk_at dksX2_merge_1 21 rfl rfl)
theorem dX2_merge_46 : decode cX2_merge 46 = .ok (.istore 4, 2) := dk_54 4 (dk_at dksX2_merge_1 22 rfl rfl)
theorem dX2_merge_48 : decode cX2_merge 48 = .ok (.aload_n 0, 1) := dk_42 (dk_at dksX2_merge_2 0 rfl rfl)
theorem dX2_merge_49 : decode cX2_merge 49 = .ok (.iload_n 1, 1) := dk_27 (dk_at dksX2_merge_2 1 rfl rfl)
theorem dX2_merge_50 : decode cX2_merge 50 = .ok (.iconst 3, 1) := dk_6 (dk_at dksX2_merge_2 2 rfl rfl)
theorem dX2_merge_51 : decode cX2_merge 51 = .ok (.iload_n 3, 1) := dk_29 (dk_at dksX2_merge_2 3 rfl rfl)
theorem dX2_merge_52 : decode cX2_merge 52 = .ok (.iload 4, 2) := dk_21 4 (dk_at dksX2_merge_2 4 rfl rfl)
theorem dX2_merge_54 : decode cX2_merge 54 = .ok (.iconst 2, 1) := dk_5 (dk_at dksX2_merge_2 6 rfl rfl)
theorem dX2_merge_55 : decode cX2_merge 55 = .ok (.idiv, 1) := dk_108 (dk_at dksX2_merge_2 7 rfl rfl)
theorem dX2_merge_56 : decode cX2_merge 56 = .ok (.iadd, 1) := dk_96 (dk_at dksX2_merge_2 8 rfl rfl)
theorem dX2_merge_57 : decode cX2_merge 57 = .ok (.i2l, 1) := dk_133 (dk_at dksX2_merge_2 9 rfl rfl)
theorem dX2_merge_58 : decode cX2_merge 58 = .ok (.iconst 0, 1) := dk_3 (dk_at dksX2_merge_2 10 rfl rfl)
theorem dX2_merge_59 : decode cX2_merge 59 = .ok (.sipush 9999, 3) := dk_17 39 15 (dk_at dksX2_merge_2 11 rfl rfl)
theorem dX2_merge_62 : decode cX2_merge 62 = .ok (.invokestatic 289, 3) := dk_184 1 33 (dk_at dksX2_merge_2 14 rfl rfl)
theorem dX2_merge_65 : decode cX2_merge 65 = .ok (.invokevirtual 319, 3) := dk_182 1 63 (dk_at dksX2_merge_2 17 rfl rfl)
theorem dX2_merge_68 : decode cX2_merge 68 = .ok (.aload_n 0, 1) := dk_42 (dk_at dksX2_merge_2 20 rfl rfl)
theorem dX2_merge_69 : decode cX2_merge 69 = .ok (.iload_n 2, 1) := dk_28 (dk_at dksX2_merge_2 21 rfl rfl)
theorem dX2_merge_70 : decode cX2_merge 70 = .ok (.iconst 3, 1) := dk_6 (dk_at dksX2_merge_2 22 rfl rfl)
theorem dX2_merge_71 : decode cX2_merge 71 = .ok (.iconst 0, 1) := dk_3 (dk_at dksX2_merge_2 23 rfl rfl)
theorem dX2_merge_72 : decode cX2_merge 72 = .ok (.invokevirtual 319, 3) := dk_182 1 63 (dk_at dksX2_merge_3 0 rfl rfl)
theorem dX2_merge_75 : decode cX2_merge 75 = .ok (.aload_n 0, 1) := dk_42 (dk_at dksX2_merge_3 3 rfl rfl)
theorem dX2_merge_76 : decode cX2_merge 76 = .ok (.iload_n 2, 1) := dk_28 (dk_at dksX2_merge_3 4 rfl rfl)
theorem dX2_merge_77 : decode cX2_merge 77 = .ok (.iconst 3, 1) := dk_6 (dk_at dksX2_merge_3 5 rfl rfl)
theorem dX2_merge_78 : decode cX2_merge 78 = .ok (.invokevirtual 338, 3) := dk_182 1 82 (dk_at dksX2_merge_3 6 rfl rfl)
theorem dX2_merge_81 : decode cX2_merge 81 = .ok (.return_, 1) := dk_177 (dk_at dksX2_merge_3 9 rfl rfl)
abbrev cX2_played : ByteArray := prog_20_method_90_code
def yX2_played : MethodName := ⟨RX2, "played", "(I)I"⟩
def dkwX2_played_2 : List UInt8 := [182, 1, 133, 154, 0, 5, 28, 172, 132, 2, 1, 167, 255, 219, 2, 172]
abbrev dktX2_played_2 : List UInt8 := dkwX2_played_2 ++ []
def dkwX2_played_1 : List UInt8 := [180, 0, 16, 17, 2, 193, 27, 104, 46, 162, 0, 29, 42, 17, 2, 193, 27, 104, 4, 96, 7, 28, 104, 96]
abbrev dktX2_played_1 : List UInt8 := dkwX2_played_1 ++ dktX2_played_2
def dkwX2_played_0 : List UInt8 := [27, 3, 42, 180, 0, 7, 4, 46, 4, 100, 184, 0, 69, 154, 0, 6, 16, 254, 172, 3, 61, 28, 42]
abbrev dktX2_played_0 : List UInt8 := dkwX2_played_0 ++ dktX2_played_1
theorem dksX2_played_0 : cX2_played.data.toList.drop 0 = dktX2_played_0 := by decide +kernel
theorem dksX2_played_1 : cX2_played.data.toList.drop 23 = dktX2_played_1 := dk_seg dksX2_played_0 23 rfl rfl
theorem dksX2_played_2 : cX2_played.data.toList.drop 47 = dktX2_played_2 := dk_seg dksX2_played_1 24 rfl rfl
theorem dX2_played_0 : decode cX2_played 0 = .ok (.iload_n 1, 1) := dk_27 (dk_at dksX2_played_0 0 rfl rfl)
theorem dX2_played_1 : decode cX2_played 1 = .ok (.iconst 0, 1) := dk_3 (dk_at dksX2_played_0 1 rfl rfl)
theorem dX2_played_2 : decode cX2_played 2 = .ok (.aload_n 0, 1) := dk_42 (dk_at dksX2_played_0 2 rfl rfl)
theorem dX2_played_3 : decode cX2_played 3 = .ok (.getfield 7, 3) := dk_180 0 7 (dk_at dksX2_played_0 3 rfl rfl)
theorem dX2_played_6 : decode cX2_played 6 = .ok (.iconst 1, 1) := dk_4 (dk_at dksX2_played_0 6 rfl rfl)
theorem dX2_played_7 : decode cX2_played 7 = .ok (.iaload, 1) := dk_46 (dk_at dksX2_played_0 7 rfl rfl)
theorem dX2_played_8 : decode cX2_played 8 = .ok (.iconst 1, 1) := dk_4 (dk_at dksX2_played_0 8 rfl rfl)
theorem dX2_played_9 : decode cX2_played 9 = .ok (.isub, 1) := dk_100 (dk_at dksX2_played_0 9 rfl rfl)
theorem dX2_played_10 : decode cX2_played 10 = .ok (.invokestatic 69, 3) := dk_184 0 69 (dk_at dksX2_played_0 10 rfl rfl)
theorem dX2_played_13 : decode cX2_played 13 = .ok (.ifCond .ne 6, 3) := dk_154 0 6 (dk_at dksX2_played_0 13 rfl rfl)
theorem dX2_played_16 : decode cX2_played 16 = .ok (.bipush (-2), 2) := dk_16 254 (dk_at dksX2_played_0 16 rfl rfl)
theorem dX2_played_18 : decode cX2_played 18 = .ok (.ireturn, 1) := dk_172 (dk_at dksX2_played_0 18 rfl rfl)
theorem dX2_played_19 : decode cX2_played 19 = .ok (.iconst 0, 1) := dk_3 (dk_at dksX2_played_0 19 rfl rfl)
theorem dX2_played_20 : decode cX2_played 20 = .ok (.istore_n 2, 1) := dk_61 (dk_at dksX2_played_0 20 rfl rfl)
theorem dX2_played_21 : decode cX2_played 21 = .ok (.iload_n 2, 1) := dk_28 (dk_at dksX2_played_0 21 rfl rfl)
theorem dX2_played_22 : decode cX2_played 22 = .ok (.aload_n 0, 1) := dk_42 (dk_at dksX2_played_0 22 rfl rfl)
theorem dX2_played_23 : decode cX2_played 23 = .ok (.getfield 16, 3) := dk_180 0 16 (dk_at dksX2_played_1 0 rfl rfl)
theorem dX2_played_26 : decode cX2_played 26 = .ok (.sipush 705, 3) := dk_17 2 193 (dk_at dksX2_played_1 3 rfl rfl)
theorem dX2_played_29 : decode cX2_played 29 = .ok (.iload_n 1, 1) := dk_27 (dk_at dksX2_played_1 6 rfl rfl)
theorem dX2_played_30 : decode cX2_played 30 = .ok (.imul, 1) := dk_104 (dk_at dksX2_played_1 7 rfl rfl)
theorem dX2_played_31 : decode cX2_played 31 = .ok (.iaload, 1) := dk_46 (dk_at dksX2_played_1 8 rfl rfl)
theorem dX2_played_32 : decode cX2_played 32 = .ok (.if_icmp .ge 29, 3) := dk_162 0 29 (dk_at dksX2_played_1 9 rfl rfl)
theorem dX2_played_35 : decode cX2_played 35 = .ok (.aload_n 0, 1) := dk_42 (dk_at dksX2_played_1 12 rfl rfl)
theorem dX2_played_36 : decode cX2_played 36 = .ok (.sipush 705, 3) := dk_17 2 193 (dk_at dksX2_played_1 13 rfl rfl)
theorem dX2_played_39 : decode cX2_played 39 = .ok (.iload_n 1, 1) := dk_27 (dk_at dksX2_played_1 16 rfl rfl)
theorem dX2_played_40 : decode cX2_played 40 = .ok (.imul, 1) := dk_104 (dk_at dksX2_played_1 17 rfl rfl)
theorem dX2_played_41 : decode cX2_played 41 = .ok (.iconst 1, 1) := dk_4 (dk_at dksX2_played_1 18 rfl rfl)
theorem dX2_played_42 : decode cX2_played 42 = .ok (.iadd, 1) := dk_96 (dk_at dksX2_played_1 19 rfl rfl)
theorem dX2_played_43 : decode cX2_played 43 = .ok (.iconst 4, 1) := dk_7 (dk_at dksX2_played_1 20 rfl rfl)
theorem dX2_played_44 : decode cX2_played 44 = .ok (.iload_n 2, 1) := dk_28 (dk_at dksX2_played_1 21 rfl rfl)
theorem dX2_played_45 : decode cX2_played 45 = .ok (.imul, 1) := dk_104 (dk_at dksX2_played_1 22 rfl rfl)
theorem dX2_played_46 : decode cX2_played 46 = .ok (.iadd, 1) := dk_96 (dk_at dksX2_played_1 23 rfl rfl)
theorem dX2_played_47 : decode cX2_played 47 = .ok (.invokevirtual 389, 3) := dk_182 1 133 (dk_at dksX2_played_2 0 rfl rfl)
theorem dX2_played_50 : decode cX2_played 50 = .ok (.ifCond .ne 5, 3) := dk_154 0 5 (dk_at dksX2_played_2 3 rfl rfl)
theorem dX2_played_53 : decode cX2_played 53 = .ok (.iload_n 2, 1) := dk_28 (dk_at dksX2_played_2 6 rfl rfl)
theorem dX2_played_54 : decode cX2_played 54 = .ok (.ireturn, 1) := dk_172 (dk_at dksX2_played_2 7 rfl rfl)
theorem dX2_played_55 : decode cX2_played 55 = .ok (.iinc 2 1, 3) := dk_132 2 1 (dk_at dksX2_played_2 8 rfl rfl)
theorem dX2_played_58 : decode cX2_played 58 = .ok (.goto (-37), 3) := dk_167 255 219 (dk_at dksX2_played_2 11 rfl rfl)
theorem dX2_played_61 : decode cX2_played 61 = .ok (.iconst (-1), 1) := dk_2 (dk_at dksX2_played_2 14 rfl rfl)
theorem dX2_played_62 : decode cX2_played 62 = .ok (.ireturn, 1) := dk_172 (dk_at dksX2_played_2 15 rfl rfl)
abbrev cX2_isPlayed : ByteArray := prog_20_method_89_code
def yX2_isPlayed : MethodName := ⟨RX2, "isPlayed", "(I)Z"⟩
def dkwX2_isPlayed_4 : List UInt8 := [182, 1, 127, 172, 42, 28, 29, 182, 1, 130, 172, 42, 28, 182, 1, 115, 172, 4, 172]
abbrev dktX2_isPlayed_4 : List UInt8 := dkwX2_isPlayed_4 ++ []
def dkwX2_isPlayed_3 : List UInt8 := [29, 42, 180, 0, 16, 27, 6, 96, 46, 182, 1, 124, 155, 0, 7, 4, 167, 0, 4, 3, 172, 42, 28, 29]
abbrev dktX2_isPlayed_3 : List UInt8 := dkwX2_isPlayed_3 ++ dktX2_isPlayed_4
def dkwX2_isPlayed_2 : List UInt8 := [42, 29, 28, 182, 1, 118, 155, 0, 7, 4, 167, 0, 4, 3, 172, 42, 28, 29, 182, 1, 121, 172, 42, 28]
abbrev dktX2_isPlayed_2 : List UInt8 := dkwX2_isPlayed_2 ++ dktX2_isPlayed_3
def dkwX2_isPlayed_1 : List UInt8 := [170, 0, 0, 0, 0, 0, 0, 105, 0, 0, 0, 3, 0, 0, 0, 8, 0, 0, 0, 40, 0, 0, 0, 55, 0, 0, 0, 62, 0, 0, 0, 85, 0, 0, 0, 92, 0, 0, 0, 99]
abbrev dktX2_isPlayed_1 : List UInt8 := dkwX2_isPlayed_1 ++ dktX2_isPlayed_2
def dkwX2_isPlayed_0 : List UInt8 := [42, 180, 0, 16, 27, 4, 96, 46, 61, 42, 180, 0, 16, 27, 5, 96, 46, 62, 42, 180, 0, 16, 27, 46]
abbrev dktX2_isPlayed_0 : List UInt8 := dkwX2_isPlayed_0 ++ dktX2_isPlayed_1
theorem dksX2_isPlayed_0 : cX2_isPlayed.data.toList.drop 0 = dktX2_isPlayed_0 := by decide +kernel
theorem dksX2_isPlayed_1 : cX2_isPlayed.data.toList.drop 24 = dktX2_isPlayed_1 := dk_seg dksX2_isPlayed_0 24 rfl rfl
theorem dksX2_isPlayed_2 : cX2_isPlayed.data.toList.drop 64 = dktX2_isPlayed_2 := dk_seg dksX2_isPlayed_1 40 rfl rfl
theorem dksX2_isPlayed_3 : cX2_isPlayed.data.toList.drop 88 = dktX2_isPlayed_3 := dk_seg dksX2_isPlayed_2 24 rfl rfl
theorem dksX2_isPlayed_4 : cX2_isPlayed.data.toList.drop 112 = dktX2_isPlayed_4 := dk_seg dksX2_isPlayed_3 24 rfl rfl
theorem dX2_isPlayed_0 : decode cX2_isPlayed 0 = .ok (.aload_n 0, 1) := dk_42 (dk_at dksX2_isPlayed_0 0 rfl rfl)
theorem dX2_isPlayed_1 : decode cX2_isPlayed 1 = .ok (.getfield 16, 3) := dk_180 0 16 (dk_at dksX2_isPlayed_0 1 rfl rfl)
theorem dX2_isPlayed_4 : decode cX2_isPlayed 4 = .ok (.iload_n 1, 1) := dk_27 (dk_at dksX2_isPlayed_0 4 rfl rfl)
theorem dX2_isPlayed_5 : decode cX2_isPlayed 5 = .ok (.iconst 1, 1) := dk_4 (dk_at dksX2_isPlayed_0 5 rfl rfl)
theorem dX2_isPlayed_6 : decode cX2_isPlayed 6 = .ok (.iadd, 1) := dk_96 (dk_at dksX2_isPlayed_0 6 rfl rfl)
theorem dX2_isPlayed_7 : decode cX2_isPlayed 7 = .ok (.iaload, 1) := dk_46 (dk_at dksX2_isPlayed_0 7 rfl rfl)
theorem dX2_isPlayed_8 : decode cX2_isPlayed 8 = .ok (.istore_n 2, 1) := dk_61 (dk_at dksX2_isPlayed_0 8 rfl rfl)
theorem dX2_isPlayed_9 : decode cX2_isPlayed 9 = .ok (.aload_n 0, 1) := dk_42 (dk_at dksX2_isPlayed_0 9 rfl rfl)
theorem dX2_isPlayed_10 : decode cX2_isPlayed 10 = .ok (.getfield 16, 3) := dk_180 0 16 (dk_at dksX2_isPlayed_0 10 rfl rfl)
theorem dX2_isPlayed_13 : decode cX2_isPlayed 13 = .ok (.iload_n 1, 1) := dk_27 (dk_at dksX2_isPlayed_0 13 rfl rfl)
theorem dX2_isPlayed_14 : decode cX2_isPlayed 14 = .ok (.iconst 2, 1) := dk_5 (dk_at dksX2_isPlayed_0 14 rfl rfl)
theorem dX2_isPlayed_15 : decode cX2_isPlayed 15 = .ok (.iadd, 1) := dk_96 (dk_at dksX2_isPlayed_0 15 rfl rfl)
theorem dX2_isPlayed_16 : decode cX2_isPlayed 16 = .ok (.iaload, 1) := dk_46 (dk_at dksX2_isPlayed_0 16 rfl rfl)
theorem dX2_isPlayed_17 : decode cX2_isPlayed 17 = .ok (.istore_n 3, 1) := dk_62 (dk_at dksX2_isPlayed_0 17 rfl rfl)
theorem dX2_isPlayed_18 : decode cX2_isPlayed 18 = .ok (.aload_n 0, 1) := dk_42 (dk_at dksX2_isPlayed_0 18 rfl rfl)
theorem dX2_isPlayed_19 : decode cX2_isPlayed 19 = .ok (.getfield 16, 3) := dk_180 0 16 (dk_at dksX2_isPlayed_0 19 rfl rfl)
theorem dX2_isPlayed_22 : decode cX2_isPlayed 22 = .ok (.iload_n 1, 1) := dk_27 (dk_at dksX2_isPlayed_0 22 rfl rfl)
theorem dX2_isPlayed_23 : decode cX2_isPlayed 23 = .ok (.iaload, 1) := dk_46 (dk_at dksX2_isPlayed_0 23 rfl rfl)
theorem dX2_isPlayed_24 : decode cX2_isPlayed 24 = .ok (.tableswitch 105 3 8 #[40, 55, 62, 85, 92, 99], 40) := by decide +kernel
theorem dX2_isPlayed_64 : decode cX2_isPlayed 64 = .ok (.aload_n 0, 1) := dk_42 (dk_at dksX2_isPlayed_2 0 rfl rfl)
theorem dX2_isPlayed_65 : decode cX2_isPlayed 65 = .ok (.iload_n 3, 1) := dk_29 (dk_at dksX2_isPlayed_2 1 rfl rfl)
theorem dX2_isPlayed_66 : decode cX2_isPlayed 66 = .ok (.iload_n 2, 1) := dk_28 (dk_at dksX2_isPlayed_2 2 rfl rfl)
theorem dX2_isPlayed_67 : decode cX2_isPlayed 67 = .ok (.invokevirtual 374, 3) := dk_182 1 118 (dk_at dksX2_isPlayed_2 3 rfl rfl)
theorem dX2_isPlayed_70 : decode cX2_isPlayed 70 = .ok (.ifCond .lt 7, 3) := dk_155 0 7 (dk_at dksX2_isPlayed_2 6 rfl rfl)
theorem dX2_isPlayed_73 : decode cX2_isPlayed 73 = .ok (.iconst 1, 1) := dk_4 (dk_at dksX2_isPlayed_2 9 rfl rfl)
theorem dX2_isPlayed_74 : decode cX2_isPlayed 74 = .ok (.goto 4, 3) := dk_167 0 4 (dk_at dksX2_isPlayed_2 10 rfl rfl)
theorem dX2_isPlayed_77 : decode cX2_isPlayed 77 = .ok (.iconst 0, 1) := dk_3 (dk_at dksX2_isPlayed_2 13 rfl rfl)
theorem dX2_isPlayed_78 : decode cX2_isPlayed 78 = .ok (.ireturn, 1) := dk_172 (dk_at dksX2_isPlayed_2 14 rfl rfl)
theorem dX2_isPlayed_79 : decode cX2_isPlayed 79 = .ok (.aload_n 0, 1) := dk_42 (dk_at dksX2_isPlayed_2 15 rfl rfl)
theorem dX2_isPlayed_80 : decode cX2_isPlayed 80 = .ok (.iload_n 2, 1) := dk_28 (dk_at dksX2_isPlayed_2 16 rfl rfl)
theorem dX2_isPlayed_81 : decode cX2_isPlayed 81 = .ok (.iload_n 3, 1) := dk_29 (dk_at dksX2_isPlayed_2 17 rfl rfl)
theorem dX2_isPlayed_82 : decode cX2_isPlayed 82 = .ok (.invokevirtual 377, 3) := dk_182 1 121 (dk_at dksX2_isPlayed_2 18 rfl rfl)
theorem dX2_isPlayed_85 : decode cX2_isPlayed 85 = .ok (.ireturn, 1) := dk_172 (dk_at dksX2_isPlayed_2 21 rfl rfl)
theorem dX2_isPlayed_86 : decode cX2_isPlayed 86 = .ok (.aload_n 0, 1) := dk_42 (dk_at dksX2_isPlayed_2 22 rfl rfl)
theorem dX2_isPlayed_87 : decode cX2_isPlayed 87 = .ok (.iload_n 2, 1) := dk_28 (dk_at dksX2_isPlayed_2 23 rfl rfl)
theorem dX2_isPlayed_88 : decode cX2_isPlayed 88 = .ok (.iload_n 3, 1) := dk_29 (dk_at dksX2_isPlayed_3 0 rfl rfl)
theorem dX2_isPlayed_89 : decode cX2_isPlayed 89 = .ok (.aload_n 0, 1) := dk_42 (dk_at dksX2_isPlayed_3 1 rfl rfl)
theorem dX2_isPlayed_90 : decode cX2_isPlayed 90 = .ok (.getfield 16, 3) := dk_180 0 16 (dk_at dksX2_isPlayed_3 2 rfl rfl)
theorem dX2_isPlayed_93 : decode cX2_isPlayed 93 = .ok (.iload_n 1, 1) := dk_27 (dk_at dksX2_isPlayed_3 5 rfl rfl)
theorem dX2_isPlayed_94 : decode cX2_isPlayed 94 = .ok (.iconst 3, 1) := dk_6 (dk_at dksX2_isPlayed_3 6 rfl rfl)
theorem dX2_isPlayed_95 : decode cX2_isPlayed 95 = .ok (.iadd, 1) := dk_96 (dk_at dksX2_isPlayed_3 7 rfl rfl)
theorem dX2_isPlayed_96 : decode cX2_isPlayed 96 = .ok (.iaload, 1) := dk_46 (dk_at dksX2_isPlayed_3 8 rfl rfl)
theorem dX2_isPlayed_97 : decode cX2_isPlayed 97 = .ok (.invokevirtual 380, 3) := dk_182 1 124 (dk_at dksX2_isPlayed_3 9 rfl rfl)
theorem dX2_isPlayed_100 : decode cX2_isPlayed 100 = .ok (.ifCond .lt 7, 3) := dk_155 0 7 (dk_at dksX2_isPlayed_3 12 rfl rfl)
theorem dX2_isPlayed_103 : decode cX2_isPlayed 103 = .ok (.iconst 1, 1) := dk_4 (dk_at dksX2_isPlayed_3 15 rfl rfl)
theorem dX2_isPlayed_104 : decode cX2_isPlayed 104 = .ok (.goto 4, 3) := dk_167 0 4 (dk_at dksX2_isPlayed_3 16 rfl rfl)
theorem dX2_isPlayed_107 : decode cX2_isPlayed 107 = .ok (.iconst 0, 1) := dk_3 (dk_at dksX2_isPlayed_3 19 rfl rfl)
theorem dX2_isPlayed_108 : decode cX2_isPlayed 108 = .ok (.ireturn, 1) := dk_172 (dk_at dksX2_isPlayed_3 20 rfl rfl)
theorem dX2_isPlayed_109 : decode cX2_isPlayed 109 = .ok (.aload_n 0, 1) := dk_42 (dk_at dksX2_isPlayed_3 21 rfl rfl)
theorem dX2_isPlayed_110 : decode cX2_isPlayed 110 = .ok (.iload_n 2, 1) := dk_28 (dk_at dksX2_isPlayed_3 22 rfl rfl)
theorem dX2_isPlayed_111 : decode cX2_isPlayed 111 = .ok (.iload_n 3, 1) := dk_29 (dk_at dksX2_isPlayed_3 23 rfl rfl)
theorem dX2_isPlayed_112 : decode cX2_isPlayed 112 = .ok (.invokevirtual 383, 3) := dk_182 1 127 (dk_at dksX2_isPlayed_4 0 rfl rfl)
theorem dX2_isPlayed_115 : decode cX2_isPlayed 115 = .ok (.ireturn, 1) := dk_172 (dk_at dksX2_isPlayed_4 3 rfl rfl)
theorem dX2_isPlayed_116 : decode cX2_isPlayed 116 = .ok (.aload_n 0, 1) := dk_42 (dk_at dksX2_isPlayed_4 4 rfl rfl)
theorem dX2_isPlayed_117 : decode cX2_isPlayed 117 = .ok (.iload_n 2, 1) := dk_28 (dk_at dksX2_isPlayed_4 5 rfl rfl)
theorem dX2_isPlayed_118 : decode cX2_isPlayed 118 = .ok (.iload_n 3, 1) := dk_29 (dk_at dksX2_isPlayed_4 6 rfl rfl)
theorem dX2_isPlayed_119 : decode cX2_isPlayed 119 = .ok (.invokevirtual 386, 3) := dk_182 1 130 (dk_at dksX2_isPlayed_4 7 rfl rfl)
theorem dX2_isPlayed_122 : decode cX2_isPlayed 122 = .ok (.ireturn, 1) := dk_172 (dk_at dksX2_isPlayed_4 10 rfl rfl)
theorem dX2_isPlayed_123 : decode cX2_isPlayed 123 = .ok (.aload_n 0, 1) := dk_42 (dk_at dksX2_isPlayed_4 11 rfl rfl)
theorem dX2_isPlayed_124 : decode cX2_isPlayed 124 = .ok (.iload_n 2, 1) := dk_28 (dk_at dksX2_isPlayed_4 12 rfl rfl)
theorem dX2_isPlayed_125 : decode cX2_isPlayed 125 = .ok (.invokevirtual 371, 3) := dk_182 1 115 (dk_at dksX2_isPlayed_4 13 rfl rfl)
theorem dX2_isPlayed_128 : decode cX2_isPlayed 128 = .ok (.ireturn, 1) := dk_172 (dk_at dksX2_isPlayed_4 16 rfl rfl)
theorem dX2_isPlayed_129 : decode cX2_isPlayed 129 = .ok (.iconst 1, 1) := dk_4 (dk_at dksX2_isPlayed_4 17 rfl rfl)
theorem dX2_isPlayed_130 : decode cX2_isPlayed 130 = .ok (.ireturn, 1) := dk_172 (dk_at dksX2_isPlayed_4 18 rfl rfl)
abbrev cX2_years : ByteArray := prog_20_method_92_code
def yX2_years : MethodName := ⟨RX2, "years", "(II)I"⟩
def dkwX2_years_3 : List UInt8 := [167, 255, 229, 42, 180, 0, 7, 16, 6, 46, 172]
abbrev dktX2_years_3 : List UInt8 := dkwX2_years_3 ++ []
def dkwX2_years_2 : List UInt8 := [42, 180, 0, 7, 16, 7, 46, 54, 4, 42, 182, 1, 67, 42, 21, 4, 182, 1, 136, 132, 3, 1]
abbrev dktX2_years_2 : List UInt8 := dkwX2_years_2 ++ dktX2_years_3
def dkwX2_years_1 : List UInt8 := [182, 1, 100, 42, 180, 0, 7, 16, 7, 27, 5, 104, 17, 0, 181, 96, 79, 3, 62, 29, 28, 162, 0, 28]
abbrev dktX2_years_1 : List UInt8 := dkwX2_years_1 ++ dktX2_years_2
def dkwX2_years_0 : List UInt8 := [27, 3, 17, 39, 15, 184, 0, 69, 153, 0, 13, 28, 4, 16, 40, 184, 0, 69, 154, 0, 5, 2, 172, 42]
abbrev dktX2_years_0 : List UInt8 := dkwX2_years_0 ++ dktX2_years_1
theorem dksX2_years_0 : cX2_years.data.toList.drop 0 = dktX2_years_0 := by decide +kernel
theorem dksX2_years_1 : cX2_years.data.toList.drop 24 = dktX2_years_1 := dk_seg dksX2_years_0 24 rfl rfl
theorem dksX2_years_2 : cX2_years.data.toList.drop 48 = dktX2_years_2 := dk_seg dksX2_years_1 24 rfl rfl
theorem dksX2_years_3 : cX2_years.data.toList.drop 70 = dktX2_years_3 := dk_seg dksX2_years_2 22 rfl rfl
theorem dX2_years_0 : decode cX2_years 0 = .ok (.iload_n 1, 1) := dk_27 (dk_at dksX2_years_0 0 rfl rfl)
theorem dX2_years_1 : decode cX2_years 1 = .ok (.iconst 0, 1) := dk_3 (dk_at dksX2_years_0 1 rfl rfl)
theorem dX2_years_2 : decode cX2_years 2 = .ok (.sipush 9999, 3) := dk_17 39 15 (dk_at dksX2_years_0 2 rfl rfl)
theorem dX2_years_5 : decode cX2_years 5 = .ok (.invokestatic 69, 3) := dk_184 0 69 (dk_at dksX2_years_0 5 rfl rfl)
theorem dX2_years_8 : decode cX2_years 8 = .ok (.ifCond .eq 13, 3) := dk_153 0 13 (dk_at dksX2_years_0 8 rfl rfl)
theorem dX2_years_11 : decode cX2_years 11 = .ok (.iload_n 2, 1) := dk_28 (dk_at dksX2_years_0 11 rfl rfl)
theorem dX2_years_12 : decode cX2_years 12 = .ok (.iconst 1, 1) := dk_4 (dk_at dksX2_years_0 12 rfl rfl)
theorem dX2_years_13 : decode cX2_years 13 = .ok (.bipush 40, 2) := dk_16 40 (dk_at dksX2_years_0 13 rfl rfl)
theorem dX2_years_15 : decode cX2_years 15 = .ok (.invokestatic 69, 3) := dk_184 0 69 (dk_at dksX2_years_0 15 rfl rfl)
theorem dX2_years_18 : decode cX2_years 18 = .ok (.ifCond .ne 5, 3) := dk_154 0 5 (dk_at dksX2_years_0 18 rfl rfl)
theorem dX2_years_21 : decode cX2_years 21 = .ok (.iconst (-1), 1) := dk_2 (dk_at dksX2_years_0 21 rfl rfl)
theorem dX2_years_22 : decode cX2_years 22 = .ok (.ireturn, 1) := dk_172 (dk_at dksX2_years_0 22 rfl rfl)
theorem dX2_years_23 : decode cX2_years 23 = .ok (.aload_n 0, 1) := dk_42 (dk_at dksX2_years_0 23 rfl rfl)
theorem dX2_years_24 : decode cX2_years 24 = .ok (.invokevirtual 356, 3) := dk_182 1 100 (dk_at dksX2_years_1 0 rfl rfl)
theorem dX2_years_27 : decode cX2_years 27 = .ok (.aload_n 0, 1) := dk_42 (dk_at dksX2_years_1 3 rfl rfl)
theorem dX2_years_28 : decode cX2_years 28 = .ok (.getfield 7, 3) := dk_180 0 7 (dk_at dksX2_years_1 4 rfl rfl)
theorem dX2_years_31 : decode cX2_years 31 = .ok (.bipush 7, 2) := dk_16 7 (dk_at dksX2_years_1 7 rfl rfl)
theorem dX2_years_33 : decode cX2_years 33 = .ok (.iload_n 1, 1) := dk_27 (dk_at dksX2_years_1 9 rfl rfl)
theorem dX2_years_34 : decode cX2_years 34 = .ok (.iconst 2, 1) := dk_5 (dk_at dksX2_years_1 10 rfl rfl)
theorem dX2_years_35 : decode cX2_years 35 = .ok (.imul, 1) := dk_104 (dk_at dksX2_years_1 11 rfl rfl)
theorem dX2_years_36 : decode cX2_years 36 = .ok (.sipush 181, 3) := dk_17 0 181 (dk_at dksX2_years_1 12 rfl rfl)
theorem dX2_years_39 : decode cX2_years 39 = .ok (.iadd, 1) := dk_96 (dk_at dksX2_years_1 15 rfl rfl)
theorem dX2_years_40 : decode cX2_years 40 = .ok (.iastore, 1) := dk_79 (dk_at dksX2_years_1 16 rfl rfl)
theorem dX2_years_41 : decode cX2_years 41 = .ok (.iconst 0, 1) := dk_3 (dk_at dksX2_years_1 17 rfl rfl)
theorem dX2_years_42 : decode cX2_years 42 = .ok (.istore_n 3, 1) := dk_62 (dk_at dksX2_years_1 18 rfl rfl)
theorem dX2_years_43 : decode cX2_years 43 = .ok (.iload_n 3, 1) := dk_29 (dk_at dksX2_years_1 19 rfl rfl)
theorem dX2_years_44 : decode cX2_years 44 = .ok (.iload_n 2, 1) := dk_28 (dk_at dksX2_years_1 20 rfl rfl)
theorem dX2_years_45 : decode cX2_years 45 = .ok (.if_icmp .ge 28, 3) := dk_162 0 28 (dk_at dksX2_years_1 21 rfl rfl)
theorem dX2_years_48 : decode cX2_years 48 = .ok (.aload_n 0, 1) := dk_42 (dk_at dksX2_years_2 0 rfl rfl)
theorem dX2_years_49 : decode cX2_years 49 = .ok (.getfield 7, 3) := dk_180 0 7 (dk_at dksX2_years_2 1 rfl rfl)
theorem dX2_years_52 : decode cX2_years 52 = .ok (.bipush 7, 2) := dk_16 7 (dk_at dksX2_years_2 4 rfl rfl)
theorem dX2_years_54 : decode cX2_years 54 = .ok (.iaload, 1) := dk_46 (dk_at dksX2_years_2 6 rfl rfl)
theorem dX2_years_55 : decode cX2_years 55 = .ok (.istore 4, 2) := dk_54 4 (dk_at dksX2_years_2 7 rfl rfl)
theorem dX2_years_57 : decode cX2_years 57 = .ok (.aload_n 0, 1) := dk_42 (dk_at dksX2_years_2 9 rfl rfl)
theorem dX2_years_58 : decode cX2_years 58 = .ok (.invokevirtual 323, 3) := dk_182 1 67 (dk_at dksX2_years_2 10 rfl rfl)
theorem dX2_years_61 : decode cX2_years 61 = .ok (.aload_n 0, 1) := dk_42 (dk_at dksX2_years_2 13 rfl rfl)
theorem dX2_years_62 : decode cX2_years 62 = .ok (.iload 4, 2) := dk_21 4 (dk_at dksX2_years_2 14 rfl rfl)
theorem dX2_years_64 : decode cX2_years 64 = .ok (.invokevirtual 392, 3) := dk_182 1 136 (dk_at dksX2_years_2 16 rfl rfl)
theorem dX2_years_67 : decode cX2_years 67 = .ok (.iinc 3 1, 3) := dk_132 3 1 (dk_at dksX2_years_2 19 rfl rfl)
theorem dX2_years_70 : decode cX2_years 70 = .ok (.goto (-27), 3) := dk_167 255 229 (dk_at dksX2_years_3 0 rfl rfl)
theorem dX2_years_73 : decode cX2_years 73 = .ok (.aload_n 0, 1) := dk_42 (dk_at dksX2_years_3 3 rfl rfl)
theorem dX2_years_74 : decode cX2_years 74 = .ok (.getfield 7, 3) := dk_180 0 7 (dk_at dksX2_years_3 4 rfl rfl)
theorem dX2_years_77 : decode cX2_years 77 = .ok (.bipush 6, 2) := dk_16 6 (dk_at dksX2_years_3 7 rfl rfl)
theorem dX2_years_79 : decode cX2_years 79 = .ok (.iaload, 1) := dk_46 (dk_at dksX2_years_3 9 rfl rfl)
theorem dX2_years_80 : decode cX2_years 80 = .ok (.ireturn, 1) := dk_172 (dk_at dksX2_years_3 10 rfl rfl)
abbrev cX2_happens : ByteArray := prog_20_method_91_code
def yX2_happens : MethodName := ⟨RX2, "happens", "(I)V"⟩
def dkwX2_happens_4 : List UInt8 := [28, 3, 4, 27, 16, 20, 112, 96, 182, 1, 103, 177]
abbrev dktX2_happens_4 : List UInt8 := dkwX2_happens_4 ++ []
def dkwX2_happens_3 : List UInt8 := [180, 0, 7, 16, 6, 46, 27, 7, 112, 96, 79, 167, 0, 24, 42, 28, 3, 182, 1, 97, 153, 0, 15, 42]
abbrev dktX2_happens_3 : List UInt8 := dkwX2_happens_3 ++ dktX2_happens_4
def dkwX2_happens_2 : List UInt8 := [160, 0, 36, 42, 180, 0, 7, 16, 10, 28, 96, 27, 7, 112, 154, 0, 7, 3, 167, 0, 14, 42]
abbrev dktX2_happens_2 : List UInt8 := dkwX2_happens_2 ++ dktX2_happens_3
def dkwX2_happens_1 : List UInt8 := [177, 42, 180, 0, 7, 3, 46, 154, 0, 4, 177, 27, 42, 180, 0, 7, 3, 46, 112, 61, 27, 8, 112, 4]
abbrev dktX2_happens_1 : List UInt8 := dkwX2_happens_1 ++ dktX2_happens_2
def dkwX2_happens_0 : List UInt8 := [27, 8, 112, 4, 164, 0, 21, 42, 180, 0, 7, 16, 6, 46, 17, 39, 15, 162, 0, 7, 42, 182, 1, 112]
abbrev dktX2_happens_0 : List UInt8 := dkwX2_happens_0 ++ dktX2_happens_1
theorem dksX2_happens_0 : cX2_happens.data.toList.drop 0 = dktX2_happens_0 := by decide +kernel
theorem dksX2_happens_1 : cX2_happens.data.toList.drop 24 = dktX2_happens_1 := dk_seg dksX2_happens_0 24 rfl rfl
theorem dksX2_happens_2 : cX2_happens.data.toList.drop 48 = dktX2_happens_2 := dk_seg dksX2_happens_1 24 rfl rfl
theorem dksX2_happens_3 : cX2_happens.data.toList.drop 70 = dktX2_happens_3 := dk_seg dksX2_happens_2 22 rfl rfl
theorem dksX2_happens_4 : cX2_happens.data.toList.drop 94 = dktX2_happens_4 := dk_seg dksX2_happens_3 24 rfl rfl
theorem dX2_happens_0 : decode cX2_happens 0 = .ok (.iload_n 1, 1) := dk_27 (dk_at dksX2_happens_0 0 rfl rfl)
theorem dX2_happens_1 : decode cX2_happens 1 = .ok (.iconst 5, 1) := dk_8 (dk_at dksX2_happens_0 1 rfl rfl)
theorem dX2_happens_2 : decode cX2_happens 2 = .ok (.irem, 1) := dk_112 (dk_at dksX2_happens_0 2 rfl rfl)
theorem dX2_happens_3 : decode cX2_happens 3 = .ok (.iconst 1, 1) := dk_4 (dk_at dksX2_happens_0 3 rfl rfl)
theorem dX2_happens_4 : decode cX2_happens 4 = .ok (.if_icmp .le 21, 3) := dk_164 0 21 (dk_at dksX2_happens_0 4 rfl rfl)
theorem dX2_happens_7 : decode cX2_happens 7 = .ok (.aload_n 0, 1) := dk_42 (dk_at dksX2_happens_0 7 rfl rfl)
theorem dX2_happens_8 : decode cX2_happens 8 = .ok (.getfield 7, 3) := dk_180 0 7 (dk_at dksX2_happens_0 8 rfl rfl)
theorem dX2_happens_11 : decode cX2_happens 11 = .ok (.bipush 6, 2) := dk_16 6 (dk_at dksX2_happens_0 11 rfl rfl)
theorem dX2_happens_13 : decode cX2_happens 13 = .ok (.iaload, 1) := dk_46 (dk_at dksX2_happens_0 13 rfl rfl)
theorem dX2_happens_14 : decode cX2_happens 14 = .ok (.sipush 9999, 3) := dk_17 39 15 (dk_at dksX2_happens_0 14 rfl rfl)
theorem dX2_happens_17 : decode cX2_happens 17 = .ok (.if_icmp .ge 7, 3) := dk_162 0 7 (dk_at dksX2_happens_0 17 rfl rfl)
theorem dX2_happens_20 : decode cX2_happens 20 = .ok (.aload_n 0, 1) := dk_42 (dk_at dksX2_happens_0 20 rfl rfl)
theorem dX2_happens_21 : decode cX2_happens 21 = .ok (.invokevirtual 368, 3) := dk_182 1 112 (dk_at dksX2_happens_0 21 rfl rfl)
theorem dX2_happens_24 : decode cX2_happens 24 = .ok (.return_, 1) := dk_177 (dk_at dksX2_happens_1 0 rfl rfl)
theorem dX2_happens_25 : decode cX2_happens 25 = .ok (.aload_n 0, 1) := dk_42 (dk_at dksX2_happens_1 1 rfl rfl)
theorem dX2_happens_26 : decode cX2_happens 26 = .ok (.getfield 7, 3) := dk_180 0 7 (dk_at dksX2_happens_1 2 rfl rfl)
theorem dX2_happens_29 : decode cX2_happens 29 = .ok (.iconst 0, 1) := dk_3 (dk_at dksX2_happens_1 5 rfl rfl)
theorem dX2_happens_30 : decode cX2_happens 30 = .ok (.iaload, 1) := dk_46 (dk_at dksX2_happens_1 6 rfl rfl)
theorem dX2_happens_31 : decode cX2_happens 31 = .ok (.ifCond .ne 4, 3) := dk_154 0 4 (dk_at dksX2_happens_1 7 rfl rfl)
theorem dX2_happens_34 : decode cX2_happens 34 = .ok (.return_, 1) := dk_177 (dk_at dksX2_happens_1 10 rfl rfl)
theorem dX2_happens_35 : decode cX2_happens 35 = .ok (.iload_n 1, 1) := dk_27 (dk_at dksX2_happens_1 11 rfl rfl)
theorem dX2_happens_36 : decode cX2_happens 36 = .ok (.aload_n 0, 1) := dk_42 (dk_at dksX2_happens_1 12 rfl rfl)
theorem dX2_happens_37 : decode cX2_happens 37 = .ok (.getfield 7, 3) := dk_180 0 7 (dk_at dksX2_happens_1 13 rfl rfl)
theorem dX2_happens_40 : decode cX2_happens 40 = .ok (.iconst 0, 1) := dk_3 (dk_at dksX2_happens_1 16 rfl rfl)
theorem dX2_happens_41 : decode cX2_happens 41 = .ok (.iaload, 1) := dk_46 (dk_at dksX2_happens_1 17 rfl rfl)
theorem dX2_happens_42 : decode cX2_happens 42 = .ok (.irem, 1) := dk_112 (dk_at dksX2_happens_1 18 rfl rfl)
theorem dX2_happens_43 : decode cX2_happens 43 = .ok (.istore_n 2, 1) := dk_61 (dk_at dksX2_happens_1 19 rfl rfl)
theorem dX2_happens_44 : decode cX2_happens 44 = .ok (.iload_n 1, 1) := dk_27 (dk_at dksX2_happens_1 20 rfl rfl)
theorem dX2_happens_45 : decode cX2_happens 45 = .ok (.iconst 5, 1) := dk_8 (dk_at dksX2_happens_1 21 rfl rfl)
theorem dX2_happens_46 : decode cX2_happens 46 = .ok (.irem, 1) := dk_112 (dk_at dksX2_happens_1 22 rfl rfl)
theorem dX2_happens_47 : decode cX2_happens 47 = .ok (.iconst 1, 1) := dk_4 (dk_at dksX2_happens_1 23 rfl rfl)
theorem dX2_happens_48 : decode cX2_happens 48 = .ok (.if_icmp .ne 36, 3) := dk_160 0 36 (dk_at dksX2_happens_2 0 rfl rfl)
theorem dX2_happens_51 : decode cX2_happens 51 = .ok (.aload_n 0, 1) := dk_42 (dk_at dksX2_happens_2 3 rfl rfl)
theorem dX2_happens_52 : decode cX2_happens 52 = .ok (.getfield 7, 3) := dk_180 0 7 (dk_at dksX2_happens_2 4 rfl rfl)
theorem dX2_happens_55 : decode cX2_happens 55 = .ok (.bipush 10, 2) := dk_16 10 (dk_at dksX2_happens_2 7 rfl rfl)
theorem dX2_happens_57 : decode cX2_happens 57 = .ok (.iload_n 2, 1) := dk_28 (dk_at dksX2_happens_2 9 rfl rfl)
theorem dX2_happens_58 : decode cX2_happens 58 = .ok (.iadd, 1) := dk_96 (dk_at dksX2_happens_2 10 rfl rfl)
theorem dX2_happens_59 : decode cX2_happens 59 = .ok (.iload_n 1, 1) := dk_27 (dk_at dksX2_happens_2 11 rfl rfl)
theorem dX2_happens_60 : decode cX2_happens 60 = .ok (.iconst 4, 1) := dk_7 (dk_at dksX2_happens_2 12 rfl rfl)
theorem dX2_happens_61 : decode cX2_happens 61 = .ok (.irem, 1) := dk_112 (dk_at dksX2_happens_2 13 rfl rfl)
theorem dX2_happens_62 : decode cX2_happens 62 = .ok (.ifCond .ne 7, 3) := dk_154 0 7 (dk_at dksX2_happens_2 14 rfl rfl)
theorem dX2_happens_65 : decode cX2_happens 65 = .ok (.iconst 0, 1) := dk_3 (dk_at dksX2_happens_2 17 rfl rfl)
theorem dX2_happens_66 : decode cX2_happens 66 = .ok (.goto 14, 3) := dk_167 0 14 (dk_at dksX2_happens_2 18 rfl rfl)
theorem dX2_happens_69 : decode cX2_happens 69 = .ok (.aload_n 0, 1) := dk_42 (dk_at dksX2_happens_2 21 rfl rfl)
theorem dX2_happens_70 : decode cX2_happens 70 = .ok (.getfield 7, 3) := dk_180 0 7 (dk_at dksX2_happens_3 0 rfl rfl)
theorem dX2_happens_73 : decode cX2_happens 73 = .ok (.bipush 6, 2) := dk_16 6 (dk_at dksX2_happens_3 3 rfl rfl)
theorem dX2_happens_75 : decode cX2_happens 75 = .ok (.iaload, 1) := dk_46 (dk_at dksX2_happens_3 5 rfl rfl)
theorem dX2_happens_76 : decode cX2_happens 76 = .ok (.iload_n 1, 1) := dk_27 (dk_at dksX2_happens_3 6 rfl rfl)
theorem dX2_happens_77 : decode cX2_happens 77 = .ok (.iconst 4, 1) := dk_7 (dk_at dksX2_happens_3 7 rfl rfl)
theorem dX2_happens_78 : decode cX2_happens 78 = .ok (.irem, 1) := dk_112 (dk_at dksX2_happens_3 8 rfl rfl)
theorem dX2_happens_79 : decode cX2_happens 79 = .ok (.iadd, 1) := dk_96 (dk_at dksX2_happens_3 9 rfl rfl)
theorem dX2_happens_80 : decode cX2_happens 80 = .ok (.iastore, 1) := dk_79 (dk_at dksX2_happens_3 10 rfl rfl)
theorem dX2_happens_81 : decode cX2_happens 81 = .ok (.goto 24, 3) := dk_167 0 24 (dk_at dksX2_happens_3 11 rfl rfl)
theorem dX2_happens_84 : decode cX2_happens 84 = .ok (.aload_n 0, 1) := dk_42 (dk_at dksX2_happens_3 14 rfl rfl)
theorem dX2_happens_85 : decode cX2_happens 85 = .ok (.iload_n 2, 1) := dk_28 (dk_at dksX2_happens_3 15 rfl rfl)
theorem dX2_happens_86 : decode cX2_happens 86 = .ok (.iconst 0, 1) := dk_3 (dk_at dksX2_happens_3 16 rfl rfl)
theorem dX2_happens_87 : decode cX2_happens 87 = .ok (.invokevirtual 353, 3) := dk_182 1 97 (dk_at dksX2_happens_3 17 rfl rfl)
theorem dX2_happens_90 : decode cX2_happens 90 = .ok (.ifCond .eq 15, 3) := dk_153 0 15 (dk_at dksX2_happens_3 20 rfl rfl)
theorem dX2_happens_93 : decode cX2_happens 93 = .ok (.aload_n 0, 1) := dk_42 (dk_at dksX2_happens_3 23 rfl rfl)
theorem dX2_happens_94 : decode cX2_happens 94 = .ok (.iload_n 2, 1) := dk_28 (dk_at dksX2_happens_4 0 rfl rfl)
theorem dX2_happens_95 : decode cX2_happens 95 = .ok (.iconst 0, 1) := dk_3 (dk_at dksX2_happens_4 1 rfl rfl)
theorem dX2_happens_96 : decode cX2_happens 96 = .ok (.iconst 1, 1) := dk_4 (dk_at dksX2_happens_4 2 rfl rfl)
theorem dX2_happens_97 : decode cX2_happens 97 = .ok (.iload_n 1, 1) := dk_27 (dk_at dksX2_happens_4 3 rfl rfl)
theorem dX2_happens_98 : decode cX2_happens 98 = .ok (.bipush 20, 2) := dk_16 20 (dk_at dksX2_happens_4 4 rfl rfl)
theorem dX2_happens_100 : decode cX2_happens 100 = .ok (.irem, 1) := dk_112 (dk_at dksX2_happens_4 6 rfl rfl)
theorem dX2_happens_101 : decode cX2_happens 101 = .ok (.iadd, 1) := dk_96 (dk_at dksX2_happens_4 7 rfl rfl)
theorem dX2_happens_102 : decode cX2_happens 102 = .ok (.invokevirtual 359, 3) := dk_182 1 103 (dk_at dksX2_happens_4 8 rfl rfl)
theorem dX2_happens_105 : decode cX2_happens 105 = .ok (.return_, 1) := dk_177 (dk_at dksX2_happens_4 11 rfl rfl)
abbrev cX2_of : ByteArray := prog_20_method_94_code
def yX2_of : MethodName := ⟨RX2, "of", "(II)I"⟩
def dkwX2_of_5 : List UInt8 := [182, 1, 142, 172, 16, 254, 172]
abbrev dktX2_of_5 : List UInt8 := dkwX2_of_5 ++ []
def dkwX2_of_4 : List UInt8 := [182, 1, 139, 172, 42, 27, 2, 182, 1, 51, 172, 42, 180, 0, 7, 16, 110, 27, 96, 46, 172, 42, 27]
abbrev dktX2_of_4 : List UInt8 := dkwX2_of_4 ++ dktX2_of_5
def dkwX2_of_3 : List UInt8 := [182, 1, 6, 172, 42, 180, 0, 7, 16, 10, 27, 96, 46, 172, 42, 42, 180, 0, 7, 5, 46, 27]
abbrev dktX2_of_3 : List UInt8 := dkwX2_of_3 ++ dktX2_of_4
def dkwX2_of_2 : List UInt8 := [42, 180, 0, 7, 16, 90, 27, 96, 46, 172, 42, 180, 0, 7, 16, 100, 27, 96, 46, 172, 42, 27]
abbrev dktX2_of_2 : List UInt8 := dkwX2_of_2 ++ dktX2_of_3
def dkwX2_of_1 : List UInt8 := [170, 0, 0, 0, 0, 0, 0, 119, 0, 0, 0, 0, 0, 0, 0, 7, 0, 0, 0, 48, 0, 0, 0, 58, 0, 0, 0, 68, 0, 0, 0, 74, 0, 0, 0, 84, 0, 0, 0, 96, 0, 0, 0, 103, 0, 0, 0, 113]
abbrev dktX2_of_1 : List UInt8 := dkwX2_of_1 ++ dktX2_of_2
def dkwX2_of_0 : List UInt8 := [42, 27, 182, 0, 73, 154, 0, 6, 16, 254, 172, 28]
abbrev dktX2_of_0 : List UInt8 := dkwX2_of_0 ++ dktX2_of_1
theorem dksX2_of_0 : cX2_of.data.toList.drop 0 = dktX2_of_0 := by decide +kernel
theorem dksX2_of_1 : cX2_of.data.toList.drop 12 = dktX2_of_1 := dk_seg dksX2_of_0 12 rfl rfl
theorem dksX2_of_2 : cX2_of.data.toList.drop 60 = dktX2_of_2 := dk_seg dksX2_of_1 48 rfl rfl
theorem dksX2_of_3 : cX2_of.data.toList.drop 82 = dktX2_of_3 := dk_seg dksX2_of_2 22 rfl rfl
theorem dksX2_of_4 : cX2_of.data.toList.drop 104 = dktX2_of_4 := dk_seg dksX2_of_3 22 rfl rfl
theorem dksX2_of_5 : cX2_of.data.toList.drop 127 = dktX2_of_5 := dk_seg dksX2_of_4 23 rfl rfl
theorem dX2_of_0 : decode cX2_of 0 = .ok (.aload_n 0, 1) := dk_42 (dk_at dksX2_of_0 0 rfl rfl)
theorem dX2_of_1 : decode cX2_of 1 = .ok (.iload_n 1, 1) := dk_27 (dk_at dksX2_of_0 1 rfl rfl)
theorem dX2_of_2 : decode cX2_of 2 = .ok (.invokevirtual 73, 3) := dk_182 0 73 (dk_at dksX2_of_0 2 rfl rfl)
theorem dX2_of_5 : decode cX2_of 5 = .ok (.ifCond .ne 6, 3) := dk_154 0 6 (dk_at dksX2_of_0 5 rfl rfl)
theorem dX2_of_8 : decode cX2_of 8 = .ok (.bipush (-2), 2) := dk_16 254 (dk_at dksX2_of_0 8 rfl rfl)
theorem dX2_of_10 : decode cX2_of 10 = .ok (.ireturn, 1) := dk_172 (dk_at dksX2_of_0 10 rfl rfl)
theorem dX2_of_11 : decode cX2_of 11 = .ok (.iload_n 2, 1) := dk_28 (dk_at dksX2_of_0 11 rfl rfl)
theorem dX2_of_12 : decode cX2_of 12 = .ok (.tableswitch 119 0 7 #[48, 58, 68, 74, 84, 96, 103, 113], 48) := by decide +kernel
theorem dX2_of_60 : decode cX2_of 60 = .ok (.aload_n 0, 1) := dk_42 (dk_at dksX2_of_2 0 rfl rfl)
theorem dX2_of_61 : decode cX2_of 61 = .ok (.getfield 7, 3) := dk_180 0 7 (dk_at dksX2_of_2 1 rfl rfl)
theorem dX2_of_64 : decode cX2_of 64 = .ok (.bipush 90, 2) := dk_16 90 (dk_at dksX2_of_2 4 rfl rfl)
theorem dX2_of_66 : decode cX2_of 66 = .ok (.iload_n 1, 1) := dk_27 (dk_at dksX2_of_2 6 rfl rfl)
theorem dX2_of_67 : decode cX2_of 67 = .ok (.iadd, 1) := dk_96 (dk_at dksX2_of_2 7 rfl rfl)
theorem dX2_of_68 : decode cX2_of 68 = .ok (.iaload, 1) := dk_46 (dk_at dksX2_of_2 8 rfl rfl)
theorem dX2_of_69 : decode cX2_of 69 = .ok (.ireturn, 1) := dk_172 (dk_at dksX2_of_2 9 rfl rfl)
theorem dX2_of_70 : decode cX2_of 70 = .ok (.aload_n 0, 1) := dk_42 (dk_at dksX2_of_2 10 rfl rfl)
theorem dX2_of_71 : decode cX2_of 71 = .ok (.getfield 7, 3) := dk_180 0 7 (dk_at dksX2_of_2 11 rfl rfl)
theorem dX2_of_74 : decode cX2_of 74 = .ok (.bipush 100, 2) := dk_16 100 (dk_at dksX2_of_2 14 rfl rfl)
theorem dX2_of_76 : decode cX2_of 76 = .ok (.iload_n 1, 1) := dk_27 (dk_at dksX2_of_2 16 rfl rfl)
theorem dX2_of_77 : decode cX2_of 77 = .ok (.iadd, 1) := dk_96 (dk_at dksX2_of_2 17 rfl rfl)
theorem dX2_of_78 : decode cX2_of 78 = .ok (.iaload, 1) := dk_46 (dk_at dksX2_of_2 18 rfl rfl)
theorem dX2_of_79 : decode cX2_of 79 = .ok (.ireturn, 1) := dk_172 (dk_at dksX2_of_2 19 rfl rfl)
theorem dX2_of_80 : decode cX2_of 80 = .ok (.aload_n 0, 1) := dk_42 (dk_at dksX2_of_2 20 rfl rfl)
theorem dX2_of_81 : decode cX2_of 81 = .ok (.iload_n 1, 1) := dk_27 (dk_at dksX2_of_2 21 rfl rfl)
theorem dX2_of_82 : decode cX2_of 82 = .ok (.invokevirtual 262, 3) := dk_182 1 6 (dk_at dksX2_of_3 0 rfl rfl)
theorem dX2_of_85 : decode cX2_of 85 = .ok (.ireturn, 1) := dk_172 (dk_at dksX2_of_3 3 rfl rfl)
theorem dX2_of_86 : decode cX2_of 86 = .ok (.aload_n 0, 1) := dk_42 (dk_at dksX2_of_3 4 rfl rfl)
theorem dX2_of_87 : decode cX2_of 87 = .ok (.getfield 7, 3) := dk_180 0 7 (dk_at dksX2_of_3 5 rfl rfl)
theorem dX2_of_90 : decode cX2_of 90 = .ok (.bipush 10, 2) := dk_16 10 (dk_at dksX2_of_3 8 rfl rfl)
theorem dX2_of_92 : decode cX2_of 92 = .ok (.iload_n 1, 1) := dk_27 (dk_at dksX2_of_3 10 rfl rfl)
theorem dX2_of_93 : decode cX2_of 93 = .ok (.iadd, 1) := dk_96 (dk_at dksX2_of_3 11 rfl rfl)
theorem dX2_of_94 : decode cX2_of 94 = .ok (.iaload, 1) := dk_46 (dk_at dksX2_of_3 12 rfl rfl)
theorem dX2_of_95 : decode cX2_of 95 = .ok (.ireturn, 1) := dk_172 (dk_at dksX2_of_3 13 rfl rfl)
theorem dX2_of_96 : decode cX2_of 96 = .ok (.aload_n 0, 1) := dk_42 (dk_at dksX2_of_3 14 rfl rfl)
theorem dX2_of_97 : decode cX2_of 97 = .ok (.aload_n 0, 1) := dk_42 (dk_at dksX2_of_3 15 rfl rfl)
theorem dX2_of_98 : decode cX2_of 98 = .ok (.getfield 7, 3) := dk_180 0 7 (dk_at dksX2_of_3 16 rfl rfl)
theorem dX2_of_101 : decode cX2_of 101 = .ok (.iconst 2, 1) := dk_5 (dk_at dksX2_of_3 19 rfl rfl)
theorem dX2_of_102 : decode cX2_of 102 = .ok (.iaload, 1) := dk_46 (dk_at dksX2_of_3 20 rfl rfl)
theorem dX2_of_103 : decode cX2_of 103 = .ok (.iload_n 1, 1) := dk_27 (dk_at dksX2_of_3 21 rfl rfl)
theorem dX2_of_104 : decode cX2_of 104 = .ok (.invokevirtual 395, 3) := dk_182 1 139 (dk_at dksX2_of_4 0 rfl rfl)
theorem dX2_of_107 : decode cX2_of 107 = .ok (.ireturn, 1) := dk_172 (dk_at dksX2_of_4 3 rfl rfl)
theorem dX2_of_108 : decode cX2_of 108 = .ok (.aload_n 0, 1) := dk_42 (dk_at dksX2_of_4 4 rfl rfl)
theorem dX2_of_109 : decode cX2_of 109 = .ok (.iload_n 1, 1) := dk_27 (dk_at dksX2_of_4 5 rfl rfl)
theorem dX2_of_110 : decode cX2_of 110 = .ok (.iconst (-1), 1) := dk_2 (dk_at dksX2_of_4 6 rfl rfl)
theorem dX2_of_111 : decode cX2_of 111 = .ok (.invokevirtual 307, 3) := dk_182 1 51 (dk_at dksX2_of_4 7 rfl rfl)
theorem dX2_of_114 : decode cX2_of 114 = .ok (.ireturn, 1) := dk_172 (dk_at dksX2_of_4 10 rfl rfl)
theorem dX2_of_115 : decode cX2_of 115 = .ok (.aload_n 0, 1) := dk_42 (dk_at dksX2_of_4 11 rfl rfl)
theorem dX2_of_116 : decode cX2_of 116 = .ok (.getfield 7, 3) := dk_180 0 7 (dk_at dksX2_of_4 12 rfl rfl)
theorem dX2_of_119 : decode cX2_of 119 = .ok (.bipush 110, 2) := dk_16 110 (dk_at dksX2_of_4 15 rfl rfl)
theorem dX2_of_121 : decode cX2_of 121 = .ok (.iload_n 1, 1) := dk_27 (dk_at dksX2_of_4 17 rfl rfl)
theorem dX2_of_122 : decode cX2_of 122 = .ok (.iadd, 1) := dk_96 (dk_at dksX2_of_4 18 rfl rfl)
theorem dX2_of_123 : decode cX2_of 123 = .ok (.iaload, 1) := dk_46 (dk_at dksX2_of_4 19 rfl rfl)
theorem dX2_of_124 : decode cX2_of 124 = .ok (.ireturn, 1) := dk_172 (dk_at dksX2_of_4 20 rfl rfl)
theorem dX2_of_125 : decode cX2_of 125 = .ok (.aload_n 0, 1) := dk_42 (dk_at dksX2_of_4 21 rfl rfl)
theorem dX2_of_126 : decode cX2_of 126 = .ok (.iload_n 1, 1) := dk_27 (dk_at dksX2_of_4 22 rfl rfl)
theorem dX2_of_127 : decode cX2_of 127 = .ok (.invokevirtual 398, 3) := dk_182 1 142 (dk_at dksX2_of_5 0 rfl rfl)
theorem dX2_of_130 : decode cX2_of 130 = .ok (.ireturn, 1) := dk_172 (dk_at dksX2_of_5 3 rfl rfl)
theorem dX2_of_131 : decode cX2_of 131 = .ok (.bipush (-2), 2) := dk_16 254 (dk_at dksX2_of_5 4 rfl rfl)
theorem dX2_of_133 : decode cX2_of 133 = .ok (.ireturn, 1) := dk_172 (dk_at dksX2_of_5 6 rfl rfl)
abbrev cX2_addsOf : ByteArray := prog_20_method_69_code
def yX2_addsOf : MethodName := ⟨RX2, "addsOf", "(II)I"⟩
def dkwX2_addsOf_0 : List UInt8 := [42, 28, 16, 10, 28, 3, 182, 1, 41, 42, 27, 182, 1, 45, 172]
abbrev dktX2_addsOf_0 : List UInt8 := dkwX2_addsOf_0 ++ []
theorem dksX2_addsOf_0 : cX2_addsOf.data.toList.drop 0 = dktX2_addsOf_0 := by decide +kernel
theorem dX2_addsOf_0 : decode cX2_addsOf 0 = .ok (.aload_n 0, 1) := dk_42 (dk_at dksX2_addsOf_0 0 rfl rfl)
theorem dX2_addsOf_1 : decode cX2_addsOf 1 = .ok (.iload_n 2, 1) := dk_28 (dk_at dksX2_addsOf_0 1 rfl rfl)
theorem dX2_addsOf_2 : decode cX2_addsOf 2 = .ok (.bipush 10, 2) := dk_16 10 (dk_at dksX2_addsOf_0 2 rfl rfl)
theorem dX2_addsOf_4 : decode cX2_addsOf 4 = .ok (.iload_n 2, 1) := dk_28 (dk_at dksX2_addsOf_0 4 rfl rfl)
theorem dX2_addsOf_5 : decode cX2_addsOf 5 = .ok (.iconst 0, 1) := dk_3 (dk_at dksX2_addsOf_0 5 rfl rfl)
theorem dX2_addsOf_6 : decode cX2_addsOf 6 = .ok (.invokevirtual 297, 3) := dk_182 1 41 (dk_at dksX2_addsOf_0 6 rfl rfl)
theorem dX2_addsOf_9 : decode cX2_addsOf 9 = .ok (.aload_n 0, 1) := dk_42 (dk_at dksX2_addsOf_0 9 rfl rfl)
theorem dX2_addsOf_10 : decode cX2_addsOf 10 = .ok (.iload_n 1, 1) := dk_27 (dk_at dksX2_addsOf_0 10 rfl rfl)
theorem dX2_addsOf_11 : decode cX2_addsOf 11 = .ok (.invokevirtual 301, 3) := dk_182 1 45 (dk_at dksX2_addsOf_0 11 rfl rfl)
theorem dX2_addsOf_14 : decode cX2_addsOf 14 = .ok (.ireturn, 1) := dk_172 (dk_at dksX2_addsOf_0 14 rfl rfl)
abbrev cX2_belowOf : ByteArray := prog_20_method_93_code
def yX2_belowOf : MethodName := ⟨RX2, "belowOf", "(I)I"⟩
def dkwX2_belowOf_1 : List UInt8 := [153, 0, 9, 4, 29, 120, 167, 0, 4, 3, 128, 61, 132, 3, 1, 167, 255, 224, 28, 172]
abbrev dktX2_belowOf_1 : List UInt8 := dkwX2_belowOf_1 ++ []
def dkwX2_belowOf_0 : List UInt8 := [4, 27, 120, 61, 3, 62, 29, 42, 180, 0, 7, 3, 46, 162, 0, 28, 28, 42, 27, 29, 182, 1, 94]
abbrev dktX2_belowOf_0 : List UInt8 := dkwX2_belowOf_0 ++ dktX2_belowOf_1
theorem dksX2_belowOf_0 : cX2_belowOf.data.toList.drop 0 = dktX2_belowOf_0 := by decide +kernel
theorem dksX2_belowOf_1 : cX2_belowOf.data.toList.drop 23 = dktX2_belowOf_1 := dk_seg dksX2_belowOf_0 23 rfl rfl
theorem dX2_belowOf_0 : decode cX2_belowOf 0 = .ok (.iconst 1, 1) := dk_4 (dk_at dksX2_belowOf_0 0 rfl rfl)
theorem dX2_belowOf_1 : decode cX2_belowOf 1 = .ok (.iload_n 1, 1) := dk_27 (dk_at dksX2_belowOf_0 1 rfl rfl)
theorem dX2_belowOf_2 : decode cX2_belowOf 2 = .ok (.ishl, 1) := dk_120 (dk_at dksX2_belowOf_0 2 rfl rfl)
theorem dX2_belowOf_3 : decode cX2_belowOf 3 = .ok (.istore_n 2, 1) := dk_61 (dk_at dksX2_belowOf_0 3 rfl rfl)
theorem dX2_belowOf_4 : decode cX2_belowOf 4 = .ok (.iconst 0, 1) := dk_3 (dk_at dksX2_belowOf_0 4 rfl rfl)
theorem dX2_belowOf_5 : decode cX2_belowOf 5 = .ok (.istore_n 3, 1) := dk_62 (dk_at dksX2_belowOf_0 5 rfl rfl)
theorem dX2_belowOf_6 : decode cX2_belowOf 6 = .ok (.iload_n 3, 1) := dk_29 (dk_at dksX2_belowOf_0 6 rfl rfl)
theorem dX2_belowOf_7 : decode cX2_belowOf 7 = .ok (.aload_n 0, 1) := dk_42 (dk_at dksX2_belowOf_0 7 rfl rfl)
theorem dX2_belowOf_8 : decode cX2_belowOf 8 = .ok (.getfield 7, 3) := dk_180 0 7 (dk_at dksX2_belowOf_0 8 rfl rfl)
theorem dX2_belowOf_11 : decode cX2_belowOf 11 = .ok (.iconst 0, 1) := dk_3 (dk_at dksX2_belowOf_0 11 rfl rfl)
theorem dX2_belowOf_12 : decode cX2_belowOf 12 = .ok (.iaload, 1) := dk_46 (dk_at dksX2_belowOf_0 12 rfl rfl)
theorem dX2_belowOf_13 : decode cX2_belowOf 13 = .ok (.if_icmp .ge 28, 3) := dk_162 0 28 (dk_at dksX2_belowOf_0 13 rfl rfl)
theorem dX2_belowOf_16 : decode cX2_belowOf 16 = .ok (.iload_n 2, 1) := dk_28 (dk_at dksX2_belowOf_0 16 rfl rfl)
theorem dX2_belowOf_17 : decode cX2_belowOf 17 = .ok (.aload_n 0, 1) := dk_42 (dk_at dksX2_belowOf_0 17 rfl rfl)
theorem dX2_belowOf_18 : decode cX2_belowOf 18 = .ok (.iload_n 1, 1) := dk_27 (dk_at dksX2_belowOf_0 18 rfl rfl)
theorem dX2_belowOf_19 : decode cX2_belowOf 19 = .ok (.iload_n 3, 1) := dk_29 (dk_at dksX2_belowOf_0 19 rfl rfl)
theorem dX2_belowOf_20 : decode cX2_belowOf 20 = .ok (.invokevirtual 350, 3) := dk_182 1 94 (dk_at dksX2_belowOf_0 20 rfl rfl)
theorem dX2_belowOf_23 : decode cX2_belowOf 23 = .ok (.ifCond .eq 9, 3) := dk_153 0 9 (dk_at dksX2_belowOf_1 0 rfl rfl)
theorem dX2_belowOf_26 : decode cX2_belowOf 26 = .ok (.iconst 1, 1) := dk_4 (dk_at dksX2_belowOf_1 3 rfl rfl)
theorem dX2_belowOf_27 : decode cX2_belowOf 27 = .ok (.iload_n 3, 1) := dk_29 (dk_at dksX2_belowOf_1 4 rfl rfl)
theorem dX2_belowOf_28 : decode cX2_belowOf 28 = .ok (.ishl, 1) := dk_120 (dk_at dksX2_belowOf_1 5 rfl rfl)
theorem dX2_belowOf_29 : decode cX2_belowOf 29 = .ok (.goto 4, 3) := dk_167 0 4 (dk_at dksX2_belowOf_1 6 rfl rfl)
theorem dX2_belowOf_32 : decode cX2_belowOf 32 = .ok (.iconst 0, 1) := dk_3 (dk_at dksX2_belowOf_1 9 rfl rfl)
theorem dX2_belowOf_33 : decode cX2_belowOf 33 = .ok (.ior, 1) := dk_128 (dk_at dksX2_belowOf_1 10 rfl rfl)
theorem dX2_belowOf_34 : decode cX2_belowOf 34 = .ok (.istore_n 2, 1) := dk_61 (dk_at dksX2_belowOf_1 11 rfl rfl)
theorem dX2_belowOf_35 : decode cX2_belowOf 35 = .ok (.iinc 3 1, 3) := dk_132 3 1 (dk_at dksX2_belowOf_1 12 rfl rfl)
theorem dX2_belowOf_38 : decode cX2_belowOf 38 = .ok (.goto (-32), 3) := dk_167 255 224 (dk_at dksX2_belowOf_1 15 rfl rfl)
theorem dX2_belowOf_41 : decode cX2_belowOf 41 = .ok (.iload_n 2, 1) := dk_28 (dk_at dksX2_belowOf_1 18 rfl rfl)
theorem dX2_belowOf_42 : decode cX2_belowOf 42 = .ok (.ireturn, 1) := dk_172 (dk_at dksX2_belowOf_1 19 rfl rfl)
abbrev cX2_ofApology : ByteArray := prog_20_method_95_code
def yX2_ofApology : MethodName := ⟨RX2, "ofApology", "(II)I"⟩
def dkwX2_ofApology_1 : List UInt8 := [167, 0, 5, 16, 254, 172]
abbrev dktX2_ofApology_1 : List UInt8 := dkwX2_ofApology_1 ++ []
def dkwX2_ofApology_0 : List UInt8 := [42, 27, 182, 1, 106, 153, 0, 22, 28, 3, 16, 6, 184, 0, 69, 153, 0, 12, 42, 27, 28, 182, 1, 48]
abbrev dktX2_ofApology_0 : List UInt8 := dkwX2_ofApology_0 ++ dktX2_ofApology_1
theorem dksX2_ofApology_0 : cX2_ofApology.data.toList.drop 0 = dktX2_ofApology_0 := by decide +kernel
theorem dksX2_ofApology_1 : cX2_ofApology.data.toList.drop 24 = dktX2_ofApology_1 := dk_seg dksX2_ofApology_0 24 rfl rfl
theorem dX2_ofApology_0 : decode cX2_ofApology 0 = .ok (.aload_n 0, 1) := dk_42 (dk_at dksX2_ofApology_0 0 rfl rfl)
theorem dX2_ofApology_1 : decode cX2_ofApology 1 = .ok (.iload_n 1, 1) := dk_27 (dk_at dksX2_ofApology_0 1 rfl rfl)
theorem dX2_ofApology_2 : decode cX2_ofApology 2 = .ok (.invokevirtual 362, 3) := dk_182 1 106 (dk_at dksX2_ofApology_0 2 rfl rfl)
theorem dX2_ofApology_5 : decode cX2_ofApology 5 = .ok (.ifCond .eq 22, 3) := dk_153 0 22 (dk_at dksX2_ofApology_0 5 rfl rfl)
theorem dX2_ofApology_8 : decode cX2_ofApology 8 = .ok (.iload_n 2, 1) := dk_28 (dk_at dksX2_ofApology_0 8 rfl rfl)
theorem dX2_ofApology_9 : decode cX2_ofApology 9 = .ok (.iconst 0, 1) := dk_3 (dk_at dksX2_ofApology_0 9 rfl rfl)
theorem dX2_ofApology_10 : decode cX2_ofApology 10 = .ok (.bipush 6, 2) := dk_16 6 (dk_at dksX2_ofApology_0 10 rfl rfl)
theorem dX2_ofApology_12 : decode cX2_ofApology 12 = .ok (.invokestatic 69, 3) := dk_184 0 69 (dk_at dksX2_ofApology_0 12 rfl rfl)
theorem dX2_ofApology_15 : decode cX2_ofApology 15 = .ok (.ifCond .eq 12, 3) := dk_153 0 12 (dk_at dksX2_ofApology_0 15 rfl rfl)
theorem dX2_ofApology_18 : decode cX2_ofApology 18 = .ok (.aload_n 0, 1) := dk_42 (dk_at dksX2_ofApology_0 18 rfl rfl)
theorem dX2_ofApology_19 : decode cX2_ofApology 19 = .ok (.iload_n 1, 1) := dk_27 (dk_at dksX2_ofApology_0 19 rfl rfl)
theorem dX2_ofApology_20 : decode cX2_ofApology 20 = .ok (.iload_n 2, 1) := dk_28 (dk_at dksX2_ofApology_0 20 rfl rfl)
theorem dX2_ofApology_21 : decode cX2_ofApology 21 = .ok (.invokevirtual 304, 3) := dk_182 1 48 (dk_at dksX2_ofApology_0 21 rfl rfl)
theorem dX2_ofApology_24 : decode cX2_ofApology 24 = .ok (.goto 5, 3) := dk_167 0 5 (dk_at dksX2_ofApology_1 0 rfl rfl)
theorem dX2_ofApology_27 : decode cX2_ofApology 27 = .ok (.bipush (-2), 2) := dk_16 254 (dk_at dksX2_ofApology_1 3 rfl rfl)
theorem dX2_ofApology_29 : decode cX2_ofApology 29 = .ok (.ireturn, 1) := dk_172 (dk_at dksX2_ofApology_1 5 rfl rfl)
abbrev cX2_is : ByteArray := prog_20_method_96_code
def yX2_is : MethodName := ⟨RX2, "is", "(I)I"⟩
def dkwX2_is_0 : List UInt8 := [27, 3, 5, 184, 0, 69, 153, 0, 15, 42, 180, 0, 7, 16, 6, 27, 96, 46, 167, 0, 5, 16, 254, 172]
abbrev dktX2_is_0 : List UInt8 := dkwX2_is_0 ++ []
theorem dksX2_is_0 : cX2_is.data.toList.drop 0 = dktX2_is_0 := by decide +kernel
theorem dX2_is_0 : decode cX2_is 0 = .ok (.iload_n 1, 1) := dk_27 (dk_at dksX2_is_0 0 rfl rfl)
theorem dX2_is_1 : decode cX2_is 1 = .ok (.iconst 0, 1) := dk_3 (dk_at dksX2_is_0 1 rfl rfl)
theorem dX2_is_2 : decode cX2_is 2 = .ok (.iconst 2, 1) := dk_5 (dk_at dksX2_is_0 2 rfl rfl)
theorem dX2_is_3 : decode cX2_is 3 = .ok (.invokestatic 69, 3) := dk_184 0 69 (dk_at dksX2_is_0 3 rfl rfl)
theorem dX2_is_6 : decode cX2_is 6 = .ok (.ifCond .eq 15, 3) := dk_153 0 15 (dk_at dksX2_is_0 6 rfl rfl)
theorem dX2_is_9 : decode cX2_is 9 = .ok (.aload_n 0, 1) := dk_42 (dk_at dksX2_is_0 9 rfl rfl)
theorem dX2_is_10 : decode cX2_is 10 = .ok (.getfield 7, 3) := dk_180 0 7 (dk_at dksX2_is_0 10 rfl rfl)
theorem dX2_is_13 : decode cX2_is 13 = .ok (.bipush 6, 2) := dk_16 6 (dk_at dksX2_is_0 13 rfl rfl)
theorem dX2_is_15 : decode cX2_is 15 = .ok (.iload_n 1, 1) := dk_27 (dk_at dksX2_is_0 15 rfl rfl)
theorem dX2_is_16 : decode cX2_is 16 = .ok (.iadd, 1) := dk_96 (dk_at dksX2_is_0 16 rfl rfl)
theorem dX2_is_17 : decode cX2_is 17 = .ok (.iaload, 1) := dk_46 (dk_at dksX2_is_0 17 rfl rfl)
theorem dX2_is_18 : decode cX2_is 18 = .ok (.goto 5, 3) := dk_167 0 5 (dk_at dksX2_is_0 18 rfl rfl)
theorem dX2_is_21 : decode cX2_is 21 = .ok (.bipush (-2), 2) := dk_16 254 (dk_at dksX2_is_0 21 rfl rfl)
theorem dX2_is_23 : decode cX2_is 23 = .ok (.ireturn, 1) := dk_172 (dk_at dksX2_is_0 23 rfl rfl)
abbrev cX2_book : ByteArray := prog_20_method_97_code
def yX2_book : MethodName := ⟨RX2, "book", "(II)I"⟩
def dkwX2_book_4 : List UInt8 := [6, 160, 0, 11, 29, 17, 39, 16, 112, 167, 0, 5, 16, 254, 172]
abbrev dktX2_book_4 : List UInt8 := dkwX2_book_4 ++ []
def dkwX2_book_3 : List UInt8 := [29, 19, 1, 145, 108, 167, 0, 33, 28, 5, 160, 0, 13, 29, 17, 39, 16, 108, 7, 112, 167, 0, 18, 28]
abbrev dktX2_book_3 : List UInt8 := dkwX2_book_3 ++ dktX2_book_4
def dkwX2_book_2 : List UInt8 := [28, 154, 0, 18, 42, 180, 0, 7, 17, 17, 132, 5, 27, 104, 96, 46, 167, 0, 46, 28, 4, 160, 0, 11]
abbrev dktX2_book_2 : List UInt8 := dkwX2_book_2 ++ dktX2_book_3
def dkwX2_book_1 : List UInt8 := [184, 0, 69, 154, 0, 6, 16, 254, 172, 42, 180, 0, 7, 17, 17, 132, 5, 27, 104, 96, 4, 96, 46, 62]
abbrev dktX2_book_1 : List UInt8 := dkwX2_book_1 ++ dktX2_book_2
def dkwX2_book_0 : List UInt8 := [27, 2, 160, 0, 11, 42, 180, 0, 7, 16, 9, 46, 172, 27, 3, 42, 180, 0, 7, 16, 9, 46, 4, 100]
abbrev dktX2_book_0 : List UInt8 := dkwX2_book_0 ++ dktX2_book_1
theorem dksX2_book_0 : cX2_book.data.toList.drop 0 = dktX2_book_0 := by decide +kernel
theorem dksX2_book_1 : cX2_book.data.toList.drop 24 = dktX2_book_1 := dk_seg dksX2_book_0 24 rfl rfl
theorem dksX2_book_2 : cX2_book.data.toList.drop 48 = dktX2_book_2 := dk_seg dksX2_book_1 24 rfl rfl
theorem dksX2_book_3 : cX2_book.data.toList.drop 72 = dktX2_book_3 := dk_seg dksX2_book_2 24 rfl rfl
theorem dksX2_book_4 : cX2_book.data.toList.drop 96 = dktX2_book_4 := dk_seg dksX2_book_3 24 rfl rfl
theorem dX2_book_0 : decode cX2_book 0 = .ok (.iload_n 1, 1) := dk_27 (dk_at dksX2_book_0 0 rfl rfl)
theorem dX2_book_1 : decode cX2_book 1 = .ok (.iconst (-1), 1) := dk_2 (dk_at dksX2_book_0 1 rfl rfl)
theorem dX2_book_2 : decode cX2_book 2 = .ok (.if_icmp .ne 11, 3) := dk_160 0 11 (dk_at dksX2_book_0 2 rfl rfl)
theorem dX2_book_5 : decode cX2_book 5 = .ok (.aload_n 0, 1) := dk_42 (dk_at dksX2_book_0 5 rfl rfl)
theorem dX2_book_6 : decode cX2_book 6 = .ok (.getfield 7, 3) := dk_180 0 7 (dk_at dksX2_book_0 6 rfl rfl)
theorem dX2_book_9 : decode cX2_book 9 = .ok (.bipush 9, 2) := dk_16 9 (dk_at dksX2_book_0 9 rfl rfl)
theorem dX2_book_11 : decode cX2_book 11 = .ok (.iaload, 1) := dk_46 (dk_at dksX2_book_0 11 rfl rfl)
theorem dX2_book_12 : decode cX2_book 12 = .ok (.ireturn, 1) := dk_172 (dk_at dksX2_book_0 12 rfl rfl)
theorem dX2_book_13 : decode cX2_book 13 = .ok (.iload_n 1, 1) := dk_27 (dk_at dksX2_book_0 13 rfl rfl)
theorem dX2_book_14 : decode cX2_book 14 = .ok (.iconst 0, 1) := dk_3 (dk_at dksX2_book_0 14 rfl rfl)
theorem dX2_book_15 : decode cX2_book 15 = .ok (.aload_n 0, 1) := dk_42 (dk_at dksX2_book_0 15 rfl rfl)
theorem dX2_book_16 : decode cX2_book 16 = .ok (.getfield 7, 3) := dk_180 0 7 (dk_at dksX2_book_0 16 rfl rfl)
theorem dX2_book_19 : decode cX2_book 19 = .ok (.bipush 9, 2) := dk_16 9 (dk_at dksX2_book_0 19 rfl rfl)
theorem dX2_book_21 : decode cX2_book 21 = .ok (.iaload, 1) := dk_46 (dk_at dksX2_book_0 21 rfl rfl)
theorem dX2_book_22 : decode cX2_book 22 = .ok (.iconst 1, 1) := dk_4 (dk_at dksX2_book_0 22 rfl rfl)
theorem dX2_book_23 : decode cX2_book 23 = .ok (.isub, 1) := dk_100 (dk_at dksX2_book_0 23 rfl rfl)
theorem dX2_book_24 : decode cX2_book 24 = .ok (.invokestatic 69, 3) := dk_184 0 69 (dk_at dksX2_book_1 0 rfl rfl)
theorem dX2_book_27 : decode cX2_book 27 = .ok (.ifCond .ne 6, 3) := dk_154 0 6 (dk_at dksX2_book_1 3 rfl rfl)
theorem dX2_book_30 : decode cX2_book 30 = .ok (.bipush (-2), 2) := dk_16 254 (dk_at dksX2_book_1 6 rfl rfl)
theorem dX2_book_32 : decode cX2_book 32 = .ok (.ireturn, 1) := dk_172 (dk_at dksX2_book_1 8 rfl rfl)
theorem dX2_book_33 : decode cX2_book 33 = .ok (.aload_n 0, 1) := dk_42 (dk_at dksX2_book_1 9 rfl rfl)
theorem dX2_book_34 : decode cX2_book 34 = .ok (.getfield 7, 3) := dk_180 0 7 (dk_at dksX2_book_1 10 rfl rfl)
theorem dX2_book_37 : decode cX2_book 37 = .ok (.sipush 4484, 3) := dk_17 17 132 (dk_at dksX2_book_1 13 rfl rfl)
theorem dX2_book_40 : decode cX2_book 40 = .ok (.iconst 2, 1) := dk_5 (dk_at dksX2_book_1 16 rfl rfl)
theorem dX2_book_41 : decode cX2_book 41 = .ok (.iload_n 1, 1) := dk_27 (dk_at dksX2_book_1 17 rfl rfl)
theorem dX2_book_42 : decode cX2_book 42 = .ok (.imul, 1) := dk_104 (dk_at dksX2_book_1 18 rfl rfl)
theorem dX2_book_43 : decode cX2_book 43 = .ok (.iadd, 1) := dk_96 (dk_at dksX2_book_1 19 rfl rfl)
theorem dX2_book_44 : decode cX2_book 44 = .ok (.iconst 1, 1) := dk_4 (dk_at dksX2_book_1 20 rfl rfl)
theorem dX2_book_45 : decode cX2_book 45 = .ok (.iadd, 1) := dk_96 (dk_at dksX2_book_1 21 rfl rfl)
theorem dX2_book_46 : decode cX2_book 46 = .ok (.iaload, 1) := dk_46 (dk_at dksX2_book_1 22 rfl rfl)
theorem dX2_book_47 : decode cX2_book 47 = .ok (.istore_n 3, 1) := dk_62 (dk_at dksX2_book_1 23 rfl rfl)
theorem dX2_book_48 : decode cX2_book 48 = .ok (.iload_n 2, 1) := dk_28 (dk_at dksX2_book_2 0 rfl rfl)
theorem dX2_book_49 : decode cX2_book 49 = .ok (.ifCond .ne 18, 3) := dk_154 0 18 (dk_at dksX2_book_2 1 rfl rfl)
theorem dX2_book_52 : decode cX2_book 52 = .ok (.aload_n 0, 1) := dk_42 (dk_at dksX2_book_2 4 rfl rfl)
theorem dX2_book_53 : decode cX2_book 53 = .ok (.getfield 7, 3) := dk_180 0 7 (dk_at dksX2_book_2 5 rfl rfl)
theorem dX2_book_56 : decode cX2_book 56 = .ok (.sipush 4484, 3) := dk_17 17 132 (dk_at dksX2_book_2 8 rfl rfl)
theorem dX2_book_59 : decode cX2_book 59 = .ok (.iconst 2, 1) := dk_5 (dk_at dksX2_book_2 11 rfl rfl)
theorem dX2_book_60 : decode cX2_book 60 = .ok (.iload_n 1, 1) := dk_27 (dk_at dksX2_book_2 12 rfl rfl)
theorem dX2_book_61 : decode cX2_book 61 = .ok (.imul, 1) := dk_104 (dk_at dksX2_book_2 13 rfl rfl)
theorem dX2_book_62 : decode cX2_book 62 = .ok (.iadd, 1) := dk_96 (dk_at dksX2_book_2 14 rfl rfl)
theorem dX2_book_63 : decode cX2_book 63 = .ok (.iaload, 1) := dk_46 (dk_at dksX2_book_2 15 rfl rfl)
theorem dX2_book_64 : decode cX2_book 64 = .ok (.goto 46, 3) := dk_167 0 46 (dk_at dksX2_book_2 16 rfl rfl)
theorem dX2_book_67 : decode cX2_book 67 = .ok (.iload_n 2, 1) := dk_28 (dk_at dksX2_book_2 19 rfl rfl)
theorem dX2_book_68 : decode cX2_book 68 = .ok (.iconst 1, 1) := dk_4 (dk_at dksX2_book_2 20 rfl rfl)
theorem dX2_book_69 : decode cX2_book 69 = .ok (.if_icmp .ne 11, 3) := dk_160 0 11 (dk_at dksX2_book_2 21 rfl rfl)
theorem dX2_book_72 : decode cX2_book 72 = .ok (.iload_n 3, 1) := dk_29 (dk_at dksX2_book_3 0 rfl rfl)
theorem dX2_book_73 : decode cX2_book 73 = .ok (.ldc_w 401, 3) := dk_19 1 145 (dk_at dksX2_book_3 1 rfl rfl)
theorem dX2_book_76 : decode cX2_book 76 = .ok (.idiv, 1) := dk_108 (dk_at dksX2_book_3 4 rfl rfl)
theorem dX2_book_77 : decode cX2_book 77 = .ok (.goto 33, 3) := dk_167 0 33 (dk_at dksX2_book_3 5 rfl rfl)
theorem dX2_book_80 : decode cX2_book 80 = .ok (.iload_n 2, 1) := dk_28 (dk_at dksX2_book_3 8 rfl rfl)
theorem dX2_book_81 : decode cX2_book 81 = .ok (.iconst 2, 1) := dk_5 (dk_at dksX2_book_3 9 rfl rfl)
theorem dX2_book_82 : decode cX2_book 82 = .ok (.if_icmp .ne 13, 3) := dk_160 0 13 (dk_at dksX2_book_3 10 rfl rfl)
theorem dX2_book_85 : decode cX2_book 85 = .ok (.iload_n 3, 1) := dk_29 (dk_at dksX2_book_3 13 rfl rfl)
theorem dX2_book_86 : decode cX2_book 86 = .ok (.sipush 10000, 3) := dk_17 39 16 (dk_at dksX2_book_3 14 rfl rfl)
theorem dX2_book_89 : decode cX2_book 89 = .ok (.idiv, 1) := dk_108 (dk_at dksX2_book_3 17 rfl rfl)
theorem dX2_book_90 : decode cX2_book 90 = .ok (.iconst 4, 1) := dk_7 (dk_at dksX2_book_3 18 rfl rfl)
theorem dX2_book_91 : decode cX2_book 91 = .ok (.irem, 1) := dk_112 (dk_at dksX2_book_3 19 rfl rfl)
theorem dX2_book_92 : decode cX2_book 92 = .ok (.goto 18, 3) := dk_167 0 18 (dk_at dksX2_book_3 20 rfl rfl)
theorem dX2_book_95 : decode cX2_book 95 = .ok (.iload_n 2, 1) := dk_28 (dk_at dksX2_book_3 23 rfl rfl)
theorem dX2_book_96 : decode cX2_book 96 = .ok (.iconst 3, 1) := dk_6 (dk_at dksX2_book_4 0 rfl rfl)
theorem dX2_book_97 : decode cX2_book 97 = .ok (.if_icmp .ne 11, 3) := dk_160 0 11 (dk_at dksX2_book_4 1 rfl rfl)
theorem dX2_book_100 : decode cX2_book 100 = .ok (.iload_n 3, 1) := dk_29 (dk_at dksX2_book_4 4 rfl rfl)
theorem dX2_book_101 : decode cX2_book 101 = .ok (.sipush 10000, 3) := dk_17 39 16 (dk_at dksX2_book_4 5 rfl rfl)
theorem dX2_book_104 : decode cX2_book 104 = .ok (.irem, 1) := dk_112 (dk_at dksX2_book_4 8 rfl rfl)
theorem dX2_book_105 : decode cX2_book 105 = .ok (.goto 5, 3) := dk_167 0 5 (dk_at dksX2_book_4 9 rfl rfl)
theorem dX2_book_108 : decode cX2_book 108 = .ok (.bipush (-2), 2) := dk_16 254 (dk_at dksX2_book_4 12 rfl rfl)
theorem dX2_book_110 : decode cX2_book 110 = .ok (.ireturn, 1) := dk_172 (dk_at dksX2_book_4 14 rfl rfl)
abbrev cX2_befell : ByteArray := prog_20_method_98_code
def yX2_befell : MethodName := ⟨RX2, "befell", "(I)I"⟩
def dkwX2_befell_2 : List UInt8 := [167, 255, 224, 28, 172]
abbrev dktX2_befell_2 : List UInt8 := dkwX2_befell_2 ++ []
def dkwX2_befell_1 : List UInt8 := [162, 0, 27, 28, 42, 29, 5, 182, 1, 146, 27, 160, 0, 7, 4, 167, 0, 4, 3, 96, 61, 132, 3, 1]
abbrev dktX2_befell_1 : List UInt8 := dkwX2_befell_1 ++ dktX2_befell_2
def dkwX2_befell_0 : List UInt8 := [27, 3, 6, 184, 0, 69, 154, 0, 6, 16, 254, 172, 3, 61, 3, 62, 29, 42, 180, 0, 7, 16, 9, 46]
abbrev dktX2_befell_0 : List UInt8 := dkwX2_befell_0 ++ dktX2_befell_1
theorem dksX2_befell_0 : cX2_befell.data.toList.drop 0 = dktX2_befell_0 := by decide +kernel
theorem dksX2_befell_1 : cX2_befell.data.toList.drop 24 = dktX2_befell_1 := dk_seg dksX2_befell_0 24 rfl rfl
theorem dksX2_befell_2 : cX2_befell.data.toList.drop 48 = dktX2_befell_2 := dk_seg dksX2_befell_1 24 rfl rfl
theorem dX2_befell_0 : decode cX2_befell 0 = .ok (.iload_n 1, 1) := dk_27 (dk_at dksX2_befell_0 0 rfl rfl)
theorem dX2_befell_1 : decode cX2_befell 1 = .ok (.iconst 0, 1) := dk_3 (dk_at dksX2_befell_0 1 rfl rfl)
theorem dX2_befell_2 : decode cX2_befell 2 = .ok (.iconst 3, 1) := dk_6 (dk_at dksX2_befell_0 2 rfl rfl)
theorem dX2_befell_3 : decode cX2_befell 3 = .ok (.invokestatic 69, 3) := dk_184 0 69 (dk_at dksX2_befell_0 3 rfl rfl)
theorem dX2_befell_6 : decode cX2_befell 6 = .ok (.ifCond .ne 6, 3) := dk_154 0 6 (dk_at dksX2_befell_0 6 rfl rfl)
theorem dX2_befell_9 : decode cX2_befell 9 = .ok (.bipush (-2), 2) := dk_16 254 (dk_at dksX2_befell_0 9 rfl rfl)
theorem dX2_befell_11 : decode cX2_befell 11 = .ok (.ireturn, 1) := dk_172 (dk_at dksX2_befell_0 11 rfl rfl)
theorem dX2_befell_12 : decode cX2_befell 12 = .ok (.iconst 0, 1) := dk_3 (dk_at dksX2_befell_0 12 rfl rfl)
theorem dX2_befell_13 : decode cX2_befell 13 = .ok (.istore_n 2, 1) := dk_61 (dk_at dksX2_befell_0 13 rfl rfl)
theorem dX2_befell_14 : decode cX2_befell 14 = .ok (.iconst 0, 1) := dk_3 (dk_at dksX2_befell_0 14 rfl rfl)
theorem dX2_befell_15 : decode cX2_befell 15 = .ok (.istore_n 3, 1) := dk_62 (dk_at dksX2_befell_0 15 rfl rfl)
theorem dX2_befell_16 : decode cX2_befell 16 = .ok (.iload_n 3, 1) := dk_29 (dk_at dksX2_befell_0 16 rfl rfl)
theorem dX2_befell_17 : decode cX2_befell 17 = .ok (.aload_n 0, 1) := dk_42 (dk_at dksX2_befell_0 17 rfl rfl)
theorem dX2_befell_18 : decode cX2_befell 18 = .ok (.getfield 7, 3) := dk_180 0 7 (dk_at dksX2_befell_0 18 rfl rfl)
theorem dX2_befell_21 : decode cX2_befell 21 = .ok (.bipush 9, 2) := dk_16 9 (dk_at dksX2_befell_0 21 rfl rfl)
theorem dX2_befell_23 : decode cX2_befell 23 = .ok (.iaload, 1) := dk_46 (dk_at dksX2_befell_0 23 rfl rfl)
theorem dX2_befell_24 : decode cX2_befell 24 = .ok (.if_icmp .ge 27, 3) := dk_162 0 27 (dk_at dksX2_befell_1 0 rfl rfl)
theorem dX2_befell_27 : decode cX2_befell 27 = .ok (.iload_n 2, 1) := dk_28 (dk_at dksX2_befell_1 3 rfl rfl)
theorem dX2_befell_28 : decode cX2_befell 28 = .ok (.aload_n 0, 1) := dk_42 (dk_at dksX2_befell_1 4 rfl rfl)
theorem dX2_befell_29 : decode cX2_befell 29 = .ok (.iload_n 3, 1) := dk_29 (dk_at dksX2_befell_1 5 rfl rfl)
theorem dX2_befell_30 : decode cX2_befell 30 = .ok (.iconst 2, 1) := dk_5 (dk_at dksX2_befell_1 6 rfl rfl)
theorem dX2_befell_31 : decode cX2_befell 31 = .ok (.invokevirtual 402, 3) := dk_182 1 146 (dk_at dksX2_befell_1 7 rfl rfl)
theorem dX2_befell_34 : decode cX2_befell 34 = .ok (.iload_n 1, 1) := dk_27 (dk_at dksX2_befell_1 10 rfl rfl)
theorem dX2_befell_35 : decode cX2_befell 35 = .ok (.if_icmp .ne 7, 3) := dk_160 0 7 (dk_at dksX2_befell_1 11 rfl rfl)
theorem dX2_befell_38 : decode cX2_befell 38 = .ok (.iconst 1, 1) := dk_4 (dk_at dksX2_befell_1 14 rfl rfl)
theorem dX2_befell_39 : decode cX2_befell 39 = .ok (.goto 4, 3) := dk_167 0 4 (dk_at dksX2_befell_1 15 rfl rfl)
theorem dX2_befell_42 : decode cX2_befell 42 = .ok (.iconst 0, 1) := dk_3 (dk_at dksX2_befell_1 18 rfl rfl)
theorem dX2_befell_43 : decode cX2_befell 43 = .ok (.iadd, 1) := dk_96 (dk_at dksX2_befell_1 19 rfl rfl)
theorem dX2_befell_44 : decode cX2_befell 44 = .ok (.istore_n 2, 1) := dk_61 (dk_at dksX2_befell_1 20 rfl rfl)
theorem dX2_befell_45 : decode cX2_befell 45 = .ok (.iinc 3 1, 3) := dk_132 3 1 (dk_at dksX2_befell_1 21 rfl rfl)
theorem dX2_befell_48 : decode cX2_befell 48 = .ok (.goto (-32), 3) := dk_167 255 224 (dk_at dksX2_befell_2 0 rfl rfl)
theorem dX2_befell_51 : decode cX2_befell 51 = .ok (.iload_n 2, 1) := dk_28 (dk_at dksX2_befell_2 3 rfl rfl)
theorem dX2_befell_52 : decode cX2_befell 52 = .ok (.ireturn, 1) := dk_172 (dk_at dksX2_befell_2 4 rfl rfl)
abbrev cX2_stuck : ByteArray := prog_20_method_99_code
def yX2_stuck : MethodName := ⟨RX2, "stuck", "()I"⟩
def dkwX2_stuck_1 : List UInt8 := [163, 0, 6, 167, 0, 12, 42, 29, 2, 182, 1, 51, 61, 29, 60, 132, 3, 1, 167, 255, 221, 27, 172]
abbrev dktX2_stuck_1 : List UInt8 := dkwX2_stuck_1 ++ []
def dkwX2_stuck_0 : List UInt8 := [2, 60, 3, 61, 3, 62, 29, 42, 180, 0, 7, 3, 46, 162, 0, 31, 42, 29, 2, 182, 1, 51, 28]
abbrev dktX2_stuck_0 : List UInt8 := dkwX2_stuck_0 ++ dktX2_stuck_1
theorem dksX2_stuck_0 : cX2_stuck.data.toList.drop 0 = dktX2_stuck_0 := by decide +kernel
theorem dksX2_stuck_1 : cX2_stuck.data.toList.drop 23 = dktX2_stuck_1 := dk_seg dksX2_stuck_0 23 rfl rfl
theorem dX2_stuck_0 : decode cX2_stuck 0 = .ok (.iconst (-1), 1) := dk_2 (dk_at dksX2_stuck_0 0 rfl rfl)
theorem dX2_stuck_1 : decode cX2_stuck 1 = .ok (.istore_n 1, 1) := dk_60 (dk_at dksX2_stuck_0 1 rfl rfl)
theorem dX2_stuck_2 : decode cX2_stuck 2 = .ok (.iconst 0, 1) := dk_3 (dk_at dksX2_stuck_0 2 rfl rfl)
theorem dX2_stuck_3 : decode cX2_stuck 3 = .ok (.istore_n 2, 1) := dk_61 (dk_at dksX2_stuck_0 3 rfl rfl)
theorem dX2_stuck_4 : decode cX2_stuck 4 = .ok (.iconst 0, 1) := dk_3 (dk_at dksX2_stuck_0 4 rfl rfl)
theorem dX2_stuck_5 : decode cX2_stuck 5 = .ok (.istore_n 3, 1) := dk_62 (dk_at dksX2_stuck_0 5 rfl rfl)
theorem dX2_stuck_6 : decode cX2_stuck 6 = .ok (.iload_n 3, 1) := dk_29 (dk_at dksX2_stuck_0 6 rfl rfl)
theorem dX2_stuck_7 : decode cX2_stuck 7 = .ok (.aload_n 0, 1) := dk_42 (dk_at dksX2_stuck_0 7 rfl rfl)
theorem dX2_stuck_8 : decode cX2_stuck 8 = .ok (.getfield 7, 3) := dk_180 0 7 (dk_at dksX2_stuck_0 8 rfl rfl)
theorem dX2_stuck_11 : decode cX2_stuck 11 = .ok (.iconst 0, 1) := dk_3 (dk_at dksX2_stuck_0 11 rfl rfl)
theorem dX2_stuck_12 : decode cX2_stuck 12 = .ok (.iaload, 1) := dk_46 (dk_at dksX2_stuck_0 12 rfl rfl)
theorem dX2_stuck_13 : decode cX2_stuck 13 = .ok (.if_icmp .ge 31, 3) := dk_162 0 31 (dk_at dksX2_stuck_0 13 rfl rfl)
theorem dX2_stuck_16 : decode cX2_stuck 16 = .ok (.aload_n 0, 1) := dk_42 (dk_at dksX2_stuck_0 16 rfl rfl)
theorem dX2_stuck_17 : decode cX2_stuck 17 = .ok (.iload_n 3, 1) := dk_29 (dk_at dksX2_stuck_0 17 rfl rfl)
theorem dX2_stuck_18 : decode cX2_stuck 18 = .ok (.iconst (-1), 1) := dk_2 (dk_at dksX2_stuck_0 18 rfl rfl)
theorem dX2_stuck_19 : decode cX2_stuck 19 = .ok (.invokevirtual 307, 3) := dk_182 1 51 (dk_at dksX2_stuck_0 19 rfl rfl)
theorem dX2_stuck_22 : decode cX2_stuck 22 = .ok (.iload_n 2, 1) := dk_28 (dk_at dksX2_stuck_0 22 rfl rfl)
theorem dX2_stuck_23 : decode cX2_stuck 23 = .ok (.if_icmp .gt 6, 3) := dk_163 0 6 (dk_at dksX2_stuck_1 0 rfl rfl)
theorem dX2_stuck_26 : decode cX2_stuck 26 = .ok (.goto 12, 3) := dk_167 0 12 (dk_at dksX2_stuck_1 3 rfl rfl)
theorem dX2_stuck_29 : decode cX2_stuck 29 = .ok (.aload_n 0, 1) := dk_42 (dk_at dksX2_stuck_1 6 rfl rfl)
theorem dX2_stuck_30 : decode cX2_stuck 30 = .ok (.iload_n 3, 1) := dk_29 (dk_at dksX2_stuck_1 7 rfl rfl)
theorem dX2_stuck_31 : decode cX2_stuck 31 = .ok (.iconst (-1), 1) := dk_2 (dk_at dksX2_stuck_1 8 rfl rfl)
theorem dX2_stuck_32 : decode cX2_stuck 32 = .ok (.invokevirtual 307, 3) := dk_182 1 51 (dk_at dksX2_stuck_1 9 rfl rfl)
theorem dX2_stuck_35 : decode cX2_stuck 35 = .ok (.istore_n 2, 1) := dk_61 (dk_at dksX2_stuck_1 12 rfl rfl)
theorem dX2_stuck_36 : decode cX2_stuck 36 = .ok (.iload_n 3, 1) := dk_29 (dk_at dksX2_stuck_1 13 rfl rfl)
theorem dX2_stuck_37 : decode cX2_stuck 37 = .ok (.istore_n 1, 1) := dk_60 (dk_at dksX2_stuck_1 14 rfl rfl)
theorem dX2_stuck_38 : decode cX2_stuck 38 = .ok (.iinc 3 1, 3) := dk_132 3 1 (dk_at dksX2_stuck_1 15 rfl rfl)
theorem dX2_stuck_41 : decode cX2_stuck 41 = .ok (.goto (-35), 3) := dk_167 255 221 (dk_at dksX2_stuck_1 18 rfl rfl)
theorem dX2_stuck_44 : decode cX2_stuck 44 = .ok (.iload_n 1, 1) := dk_27 (dk_at dksX2_stuck_1 21 rfl rfl)
theorem dX2_stuck_45 : decode cX2_stuck 45 = .ok (.ireturn, 1) := dk_172 (dk_at dksX2_stuck_1 22 rfl rfl)
abbrev cX2_eldest : ByteArray := prog_20_method_100_code
def yX2_eldest : MethodName := ⟨RX2, "eldest", "()I"⟩
def dkwX2_eldest_2 : List UInt8 := [60, 132, 2, 1, 167, 255, 210, 27, 172]
abbrev dktX2_eldest_2 : List UInt8 := dkwX2_eldest_2 ++ []
def dkwX2_eldest_1 : List UInt8 := [159, 0, 25, 27, 2, 159, 0, 18, 42, 28, 8, 182, 1, 48, 42, 27, 8, 182, 1, 48, 162, 0, 5, 28]
abbrev dktX2_eldest_1 : List UInt8 := dkwX2_eldest_1 ++ dktX2_eldest_2
def dkwX2_eldest_0 : List UInt8 := [2, 60, 3, 61, 28, 42, 180, 0, 7, 16, 8, 46, 162, 0, 41, 42, 28, 7, 182, 1, 48, 5]
abbrev dktX2_eldest_0 : List UInt8 := dkwX2_eldest_0 ++ dktX2_eldest_1
theorem dksX2_eldest_0 : cX2_eldest.data.toList.drop 0 = dktX2_eldest_0 := by decide +kernel
theorem dksX2_eldest_1 : cX2_eldest.data.toList.drop 22 = dktX2_eldest_1 := dk_seg dksX2_eldest_0 22 rfl rfl
theorem dksX2_eldest_2 : cX2_eldest.data.toList.drop 46 = dktX2_eldest_2 := dk_seg dksX2_eldest_1 24 rfl rfl
theorem dX2_eldest_0 : decode cX2_eldest 0 = .ok (.iconst (-1), 1) := dk_2 (dk_at dksX2_eldest_0 0 rfl rfl)
theorem dX2_eldest_1 : decode cX2_eldest 1 = .ok (.istore_n 1, 1) := dk_60 (dk_at dksX2_eldest_0 1 rfl rfl)
theorem dX2_eldest_2 : decode cX2_eldest 2 = .ok (.iconst 0, 1) := dk_3 (dk_at dksX2_eldest_0 2 rfl rfl)
theorem dX2_eldest_3 : decode cX2_eldest 3 = .ok (.istore_n 2, 1) := dk_61 (dk_at dksX2_eldest_0 3 rfl rfl)
theorem dX2_eldest_4 : decode cX2_eldest 4 = .ok (.iload_n 2, 1) := dk_28 (dk_at dksX2_eldest_0 4 rfl rfl)
theorem dX2_eldest_5 : decode cX2_eldest 5 = .ok (.aload_n 0, 1) := dk_42 (dk_at dksX2_eldest_0 5 rfl rfl)
theorem dX2_eldest_6 : decode cX2_eldest 6 = .ok (.getfield 7, 3) := dk_180 0 7 (dk_at dksX2_eldest_0 6 rfl rfl)
theorem dX2_eldest_9 : decode cX2_eldest 9 = .ok (.bipush 8, 2) := dk_16 8 (dk_at dksX2_eldest_0 9 rfl rfl)
theorem dX2_eldest_11 : decode cX2_eldest 11 = .ok (.iaload, 1) := dk_46 (dk_at dksX2_eldest_0 11 rfl rfl)
theorem dX2_eldest_12 : decode cX2_eldest 12 = .ok (.if_icmp .ge 41, 3) := dk_162 0 41 (dk_at dksX2_eldest_0 12 rfl rfl)
theorem dX2_eldest_15 : decode cX2_eldest 15 = .ok (.aload_n 0, 1) := dk_42 (dk_at dksX2_eldest_0 15 rfl rfl)
theorem dX2_eldest_16 : decode cX2_eldest 16 = .ok (.iload_n 2, 1) := dk_28 (dk_at dksX2_eldest_0 16 rfl rfl)
theorem dX2_eldest_17 : decode cX2_eldest 17 = .ok (.iconst 4, 1) := dk_7 (dk_at dksX2_eldest_0 17 rfl rfl)
theorem dX2_eldest_18 : decode cX2_eldest 18 = .ok (.invokevirtual 304, 3) := dk_182 1 48 (dk_at dksX2_eldest_0 18 rfl rfl)
theorem dX2_eldest_21 : decode cX2_eldest 21 = .ok (.iconst 2, 1) := dk_5 (dk_at dksX2_eldest_0 21 rfl rfl)
theorem dX2_eldest_22 : decode cX2_eldest 22 = .ok (.if_icmp .eq 25, 3) := dk_159 0 25 (dk_at dksX2_eldest_1 0 rfl rfl)
theorem dX2_eldest_25 : decode cX2_eldest 25 = .ok (.iload_n 1, 1) := dk_27 (dk_at dksX2_eldest_1 3 rfl rfl)
theorem dX2_eldest_26 : decode cX2_eldest 26 = .ok (.iconst (-1), 1) := dk_2 (dk_at dksX2_eldest_1 4 rfl rfl)
theorem dX2_eldest_27 : decode cX2_eldest 27 = .ok (.if_icmp .eq 18, 3) := dk_159 0 18 (dk_at dksX2_eldest_1 5 rfl rfl)
theorem dX2_eldest_30 : decode cX2_eldest 30 = .ok (.aload_n 0, 1) := dk_42 (dk_at dksX2_eldest_1 8 rfl rfl)
theorem dX2_eldest_31 : decode cX2_eldest 31 = .ok (.iload_n 2, 1) := dk_28 (dk_at dksX2_eldest_1 9 rfl rfl)
theorem dX2_eldest_32 : decode cX2_eldest 32 = .ok (.iconst 5, 1) := dk_8 (dk_at dksX2_eldest_1 10 rfl rfl)
theorem dX2_eldest_33 : decode cX2_eldest 33 = .ok (.invokevirtual 304, 3) := dk_182 1 48 (dk_at dksX2_eldest_1 11 rfl rfl)
theorem dX2_eldest_36 : decode cX2_eldest 36 = .ok (.aload_n 0, 1) := dk_42 (dk_at dksX2_eldest_1 14 rfl rfl)
theorem dX2_eldest_37 : decode cX2_eldest 37 = .ok (.iload_n 1, 1) := dk_27 (dk_at dksX2_eldest_1 15 rfl rfl)
theorem dX2_eldest_38 : decode cX2_eldest 38 = .ok (.iconst 5, 1) := dk_8 (dk_at dksX2_eldest_1 16 rfl rfl)
theorem dX2_eldest_39 : decode cX2_eldest 39 = .ok (.invokevirtual 304, 3) := dk_182 1 48 (dk_at dksX2_eldest_1 17 rfl rfl)
theorem dX2_eldest_42 : decode cX2_eldest 42 = .ok (.if_icmp .ge 5, 3) := dk_162 0 5 (dk_at dksX2_eldest_1 20 rfl rfl)
theorem dX2_eldest_45 : decode cX2_eldest 45 = .ok (.iload_n 2, 1) := dk_28 (dk_at dksX2_eldest_1 23 rfl rfl)
theorem dX2_eldest_46 : decode cX2_eldest 46 = .ok (.istore_n 1, 1) := dk_60 (dk_at dksX2_eldest_2 0 rfl rfl)
theorem dX2_eldest_47 : decode cX2_eldest 47 = .ok (.iinc 2 1, 3) := dk_132 2 1 (dk_at dksX2_eldest_2 1 rfl rfl)
theorem dX2_eldest_50 : decode cX2_eldest 50 = .ok (.goto (-46), 3) := dk_167 255 210 (dk_at dksX2_eldest_2 4 rfl rfl)
theorem dX2_eldest_53 : decode cX2_eldest 53 = .ok (.iload_n 1, 1) := dk_27 (dk_at dksX2_eldest_2 7 rfl rfl)
theorem dX2_eldest_54 : decode cX2_eldest 54 = .ok (.ireturn, 1) := dk_172 (dk_at dksX2_eldest_2 8 rfl rfl)
abbrev cX2_sorry : ByteArray := prog_20_method_101_code
def yX2_sorry : MethodName := ⟨RX2, "sorry", "(I)I"⟩
def dkwX2_sorry_3 : List UInt8 := [61, 132, 3, 1, 167, 255, 204, 28, 172]
abbrev dktX2_sorry_3 : List UInt8 := dkwX2_sorry_3 ++ []
def dkwX2_sorry_2 : List UInt8 := [159, 0, 13, 42, 29, 3, 182, 1, 48, 27, 160, 0, 12, 42, 29, 6, 182, 1, 48, 167, 0, 4, 3, 96]
abbrev dktX2_sorry_2 : List UInt8 := dkwX2_sorry_2 ++ dktX2_sorry_3
def dkwX2_sorry_1 : List UInt8 := [180, 0, 7, 16, 8, 46, 162, 0, 47, 28, 42, 29, 7, 182, 1, 48, 5, 159, 0, 27, 27, 2]
abbrev dktX2_sorry_1 : List UInt8 := dkwX2_sorry_1 ++ dktX2_sorry_2
def dkwX2_sorry_0 : List UInt8 := [27, 2, 159, 0, 14, 42, 27, 182, 0, 73, 154, 0, 6, 16, 254, 172, 3, 61, 3, 62, 29, 42]
abbrev dktX2_sorry_0 : List UInt8 := dkwX2_sorry_0 ++ dktX2_sorry_1
theorem dksX2_sorry_0 : cX2_sorry.data.toList.drop 0 = dktX2_sorry_0 := by decide +kernel
theorem dksX2_sorry_1 : cX2_sorry.data.toList.drop 22 = dktX2_sorry_1 := dk_seg dksX2_sorry_0 22 rfl rfl
theorem dksX2_sorry_2 : cX2_sorry.data.toList.drop 44 = dktX2_sorry_2 := dk_seg dksX2_sorry_1 22 rfl rfl
theorem dksX2_sorry_3 : cX2_sorry.data.toList.drop 68 = dktX2_sorry_3 := dk_seg dksX2_sorry_2 24 rfl rfl
theorem dX2_sorry_0 : decode cX2_sorry 0 = .ok (.iload_n 1, 1) := dk_27 (dk_at dksX2_sorry_0 0 rfl rfl)
theorem dX2_sorry_1 : decode cX2_sorry 1 = .ok (.iconst (-1), 1) := dk_2 (dk_at dksX2_sorry_0 1 rfl rfl)
theorem dX2_sorry_2 : decode cX2_sorry 2 = .ok (.if_icmp .eq 14, 3) := dk_159 0 14 (dk_at dksX2_sorry_0 2 rfl rfl)
theorem dX2_sorry_5 : decode cX2_sorry 5 = .ok (.aload_n 0, 1) := dk_42 (dk_at dksX2_sorry_0 5 rfl rfl)
theorem dX2_sorry_6 : decode cX2_sorry 6 = .ok (.iload_n 1, 1) := dk_27 (dk_at dksX2_sorry_0 6 rfl rfl)
theorem dX2_sorry_7 : decode cX2_sorry 7 = .ok (.invokevirtual 73, 3) := dk_182 0 73 (dk_at dksX2_sorry_0 7 rfl rfl)
theorem dX2_sorry_10 : decode cX2_sorry 10 = .ok (.ifCond .ne 6, 3) := dk_154 0 6 (dk_at dksX2_sorry_0 10 rfl rfl)
theorem dX2_sorry_13 : decode cX2_sorry 13 = .ok (.bipush (-2), 2) := dk_16 254 (dk_at dksX2_sorry_0 13 rfl rfl)
theorem dX2_sorry_15 : decode cX2_sorry 15 = .ok (.ireturn, 1) := dk_172 (dk_at dksX2_sorry_0 15 rfl rfl)
theorem dX2_sorry_16 : decode cX2_sorry 16 = .ok (.iconst 0, 1) := dk_3 (dk_at dksX2_sorry_0 16 rfl rfl)
theorem dX2_sorry_17 : decode cX2_sorry 17 = .ok (.istore_n 2, 1) := dk_61 (dk_at dksX2_sorry_0 17 rfl rfl)
theorem dX2_sorry_18 : decode cX2_sorry 18 = .ok (.iconst 0, 1) := dk_3 (dk_at dksX2_sorry_0 18 rfl rfl)
theorem dX2_sorry_19 : decode cX2_sorry 19 = .ok (.istore_n 3, 1) := dk_62 (dk_at dksX2_sorry_0 19 rfl rfl)
theorem dX2_sorry_20 : decode cX2_sorry 20 = .ok (.iload_n 3, 1) := dk_29 (dk_at dksX2_sorry_0 20 rfl rfl)
theorem dX2_sorry_21 : decode cX2_sorry 21 = .ok (.aload_n 0, 1) := dk_42 (dk_at dksX2_sorry_0 21 rfl rfl)
theorem dX2_sorry_22 : decode cX2_sorry 22 = .ok (.getfield 7, 3) := dk_180 0 7 (dk_at dksX2_sorry_1 0 rfl rfl)
theorem dX2_sorry_25 : decode cX2_sorry 25 = .ok (.bipush 8, 2) := dk_16 8 (dk_at dksX2_sorry_1 3 rfl rfl)
theorem dX2_sorry_27 : decode cX2_sorry 27 = .ok (.iaload, 1) := dk_46 (dk_at dksX2_sorry_1 5 rfl rfl)
theorem dX2_sorry_28 : decode cX2_sorry 28 = .ok (.if_icmp .ge 47, 3) := dk_162 0 47 (dk_at dksX2_sorry_1 6 rfl rfl)
theorem dX2_sorry_31 : decode cX2_sorry 31 = .ok (.iload_n 2, 1) := dk_28 (dk_at dksX2_sorry_1 9 rfl rfl)
theorem dX2_sorry_32 : decode cX2_sorry 32 = .ok (.aload_n 0, 1) := dk_42 (dk_at dksX2_sorry_1 10 rfl rfl)
theorem dX2_sorry_33 : decode cX2_sorry 33 = .ok (.iload_n 3, 1) := dk_29 (dk_at dksX2_sorry_1 11 rfl rfl)
theorem dX2_sorry_34 : decode cX2_sorry 34 = .ok (.iconst 4, 1) := dk_7 (dk_at dksX2_sorry_1 12 rfl rfl)
theorem dX2_sorry_35 : decode cX2_sorry 35 = .ok (.invokevirtual 304, 3) := dk_182 1 48 (dk_at dksX2_sorry_1 13 rfl rfl)
theorem dX2_sorry_38 : decode cX2_sorry 38 = .ok (.iconst 2, 1) := dk_5 (dk_at dksX2_sorry_1 16 rfl rfl)
theorem dX2_sorry_39 : decode cX2_sorry 39 = .ok (.if_icmp .eq 27, 3) := dk_159 0 27 (dk_at dksX2_sorry_1 17 rfl rfl)
theorem dX2_sorry_42 : decode cX2_sorry 42 = .ok (.iload_n 1, 1) := dk_27 (dk_at dksX2_sorry_1 20 rfl rfl)
theorem dX2_sorry_43 : decode cX2_sorry 43 = .ok (.iconst (-1), 1) := dk_2 (dk_at dksX2_sorry_1 21 rfl rfl)
theorem dX2_sorry_44 : decode cX2_sorry 44 = .ok (.if_icmp .eq 13, 3) := dk_159 0 13 (dk_at dksX2_sorry_2 0 rfl rfl)
theorem dX2_sorry_47 : decode cX2_sorry 47 = .ok (.aload_n 0, 1) := dk_42 (dk_at dksX2_sorry_2 3 rfl rfl)
theorem dX2_sorry_48 : decode cX2_sorry 48 = .ok (.iload_n 3, 1) := dk_29 (dk_at dksX2_sorry_2 4 rfl rfl)
theorem dX2_sorry_49 : decode cX2_sorry 49 = .ok (.iconst 0, 1) := dk_3 (dk_at dksX2_sorry_2 5 rfl rfl)
theorem dX2_sorry_50 : decode cX2_sorry 50 = .ok (.invokevirtual 304, 3) := dk_182 1 48 (dk_at dksX2_sorry_2 6 rfl rfl)
theorem dX2_sorry_53 : decode cX2_sorry 53 = .ok (.iload_n 1, 1) := dk_27 (dk_at dksX2_sorry_2 9 rfl rfl)
theorem dX2_sorry_54 : decode cX2_sorry 54 = .ok (.if_icmp .ne 12, 3) := dk_160 0 12 (dk_at dksX2_sorry_2 10 rfl rfl)
theorem dX2_sorry_57 : decode cX2_sorry 57 = .ok (.aload_n 0, 1) := dk_42 (dk_at dksX2_sorry_2 13 rfl rfl)
theorem dX2_sorry_58 : decode cX2_sorry 58 = .ok (.iload_n 3, 1) := dk_29 (dk_at dksX2_sorry_2 14 rfl rfl)
theorem dX2_sorry_59 : decode cX2_sorry 59 = .ok (.iconst 3, 1) := dk_6 (dk_at dksX2_sorry_2 15 rfl rfl)
theorem dX2_sorry_60 : decode cX2_sorry 60 = .ok (.invokevirtual 304, 3) := dk_182 1 48 (dk_at dksX2_sorry_2 16 rfl rfl)
theorem dX2_sorry_63 : decode cX2_sorry 63 = .ok (.goto 4, 3) := dk_167 0 4 (dk_at dksX2_sorry_2 19 rfl rfl)
theorem dX2_sorry_66 : decode cX2_sorry 66 = .ok (.iconst 0, 1) := dk_3 (dk_at dksX2_sorry_2 22 rfl rfl)
theorem dX2_sorry_67 : decode cX2_sorry 67 = .ok (.iadd, 1) := dk_96 (dk_at dksX2_sorry_2 23 rfl rfl)
theorem dX2_sorry_68 : decode cX2_sorry 68 = .ok (.istore_n 2, 1) := dk_61 (dk_at dksX2_sorry_3 0 rfl rfl)
theorem dX2_sorry_69 : decode cX2_sorry 69 = .ok (.iinc 3 1, 3) := dk_132 3 1 (dk_at dksX2_sorry_3 1 rfl rfl)
theorem dX2_sorry_72 : decode cX2_sorry 72 = .ok (.goto (-52), 3) := dk_167 255 204 (dk_at dksX2_sorry_3 4 rfl rfl)
theorem dX2_sorry_75 : decode cX2_sorry 75 = .ok (.iload_n 2, 1) := dk_28 (dk_at dksX2_sorry_3 7 rfl rfl)
theorem dX2_sorry_76 : decode cX2_sorry 76 = .ok (.ireturn, 1) := dk_172 (dk_at dksX2_sorry_3 8 rfl rfl)
abbrev cX2_ranked : ByteArray := prog_20_method_102_code
def yX2_ranked : MethodName := ⟨RX2, "ranked", "(IZ)I"⟩
def dkwX2_ranked_5 : List UInt8 := [28, 153, 0, 8, 21, 4, 167, 0, 4, 29, 172]
abbrev dktX2_ranked_5 : List UInt8 := dkwX2_ranked_5 ++ []
def dkwX2_ranked_4 : List UInt8 := [27, 160, 0, 13, 42, 21, 5, 6, 182, 1, 48, 167, 0, 4, 3, 96, 54, 4, 132, 5, 1, 167, 255, 199]
abbrev dktX2_ranked_4 : List UInt8 := dkwX2_ranked_4 ++ dktX2_ranked_5
def dkwX2_ranked_3 : List UInt8 := [21, 4, 42, 21, 5, 7, 182, 1, 48, 5, 159, 0, 28, 42, 42, 21, 5, 5, 182, 1, 48, 182, 1, 6]
abbrev dktX2_ranked_3 : List UInt8 := dkwX2_ranked_3 ++ dktX2_ranked_4
def dkwX2_ranked_2 : List UInt8 := [96, 62, 132, 5, 1, 167, 255, 224, 3, 54, 5, 21, 5, 42, 180, 0, 7, 16, 8, 46, 162, 0, 51]
abbrev dktX2_ranked_2 : List UInt8 := dkwX2_ranked_2 ++ dktX2_ranked_3
def dkwX2_ranked_1 : List UInt8 := [180, 0, 7, 3, 46, 162, 0, 27, 29, 42, 21, 5, 182, 1, 6, 27, 160, 0, 7, 4, 167, 0, 4, 3]
abbrev dktX2_ranked_1 : List UInt8 := dkwX2_ranked_1 ++ dktX2_ranked_2
def dkwX2_ranked_0 : List UInt8 := [27, 3, 16, 9, 184, 0, 69, 154, 0, 5, 2, 172, 3, 62, 3, 54, 4, 3, 54, 5, 21, 5, 42]
abbrev dktX2_ranked_0 : List UInt8 := dkwX2_ranked_0 ++ dktX2_ranked_1
theorem dksX2_ranked_0 : cX2_ranked.data.toList.drop 0 = dktX2_ranked_0 := by decide +kernel
theorem dksX2_ranked_1 : cX2_ranked.data.toList.drop 23 = dktX2_ranked_1 := dk_seg dksX2_ranked_0 23 rfl rfl
theorem dksX2_ranked_2 : cX2_ranked.data.toList.drop 47 = dktX2_ranked_2 := dk_seg dksX2_ranked_1 24 rfl rfl
theorem dksX2_ranked_3 : cX2_ranked.data.toList.drop 70 = dktX2_ranked_3 := dk_seg dksX2_ranked_2 23 rfl rfl
theorem dksX2_ranked_4 : cX2_ranked.data.toList.drop 94 = dktX2_ranked_4 := dk_seg dksX2_ranked_3 24 rfl rfl
theorem dksX2_ranked_5 : cX2_ranked.data.toList.drop 118 = dktX2_ranked_5 := dk_seg dksX2_ranked_4 24 rfl rfl
theorem dX2_ranked_0 : decode cX2_ranked 0 = .ok (.iload_n 1, 1) := dk_27 (dk_at dksX2_ranked_0 0 rfl rfl)
theorem dX2_ranked_1 : decode cX2_ranked 1 = .ok (.iconst 0, 1) := dk_3 (dk_at dksX2_ranked_0 1 rfl rfl)
theorem dX2_ranked_2 : decode cX2_ranked 2 = .ok (.bipush 9, 2) := dk_16 9 (dk_at dksX2_ranked_0 2 rfl rfl)
theorem dX2_ranked_4 : decode cX2_ranked 4 = .ok (.invokestatic 69, 3) := dk_184 0 69 (dk_at dksX2_ranked_0 4 rfl rfl)
theorem dX2_ranked_7 : decode cX2_ranked 7 = .ok (.ifCond .ne 5, 3) := dk_154 0 5 (dk_at dksX2_ranked_0 7 rfl rfl)
theorem dX2_ranked_10 : decode cX2_ranked 10 = .ok (.iconst (-1), 1) := dk_2 (dk_at dksX2_ranked_0 10 rfl rfl)
theorem dX2_ranked_11 : decode cX2_ranked 11 = .ok (.ireturn, 1) := dk_172 (dk_at dksX2_ranked_0 11 rfl rfl)
theorem dX2_ranked_12 : decode cX2_ranked 12 = .ok (.iconst 0, 1) := dk_3 (dk_at dksX2_ranked_0 12 rfl rfl)
theorem dX2_ranked_13 : decode cX2_ranked 13 = .ok (.istore_n 3, 1) := dk_62 (dk_at dksX2_ranked_0 13 rfl rfl)
theorem dX2_ranked_14 : decode cX2_ranked 14 = .ok (.iconst 0, 1) := dk_3 (dk_at dksX2_ranked_0 14 rfl rfl)
theorem dX2_ranked_15 : decode cX2_ranked 15 = .ok (.istore 4, 2) := dk_54 4 (dk_at dksX2_ranked_0 15 rfl rfl)
theorem dX2_ranked_17 : decode cX2_ranked 17 = .ok (.iconst 0, 1) := dk_3 (dk_at dksX2_ranked_0 17 rfl rfl)
theorem dX2_ranked_18 : decode cX2_ranked 18 = .ok (.istore 5, 2) := dk_54 5 (dk_at dksX2_ranked_0 18 rfl rfl)
theorem dX2_ranked_20 : decode cX2_ranked 20 = .ok (.iload 5, 2) := dk_21 5 (dk_at dksX2_ranked_0 20 rfl rfl)
theorem dX2_ranked_22 : decode cX2_ranked 22 = .ok (.aload_n 0, 1) := dk_42 (dk_at dksX2_ranked_0 22 rfl rfl)
theorem dX2_ranked_23 : decode cX2_ranked 23 = .ok (.getfield 7, 3) := dk_180 0 7 (dk_at dksX2_ranked_1 0 rfl rfl)
theorem dX2_ranked_26 : decode cX2_ranked 26 = .ok (.iconst 0, 1) := dk_3 (dk_at dksX2_ranked_1 3 rfl rfl)
theorem dX2_ranked_27 : decode cX2_ranked 27 = .ok (.iaload, 1) := dk_46 (dk_at dksX2_ranked_1 4 rfl rfl)
theorem dX2_ranked_28 : decode cX2_ranked 28 = .ok (.if_icmp .ge 27, 3) := dk_162 0 27 (dk_at dksX2_ranked_1 5 rfl rfl)
theorem dX2_ranked_31 : decode cX2_ranked 31 = .ok (.iload_n 3, 1) := dk_29 (dk_at dksX2_ranked_1 8 rfl rfl)
theorem dX2_ranked_32 : decode cX2_ranked 32 = .ok (.aload_n 0, 1) := dk_42 (dk_at dksX2_ranked_1 9 rfl rfl)
theorem dX2_ranked_33 : decode cX2_ranked 33 = .ok (.iload 5, 2) := dk_21 5 (dk_at dksX2_ranked_1 10 rfl rfl)
theorem dX2_ranked_35 : decode cX2_ranked 35 = .ok (.invokevirtual 262, 3) := dk_182 1 6 (dk_at dksX2_ranked_1 12 rfl rfl)
theorem dX2_ranked_38 : decode cX2_ranked 38 = .ok (.iload_n 1, 1) := dk_27 (dk_at dksX2_ranked_1 15 rfl rfl)
theorem dX2_ranked_39 : decode cX2_ranked 39 = .ok (.if_icmp .ne 7, 3) := dk_160 0 7 (dk_at dksX2_ranked_1 16 rfl rfl)
theorem dX2_ranked_42 : decode cX2_ranked 42 = .ok (.iconst 1, 1) := dk_4 (dk_at dksX2_ranked_1 19 rfl rfl)
theorem dX2_ranked_43 : decode cX2_ranked 43 = .ok (.goto 4, 3) := dk_167 0 4 (dk_at dksX2_ranked_1 20 rfl rfl)
theorem dX2_ranked_46 : decode cX2_ranked 46 = .ok (.iconst 0, 1) := dk_3 (dk_at dksX2_ranked_1 23 rfl rfl)
theorem dX2_ranked_47 : decode cX2_ranked 47 = .ok (.iadd, 1) := dk_96 (dk_at dksX2_ranked_2 0 rfl rfl)
theorem dX2_ranked_48 : decode cX2_ranked 48 = .ok (.istore_n 3, 1) := dk_62 (dk_at dksX2_ranked_2 1 rfl rfl)
theorem dX2_ranked_49 : decode cX2_ranked 49 = .ok (.iinc 5 1, 3) := dk_132 5 1 (dk_at dksX2_ranked_2 2 rfl rfl)
theorem dX2_ranked_52 : decode cX2_ranked 52 = .ok (.goto (-32), 3) := dk_167 255 224 (dk_at dksX2_ranked_2 5 rfl rfl)
theorem dX2_ranked_55 : decode cX2_ranked 55 = .ok (.iconst 0, 1) := dk_3 (dk_at dksX2_ranked_2 8 rfl rfl)
theorem dX2_ranked_56 : decode cX2_ranked 56 = .ok (.istore 5, 2) := dk_54 5 (dk_at dksX2_ranked_2 9 rfl rfl)
theorem dX2_ranked_58 : decode cX2_ranked 58 = .ok (.iload 5, 2) := dk_21 5 (dk_at dksX2_ranked_2 11 rfl rfl)
theorem dX2_ranked_60 : decode cX2_ranked 60 = .ok (.aload_n 0, 1) := dk_42 (dk_at dksX2_ranked_2 13 rfl rfl)
theorem dX2_ranked_61 : decode cX2_ranked 61 = .ok (.getfield 7, 3) := dk_180 0 7 (dk_at dksX2_ranked_2 14 rfl rfl)
theorem dX2_ranked_64 : decode cX2_ranked 64 = .ok (.bipush 8, 2) := dk_16 8 (dk_at dksX2_ranked_2 17 rfl rfl)
theorem dX2_ranked_66 : decode cX2_ranked 66 = .ok (.iaload, 1) := dk_46 (dk_at dksX2_ranked_2 19 rfl rfl)
theorem dX2_ranked_67 : decode cX2_ranked 67 = .ok (.if_icmp .ge 51, 3) := dk_162 0 51 (dk_at dksX2_ranked_2 20 rfl rfl)
theorem dX2_ranked_70 : decode cX2_ranked 70 = .ok (.iload 4, 2) := dk_21 4 (dk_at dksX2_ranked_3 0 rfl rfl)
theorem dX2_ranked_72 : decode cX2_ranked 72 = .ok (.aload_n 0, 1) := dk_42 (dk_at dksX2_ranked_3 2 rfl rfl)
theorem dX2_ranked_73 : decode cX2_ranked 73 = .ok (.iload 5, 2) := dk_21 5 (dk_at dksX2_ranked_3 3 rfl rfl)
theorem dX2_ranked_75 : decode cX2_ranked 75 = .ok (.iconst 4, 1) := dk_7 (dk_at dksX2_ranked_3 5 rfl rfl)
theorem dX2_ranked_76 : decode cX2_ranked 76 = .ok (.invokevirtual 304, 3) := dk_182 1 48 (dk_at dksX2_ranked_3 6 rfl rfl)
theorem dX2_ranked_79 : decode cX2_ranked 79 = .ok (.iconst 2, 1) := dk_5 (dk_at dksX2_ranked_3 9 rfl rfl)
theorem dX2_ranked_80 : decode cX2_ranked 80 = .ok (.if_icmp .eq 28, 3) := dk_159 0 28 (dk_at dksX2_ranked_3 10 rfl rfl)
theorem dX2_ranked_83 : decode cX2_ranked 83 = .ok (.aload_n 0, 1) := dk_42 (dk_at dksX2_ranked_3 13 rfl rfl)
theorem dX2_ranked_84 : decode cX2_ranked 84 = .ok (.aload_n 0, 1) := dk_42 (dk_at dksX2_ranked_3 14 rfl rfl)
theorem dX2_ranked_85 : decode cX2_ranked 85 = .ok (.iload 5, 2) := dk_21 5 (dk_at dksX2_ranked_3 15 rfl rfl)
theorem dX2_ranked_87 : decode cX2_ranked 87 = .ok (.iconst 2, 1) := dk_5 (dk_at dksX2_ranked_3 17 rfl rfl)
theorem dX2_ranked_88 : decode cX2_ranked 88 = .ok (.invokevirtual 304, 3) := dk_182 1 48 (dk_at dksX2_ranked_3 18 rfl rfl)
theorem dX2_ranked_91 : decode cX2_ranked 91 = .ok (.invokevirtual 262, 3) := dk_182 1 6 (dk_at dksX2_ranked_3 21 rfl rfl)
theorem dX2_ranked_94 : decode cX2_ranked 94 = .ok (.iload_n 1, 1) := dk_27 (dk_at dksX2_ranked_4 0 rfl rfl)
theorem dX2_ranked_95 : decode cX2_ranked 95 = .ok (.if_icmp .ne 13, 3) := dk_160 0 13 (dk_at dksX2_ranked_4 1 rfl rfl)
theorem dX2_ranked_98 : decode cX2_ranked 98 = .ok (.aload_n 0, 1) := dk_42 (dk_at dksX2_ranked_4 4 rfl rfl)
theorem dX2_ranked_99 : decode cX2_ranked 99 = .ok (.iload 5, 2) := dk_21 5 (dk_at dksX2_ranked_4 5 rfl rfl)
theorem dX2_ranked_101 : decode cX2_ranked 101 = .ok (.iconst 3, 1) := dk_6 (dk_at dksX2_ranked_4 7 rfl rfl)
theorem dX2_ranked_102 : decode cX2_ranked 102 = .ok (.invokevirtual 304, 3) := dk_182 1 48 (dk_at dksX2_ranked_4 8 rfl rfl)
theorem dX2_ranked_105 : decode cX2_ranked 105 = .ok (.goto 4, 3) := dk_167 0 4 (dk_at dksX2_ranked_4 11 rfl rfl)
theorem dX2_ranked_108 : decode cX2_ranked 108 = .ok (.iconst 0, 1) := dk_3 (dk_at dksX2_ranked_4 14 rfl rfl)
theorem dX2_ranked_109 : decode cX2_ranked 109 = .ok (.iadd, 1) := dk_96 (dk_at dksX2_ranked_4 15 rfl rfl)
theorem dX2_ranked_110 : decode cX2_ranked 110 = .ok (.istore 4, 2) := dk_54 4 (dk_at dksX2_ranked_4 16 rfl rfl)
theorem dX2_ranked_112 : decode cX2_ranked 112 = .ok (.iinc 5 1, 3) := dk_132 5 1 (dk_at dksX2_ranked_4 18 rfl rfl)
theorem dX2_ranked_115 : decode cX2_ranked 115 = .ok (.goto (-57), 3) := dk_167 255 199 (dk_at dksX2_ranked_4 21 rfl rfl)
theorem dX2_ranked_118 : decode cX2_ranked 118 = .ok (.iload_n 2, 1) := dk_28 (dk_at dksX2_ranked_5 0 rfl rfl)
theorem dX2_ranked_119 : decode cX2_ranked 119 = .ok (.ifCond .eq 8, 3) := dk_153 0 8 (dk_at dksX2_ranked_5 1 rfl rfl)
theorem dX2_ranked_122 : decode cX2_ranked 122 = .ok (.iload 4, 2) := dk_21 4 (dk_at dksX2_ranked_5 4 rfl rfl)
theorem dX2_ranked_124 : decode cX2_ranked 124 = .ok (.goto 4, 3) := dk_167 0 4 (dk_at dksX2_ranked_5 6 rfl rfl)
theorem dX2_ranked_127 : decode cX2_ranked 127 = .ok (.iload_n 3, 1) := dk_29 (dk_at dksX2_ranked_5 9 rfl rfl)
theorem dX2_ranked_128 : decode cX2_ranked 128 = .ok (.ireturn, 1) := dk_172 (dk_at dksX2_ranked_5 10 rfl rfl)
abbrev cX2_foretold : ByteArray := prog_20_method_105_code
def yX2_foretold : MethodName := ⟨RX2, "foretold", "(III)I"⟩
def dkwX2_foretold_3 : List UInt8 := [182, 1, 48, 54, 4, 42, 182, 1, 152, 21, 4, 172]
abbrev dktX2_foretold_3 : List UInt8 := dkwX2_foretold_3 ++ []
def dkwX2_foretold_2 : List UInt8 := [46, 17, 39, 15, 162, 0, 7, 42, 182, 1, 112, 132, 4, 1, 167, 255, 230, 42, 28, 5, 29, 96]
abbrev dktX2_foretold_2 : List UInt8 := dkwX2_foretold_2 ++ dktX2_foretold_3
def dkwX2_foretold_1 : List UInt8 := [154, 0, 5, 2, 172, 42, 182, 1, 149, 3, 54, 4, 21, 4, 27, 162, 0, 26, 42, 180, 0, 7, 16, 6]
abbrev dktX2_foretold_1 : List UInt8 := dkwX2_foretold_1 ++ dktX2_foretold_2
def dkwX2_foretold_0 : List UInt8 := [27, 4, 16, 60, 184, 0, 69, 153, 0, 20, 42, 28, 182, 1, 106, 153, 0, 12, 29, 3, 5, 184, 0, 69]
abbrev dktX2_foretold_0 : List UInt8 := dkwX2_foretold_0 ++ dktX2_foretold_1
theorem dksX2_foretold_0 : cX2_foretold.data.toList.drop 0 = dktX2_foretold_0 := by decide +kernel
theorem dksX2_foretold_1 : cX2_foretold.data.toList.drop 24 = dktX2_foretold_1 := dk_seg dksX2_foretold_0 24 rfl rfl
theorem dksX2_foretold_2 : cX2_foretold.data.toList.drop 48 = dktX2_foretold_2 := dk_seg dksX2_foretold_1 24 rfl rfl
theorem dksX2_foretold_3 : cX2_foretold.data.toList.drop 70 = dktX2_foretold_3 := dk_seg dksX2_foretold_2 22 rfl rfl
theorem dX2_foretold_0 : decode cX2_foretold 0 = .ok (.iload_n 1, 1) := dk_27 (dk_at dksX2_foretold_0 0 rfl rfl)
theorem dX2_foretold_1 : decode cX2_foretold 1 = .ok (.iconst 1, 1) := dk_4 (dk_at dksX2_foretold_0 1 rfl rfl)
theorem dX2_foretold_2 : decode cX2_foretold 2 = .ok (.bipush 60, 2) := dk_16 60 (dk_at dksX2_foretold_0 2 rfl rfl)
theorem dX2_foretold_4 : decode cX2_foretold 4 = .ok (.invokestatic 69, 3) := dk_184 0 69 (dk_at dksX2_foretold_0 4 rfl rfl)
theorem dX2_foretold_7 : decode cX2_foretold 7 = .ok (.ifCond .eq 20, 3) := dk_153 0 20 (dk_at dksX2_foretold_0 7 rfl rfl)
theorem dX2_foretold_10 : decode cX2_foretold 10 = .ok (.aload_n 0, 1) := dk_42 (dk_at dksX2_foretold_0 10 rfl rfl)
theorem dX2_foretold_11 : decode cX2_foretold 11 = .ok (.iload_n 2, 1) := dk_28 (dk_at dksX2_foretold_0 11 rfl rfl)
theorem dX2_foretold_12 : decode cX2_foretold 12 = .ok (.invokevirtual 362, 3) := dk_182 1 106 (dk_at dksX2_foretold_0 12 rfl rfl)
theorem dX2_foretold_15 : decode cX2_foretold 15 = .ok (.ifCond .eq 12, 3) := dk_153 0 12 (dk_at dksX2_foretold_0 15 rfl rfl)
theorem dX2_foretold_18 : decode cX2_foretold 18 = .ok (.iload_n 3, 1) := dk_29 (dk_at dksX2_foretold_0 18 rfl rfl)
theorem dX2_foretold_19 : decode cX2_foretold 19 = .ok (.iconst 0, 1) := dk_3 (dk_at dksX2_foretold_0 19 rfl rfl)
theorem dX2_foretold_20 : decode cX2_foretold 20 = .ok (.iconst 2, 1) := dk_5 (dk_at dksX2_foretold_0 20 rfl rfl)
theorem dX2_foretold_21 : decode cX2_foretold 21 = .ok (.invokestatic 69, 3) := dk_184 0 69 (dk_at dksX2_foretold_0 21 rfl rfl)
theorem dX2_foretold_24 : decode cX2_foretold 24 = .ok (.ifCond .ne 5, 3) := dk_154 0 5 (dk_at dksX2_foretold_1 0 rfl rfl)
theorem dX2_foretold_27 : decode cX2_foretold 27 = .ok (.iconst (-1), 1) := dk_2 (dk_at dksX2_foretold_1 3 rfl rfl)
theorem dX2_foretold_28 : decode cX2_foretold 28 = .ok (.ireturn, 1) := dk_172 (dk_at dksX2_foretold_1 4 rfl rfl)
theorem dX2_foretold_29 : decode cX2_foretold 29 = .ok (.aload_n 0, 1) := dk_42 (dk_at dksX2_foretold_1 5 rfl rfl)
theorem dX2_foretold_30 : decode cX2_foretold 30 = .ok (.invokevirtual 405, 3) := dk_182 1 149 (dk_at dksX2_foretold_1 6 rfl rfl)
theorem dX2_foretold_33 : decode cX2_foretold 33 = .ok (.iconst 0, 1) := dk_3 (dk_at dksX2_foretold_1 9 rfl rfl)
theorem dX2_foretold_34 : decode cX2_foretold 34 = .ok (.istore 4, 2) := dk_54 4 (dk_at dksX2_foretold_1 10 rfl rfl)
theorem dX2_foretold_36 : decode cX2_foretold 36 = .ok (.iload 4, 2) := dk_21 4 (dk_at dksX2_foretold_1 12 rfl rfl)
theorem dX2_foretold_38 : decode cX2_foretold 38 = .ok (.iload_n 1, 1) := dk_27 (dk_at dksX2_foretold_1 14 rfl rfl)
theorem dX2_foretold_39 : decode cX2_foretold 39 = .ok (.if_icmp .ge 26, 3) := dk_162 0 26 (dk_at dksX2_foretold_1 15 rfl rfl)
theorem dX2_foretold_42 : decode cX2_foretold 42 = .ok (.aload_n 0, 1) := dk_42 (dk_at dksX2_foretold_1 18 rfl rfl)
theorem dX2_foretold_43 : decode cX2_foretold 43 = .ok (.getfield 7, 3) := dk_180 0 7 (dk_at dksX2_foretold_1 19 rfl rfl)
theorem dX2_foretold_46 : decode cX2_foretold 46 = .ok (.bipush 6, 2) := dk_16 6 (dk_at dksX2_foretold_1 22 rfl rfl)
theorem dX2_foretold_48 : decode cX2_foretold 48 = .ok (.iaload, 1) := dk_46 (dk_at dksX2_foretold_2 0 rfl rfl)
theorem dX2_foretold_49 : decode cX2_foretold 49 = .ok (.sipush 9999, 3) := dk_17 39 15 (dk_at dksX2_foretold_2 1 rfl rfl)
theorem dX2_foretold_52 : decode cX2_foretold 52 = .ok (.if_icmp .ge 7, 3) := dk_162 0 7 (dk_at dksX2_foretold_2 4 rfl rfl)
theorem dX2_foretold_55 : decode cX2_foretold 55 = .ok (.aload_n 0, 1) := dk_42 (dk_at dksX2_foretold_2 7 rfl rfl)
theorem dX2_foretold_56 : decode cX2_foretold 56 = .ok (.invokevirtual 368, 3) := dk_182 1 112 (dk_at dksX2_foretold_2 8 rfl rfl)
theorem dX2_foretold_59 : decode cX2_foretold 59 = .ok (.iinc 4 1, 3) := dk_132 4 1 (dk_at dksX2_foretold_2 11 rfl rfl)
theorem dX2_foretold_62 : decode cX2_foretold 62 = .ok (.goto (-26), 3) := dk_167 255 230 (dk_at dksX2_foretold_2 14 rfl rfl)
theorem dX2_foretold_65 : decode cX2_foretold 65 = .ok (.aload_n 0, 1) := dk_42 (dk_at dksX2_foretold_2 17 rfl rfl)
theorem dX2_foretold_66 : decode cX2_foretold 66 = .ok (.iload_n 2, 1) := dk_28 (dk_at dksX2_foretold_2 18 rfl rfl)
theorem dX2_foretold_67 : decode cX2_foretold 67 = .ok (.iconst 2, 1) := dk_5 (dk_at dksX2_foretold_2 19 rfl rfl)
theorem dX2_foretold_68 : decode cX2_foretold 68 = .ok (.iload_n 3, 1) := dk_29 (dk_at dksX2_foretold_2 20 rfl rfl)
theorem dX2_foretold_69 : decode cX2_foretold 69 = .ok (.iadd, 1) := dk_96 (dk_at dksX2_foretold_2 21 rfl rfl)
theorem dX2_foretold_70 : decode cX2_foretold 70 = .ok (.invokevirtual 304, 3) := dk_182 1 48 (dk_at dksX2_foretold_3 0 rfl rfl)
theorem dX2_foretold_73 : decode cX2_foretold 73 = .ok (.istore 4, 2) := dk_54 4 (dk_at dksX2_foretold_3 3 rfl rfl)
theorem dX2_foretold_75 : decode cX2_foretold 75 = .ok (.aload_n 0, 1) := dk_42 (dk_at dksX2_foretold_3 5 rfl rfl)
theorem dX2_foretold_76 : decode cX2_foretold 76 = .ok (.invokevirtual 408, 3) := dk_182 1 152 (dk_at dksX2_foretold_3 6 rfl rfl)
theorem dX2_foretold_79 : decode cX2_foretold 79 = .ok (.iload 4, 2) := dk_21 4 (dk_at dksX2_foretold_3 9 rfl rfl)
theorem dX2_foretold_81 : decode cX2_foretold 81 = .ok (.ireturn, 1) := dk_172 (dk_at dksX2_foretold_3 11 rfl rfl)
abbrev cX2_setAside : ByteArray := prog_20_method_103_code
def yX2_setAside : MethodName := ⟨RX2, "setAside", "()V"⟩
def dkwX2_setAside_1 : List UInt8 := [167, 255, 235, 42, 3, 181, 0, 43, 177]
abbrev dktX2_setAside_1 : List UInt8 := dkwX2_setAside_1 ++ []
def dkwX2_setAside_0 : List UInt8 := [16, 6, 60, 27, 16, 90, 162, 0, 21, 42, 180, 0, 47, 27, 42, 180, 0, 7, 27, 46, 79, 132, 1, 1]
abbrev dktX2_setAside_0 : List UInt8 := dkwX2_setAside_0 ++ dktX2_setAside_1
theorem dksX2_setAside_0 : cX2_setAside.data.toList.drop 0 = dktX2_setAside_0 := by decide +kernel
theorem dksX2_setAside_1 : cX2_setAside.data.toList.drop 24 = dktX2_setAside_1 := dk_seg dksX2_setAside_0 24 rfl rfl
theorem dX2_setAside_0 : decode cX2_setAside 0 = .ok (.bipush 6, 2) := dk_16 6 (dk_at dksX2_setAside_0 0 rfl rfl)
theorem dX2_setAside_2 : decode cX2_setAside 2 = .ok (.istore_n 1, 1) := dk_60 (dk_at dksX2_setAside_0 2 rfl rfl)
theorem dX2_setAside_3 : decode cX2_setAside 3 = .ok (.iload_n 1, 1) := dk_27 (dk_at dksX2_setAside_0 3 rfl rfl)
theorem dX2_setAside_4 : decode cX2_setAside 4 = .ok (.bipush 90, 2) := dk_16 90 (dk_at dksX2_setAside_0 4 rfl rfl)
theorem dX2_setAside_6 : decode cX2_setAside 6 = .ok (.if_icmp .ge 21, 3) := dk_162 0 21 (dk_at dksX2_setAside_0 6 rfl rfl)
theorem dX2_setAside_9 : decode cX2_setAside 9 = .ok (.aload_n 0, 1) := dk_42 (dk_at dksX2_setAside_0 9 rfl rfl)
theorem dX2_setAside_10 : decode cX2_setAside 10 = .ok (.getfield 47, 3) := dk_180 0 47 (dk_at dksX2_setAside_0 10 rfl rfl)
theorem dX2_setAside_13 : decode cX2_setAside 13 = .ok (.iload_n 1, 1) := dk_27 (dk_at dksX2_setAside_0 13 rfl rfl)
theorem dX2_setAside_14 : decode cX2_setAside 14 = .ok (.aload_n 0, 1) := dk_42 (dk_at dksX2_setAside_0 14 rfl rfl)
theorem dX2_setAside_15 : decode cX2_setAside 15 = .ok (.getfield 7, 3) := dk_180 0 7 (dk_at dksX2_setAside_0 15 rfl rfl)
theorem dX2_setAside_18 : decode cX2_setAside 18 = .ok (.iload_n 1, 1) := dk_27 (dk_at dksX2_setAside_0 18 rfl rfl)
theorem dX2_setAside_19 : decode cX2_setAside 19 = .ok (.iaload, 1) := dk_46 (dk_at dksX2_setAside_0 19 rfl rfl)
theorem dX2_setAside_20 : decode cX2_setAside 20 = .ok (.iastore, 1) := dk_79 (dk_at dksX2_setAside_0 20 rfl rfl)
theorem dX2_setAside_21 : decode cX2_setAside 21 = .ok (.iinc 1 1, 3) := dk_132 1 1 (dk_at dksX2_setAside_0 21 rfl rfl)
theorem dX2_setAside_24 : decode cX2_setAside 24 = .ok (.goto (-21), 3) := dk_167 255 235 (dk_at dksX2_setAside_1 0 rfl rfl)
theorem dX2_setAside_27 : decode cX2_setAside 27 = .ok (.aload_n 0, 1) := dk_42 (dk_at dksX2_setAside_1 3 rfl rfl)
theorem dX2_setAside_28 : decode cX2_setAside 28 = .ok (.iconst 0, 1) := dk_3 (dk_at dksX2_setAside_1 4 rfl rfl)
theorem dX2_setAside_29 : decode cX2_setAside 29 = .ok (.putfield 43, 3) := dk_181 0 43 (dk_at dksX2_setAside_1 5 rfl rfl)
theorem dX2_setAside_32 : decode cX2_setAside 32 = .ok (.return_, 1) := dk_177 (dk_at dksX2_setAside_1 8 rfl rfl)
abbrev cX2_putBack : ByteArray := prog_20_method_104_code
def yX2_putBack : MethodName := ⟨RX2, "putBack", "()V"⟩
def dkwX2_putBack_1 : List UInt8 := [167, 255, 235, 42, 4, 181, 0, 43, 177]
abbrev dktX2_putBack_1 : List UInt8 := dkwX2_putBack_1 ++ []
def dkwX2_putBack_0 : List UInt8 := [16, 6, 60, 27, 16, 90, 162, 0, 21, 42, 180, 0, 7, 27, 42, 180, 0, 47, 27, 46, 79, 132, 1, 1]
abbrev dktX2_putBack_0 : List UInt8 := dkwX2_putBack_0 ++ dktX2_putBack_1
theorem dksX2_putBack_0 : cX2_putBack.data.toList.drop 0 = dktX2_putBack_0 := by decide +kernel
theorem dksX2_putBack_1 : cX2_putBack.data.toList.drop 24 = dktX2_putBack_1 := dk_seg dksX2_putBack_0 24 rfl rfl
theorem dX2_putBack_0 : decode cX2_putBack 0 = .ok (.bipush 6, 2) := dk_16 6 (dk_at dksX2_putBack_0 0 rfl rfl)
theorem dX2_putBack_2 : decode cX2_putBack 2 = .ok (.istore_n 1, 1) := dk_60 (dk_at dksX2_putBack_0 2 rfl rfl)
theorem dX2_putBack_3 : decode cX2_putBack 3 = .ok (.iload_n 1, 1) := dk_27 (dk_at dksX2_putBack_0 3 rfl rfl)
theorem dX2_putBack_4 : decode cX2_putBack 4 = .ok (.bipush 90, 2) := dk_16 90 (dk_at dksX2_putBack_0 4 rfl rfl)
theorem dX2_putBack_6 : decode cX2_putBack 6 = .ok (.if_icmp .ge 21, 3) := dk_162 0 21 (dk_at dksX2_putBack_0 6 rfl rfl)
theorem dX2_putBack_9 : decode cX2_putBack 9 = .ok (.aload_n 0, 1) := dk_42 (dk_at dksX2_putBack_0 9 rfl rfl)
theorem dX2_putBack_10 : decode cX2_putBack 10 = .ok (.getfield 7, 3) := dk_180 0 7 (dk_at dksX2_putBack_0 10 rfl rfl)
theorem dX2_putBack_13 : decode cX2_putBack 13 = .ok (.iload_n 1, 1) := dk_27 (dk_at dksX2_putBack_0 13 rfl rfl)
theorem dX2_putBack_14 : decode cX2_putBack 14 = .ok (.aload_n 0, 1) := dk_42 (dk_at dksX2_putBack_0 14 rfl rfl)
theorem dX2_putBack_15 : decode cX2_putBack 15 = .ok (.getfield 47, 3) := dk_180 0 47 (dk_at dksX2_putBack_0 15 rfl rfl)
theorem dX2_putBack_18 : decode cX2_putBack 18 = .ok (.iload_n 1, 1) := dk_27 (dk_at dksX2_putBack_0 18 rfl rfl)
theorem dX2_putBack_19 : decode cX2_putBack 19 = .ok (.iaload, 1) := dk_46 (dk_at dksX2_putBack_0 19 rfl rfl)
theorem dX2_putBack_20 : decode cX2_putBack 20 = .ok (.iastore, 1) := dk_79 (dk_at dksX2_putBack_0 20 rfl rfl)
theorem dX2_putBack_21 : decode cX2_putBack 21 = .ok (.iinc 1 1, 3) := dk_132 1 1 (dk_at dksX2_putBack_0 21 rfl rfl)
theorem dX2_putBack_24 : decode cX2_putBack 24 = .ok (.goto (-21), 3) := dk_167 255 235 (dk_at dksX2_putBack_1 0 rfl rfl)
theorem dX2_putBack_27 : decode cX2_putBack 27 = .ok (.aload_n 0, 1) := dk_42 (dk_at dksX2_putBack_1 3 rfl rfl)
theorem dX2_putBack_28 : decode cX2_putBack 28 = .ok (.iconst 1, 1) := dk_4 (dk_at dksX2_putBack_1 4 rfl rfl)
theorem dX2_putBack_29 : decode cX2_putBack 29 = .ok (.putfield 43, 3) := dk_181 0 43 (dk_at dksX2_putBack_1 5 rfl rfl)
theorem dX2_putBack_32 : decode cX2_putBack 32 = .ok (.return_, 1) := dk_177 (dk_at dksX2_putBack_1 8 rfl rfl)
abbrev cX2_pardoned : ByteArray := prog_20_method_106_code
def yX2_pardoned : MethodName := ⟨RX2, "pardoned", "(I)I"⟩
def dkwX2_pardoned_3 : List UInt8 := [182, 1, 152, 28, 172]
abbrev dktX2_pardoned_3 : List UInt8 := dkwX2_pardoned_3 ++ []
def dkwX2_pardoned_2 : List UInt8 := [182, 1, 112, 42, 180, 1, 70, 27, 184, 0, 77, 153, 0, 5, 29, 61, 132, 3, 1, 167, 255, 212, 42]
abbrev dktX2_pardoned_2 : List UInt8 := dkwX2_pardoned_2 ++ dktX2_pardoned_3
def dkwX2_pardoned_1 : List UInt8 := [16, 60, 163, 0, 44, 28, 2, 160, 0, 39, 42, 180, 0, 7, 16, 6, 46, 17, 39, 15, 162, 0, 26, 42]
abbrev dktX2_pardoned_1 : List UInt8 := dkwX2_pardoned_1 ++ dktX2_pardoned_2
def dkwX2_pardoned_0 : List UInt8 := [42, 27, 182, 1, 106, 154, 0, 5, 2, 172, 42, 182, 1, 149, 42, 3, 181, 1, 70, 2, 61, 4, 62, 29]
abbrev dktX2_pardoned_0 : List UInt8 := dkwX2_pardoned_0 ++ dktX2_pardoned_1
theorem dksX2_pardoned_0 : cX2_pardoned.data.toList.drop 0 = dktX2_pardoned_0 := by decide +kernel
theorem dksX2_pardoned_1 : cX2_pardoned.data.toList.drop 24 = dktX2_pardoned_1 := dk_seg dksX2_pardoned_0 24 rfl rfl
theorem dksX2_pardoned_2 : cX2_pardoned.data.toList.drop 48 = dktX2_pardoned_2 := dk_seg dksX2_pardoned_1 24 rfl rfl
theorem dksX2_pardoned_3 : cX2_pardoned.data.toList.drop 71 = dktX2_pardoned_3 := dk_seg dksX2_pardoned_2 23 rfl rfl
theorem dX2_pardoned_0 : decode cX2_pardoned 0 = .ok (.aload_n 0, 1) := dk_42 (dk_at dksX2_pardoned_0 0 rfl rfl)
theorem dX2_pardoned_1 : decode cX2_pardoned 1 = .ok (.iload_n 1, 1) := dk_27 (dk_at dksX2_pardoned_0 1 rfl rfl)
theorem dX2_pardoned_2 : decode cX2_pardoned 2 = .ok (.invokevirtual 362, 3) := dk_182 1 106 (dk_at dksX2_pardoned_0 2 rfl rfl)
theorem dX2_pardoned_5 : decode cX2_pardoned 5 = .ok (.ifCond .ne 5, 3) := dk_154 0 5 (dk_at dksX2_pardoned_0 5 rfl rfl)
theorem dX2_pardoned_8 : decode cX2_pardoned 8 = .ok (.iconst (-1), 1) := dk_2 (dk_at dksX2_pardoned_0 8 rfl rfl)
theorem dX2_pardoned_9 : decode cX2_pardoned 9 = .ok (.ireturn, 1) := dk_172 (dk_at dksX2_pardoned_0 9 rfl rfl)
theorem dX2_pardoned_10 : decode cX2_pardoned 10 = .ok (.aload_n 0, 1) := dk_42 (dk_at dksX2_pardoned_0 10 rfl rfl)
theorem dX2_pardoned_11 : decode cX2_pardoned 11 = .ok (.invokevirtual 405, 3) := dk_182 1 149 (dk_at dksX2_pardoned_0 11 rfl rfl)
theorem dX2_pardoned_14 : decode cX2_pardoned 14 = .ok (.aload_n 0, 1) := dk_42 (dk_at dksX2_pardoned_0 14 rfl rfl)
theorem dX2_pardoned_15 : decode cX2_pardoned 15 = .ok (.iconst 0, 1) := dk_3 (dk_at dksX2_pardoned_0 15 rfl rfl)
theorem dX2_pardoned_16 : decode cX2_pardoned 16 = .ok (.putfield 326, 3) := dk_181 1 70 (dk_at dksX2_pardoned_0 16 rfl rfl)
theorem dX2_pardoned_19 : decode cX2_pardoned 19 = .ok (.iconst (-1), 1) := dk_2 (dk_at dksX2_pardoned_0 19 rfl rfl)
theorem dX2_pardoned_20 : decode cX2_pardoned 20 = .ok (.istore_n 2, 1) := dk_61 (dk_at dksX2_pardoned_0 20 rfl rfl)
theorem dX2_pardoned_21 : decode cX2_pardoned 21 = .ok (.iconst 1, 1) := dk_4 (dk_at dksX2_pardoned_0 21 rfl rfl)
theorem dX2_pardoned_22 : decode cX2_pardoned 22 = .ok (.istore_n 3, 1) := dk_62 (dk_at dksX2_pardoned_0 22 rfl rfl)
theorem dX2_pardoned_23 : decode cX2_pardoned 23 = .ok (.iload_n 3, 1) := dk_29 (dk_at dksX2_pardoned_0 23 rfl rfl)
theorem dX2_pardoned_24 : decode cX2_pardoned 24 = .ok (.bipush 60, 2) := dk_16 60 (dk_at dksX2_pardoned_1 0 rfl rfl)
theorem dX2_pardoned_26 : decode cX2_pardoned 26 = .ok (.if_icmp .gt 44, 3) := dk_163 0 44 (dk_at dksX2_pardoned_1 2 rfl rfl)
theorem dX2_pardoned_29 : decode cX2_pardoned 29 = .ok (.iload_n 2, 1) := dk_28 (dk_at dksX2_pardoned_1 5 rfl rfl)
theorem dX2_pardoned_30 : decode cX2_pardoned 30 = .ok (.iconst (-1), 1) := dk_2 (dk_at dksX2_pardoned_1 6 rfl rfl)
theorem dX2_pardoned_31 : decode cX2_pardoned 31 = .ok (.if_icmp .ne 39, 3) := dk_160 0 39 (dk_at dksX2_pardoned_1 7 rfl rfl)
theorem dX2_pardoned_34 : decode cX2_pardoned 34 = .ok (.aload_n 0, 1) := dk_42 (dk_at dksX2_pardoned_1 10 rfl rfl)
theorem dX2_pardoned_35 : decode cX2_pardoned 35 = .ok (.getfield 7, 3) := dk_180 0 7 (dk_at dksX2_pardoned_1 11 rfl rfl)
theorem dX2_pardoned_38 : decode cX2_pardoned 38 = .ok (.bipush 6, 2) := dk_16 6 (dk_at dksX2_pardoned_1 14 rfl rfl)
theorem dX2_pardoned_40 : decode cX2_pardoned 40 = .ok (.iaload, 1) := dk_46 (dk_at dksX2_pardoned_1 16 rfl rfl)
theorem dX2_pardoned_41 : decode cX2_pardoned 41 = .ok (.sipush 9999, 3) := dk_17 39 15 (dk_at dksX2_pardoned_1 17 rfl rfl)
theorem dX2_pardoned_44 : decode cX2_pardoned 44 = .ok (.if_icmp .ge 26, 3) := dk_162 0 26 (dk_at dksX2_pardoned_1 20 rfl rfl)
theorem dX2_pardoned_47 : decode cX2_pardoned 47 = .ok (.aload_n 0, 1) := dk_42 (dk_at dksX2_pardoned_1 23 rfl rfl)
theorem dX2_pardoned_48 : decode cX2_pardoned 48 = .ok (.invokevirtual 368, 3) := dk_182 1 112 (dk_at dksX2_pardoned_2 0 rfl rfl)
theorem dX2_pardoned_51 : decode cX2_pardoned 51 = .ok (.aload_n 0, 1) := dk_42 (dk_at dksX2_pardoned_2 3 rfl rfl)
theorem dX2_pardoned_52 : decode cX2_pardoned 52 = .ok (.getfield 326, 3) := dk_180 1 70 (dk_at dksX2_pardoned_2 4 rfl rfl)
theorem dX2_pardoned_55 : decode cX2_pardoned 55 = .ok (.iload_n 1, 1) := dk_27 (dk_at dksX2_pardoned_2 7 rfl rfl)
theorem dX2_pardoned_56 : decode cX2_pardoned 56 = .ok (.invokestatic 77, 3) := dk_184 0 77 (dk_at dksX2_pardoned_2 8 rfl rfl)
theorem dX2_pardoned_59 : decode cX2_pardoned 59 = .ok (.ifCond .eq 5, 3) := dk_153 0 5 (dk_at dksX2_pardoned_2 11 rfl rfl)
theorem dX2_pardoned_62 : decode cX2_pardoned 62 = .ok (.iload_n 3, 1) := dk_29 (dk_at dksX2_pardoned_2 14 rfl rfl)
theorem dX2_pardoned_63 : decode cX2_pardoned 63 = .ok (.istore_n 2, 1) := dk_61 (dk_at dksX2_pardoned_2 15 rfl rfl)
theorem dX2_pardoned_64 : decode cX2_pardoned 64 = .ok (.iinc 3 1, 3) := dk_132 3 1 (dk_at dksX2_pardoned_2 16 rfl rfl)
theorem dX2_pardoned_67 : decode cX2_pardoned 67 = .ok (.goto (-44), 3) := dk_167 255 212 (dk_at dksX2_pardoned_2 19 rfl rfl)
theorem dX2_pardoned_70 : decode cX2_pardoned 70 = .ok (.aload_n 0, 1) := dk_42 (dk_at dksX2_pardoned_2 22 rfl rfl)
theorem dX2_pardoned_71 : decode cX2_pardoned 71 = .ok (.invokevirtual 408, 3) := dk_182 1 152 (dk_at dksX2_pardoned_3 0 rfl rfl)
theorem dX2_pardoned_74 : decode cX2_pardoned 74 = .ok (.iload_n 2, 1) := dk_28 (dk_at dksX2_pardoned_3 3 rfl rfl)
theorem dX2_pardoned_75 : decode cX2_pardoned 75 = .ok (.ireturn, 1) := dk_172 (dk_at dksX2_pardoned_3 4 rfl rfl)
abbrev cX2_meets : ByteArray := prog_20_method_109_code
def yX2_meets : MethodName := ⟨RX2, "meets", "(II)I"⟩
def dkwX2_meets_1 : List UInt8 := [167, 0, 4, 2, 172]
abbrev dktX2_meets_1 : List UInt8 := dkwX2_meets_1 ++ []
def dkwX2_meets_0 : List UInt8 := [42, 27, 182, 0, 73, 153, 0, 20, 42, 28, 182, 0, 73, 153, 0, 12, 42, 27, 28, 182, 1, 155]
abbrev dktX2_meets_0 : List UInt8 := dkwX2_meets_0 ++ dktX2_meets_1
theorem dksX2_meets_0 : cX2_meets.data.toList.drop 0 = dktX2_meets_0 := by decide +kernel
theorem dksX2_meets_1 : cX2_meets.data.toList.drop 22 = dktX2_meets_1 := dk_seg dksX2_meets_0 22 rfl rfl
theorem dX2_meets_0 : decode cX2_meets 0 = .ok (.aload_n 0, 1) := dk_42 (dk_at dksX2_meets_0 0 rfl rfl)
theorem dX2_meets_1 : decode cX2_meets 1 = .ok (.iload_n 1, 1) := dk_27 (dk_at dksX2_meets_0 1 rfl rfl)
theorem dX2_meets_2 : decode cX2_meets 2 = .ok (.invokevirtual 73, 3) := dk_182 0 73 (dk_at dksX2_meets_0 2 rfl rfl)
theorem dX2_meets_5 : decode cX2_meets 5 = .ok (.ifCond .eq 20, 3) := dk_153 0 20 (dk_at dksX2_meets_0 5 rfl rfl)
theorem dX2_meets_8 : decode cX2_meets 8 = .ok (.aload_n 0, 1) := dk_42 (dk_at dksX2_meets_0 8 rfl rfl)
theorem dX2_meets_9 : decode cX2_meets 9 = .ok (.iload_n 2, 1) := dk_28 (dk_at dksX2_meets_0 9 rfl rfl)
theorem dX2_meets_10 : decode cX2_meets 10 = .ok (.invokevirtual 73, 3) := dk_182 0 73 (dk_at dksX2_meets_0 10 rfl rfl)
theorem dX2_meets_13 : decode cX2_meets 13 = .ok (.ifCond .eq 12, 3) := dk_153 0 12 (dk_at dksX2_meets_0 13 rfl rfl)
theorem dX2_meets_16 : decode cX2_meets 16 = .ok (.aload_n 0, 1) := dk_42 (dk_at dksX2_meets_0 16 rfl rfl)
theorem dX2_meets_17 : decode cX2_meets 17 = .ok (.iload_n 1, 1) := dk_27 (dk_at dksX2_meets_0 17 rfl rfl)
theorem dX2_meets_18 : decode cX2_meets 18 = .ok (.iload_n 2, 1) := dk_28 (dk_at dksX2_meets_0 18 rfl rfl)
theorem dX2_meets_19 : decode cX2_meets 19 = .ok (.invokevirtual 411, 3) := dk_182 1 155 (dk_at dksX2_meets_0 19 rfl rfl)
theorem dX2_meets_22 : decode cX2_meets 22 = .ok (.goto 4, 3) := dk_167 0 4 (dk_at dksX2_meets_1 0 rfl rfl)
theorem dX2_meets_25 : decode cX2_meets 25 = .ok (.iconst (-1), 1) := dk_2 (dk_at dksX2_meets_1 3 rfl rfl)
theorem dX2_meets_26 : decode cX2_meets 26 = .ok (.ireturn, 1) := dk_172 (dk_at dksX2_meets_1 4 rfl rfl)
abbrev cX2_meetOf : ByteArray := prog_20_method_107_code
def yX2_meetOf : MethodName := ⟨RX2, "meetOf", "(II)I"⟩
def dkwX2_meetOf_1 : List UInt8 := [167, 255, 234, 29, 172]
abbrev dktX2_meetOf_1 : List UInt8 := dkwX2_meetOf_1 ++ []
def dkwX2_meetOf_0 : List UInt8 := [27, 62, 42, 29, 182, 1, 142, 28, 184, 0, 77, 154, 0, 16, 42, 180, 0, 7, 16, 90, 29, 96, 46, 62]
abbrev dktX2_meetOf_0 : List UInt8 := dkwX2_meetOf_0 ++ dktX2_meetOf_1
theorem dksX2_meetOf_0 : cX2_meetOf.data.toList.drop 0 = dktX2_meetOf_0 := by decide +kernel
theorem dksX2_meetOf_1 : cX2_meetOf.data.toList.drop 24 = dktX2_meetOf_1 := dk_seg dksX2_meetOf_0 24 rfl rfl
theorem dX2_meetOf_0 : decode cX2_meetOf 0 = .ok (.iload_n 1, 1) := dk_27 (dk_at dksX2_meetOf_0 0 rfl rfl)
theorem dX2_meetOf_1 : decode cX2_meetOf 1 = .ok (.istore_n 3, 1) := dk_62 (dk_at dksX2_meetOf_0 1 rfl rfl)
theorem dX2_meetOf_2 : decode cX2_meetOf 2 = .ok (.aload_n 0, 1) := dk_42 (dk_at dksX2_meetOf_0 2 rfl rfl)
theorem dX2_meetOf_3 : decode cX2_meetOf 3 = .ok (.iload_n 3, 1) := dk_29 (dk_at dksX2_meetOf_0 3 rfl rfl)
theorem dX2_meetOf_4 : decode cX2_meetOf 4 = .ok (.invokevirtual 398, 3) := dk_182 1 142 (dk_at dksX2_meetOf_0 4 rfl rfl)
theorem dX2_meetOf_7 : decode cX2_meetOf 7 = .ok (.iload_n 2, 1) := dk_28 (dk_at dksX2_meetOf_0 7 rfl rfl)
theorem dX2_meetOf_8 : decode cX2_meetOf 8 = .ok (.invokestatic 77, 3) := dk_184 0 77 (dk_at dksX2_meetOf_0 8 rfl rfl)
theorem dX2_meetOf_11 : decode cX2_meetOf 11 = .ok (.ifCond .ne 16, 3) := dk_154 0 16 (dk_at dksX2_meetOf_0 11 rfl rfl)
theorem dX2_meetOf_14 : decode cX2_meetOf 14 = .ok (.aload_n 0, 1) := dk_42 (dk_at dksX2_meetOf_0 14 rfl rfl)
theorem dX2_meetOf_15 : decode cX2_meetOf 15 = .ok (.getfield 7, 3) := dk_180 0 7 (dk_at dksX2_meetOf_0 15 rfl rfl)
theorem dX2_meetOf_18 : decode cX2_meetOf 18 = .ok (.bipush 90, 2) := dk_16 90 (dk_at dksX2_meetOf_0 18 rfl rfl)
theorem dX2_meetOf_20 : decode cX2_meetOf 20 = .ok (.iload_n 3, 1) := dk_29 (dk_at dksX2_meetOf_0 20 rfl rfl)
theorem dX2_meetOf_21 : decode cX2_meetOf 21 = .ok (.iadd, 1) := dk_96 (dk_at dksX2_meetOf_0 21 rfl rfl)
theorem dX2_meetOf_22 : decode cX2_meetOf 22 = .ok (.iaload, 1) := dk_46 (dk_at dksX2_meetOf_0 22 rfl rfl)
theorem dX2_meetOf_23 : decode cX2_meetOf 23 = .ok (.istore_n 3, 1) := dk_62 (dk_at dksX2_meetOf_0 23 rfl rfl)
theorem dX2_meetOf_24 : decode cX2_meetOf 24 = .ok (.goto (-22), 3) := dk_167 255 234 (dk_at dksX2_meetOf_1 0 rfl rfl)
theorem dX2_meetOf_27 : decode cX2_meetOf 27 = .ok (.iload_n 3, 1) := dk_29 (dk_at dksX2_meetOf_1 3 rfl rfl)
theorem dX2_meetOf_28 : decode cX2_meetOf 28 = .ok (.ireturn, 1) := dk_172 (dk_at dksX2_meetOf_1 4 rfl rfl)
abbrev cX2_steps : ByteArray := prog_20_method_110_code
def yX2_steps : MethodName := ⟨RX2, "steps", "(II)I"⟩
def dkwX2_steps_1 : List UInt8 := [167, 0, 4, 2, 172]
abbrev dktX2_steps_1 : List UInt8 := dkwX2_steps_1 ++ []
def dkwX2_steps_0 : List UInt8 := [42, 27, 182, 0, 73, 153, 0, 20, 42, 28, 182, 0, 73, 153, 0, 12, 42, 27, 28, 182, 1, 158]
abbrev dktX2_steps_0 : List UInt8 := dkwX2_steps_0 ++ dktX2_steps_1
theorem dksX2_steps_0 : cX2_steps.data.toList.drop 0 = dktX2_steps_0 := by decide +kernel
theorem dksX2_steps_1 : cX2_steps.data.toList.drop 22 = dktX2_steps_1 := dk_seg dksX2_steps_0 22 rfl rfl
theorem dX2_steps_0 : decode cX2_steps 0 = .ok (.aload_n 0, 1) := dk_42 (dk_at dksX2_steps_0 0 rfl rfl)
theorem dX2_steps_1 : decode cX2_steps 1 = .ok (.iload_n 1, 1) := dk_27 (dk_at dksX2_steps_0 1 rfl rfl)
theorem dX2_steps_2 : decode cX2_steps 2 = .ok (.invokevirtual 73, 3) := dk_182 0 73 (dk_at dksX2_steps_0 2 rfl rfl)
theorem dX2_steps_5 : decode cX2_steps 5 = .ok (.ifCond .eq 20, 3) := dk_153 0 20 (dk_at dksX2_steps_0 5 rfl rfl)
theorem dX2_steps_8 : decode cX2_steps 8 = .ok (.aload_n 0, 1) := dk_42 (dk_at dksX2_steps_0 8 rfl rfl)
theorem dX2_steps_9 : decode cX2_steps 9 = .ok (.iload_n 2, 1) := dk_28 (dk_at dksX2_steps_0 9 rfl rfl)
theorem dX2_steps_10 : decode cX2_steps 10 = .ok (.invokevirtual 73, 3) := dk_182 0 73 (dk_at dksX2_steps_0 10 rfl rfl)
theorem dX2_steps_13 : decode cX2_steps 13 = .ok (.ifCond .eq 12, 3) := dk_153 0 12 (dk_at dksX2_steps_0 13 rfl rfl)
theorem dX2_steps_16 : decode cX2_steps 16 = .ok (.aload_n 0, 1) := dk_42 (dk_at dksX2_steps_0 16 rfl rfl)
theorem dX2_steps_17 : decode cX2_steps 17 = .ok (.iload_n 1, 1) := dk_27 (dk_at dksX2_steps_0 17 rfl rfl)
theorem dX2_steps_18 : decode cX2_steps 18 = .ok (.iload_n 2, 1) := dk_28 (dk_at dksX2_steps_0 18 rfl rfl)
theorem dX2_steps_19 : decode cX2_steps 19 = .ok (.invokevirtual 414, 3) := dk_182 1 158 (dk_at dksX2_steps_0 19 rfl rfl)
theorem dX2_steps_22 : decode cX2_steps 22 = .ok (.goto 4, 3) := dk_167 0 4 (dk_at dksX2_steps_1 0 rfl rfl)
theorem dX2_steps_25 : decode cX2_steps 25 = .ok (.iconst (-1), 1) := dk_2 (dk_at dksX2_steps_1 3 rfl rfl)
theorem dX2_steps_26 : decode cX2_steps 26 = .ok (.ireturn, 1) := dk_172 (dk_at dksX2_steps_1 4 rfl rfl)
abbrev cX2_stepsOf : ByteArray := prog_20_method_108_code
def yX2_stepsOf : MethodName := ⟨RX2, "stepsOf", "(II)I"⟩
def dkwX2_stepsOf_1 : List UInt8 := [172]
abbrev dktX2_stepsOf_1 : List UInt8 := dkwX2_stepsOf_1 ++ []
def dkwX2_stepsOf_0 : List UInt8 := [42, 27, 182, 1, 6, 42, 28, 182, 1, 6, 96, 5, 42, 42, 27, 28, 182, 1, 155, 182, 1, 6, 104, 100]
abbrev dktX2_stepsOf_0 : List UInt8 := dkwX2_stepsOf_0 ++ dktX2_stepsOf_1
theorem dksX2_stepsOf_0 : cX2_stepsOf.data.toList.drop 0 = dktX2_stepsOf_0 := by decide +kernel
theorem dksX2_stepsOf_1 : cX2_stepsOf.data.toList.drop 24 = dktX2_stepsOf_1 := dk_seg dksX2_stepsOf_0 24 rfl rfl
theorem dX2_stepsOf_0 : decode cX2_stepsOf 0 = .ok (.aload_n 0, 1) := dk_42 (dk_at dksX2_stepsOf_0 0 rfl rfl)
theorem dX2_stepsOf_1 : decode cX2_stepsOf 1 = .ok (.iload_n 1, 1) := dk_27 (dk_at dksX2_stepsOf_0 1 rfl rfl)
theorem dX2_stepsOf_2 : decode cX2_stepsOf 2 = .ok (.invokevirtual 262, 3) := dk_182 1 6 (dk_at dksX2_stepsOf_0 2 rfl rfl)
theorem dX2_stepsOf_5 : decode cX2_stepsOf 5 = .ok (.aload_n 0, 1) := dk_42 (dk_at dksX2_stepsOf_0 5 rfl rfl)
theorem dX2_stepsOf_6 : decode cX2_stepsOf 6 = .ok (.iload_n 2, 1) := dk_28 (dk_at dksX2_stepsOf_0 6 rfl rfl)
theorem dX2_stepsOf_7 : decode cX2_stepsOf 7 = .ok (.invokevirtual 262, 3) := dk_182 1 6 (dk_at dksX2_stepsOf_0 7 rfl rfl)
theorem dX2_stepsOf_10 : decode cX2_stepsOf 10 = .ok (.iadd, 1) := dk_96 (dk_at dksX2_stepsOf_0 10 rfl rfl)
theorem dX2_stepsOf_11 : decode cX2_stepsOf 11 = .ok (.iconst 2, 1) := dk_5 (dk_at dksX2_stepsOf_0 11 rfl rfl)
theorem dX2_stepsOf_12 : decode cX2_stepsOf 12 = .ok (.aload_n 0, 1) := dk_42 (dk_at dksX2_stepsOf_0 12 rfl rfl)
theorem dX2_stepsOf_13 : decode cX2_stepsOf 13 = .ok (.aload_n 0, 1) := dk_42 (dk_at dksX2_stepsOf_0 13 rfl rfl)
theorem dX2_stepsOf_14 : decode cX2_stepsOf 14 = .ok (.iload_n 1, 1) := dk_27 (dk_at dksX2_stepsOf_0 14 rfl rfl)
theorem dX2_stepsOf_15 : decode cX2_stepsOf 15 = .ok (.iload_n 2, 1) := dk_28 (dk_at dksX2_stepsOf_0 15 rfl rfl)
theorem dX2_stepsOf_16 : decode cX2_stepsOf 16 = .ok (.invokevirtual 411, 3) := dk_182 1 155 (dk_at dksX2_stepsOf_0 16 rfl rfl)
theorem dX2_stepsOf_19 : decode cX2_stepsOf 19 = .ok (.invokevirtual 262, 3) := dk_182 1 6 (dk_at dksX2_stepsOf_0 19 rfl rfl)
theorem dX2_stepsOf_22 : decode cX2_stepsOf 22 = .ok (.imul, 1) := dk_104 (dk_at dksX2_stepsOf_0 22 rfl rfl)
theorem dX2_stepsOf_23 : decode cX2_stepsOf 23 = .ok (.isub, 1) := dk_100 (dk_at dksX2_stepsOf_0 23 rfl rfl)
theorem dX2_stepsOf_24 : decode cX2_stepsOf 24 = .ok (.ireturn, 1) := dk_172 (dk_at dksX2_stepsOf_1 0 rfl rfl)
abbrev cX2_route : ByteArray := prog_20_method_117_code
def yX2_route : MethodName := ⟨RX2, "route", "(III)I"⟩
def dkwX2_route_4 : List UInt8 := [167, 0, 5, 16, 252, 172]
abbrev dktX2_route_4 : List UInt8 := dkwX2_route_4 ++ []
def dkwX2_route_3 : List UInt8 := [167, 0, 7, 42, 180, 1, 165, 172, 29, 42, 180, 1, 168, 162, 0, 14, 42, 180, 0, 59, 29, 4, 96, 46]
abbrev dktX2_route_3 : List UInt8 := dkwX2_route_3 ++ dktX2_route_4
def dkwX2_route_2 : List UInt8 := [16, 254, 160, 0, 12, 42, 180, 0, 50, 27, 46, 167, 0, 19, 29, 2, 160, 0, 10, 42, 180, 1, 168]
abbrev dktX2_route_2 : List UInt8 := dkwX2_route_2 ++ dktX2_route_3
def dkwX2_route_1 : List UInt8 := [153, 0, 9, 29, 16, 253, 162, 0, 6, 16, 252, 172, 42, 27, 28, 182, 1, 184, 29, 156, 0, 35, 29]
abbrev dktX2_route_1 : List UInt8 := dkwX2_route_1 ++ dktX2_route_2
def dkwX2_route_0 : List UInt8 := [42, 27, 182, 0, 73, 153, 0, 26, 42, 28, 182, 0, 73, 153, 0, 18, 42, 28, 27, 182, 1, 94]
abbrev dktX2_route_0 : List UInt8 := dkwX2_route_0 ++ dktX2_route_1
theorem dksX2_route_0 : cX2_route.data.toList.drop 0 = dktX2_route_0 := by decide +kernel
theorem dksX2_route_1 : cX2_route.data.toList.drop 22 = dktX2_route_1 := dk_seg dksX2_route_0 22 rfl rfl
theorem dksX2_route_2 : cX2_route.data.toList.drop 45 = dktX2_route_2 := dk_seg dksX2_route_1 23 rfl rfl
theorem dksX2_route_3 : cX2_route.data.toList.drop 68 = dktX2_route_3 := dk_seg dksX2_route_2 23 rfl rfl
theorem dksX2_route_4 : cX2_route.data.toList.drop 92 = dktX2_route_4 := dk_seg dksX2_route_3 24 rfl rfl
theorem dX2_route_0 : decode cX2_route 0 = .ok (.aload_n 0, 1) := dk_42 (dk_at dksX2_route_0 0 rfl rfl)
theorem dX2_route_1 : decode cX2_route 1 = .ok (.iload_n 1, 1) := dk_27 (dk_at dksX2_route_0 1 rfl rfl)
theorem dX2_route_2 : decode cX2_route 2 = .ok (.invokevirtual 73, 3) := dk_182 0 73 (dk_at dksX2_route_0 2 rfl rfl)
theorem dX2_route_5 : decode cX2_route 5 = .ok (.ifCond .eq 26, 3) := dk_153 0 26 (dk_at dksX2_route_0 5 rfl rfl)
theorem dX2_route_8 : decode cX2_route 8 = .ok (.aload_n 0, 1) := dk_42 (dk_at dksX2_route_0 8 rfl rfl)
theorem dX2_route_9 : decode cX2_route 9 = .ok (.iload_n 2, 1) := dk_28 (dk_at dksX2_route_0 9 rfl rfl)
theorem dX2_route_10 : decode cX2_route 10 = .ok (.invokevirtual 73, 3) := dk_182 0 73 (dk_at dksX2_route_0 10 rfl rfl)
theorem dX2_route_13 : decode cX2_route 13 = .ok (.ifCond .eq 18, 3) := dk_153 0 18 (dk_at dksX2_route_0 13 rfl rfl)
theorem dX2_route_16 : decode cX2_route 16 = .ok (.aload_n 0, 1) := dk_42 (dk_at dksX2_route_0 16 rfl rfl)
theorem dX2_route_17 : decode cX2_route 17 = .ok (.iload_n 2, 1) := dk_28 (dk_at dksX2_route_0 17 rfl rfl)
theorem dX2_route_18 : decode cX2_route 18 = .ok (.iload_n 1, 1) := dk_27 (dk_at dksX2_route_0 18 rfl rfl)
theorem dX2_route_19 : decode cX2_route 19 = .ok (.invokevirtual 350, 3) := dk_182 1 94 (dk_at dksX2_route_0 19 rfl rfl)
theorem dX2_route_22 : decode cX2_route 22 = .ok (.ifCond .eq 9, 3) := dk_153 0 9 (dk_at dksX2_route_1 0 rfl rfl)
theorem dX2_route_25 : decode cX2_route 25 = .ok (.iload_n 3, 1) := dk_29 (dk_at dksX2_route_1 3 rfl rfl)
theorem dX2_route_26 : decode cX2_route 26 = .ok (.bipush (-3), 2) := dk_16 253 (dk_at dksX2_route_1 4 rfl rfl)
theorem dX2_route_28 : decode cX2_route 28 = .ok (.if_icmp .ge 6, 3) := dk_162 0 6 (dk_at dksX2_route_1 6 rfl rfl)
theorem dX2_route_31 : decode cX2_route 31 = .ok (.bipush (-4), 2) := dk_16 252 (dk_at dksX2_route_1 9 rfl rfl)
theorem dX2_route_33 : decode cX2_route 33 = .ok (.ireturn, 1) := dk_172 (dk_at dksX2_route_1 11 rfl rfl)
theorem dX2_route_34 : decode cX2_route 34 = .ok (.aload_n 0, 1) := dk_42 (dk_at dksX2_route_1 12 rfl rfl)
theorem dX2_route_35 : decode cX2_route 35 = .ok (.iload_n 1, 1) := dk_27 (dk_at dksX2_route_1 13 rfl rfl)
theorem dX2_route_36 : decode cX2_route 36 = .ok (.iload_n 2, 1) := dk_28 (dk_at dksX2_route_1 14 rfl rfl)
theorem dX2_route_37 : decode cX2_route 37 = .ok (.invokevirtual 440, 3) := dk_182 1 184 (dk_at dksX2_route_1 15 rfl rfl)
theorem dX2_route_40 : decode cX2_route 40 = .ok (.iload_n 3, 1) := dk_29 (dk_at dksX2_route_1 18 rfl rfl)
theorem dX2_route_41 : decode cX2_route 41 = .ok (.ifCond .ge 35, 3) := dk_156 0 35 (dk_at dksX2_route_1 19 rfl rfl)
theorem dX2_route_44 : decode cX2_route 44 = .ok (.iload_n 3, 1) := dk_29 (dk_at dksX2_route_1 22 rfl rfl)
theorem dX2_route_45 : decode cX2_route 45 = .ok (.bipush (-2), 2) := dk_16 254 (dk_at dksX2_route_2 0 rfl rfl)
theorem dX2_route_47 : decode cX2_route 47 = .ok (.if_icmp .ne 12, 3) := dk_160 0 12 (dk_at dksX2_route_2 2 rfl rfl)
theorem dX2_route_50 : decode cX2_route 50 = .ok (.aload_n 0, 1) := dk_42 (dk_at dksX2_route_2 5 rfl rfl)
theorem dX2_route_51 : decode cX2_route 51 = .ok (.getfield 50, 3) := dk_180 0 50 (dk_at dksX2_route_2 6 rfl rfl)
theorem dX2_route_54 : decode cX2_route 54 = .ok (.iload_n 1, 1) := dk_27 (dk_at dksX2_route_2 9 rfl rfl)
theorem dX2_route_55 : decode cX2_route 55 = .ok (.iaload, 1) := dk_46 (dk_at dksX2_route_2 10 rfl rfl)
theorem dX2_route_56 : decode cX2_route 56 = .ok (.goto 19, 3) := dk_167 0 19 (dk_at dksX2_route_2 11 rfl rfl)
theorem dX2_route_59 : decode cX2_route 59 = .ok (.iload_n 3, 1) := dk_29 (dk_at dksX2_route_2 14 rfl rfl)
theorem dX2_route_60 : decode cX2_route 60 = .ok (.iconst (-1), 1) := dk_2 (dk_at dksX2_route_2 15 rfl rfl)
theorem dX2_route_61 : decode cX2_route 61 = .ok (.if_icmp .ne 10, 3) := dk_160 0 10 (dk_at dksX2_route_2 16 rfl rfl)
theorem dX2_route_64 : decode cX2_route 64 = .ok (.aload_n 0, 1) := dk_42 (dk_at dksX2_route_2 19 rfl rfl)
theorem dX2_route_65 : decode cX2_route 65 = .ok (.getfield 424, 3) := dk_180 1 168 (dk_at dksX2_route_2 20 rfl rfl)
theorem dX2_route_68 : decode cX2_route 68 = .ok (.goto 7, 3) := dk_167 0 7 (dk_at dksX2_route_3 0 rfl rfl)
theorem dX2_route_71 : decode cX2_route 71 = .ok (.aload_n 0, 1) := dk_42 (dk_at dksX2_route_3 3 rfl rfl)
theorem dX2_route_72 : decode cX2_route 72 = .ok (.getfield 421, 3) := dk_180 1 165 (dk_at dksX2_route_3 4 rfl rfl)
theorem dX2_route_75 : decode cX2_route 75 = .ok (.ireturn, 1) := dk_172 (dk_at dksX2_route_3 7 rfl rfl)
theorem dX2_route_76 : decode cX2_route 76 = .ok (.iload_n 3, 1) := dk_29 (dk_at dksX2_route_3 8 rfl rfl)
theorem dX2_route_77 : decode cX2_route 77 = .ok (.aload_n 0, 1) := dk_42 (dk_at dksX2_route_3 9 rfl rfl)
theorem dX2_route_78 : decode cX2_route 78 = .ok (.getfield 424, 3) := dk_180 1 168 (dk_at dksX2_route_3 10 rfl rfl)
theorem dX2_route_81 : decode cX2_route 81 = .ok (.if_icmp .ge 14, 3) := dk_162 0 14 (dk_at dksX2_route_3 13 rfl rfl)
theorem dX2_route_84 : decode cX2_route 84 = .ok (.aload_n 0, 1) := dk_42 (dk_at dksX2_route_3 16 rfl rfl)
theorem dX2_route_85 : decode cX2_route 85 = .ok (.getfield 59, 3) := dk_180 0 59 (dk_at dksX2_route_3 17 rfl rfl)
theorem dX2_route_88 : decode cX2_route 88 = .ok (.iload_n 3, 1) := dk_29 (dk_at dksX2_route_3 20 rfl rfl)
theorem dX2_route_89 : decode cX2_route 89 = .ok (.iconst 1, 1) := dk_4 (dk_at dksX2_route_3 21 rfl rfl)
theorem dX2_route_90 : decode cX2_route 90 = .ok (.iadd, 1) := dk_96 (dk_at dksX2_route_3 22 rfl rfl)
theorem dX2_route_91 : decode cX2_route 91 = .ok (.iaload, 1) := dk_46 (dk_at dksX2_route_3 23 rfl rfl)
theorem dX2_route_92 : decode cX2_route 92 = .ok (.goto 5, 3) := dk_167 0 5 (dk_at dksX2_route_4 0 rfl rfl)
theorem dX2_route_95 : decode cX2_route 95 = .ok (.bipush (-4), 2) := dk_16 252 (dk_at dksX2_route_4 3 rfl rfl)
theorem dX2_route_97 : decode cX2_route 97 = .ok (.ireturn, 1) := dk_172 (dk_at dksX2_route_4 5 rfl rfl)
abbrev cX2_layRoute : ByteArray := prog_20_method_116_code
def yX2_layRoute : MethodName := ⟨RX2, "layRoute", "(II)V"⟩
def dkwX2_layRoute_6 : List UInt8 := [167, 255, 146, 177]
abbrev dktX2_layRoute_6 : List UInt8 := dkwX2_layRoute_6 ++ []
def dkwX2_layRoute_5 : List UInt8 := [29, 46, 21, 5, 27, 28, 182, 1, 180, 79, 132, 3, 1, 42, 180, 0, 53, 29, 21, 5, 79, 2, 54, 4]
abbrev dktX2_layRoute_5 : List UInt8 := dkwX2_layRoute_5 ++ dktX2_layRoute_6
def dkwX2_layRoute_4 : List UInt8 := [132, 3, 255, 167, 0, 45, 42, 180, 0, 56, 29, 4, 96, 42, 42, 180, 0, 56, 29, 46, 42, 180, 0, 53]
abbrev dktX2_layRoute_4 : List UInt8 := dkwX2_layRoute_4 ++ dktX2_layRoute_5
def dkwX2_layRoute_3 : List UInt8 := [42, 180, 0, 53, 29, 46, 28, 160, 0, 8, 42, 29, 182, 1, 177, 42, 180, 0, 53, 29, 46, 54, 4]
abbrev dktX2_layRoute_3 : List UInt8 := dkwX2_layRoute_3 ++ dktX2_layRoute_4
def dkwX2_layRoute_2 : List UInt8 := [167, 0, 16, 42, 42, 180, 0, 53, 29, 46, 21, 4, 28, 182, 1, 174, 54, 5, 21, 5, 2, 160, 0, 32]
abbrev dktX2_layRoute_2 : List UInt8 := dkwX2_layRoute_2 ++ dktX2_layRoute_3
def dkwX2_layRoute_1 : List UInt8 := [16, 10, 79, 3, 62, 2, 54, 4, 29, 155, 0, 112, 42, 180, 0, 53, 29, 46, 28, 160, 0, 7, 2]
abbrev dktX2_layRoute_1 : List UInt8 := dkwX2_layRoute_1 ++ dktX2_layRoute_2
def dkwX2_layRoute_0 : List UInt8 := [42, 28, 182, 1, 171, 42, 19, 1, 161, 181, 1, 165, 42, 180, 0, 53, 3, 27, 79, 42, 180, 0, 56, 3]
abbrev dktX2_layRoute_0 : List UInt8 := dkwX2_layRoute_0 ++ dktX2_layRoute_1
theorem dksX2_layRoute_0 : cX2_layRoute.data.toList.drop 0 = dktX2_layRoute_0 := by decide +kernel
theorem dksX2_layRoute_1 : cX2_layRoute.data.toList.drop 24 = dktX2_layRoute_1 := dk_seg dksX2_layRoute_0 24 rfl rfl
theorem dksX2_layRoute_2 : cX2_layRoute.data.toList.drop 47 = dktX2_layRoute_2 := dk_seg dksX2_layRoute_1 23 rfl rfl
theorem dksX2_layRoute_3 : cX2_layRoute.data.toList.drop 71 = dktX2_layRoute_3 := dk_seg dksX2_layRoute_2 24 rfl rfl
theorem dksX2_layRoute_4 : cX2_layRoute.data.toList.drop 94 = dktX2_layRoute_4 := dk_seg dksX2_layRoute_3 23 rfl rfl
theorem dksX2_layRoute_5 : cX2_layRoute.data.toList.drop 118 = dktX2_layRoute_5 := dk_seg dksX2_layRoute_4 24 rfl rfl
theorem dksX2_layRoute_6 : cX2_layRoute.data.toList.drop 142 = dktX2_layRoute_6 := dk_seg dksX2_layRoute_5 24 rfl rfl
theorem dX2_layRoute_0 : decode cX2_layRoute 0 = .ok (.aload_n 0, 1) := dk_42 (dk_at dksX2_layRoute_0 0 rfl rfl)
theorem dX2_layRoute_1 : decode cX2_layRoute 1 = .ok (.iload_n 2, 1) := dk_28 (dk_at dksX2_layRoute_0 1 rfl rfl)
theorem dX2_layRoute_2 : decode cX2_layRoute 2 = .ok (.invokevirtual 427, 3) := dk_182 1 171 (dk_at dksX2_layRoute_0 2 rfl rfl)
theorem dX2_layRoute_5 : decode cX2_layRoute 5 = .ok (.aload_n 0, 1) := dk_42 (dk_at dksX2_layRoute_0 5 rfl rfl)
theorem dX2_layRoute_6 : decode cX2_layRoute 6 = .ok (.ldc_w 417, 3) := dk_19 1 161 (dk_at dksX2_layRoute_0 6 rfl rfl)
theorem dX2_layRoute_9 : decode cX2_layRoute 9 = .ok (.putfield 421, 3) := dk_181 1 165 (dk_at dksX2_layRoute_0 9 rfl rfl)
theorem dX2_layRoute_12 : decode cX2_layRoute 12 = .ok (.aload_n 0, 1) := dk_42 (dk_at dksX2_layRoute_0 12 rfl rfl)
theorem dX2_layRoute_13 : decode cX2_layRoute 13 = .ok (.getfield 53, 3) := dk_180 0 53 (dk_at dksX2_layRoute_0 13 rfl rfl)
theorem dX2_layRoute_16 : decode cX2_layRoute 16 = .ok (.iconst 0, 1) := dk_3 (dk_at dksX2_layRoute_0 16 rfl rfl)
theorem dX2_layRoute_17 : decode cX2_layRoute 17 = .ok (.iload_n 1, 1) := dk_27 (dk_at dksX2_layRoute_0 17 rfl rfl)
theorem dX2_layRoute_18 : decode cX2_layRoute 18 = .ok (.iastore, 1) := dk_79 (dk_at dksX2_layRoute_0 18 rfl rfl)
theorem dX2_layRoute_19 : decode cX2_layRoute 19 = .ok (.aload_n 0, 1) := dk_42 (dk_at dksX2_layRoute_0 19 rfl rfl)
theorem dX2_layRoute_20 : decode cX2_layRoute 20 = .ok (.getfield 56, 3) := dk_180 0 56 (dk_at dksX2_layRoute_0 20 rfl rfl)
theorem dX2_layRoute_23 : decode cX2_layRoute 23 = .ok (.iconst 0, 1) := dk_3 (dk_at dksX2_layRoute_0 23 rfl rfl)
theorem dX2_layRoute_24 : decode cX2_layRoute 24 = .ok (.bipush 10, 2) := dk_16 10 (dk_at dksX2_layRoute_1 0 rfl rfl)
theorem dX2_layRoute_26 : decode cX2_layRoute 26 = .ok (.iastore, 1) := dk_79 (dk_at dksX2_layRoute_1 2 rfl rfl)
theorem dX2_layRoute_27 : decode cX2_layRoute 27 = .ok (.iconst 0, 1) := dk_3 (dk_at dksX2_layRoute_1 3 rfl rfl)
theorem dX2_layRoute_28 : decode cX2_layRoute 28 = .ok (.istore_n 3, 1) := dk_62 (dk_at dksX2_layRoute_1 4 rfl rfl)
theorem dX2_layRoute_29 : decode cX2_layRoute 29 = .ok (.iconst (-1), 1) := dk_2 (dk_at dksX2_layRoute_1 5 rfl rfl)
theorem dX2_layRoute_30 : decode cX2_layRoute 30 = .ok (.istore 4, 2) := dk_54 4 (dk_at dksX2_layRoute_1 6 rfl rfl)
theorem dX2_layRoute_32 : decode cX2_layRoute 32 = .ok (.iload_n 3, 1) := dk_29 (dk_at dksX2_layRoute_1 8 rfl rfl)
theorem dX2_layRoute_33 : decode cX2_layRoute 33 = .ok (.ifCond .lt 112, 3) := dk_155 0 112 (dk_at dksX2_layRoute_1 9 rfl rfl)
theorem dX2_layRoute_36 : decode cX2_layRoute 36 = .ok (.aload_n 0, 1) := dk_42 (dk_at dksX2_layRoute_1 12 rfl rfl)
theorem dX2_layRoute_37 : decode cX2_layRoute 37 = .ok (.getfield 53, 3) := dk_180 0 53 (dk_at dksX2_layRoute_1 13 rfl rfl)
theorem dX2_layRoute_40 : decode cX2_layRoute 40 = .ok (.iload_n 3, 1) := dk_29 (dk_at dksX2_layRoute_1 16 rfl rfl)
theorem dX2_layRoute_41 : decode cX2_layRoute 41 = .ok (.iaload, 1) := dk_46 (dk_at dksX2_layRoute_1 17 rfl rfl)
theorem dX2_layRoute_42 : decode cX2_layRoute 42 = .ok (.iload_n 2, 1) := dk_28 (dk_at dksX2_layRoute_1 18 rfl rfl)
theorem dX2_layRoute_43 : decode cX2_layRoute 43 = .ok (.if_icmp .ne 7, 3) := dk_160 0 7 (dk_at dksX2_layRoute_1 19 rfl rfl)
theorem dX2_layRoute_46 : decode cX2_layRoute 46 = .ok (.iconst (-1), 1) := dk_2 (dk_at dksX2_layRoute_1 22 rfl rfl)
theorem dX2_layRoute_47 : decode cX2_layRoute 47 = .ok (.goto 16, 3) := dk_167 0 16 (dk_at dksX2_layRoute_2 0 rfl rfl)
theorem dX2_layRoute_50 : decode cX2_layRoute 50 = .ok (.aload_n 0, 1) := dk_42 (dk_at dksX2_layRoute_2 3 rfl rfl)
theorem dX2_layRoute_51 : decode cX2_layRoute 51 = .ok (.aload_n 0, 1) := dk_42 (dk_at dksX2_layRoute_2 4 rfl rfl)
theorem dX2_layRoute_52 : decode cX2_layRoute 52 = .ok (.getfield 53, 3) := dk_180 0 53 (dk_at dksX2_layRoute_2 5 rfl rfl)
theorem dX2_layRoute_55 : decode cX2_layRoute 55 = .ok (.iload_n 3, 1) := dk_29 (dk_at dksX2_layRoute_2 8 rfl rfl)
theorem dX2_layRoute_56 : decode cX2_layRoute 56 = .ok (.iaload, 1) := dk_46 (dk_at dksX2_layRoute_2 9 rfl rfl)
theorem dX2_layRoute_57 : decode cX2_layRoute 57 = .ok (.iload 4, 2) := dk_21 4 (dk_at dksX2_layRoute_2 10 rfl rfl)
theorem dX2_layRoute_59 : decode cX2_layRoute 59 = .ok (.iload_n 2, 1) := dk_28 (dk_at dksX2_layRoute_2 12 rfl rfl)
theorem dX2_layRoute_60 : decode cX2_layRoute 60 = .ok (.invokevirtual 430, 3) := dk_182 1 174 (dk_at dksX2_layRoute_2 13 rfl rfl)
theorem dX2_layRoute_63 : decode cX2_layRoute 63 = .ok (.istore 5, 2) := dk_54 5 (dk_at dksX2_layRoute_2 16 rfl rfl)
theorem dX2_layRoute_65 : decode cX2_layRoute 65 = .ok (.iload 5, 2) := dk_21 5 (dk_at dksX2_layRoute_2 18 rfl rfl)
theorem dX2_layRoute_67 : decode cX2_layRoute 67 = .ok (.iconst (-1), 1) := dk_2 (dk_at dksX2_layRoute_2 20 rfl rfl)
theorem dX2_layRoute_68 : decode cX2_layRoute 68 = .ok (.if_icmp .ne 32, 3) := dk_160 0 32 (dk_at dksX2_layRoute_2 21 rfl rfl)
theorem dX2_layRoute_71 : decode cX2_layRoute 71 = .ok (.aload_n 0, 1) := dk_42 (dk_at dksX2_layRoute_3 0 rfl rfl)
theorem dX2_layRoute_72 : decode cX2_layRoute 72 = .ok (.getfield 53, 3) := dk_180 0 53 (dk_at dksX2_layRoute_3 1 rfl rfl)
theorem dX2_layRoute_75 : decode cX2_layRoute 75 = .ok (.iload_n 3, 1) := dk_29 (dk_at dksX2_layRoute_3 4 rfl rfl)
theorem dX2_layRoute_76 : decode cX2_layRoute 76 = .ok (.iaload, 1) := dk_46 (dk_at dksX2_layRoute_3 5 rfl rfl)
theorem dX2_layRoute_77 : decode cX2_layRoute 77 = .ok (.iload_n 2, 1) := dk_28 (dk_at dksX2_layRoute_3 6 rfl rfl)
theorem dX2_layRoute_78 : decode cX2_layRoute 78 = .ok (.if_icmp .ne 8, 3) := dk_160 0 8 (dk_at dksX2_layRoute_3 7 rfl rfl)
theorem dX2_layRoute_81 : decode cX2_layRoute 81 = .ok (.aload_n 0, 1) := dk_42 (dk_at dksX2_layRoute_3 10 rfl rfl)
theorem dX2_layRoute_82 : decode cX2_layRoute 82 = .ok (.iload_n 3, 1) := dk_29 (dk_at dksX2_layRoute_3 11 rfl rfl)
theorem dX2_layRoute_83 : decode cX2_layRoute 83 = .ok (.invokevirtual 433, 3) := dk_182 1 177 (dk_at dksX2_layRoute_3 12 rfl rfl)
theorem dX2_layRoute_86 : decode cX2_layRoute 86 = .ok (.aload_n 0, 1) := dk_42 (dk_at dksX2_layRoute_3 15 rfl rfl)
theorem dX2_layRoute_87 : decode cX2_layRoute 87 = .ok (.getfield 53, 3) := dk_180 0 53 (dk_at dksX2_layRoute_3 16 rfl rfl)
theorem dX2_layRoute_90 : decode cX2_layRoute 90 = .ok (.iload_n 3, 1) := dk_29 (dk_at dksX2_layRoute_3 19 rfl rfl)
theorem dX2_layRoute_91 : decode cX2_layRoute 91 = .ok (.iaload, 1) := dk_46 (dk_at dksX2_layRoute_3 20 rfl rfl)
theorem dX2_layRoute_92 : decode cX2_layRoute 92 = .ok (.istore 4, 2) := dk_54 4 (dk_at dksX2_layRoute_3 21 rfl rfl)
theorem dX2_layRoute_94 : decode cX2_layRoute 94 = .ok (.iinc 3 (-1), 3) := dk_132 3 255 (dk_at dksX2_layRoute_4 0 rfl rfl)
theorem dX2_layRoute_97 : decode cX2_layRoute 97 = .ok (.goto 45, 3) := dk_167 0 45 (dk_at dksX2_layRoute_4 3 rfl rfl)
theorem dX2_layRoute_100 : decode cX2_layRoute 100 = .ok (.aload_n 0, 1) := dk_42 (dk_at dksX2_layRoute_4 6 rfl rfl)
theorem dX2_layRoute_101 : decode cX2_layRoute 101 = .ok (.getfield 56, 3) := dk_180 0 56 (dk_at dksX2_layRoute_4 7 rfl rfl)
theorem dX2_layRoute_104 : decode cX2_layRoute 104 = .ok (.iload_n 3, 1) := dk_29 (dk_at dksX2_layRoute_4 10 rfl rfl)
theorem dX2_layRoute_105 : decode cX2_layRoute 105 = .ok (.iconst 1, 1) := dk_4 (dk_at dksX2_layRoute_4 11 rfl rfl)
theorem dX2_layRoute_106 : decode cX2_layRoute 106 = .ok (.iadd, 1) := dk_96 (dk_at dksX2_layRoute_4 12 rfl rfl)
theorem dX2_layRoute_107 : decode cX2_layRoute 107 = .ok (.aload_n 0, 1) := dk_42 (dk_at dksX2_layRoute_4 13 rfl rfl)
theorem dX2_layRoute_108 : decode cX2_layRoute 108 = .ok (.aload_n 0, 1) := dk_42 (dk_at dksX2_layRoute_4 14 rfl rfl)
theorem dX2_layRoute_109 : decode cX2_layRoute 109 = .ok (.getfield 56, 3) := dk_180 0 56 (dk_at dksX2_layRoute_4 15 rfl rfl)
theorem dX2_layRoute_112 : decode cX2_layRoute 112 = .ok (.iload_n 3, 1) := dk_29 (dk_at dksX2_layRoute_4 18 rfl rfl)
theorem dX2_layRoute_113 : decode cX2_layRoute 113 = .ok (.iaload, 1) := dk_46 (dk_at dksX2_layRoute_4 19 rfl rfl)
theorem dX2_layRoute_114 : decode cX2_layRoute 114 = .ok (.aload_n 0, 1) := dk_42 (dk_at dksX2_layRoute_4 20 rfl rfl)
theorem dX2_layRoute_115 : decode cX2_layRoute 115 = .ok (.getfield 53, 3) := dk_180 0 53 (dk_at dksX2_layRoute_4 21 rfl rfl)
theorem dX2_layRoute_118 : decode cX2_layRoute 118 = .ok (.iload_n 3, 1) := dk_29 (dk_at dksX2_layRoute_5 0 rfl rfl)
theorem dX2_layRoute_119 : decode cX2_layRoute 119 = .ok (.iaload, 1) := dk_46 (dk_at dksX2_layRoute_5 1 rfl rfl)
theorem dX2_layRoute_120 : decode cX2_layRoute 120 = .ok (.iload 5, 2) := dk_21 5 (dk_at dksX2_layRoute_5 2 rfl rfl)
theorem dX2_layRoute_122 : decode cX2_layRoute 122 = .ok (.iload_n 1, 1) := dk_27 (dk_at dksX2_layRoute_5 4 rfl rfl)
theorem dX2_layRoute_123 : decode cX2_layRoute 123 = .ok (.iload_n 2, 1) := dk_28 (dk_at dksX2_layRoute_5 5 rfl rfl)
theorem dX2_layRoute_124 : decode cX2_layRoute 124 = .ok (.invokevirtual 436, 3) := dk_182 1 180 (dk_at dksX2_layRoute_5 6 rfl rfl)
theorem dX2_layRoute_127 : decode cX2_layRoute 127 = .ok (.iastore, 1) := dk_79 (dk_at dksX2_layRoute_5 9 rfl rfl)
theorem dX2_layRoute_128 : decode cX2_layRoute 128 = .ok (.iinc 3 1, 3) := dk_132 3 1 (dk_at dksX2_layRoute_5 10 rfl rfl)
theorem dX2_layRoute_131 : decode cX2_layRoute 131 = .ok (.aload_n 0, 1) := dk_42 (dk_at dksX2_layRoute_5 13 rfl rfl)
theorem dX2_layRoute_132 : decode cX2_layRoute 132 = .ok (.getfield 53, 3) := dk_180 0 53 (dk_at dksX2_layRoute_5 14 rfl rfl)
theorem dX2_layRoute_135 : decode cX2_layRoute 135 = .ok (.iload_n 3, 1) := dk_29 (dk_at dksX2_layRoute_5 17 rfl rfl)
theorem dX2_layRoute_136 : decode cX2_layRoute 136 = .ok (.iload 5, 2) := dk_21 5 (dk_at dksX2_layRoute_5 18 rfl rfl)
theorem dX2_layRoute_138 : decode cX2_layRoute 138 = .ok (.iastore, 1) := dk_79 (dk_at dksX2_layRoute_5 20 rfl rfl)
theorem dX2_layRoute_139 : decode cX2_layRoute 139 = .ok (.iconst (-1), 1) := dk_2 (dk_at dksX2_layRoute_5 21 rfl rfl)
theorem dX2_layRoute_140 : decode cX2_layRoute 140 = .ok (.istore 4, 2) := dk_54 4 (dk_at dksX2_layRoute_5 22 rfl rfl)
theorem dX2_layRoute_142 : decode cX2_layRoute 142 = .ok (.goto (-110), 3) := dk_167 255 146 (dk_at dksX2_layRoute_6 0 rfl rfl)
theorem dX2_layRoute_145 : decode cX2_layRoute 145 = .ok (.return_, 1) := dk_177 (dk_at dksX2_layRoute_6 3 rfl rfl)
abbrev cX2_layDays : ByteArray := prog_20_method_112_code
def yX2_layDays : MethodName := ⟨RX2, "layDays", "(I)V"⟩
def dkwX2_layDays_7 : List UInt8 := [167, 255, 145, 132, 2, 1, 167, 255, 127, 177]
abbrev dktX2_layDays_7 : List UInt8 := dkwX2_layDays_7 ++ []
def dkwX2_layDays_6 : List UInt8 := [180, 0, 50, 29, 21, 5, 42, 180, 0, 50, 21, 4, 46, 96, 79, 132, 4, 1, 167, 255, 176, 132, 3, 1]
abbrev dktX2_layDays_6 : List UInt8 := dkwX2_layDays_6 ++ dktX2_layDays_7
def dkwX2_layDays_5 : List UInt8 := [162, 0, 38, 21, 5, 42, 180, 0, 50, 21, 4, 46, 96, 42, 180, 0, 50, 29, 46, 162, 0, 19, 42]
abbrev dktX2_layDays_5 : List UInt8 := dkwX2_layDays_5 ++ dktX2_layDays_6
def dkwX2_layDays_4 : List UInt8 := [182, 1, 162, 54, 5, 21, 5, 19, 1, 161, 162, 0, 51, 42, 180, 0, 50, 21, 4, 46, 19, 1, 161]
abbrev dktX2_layDays_4 : List UInt8 := dkwX2_layDays_4 ++ dktX2_layDays_5
def dkwX2_layDays_3 : List UInt8 := [167, 0, 89, 3, 54, 4, 21, 4, 42, 180, 0, 7, 3, 46, 162, 0, 75, 42, 29, 21, 4, 27]
abbrev dktX2_layDays_3 : List UInt8 := dkwX2_layDays_3 ++ dktX2_layDays_4
def dkwX2_layDays_2 : List UInt8 := [162, 0, 125, 3, 62, 29, 42, 180, 0, 7, 3, 46, 162, 0, 107, 42, 27, 29, 182, 1, 94, 154, 0, 6]
abbrev dktX2_layDays_2 : List UInt8 := dkwX2_layDays_2 ++ dktX2_layDays_3
def dkwX2_layDays_1 : List UInt8 := [167, 0, 6, 19, 1, 161, 79, 132, 2, 1, 167, 255, 225, 3, 61, 28, 42, 180, 0, 7, 3, 46]
abbrev dktX2_layDays_1 : List UInt8 := dkwX2_layDays_1 ++ dktX2_layDays_2
def dkwX2_layDays_0 : List UInt8 := [3, 61, 28, 42, 180, 0, 7, 3, 46, 162, 0, 27, 42, 180, 0, 50, 28, 28, 27, 160, 0, 7, 3]
abbrev dktX2_layDays_0 : List UInt8 := dkwX2_layDays_0 ++ dktX2_layDays_1
theorem dksX2_layDays_0 : cX2_layDays.data.toList.drop 0 = dktX2_layDays_0 := by decide +kernel
theorem dksX2_layDays_1 : cX2_layDays.data.toList.drop 23 = dktX2_layDays_1 := dk_seg dksX2_layDays_0 23 rfl rfl
theorem dksX2_layDays_2 : cX2_layDays.data.toList.drop 45 = dktX2_layDays_2 := dk_seg dksX2_layDays_1 22 rfl rfl
theorem dksX2_layDays_3 : cX2_layDays.data.toList.drop 69 = dktX2_layDays_3 := dk_seg dksX2_layDays_2 24 rfl rfl
theorem dksX2_layDays_4 : cX2_layDays.data.toList.drop 91 = dktX2_layDays_4 := dk_seg dksX2_layDays_3 22 rfl rfl
theorem dksX2_layDays_5 : cX2_layDays.data.toList.drop 114 = dktX2_layDays_5 := dk_seg dksX2_layDays_4 23 rfl rfl
theorem dksX2_layDays_6 : cX2_layDays.data.toList.drop 137 = dktX2_layDays_6 := dk_seg dksX2_layDays_5 23 rfl rfl
theorem dksX2_layDays_7 : cX2_layDays.data.toList.drop 161 = dktX2_layDays_7 := dk_seg dksX2_layDays_6 24 rfl rfl
theorem dX2_layDays_0 : decode cX2_layDays 0 = .ok (.iconst 0, 1) := dk_3 (dk_at dksX2_layDays_0 0 rfl rfl)
theorem dX2_layDays_1 : decode cX2_layDays 1 = .ok (.istore_n 2, 1) := dk_61 (dk_at dksX2_layDays_0 1 rfl rfl)
theorem dX2_layDays_2 : decode cX2_layDays 2 = .ok (.iload_n 2, 1) := dk_28 (dk_at dksX2_layDays_0 2 rfl rfl)
theorem dX2_layDays_3 : decode cX2_layDays 3 = .ok (.aload_n 0, 1) := dk_42 (dk_at dksX2_layDays_0 3 rfl rfl)
theorem dX2_layDays_4 : decode cX2_layDays 4 = .ok (.getfield 7, 3) := dk_180 0 7 (dk_at dksX2_layDays_0 4 rfl rfl)
theorem dX2_layDays_7 : decode cX2_layDays 7 = .ok (.iconst 0, 1) := dk_3 (dk_at dksX2_layDays_0 7 rfl rfl)
theorem dX2_layDays_8 : decode cX2_layDays 8 = .ok (.iaload, 1) := dk_46 (dk_at dksX2_layDays_0 8 rfl rfl)
theorem dX2_layDays_9 : decode cX2_layDays 9 = .ok (.if_icmp .ge 27, 3) := dk_162 0 27 (dk_at dksX2_layDays_0 9 rfl rfl)
theorem dX2_layDays_12 : decode cX2_layDays 12 = .ok (.aload_n 0, 1) := dk_42 (dk_at dksX2_layDays_0 12 rfl rfl)
theorem dX2_layDays_13 : decode cX2_layDays 13 = .ok (.getfield 50, 3) := dk_180 0 50 (dk_at dksX2_layDays_0 13 rfl rfl)
theorem dX2_layDays_16 : decode cX2_layDays 16 = .ok (.iload_n 2, 1) := dk_28 (dk_at dksX2_layDays_0 16 rfl rfl)
theorem dX2_layDays_17 : decode cX2_layDays 17 = .ok (.iload_n 2, 1) := dk_28 (dk_at dksX2_layDays_0 17 rfl rfl)
theorem dX2_layDays_18 : decode cX2_layDays 18 = .ok (.iload_n 1, 1) := dk_27 (dk_at dksX2_layDays_0 18 rfl rfl)
theorem dX2_layDays_19 : decode cX2_layDays 19 = .ok (.if_icmp .ne 7, 3) := dk_160 0 7 (dk_at dksX2_layDays_0 19 rfl rfl)
theorem dX2_layDays_22 : decode cX2_layDays 22 = .ok (.iconst 0, 1) := dk_3 (dk_at dksX2_layDays_0 22 rfl rfl)
theorem dX2_layDays_23 : decode cX2_layDays 23 = .ok (.goto 6, 3) := dk_167 0 6 (dk_at dksX2_layDays_1 0 rfl rfl)
theorem dX2_layDays_26 : decode cX2_layDays 26 = .ok (.ldc_w 417, 3) := dk_19 1 161 (dk_at dksX2_layDays_1 3 rfl rfl)
theorem dX2_layDays_29 : decode cX2_layDays 29 = .ok (.iastore, 1) := dk_79 (dk_at dksX2_layDays_1 6 rfl rfl)
theorem dX2_layDays_30 : decode cX2_layDays 30 = .ok (.iinc 2 1, 3) := dk_132 2 1 (dk_at dksX2_layDays_1 7 rfl rfl)
theorem dX2_layDays_33 : decode cX2_layDays 33 = .ok (.goto (-31), 3) := dk_167 255 225 (dk_at dksX2_layDays_1 10 rfl rfl)
theorem dX2_layDays_36 : decode cX2_layDays 36 = .ok (.iconst 0, 1) := dk_3 (dk_at dksX2_layDays_1 13 rfl rfl)
theorem dX2_layDays_37 : decode cX2_layDays 37 = .ok (.istore_n 2, 1) := dk_61 (dk_at dksX2_layDays_1 14 rfl rfl)
theorem dX2_layDays_38 : decode cX2_layDays 38 = .ok (.iload_n 2, 1) := dk_28 (dk_at dksX2_layDays_1 15 rfl rfl)
theorem dX2_layDays_39 : decode cX2_layDays 39 = .ok (.aload_n 0, 1) := dk_42 (dk_at dksX2_layDays_1 16 rfl rfl)
theorem dX2_layDays_40 : decode cX2_layDays 40 = .ok (.getfield 7, 3) := dk_180 0 7 (dk_at dksX2_layDays_1 17 rfl rfl)
theorem dX2_layDays_43 : decode cX2_layDays 43 = .ok (.iconst 0, 1) := dk_3 (dk_at dksX2_layDays_1 20 rfl rfl)
theorem dX2_layDays_44 : decode cX2_layDays 44 = .ok (.iaload, 1) := dk_46 (dk_at dksX2_layDays_1 21 rfl rfl)
theorem dX2_layDays_45 : decode cX2_layDays 45 = .ok (.if_icmp .ge 125, 3) := dk_162 0 125 (dk_at dksX2_layDays_2 0 rfl rfl)
theorem dX2_layDays_48 : decode cX2_layDays 48 = .ok (.iconst 0, 1) := dk_3 (dk_at dksX2_layDays_2 3 rfl rfl)
theorem dX2_layDays_49 : decode cX2_layDays 49 = .ok (.istore_n 3, 1) := dk_62 (dk_at dksX2_layDays_2 4 rfl rfl)
theorem dX2_layDays_50 : decode cX2_layDays 50 = .ok (.iload_n 3, 1) := dk_29 (dk_at dksX2_layDays_2 5 rfl rfl)
theorem dX2_layDays_51 : decode cX2_layDays 51 = .ok (.aload_n 0, 1) := dk_42 (dk_at dksX2_layDays_2 6 rfl rfl)
theorem dX2_layDays_52 : decode cX2_layDays 52 = .ok (.getfield 7, 3) := dk_180 0 7 (dk_at dksX2_layDays_2 7 rfl rfl)
theorem dX2_layDays_55 : decode cX2_layDays 55 = .ok (.iconst 0, 1) := dk_3 (dk_at dksX2_layDays_2 10 rfl rfl)
theorem dX2_layDays_56 : decode cX2_layDays 56 = .ok (.iaload, 1) := dk_46 (dk_at dksX2_layDays_2 11 rfl rfl)
theorem dX2_layDays_57 : decode cX2_layDays 57 = .ok (.if_icmp .ge 107, 3) := dk_162 0 107 (dk_at dksX2_layDays_2 12 rfl rfl)
theorem dX2_layDays_60 : decode cX2_layDays 60 = .ok (.aload_n 0, 1) := dk_42 (dk_at dksX2_layDays_2 15 rfl rfl)
theorem dX2_layDays_61 : decode cX2_layDays 61 = .ok (.iload_n 1, 1) := dk_27 (dk_at dksX2_layDays_2 16 rfl rfl)
theorem dX2_layDays_62 : decode cX2_layDays 62 = .ok (.iload_n 3, 1) := dk_29 (dk_at dksX2_layDays_2 17 rfl rfl)
theorem dX2_layDays_63 : decode cX2_layDays 63 = .ok (.invokevirtual 350, 3) := dk_182 1 94 (dk_at dksX2_layDays_2 18 rfl rfl)
theorem dX2_layDays_66 : decode cX2_layDays 66 = .ok (.ifCond .ne 6, 3) := dk_154 0 6 (dk_at dksX2_layDays_2 21 rfl rfl)
theorem dX2_layDays_69 : decode cX2_layDays 69 = .ok (.goto 89, 3) := dk_167 0 89 (dk_at dksX2_layDays_3 0 rfl rfl)
theorem dX2_layDays_72 : decode cX2_layDays 72 = .ok (.iconst 0, 1) := dk_3 (dk_at dksX2_layDays_3 3 rfl rfl)
theorem dX2_layDays_73 : decode cX2_layDays 73 = .ok (.istore 4, 2) := dk_54 4 (dk_at dksX2_layDays_3 4 rfl rfl)
theorem dX2_layDays_75 : decode cX2_layDays 75 = .ok (.iload 4, 2) := dk_21 4 (dk_at dksX2_layDays_3 6 rfl rfl)
theorem dX2_layDays_77 : decode cX2_layDays 77 = .ok (.aload_n 0, 1) := dk_42 (dk_at dksX2_layDays_3 8 rfl rfl)
theorem dX2_layDays_78 : decode cX2_layDays 78 = .ok (.getfield 7, 3) := dk_180 0 7 (dk_at dksX2_layDays_3 9 rfl rfl)
theorem dX2_layDays_81 : decode cX2_layDays 81 = .ok (.iconst 0, 1) := dk_3 (dk_at dksX2_layDays_3 12 rfl rfl)
theorem dX2_layDays_82 : decode cX2_layDays 82 = .ok (.iaload, 1) := dk_46 (dk_at dksX2_layDays_3 13 rfl rfl)
theorem dX2_layDays_83 : decode cX2_layDays 83 = .ok (.if_icmp .ge 75, 3) := dk_162 0 75 (dk_at dksX2_layDays_3 14 rfl rfl)
theorem dX2_layDays_86 : decode cX2_layDays 86 = .ok (.aload_n 0, 1) := dk_42 (dk_at dksX2_layDays_3 17 rfl rfl)
theorem dX2_layDays_87 : decode cX2_layDays 87 = .ok (.iload_n 3, 1) := dk_29 (dk_at dksX2_layDays_3 18 rfl rfl)
theorem dX2_layDays_88 : decode cX2_layDays 88 = .ok (.iload 4, 2) := dk_21 4 (dk_at dksX2_layDays_3 19 rfl rfl)
theorem dX2_layDays_90 : decode cX2_layDays 90 = .ok (.iload_n 1, 1) := dk_27 (dk_at dksX2_layDays_3 21 rfl rfl)
theorem dX2_layDays_91 : decode cX2_layDays 91 = .ok (.invokevirtual 418, 3) := dk_182 1 162 (dk_at dksX2_layDays_4 0 rfl rfl)
theorem dX2_layDays_94 : decode cX2_layDays 94 = .ok (.istore 5, 2) := dk_54 5 (dk_at dksX2_layDays_4 3 rfl rfl)
theorem dX2_layDays_96 : decode cX2_layDays 96 = .ok (.iload 5, 2) := dk_21 5 (dk_at dksX2_layDays_4 5 rfl rfl)
theorem dX2_layDays_98 : decode cX2_layDays 98 = .ok (.ldc_w 417, 3) := dk_19 1 161 (dk_at dksX2_layDays_4 7 rfl rfl)
theorem dX2_layDays_101 : decode cX2_layDays 101 = .ok (.if_icmp .ge 51, 3) := dk_162 0 51 (dk_at dksX2_layDays_4 10 rfl rfl)
theorem dX2_layDays_104 : decode cX2_layDays 104 = .ok (.aload_n 0, 1) := dk_42 (dk_at dksX2_layDays_4 13 rfl rfl)
theorem dX2_layDays_105 : decode cX2_layDays 105 = .ok (.getfield 50, 3) := dk_180 0 50 (dk_at dksX2_layDays_4 14 rfl rfl)
theorem dX2_layDays_108 : decode cX2_layDays 108 = .ok (.iload 4, 2) := dk_21 4 (dk_at dksX2_layDays_4 17 rfl rfl)
theorem dX2_layDays_110 : decode cX2_layDays 110 = .ok (.iaload, 1) := dk_46 (dk_at dksX2_layDays_4 19 rfl rfl)
theorem dX2_layDays_111 : decode cX2_layDays 111 = .ok (.ldc_w 417, 3) := dk_19 1 161 (dk_at dksX2_layDays_4 20 rfl rfl)
theorem dX2_layDays_114 : decode cX2_layDays 114 = .ok (.if_icmp .ge 38, 3) := dk_162 0 38 (dk_at dksX2_layDays_5 0 rfl rfl)
theorem dX2_layDays_117 : decode cX2_layDays 117 = .ok (.iload 5, 2) := dk_21 5 (dk_at dksX2_layDays_5 3 rfl rfl)
theorem dX2_layDays_119 : decode cX2_layDays 119 = .ok (.aload_n 0, 1) := dk_42 (dk_at dksX2_layDays_5 5 rfl rfl)
theorem dX2_layDays_120 : decode cX2_layDays 120 = .ok (.getfield 50, 3) := dk_180 0 50 (dk_at dksX2_layDays_5 6 rfl rfl)
theorem dX2_layDays_123 : decode cX2_layDays 123 = .ok (.iload 4, 2) := dk_21 4 (dk_at dksX2_layDays_5 9 rfl rfl)
theorem dX2_layDays_125 : decode cX2_layDays 125 = .ok (.iaload, 1) := dk_46 (dk_at dksX2_layDays_5 11 rfl rfl)
theorem dX2_layDays_126 : decode cX2_layDays 126 = .ok (.iadd, 1) := dk_96 (dk_at dksX2_layDays_5 12 rfl rfl)
theorem dX2_layDays_127 : decode cX2_layDays 127 = .ok (.aload_n 0, 1) := dk_42 (dk_at dksX2_layDays_5 13 rfl rfl)
theorem dX2_layDays_128 : decode cX2_layDays 128 = .ok (.getfield 50, 3) := dk_180 0 50 (dk_at dksX2_layDays_5 14 rfl rfl)
theorem dX2_layDays_131 : decode cX2_layDays 131 = .ok (.iload_n 3, 1) := dk_29 (dk_at dksX2_layDays_5 17 rfl rfl)
theorem dX2_layDays_132 : decode cX2_layDays 132 = .ok (.iaload, 1) := dk_46 (dk_at dksX2_layDays_5 18 rfl rfl)
theorem dX2_layDays_133 : decode cX2_layDays 133 = .ok (.if_icmp .ge 19, 3) := dk_162 0 19 (dk_at dksX2_layDays_5 19 rfl rfl)
theorem dX2_layDays_136 : decode cX2_layDays 136 = .ok (.aload_n 0, 1) := dk_42 (dk_at dksX2_layDays_5 22 rfl rfl)
theorem dX2_layDays_137 : decode cX2_layDays 137 = .ok (.getfield 50, 3) := dk_180 0 50 (dk_at dksX2_layDays_6 0 rfl rfl)
theorem dX2_layDays_140 : decode cX2_layDays 140 = .ok (.iload_n 3, 1) := dk_29 (dk_at dksX2_layDays_6 3 rfl rfl)
theorem dX2_layDays_141 : decode cX2_layDays 141 = .ok (.iload 5, 2) := dk_21 5 (dk_at dksX2_layDays_6 4 rfl rfl)
theorem dX2_layDays_143 : decode cX2_layDays 143 = .ok (.aload_n 0, 1) := dk_42 (dk_at dksX2_layDays_6 6 rfl rfl)
theorem dX2_layDays_144 : decode cX2_layDays 144 = .ok (.getfield 50, 3) := dk_180 0 50 (dk_at dksX2_layDays_6 7 rfl rfl)
theorem dX2_layDays_147 : decode cX2_layDays 147 = .ok (.iload 4, 2) := dk_21 4 (dk_at dksX2_layDays_6 10 rfl rfl)
theorem dX2_layDays_149 : decode cX2_layDays 149 = .ok (.iaload, 1) := dk_46 (dk_at dksX2_layDays_6 12 rfl rfl)
theorem dX2_layDays_150 : decode cX2_layDays 150 = .ok (.iadd, 1) := dk_96 (dk_at dksX2_layDays_6 13 rfl rfl)
theorem dX2_layDays_151 : decode cX2_layDays 151 = .ok (.iastore, 1) := dk_79 (dk_at dksX2_layDays_6 14 rfl rfl)
theorem dX2_layDays_152 : decode cX2_layDays 152 = .ok (.iinc 4 1, 3) := dk_132 4 1 (dk_at dksX2_layDays_6 15 rfl rfl)
theorem dX2_layDays_155 : decode cX2_layDays 155 = .ok (.goto (-80), 3) := dk_167 255 176 (dk_at dksX2_layDays_6 18 rfl rfl)
theorem dX2_layDays_158 : decode cX2_layDays 158 = .ok (.iinc 3 1, 3) := dk_132 3 1 (dk_at dksX2_layDays_6 21 rfl rfl)
theorem dX2_layDays_161 : decode cX2_layDays 161 = .ok (.goto (-111), 3) := dk_167 255 145 (dk_at dksX2_layDays_7 0 rfl rfl)
theorem dX2_layDays_164 : decode cX2_layDays 164 = .ok (.iinc 2 1, 3) := dk_132 2 1 (dk_at dksX2_layDays_7 3 rfl rfl)
theorem dX2_layDays_167 : decode cX2_layDays 167 = .ok (.goto (-129), 3) := dk_167 255 127 (dk_at dksX2_layDays_7 6 rfl rfl)
theorem dX2_layDays_170 : decode cX2_layDays 170 = .ok (.return_, 1) := dk_177 (dk_at dksX2_layDays_7 9 rfl rfl)
abbrev cX2_daysOf : ByteArray := prog_20_method_111_code
def yX2_daysOf : MethodName := ⟨RX2, "daysOf", "(III)I"⟩
def dkwX2_daysOf_2 : List UInt8 := [19, 1, 161, 172]
abbrev dktX2_daysOf_2 : List UInt8 := dkwX2_daysOf_2 ++ []
def dkwX2_daysOf_1 : List UInt8 := [96, 46, 28, 184, 0, 77, 153, 0, 16, 42, 29, 28, 182, 1, 94, 153, 0, 7, 5, 167, 0, 6]
abbrev dktX2_daysOf_1 : List UInt8 := dkwX2_daysOf_1 ++ dktX2_daysOf_2
def dkwX2_daysOf_0 : List UInt8 := [42, 180, 0, 7, 16, 90, 27, 96, 46, 28, 160, 0, 7, 4, 167, 0, 35, 42, 180, 0, 7, 16, 110, 27]
abbrev dktX2_daysOf_0 : List UInt8 := dkwX2_daysOf_0 ++ dktX2_daysOf_1
theorem dksX2_daysOf_0 : cX2_daysOf.data.toList.drop 0 = dktX2_daysOf_0 := by decide +kernel
theorem dksX2_daysOf_1 : cX2_daysOf.data.toList.drop 24 = dktX2_daysOf_1 := dk_seg dksX2_daysOf_0 24 rfl rfl
theorem dksX2_daysOf_2 : cX2_daysOf.data.toList.drop 46 = dktX2_daysOf_2 := dk_seg dksX2_daysOf_1 22 rfl rfl
theorem dX2_daysOf_0 : decode cX2_daysOf 0 = .ok (.aload_n 0, 1) := dk_42 (dk_at dksX2_daysOf_0 0 rfl rfl)
theorem dX2_daysOf_1 : decode cX2_daysOf 1 = .ok (.getfield 7, 3) := dk_180 0 7 (dk_at dksX2_daysOf_0 1 rfl rfl)
theorem dX2_daysOf_4 : decode cX2_daysOf 4 = .ok (.bipush 90, 2) := dk_16 90 (dk_at dksX2_daysOf_0 4 rfl rfl)
theorem dX2_daysOf_6 : decode cX2_daysOf 6 = .ok (.iload_n 1, 1) := dk_27 (dk_at dksX2_daysOf_0 6 rfl rfl)
theorem dX2_daysOf_7 : decode cX2_daysOf 7 = .ok (.iadd, 1) := dk_96 (dk_at dksX2_daysOf_0 7 rfl rfl)
theorem dX2_daysOf_8 : decode cX2_daysOf 8 = .ok (.iaload, 1) := dk_46 (dk_at dksX2_daysOf_0 8 rfl rfl)
theorem dX2_daysOf_9 : decode cX2_daysOf 9 = .ok (.iload_n 2, 1) := dk_28 (dk_at dksX2_daysOf_0 9 rfl rfl)
theorem dX2_daysOf_10 : decode cX2_daysOf 10 = .ok (.if_icmp .ne 7, 3) := dk_160 0 7 (dk_at dksX2_daysOf_0 10 rfl rfl)
theorem dX2_daysOf_13 : decode cX2_daysOf 13 = .ok (.iconst 1, 1) := dk_4 (dk_at dksX2_daysOf_0 13 rfl rfl)
theorem dX2_daysOf_14 : decode cX2_daysOf 14 = .ok (.goto 35, 3) := dk_167 0 35 (dk_at dksX2_daysOf_0 14 rfl rfl)
theorem dX2_daysOf_17 : decode cX2_daysOf 17 = .ok (.aload_n 0, 1) := dk_42 (dk_at dksX2_daysOf_0 17 rfl rfl)
theorem dX2_daysOf_18 : decode cX2_daysOf 18 = .ok (.getfield 7, 3) := dk_180 0 7 (dk_at dksX2_daysOf_0 18 rfl rfl)
theorem dX2_daysOf_21 : decode cX2_daysOf 21 = .ok (.bipush 110, 2) := dk_16 110 (dk_at dksX2_daysOf_0 21 rfl rfl)
theorem dX2_daysOf_23 : decode cX2_daysOf 23 = .ok (.iload_n 1, 1) := dk_27 (dk_at dksX2_daysOf_0 23 rfl rfl)
theorem dX2_daysOf_24 : decode cX2_daysOf 24 = .ok (.iadd, 1) := dk_96 (dk_at dksX2_daysOf_1 0 rfl rfl)
theorem dX2_daysOf_25 : decode cX2_daysOf 25 = .ok (.iaload, 1) := dk_46 (dk_at dksX2_daysOf_1 1 rfl rfl)
theorem dX2_daysOf_26 : decode cX2_daysOf 26 = .ok (.iload_n 2, 1) := dk_28 (dk_at dksX2_daysOf_1 2 rfl rfl)
theorem dX2_daysOf_27 : decode cX2_daysOf 27 = .ok (.invokestatic 77, 3) := dk_184 0 77 (dk_at dksX2_daysOf_1 3 rfl rfl)
theorem dX2_daysOf_30 : decode cX2_daysOf 30 = .ok (.ifCond .eq 16, 3) := dk_153 0 16 (dk_at dksX2_daysOf_1 6 rfl rfl)
theorem dX2_daysOf_33 : decode cX2_daysOf 33 = .ok (.aload_n 0, 1) := dk_42 (dk_at dksX2_daysOf_1 9 rfl rfl)
theorem dX2_daysOf_34 : decode cX2_daysOf 34 = .ok (.iload_n 3, 1) := dk_29 (dk_at dksX2_daysOf_1 10 rfl rfl)
theorem dX2_daysOf_35 : decode cX2_daysOf 35 = .ok (.iload_n 2, 1) := dk_28 (dk_at dksX2_daysOf_1 11 rfl rfl)
theorem dX2_daysOf_36 : decode cX2_daysOf 36 = .ok (.invokevirtual 350, 3) := dk_182 1 94 (dk_at dksX2_daysOf_1 12 rfl rfl)
theorem dX2_daysOf_39 : decode cX2_daysOf 39 = .ok (.ifCond .eq 7, 3) := dk_153 0 7 (dk_at dksX2_daysOf_1 15 rfl rfl)
theorem dX2_daysOf_42 : decode cX2_daysOf 42 = .ok (.iconst 2, 1) := dk_5 (dk_at dksX2_daysOf_1 18 rfl rfl)
theorem dX2_daysOf_43 : decode cX2_daysOf 43 = .ok (.goto 6, 3) := dk_167 0 6 (dk_at dksX2_daysOf_1 19 rfl rfl)
theorem dX2_daysOf_46 : decode cX2_daysOf 46 = .ok (.ldc_w 417, 3) := dk_19 1 161 (dk_at dksX2_daysOf_2 0 rfl rfl)
theorem dX2_daysOf_49 : decode cX2_daysOf 49 = .ok (.ireturn, 1) := dk_172 (dk_at dksX2_daysOf_2 3 rfl rfl)
abbrev cX2_nextOf : ByteArray := prog_20_method_113_code
def yX2_nextOf : MethodName := ⟨RX2, "nextOf", "(III)I"⟩
def dkwX2_nextOf_3 : List UInt8 := [132, 4, 1, 167, 255, 189, 2, 172]
abbrev dktX2_nextOf_3 : List UInt8 := dkwX2_nextOf_3 ++ []
def dkwX2_nextOf_2 : List UInt8 := [21, 5, 42, 180, 0, 50, 21, 4, 46, 96, 42, 180, 0, 50, 27, 46, 160, 0, 6, 21, 4, 172]
abbrev dktX2_nextOf_2 : List UInt8 := dkwX2_nextOf_2 ++ dktX2_nextOf_3
def dkwX2_nextOf_1 : List UInt8 := [54, 5, 21, 5, 19, 1, 161, 162, 0, 38, 42, 180, 0, 50, 21, 4, 46, 19, 1, 161, 162, 0, 25]
abbrev dktX2_nextOf_1 : List UInt8 := dkwX2_nextOf_1 ++ dktX2_nextOf_2
def dkwX2_nextOf_0 : List UInt8 := [28, 4, 96, 54, 4, 21, 4, 42, 180, 0, 7, 3, 46, 162, 0, 62, 42, 27, 21, 4, 29, 182, 1, 162]
abbrev dktX2_nextOf_0 : List UInt8 := dkwX2_nextOf_0 ++ dktX2_nextOf_1
theorem dksX2_nextOf_0 : cX2_nextOf.data.toList.drop 0 = dktX2_nextOf_0 := by decide +kernel
theorem dksX2_nextOf_1 : cX2_nextOf.data.toList.drop 24 = dktX2_nextOf_1 := dk_seg dksX2_nextOf_0 24 rfl rfl
theorem dksX2_nextOf_2 : cX2_nextOf.data.toList.drop 47 = dktX2_nextOf_2 := dk_seg dksX2_nextOf_1 23 rfl rfl
theorem dksX2_nextOf_3 : cX2_nextOf.data.toList.drop 69 = dktX2_nextOf_3 := dk_seg dksX2_nextOf_2 22 rfl rfl
theorem dX2_nextOf_0 : decode cX2_nextOf 0 = .ok (.iload_n 2, 1) := dk_28 (dk_at dksX2_nextOf_0 0 rfl rfl)
theorem dX2_nextOf_1 : decode cX2_nextOf 1 = .ok (.iconst 1, 1) := dk_4 (dk_at dksX2_nextOf_0 1 rfl rfl)
theorem dX2_nextOf_2 : decode cX2_nextOf 2 = .ok (.iadd, 1) := dk_96 (dk_at dksX2_nextOf_0 2 rfl rfl)
theorem dX2_nextOf_3 : decode cX2_nextOf 3 = .ok (.istore 4, 2) := dk_54 4 (dk_at dksX2_nextOf_0 3 rfl rfl)
theorem dX2_nextOf_5 : decode cX2_nextOf 5 = .ok (.iload 4, 2) := dk_21 4 (dk_at dksX2_nextOf_0 5 rfl rfl)
theorem dX2_nextOf_7 : decode cX2_nextOf 7 = .ok (.aload_n 0, 1) := dk_42 (dk_at dksX2_nextOf_0 7 rfl rfl)
theorem dX2_nextOf_8 : decode cX2_nextOf 8 = .ok (.getfield 7, 3) := dk_180 0 7 (dk_at dksX2_nextOf_0 8 rfl rfl)
theorem dX2_nextOf_11 : decode cX2_nextOf 11 = .ok (.iconst 0, 1) := dk_3 (dk_at dksX2_nextOf_0 11 rfl rfl)
theorem dX2_nextOf_12 : decode cX2_nextOf 12 = .ok (.iaload, 1) := dk_46 (dk_at dksX2_nextOf_0 12 rfl rfl)
theorem dX2_nextOf_13 : decode cX2_nextOf 13 = .ok (.if_icmp .ge 62, 3) := dk_162 0 62 (dk_at dksX2_nextOf_0 13 rfl rfl)
theorem dX2_nextOf_16 : decode cX2_nextOf 16 = .ok (.aload_n 0, 1) := dk_42 (dk_at dksX2_nextOf_0 16 rfl rfl)
theorem dX2_nextOf_17 : decode cX2_nextOf 17 = .ok (.iload_n 1, 1) := dk_27 (dk_at dksX2_nextOf_0 17 rfl rfl)
theorem dX2_nextOf_18 : decode cX2_nextOf 18 = .ok (.iload 4, 2) := dk_21 4 (dk_at dksX2_nextOf_0 18 rfl rfl)
theorem dX2_nextOf_20 : decode cX2_nextOf 20 = .ok (.iload_n 3, 1) := dk_29 (dk_at dksX2_nextOf_0 20 rfl rfl)
theorem dX2_nextOf_21 : decode cX2_nextOf 21 = .ok (.invokevirtual 418, 3) := dk_182 1 162 (dk_at dksX2_nextOf_0 21 rfl rfl)
theorem dX2_nextOf_24 : decode cX2_nextOf 24 = .ok (.istore 5, 2) := dk_54 5 (dk_at dksX2_nextOf_1 0 rfl rfl)
theorem dX2_nextOf_26 : decode cX2_nextOf 26 = .ok (.iload 5, 2) := dk_21 5 (dk_at dksX2_nextOf_1 2 rfl rfl)
theorem dX2_nextOf_28 : decode cX2_nextOf 28 = .ok (.ldc_w 417, 3) := dk_19 1 161 (dk_at dksX2_nextOf_1 4 rfl rfl)
theorem dX2_nextOf_31 : decode cX2_nextOf 31 = .ok (.if_icmp .ge 38, 3) := dk_162 0 38 (dk_at dksX2_nextOf_1 7 rfl rfl)
theorem dX2_nextOf_34 : decode cX2_nextOf 34 = .ok (.aload_n 0, 1) := dk_42 (dk_at dksX2_nextOf_1 10 rfl rfl)
theorem dX2_nextOf_35 : decode cX2_nextOf 35 = .ok (.getfield 50, 3) := dk_180 0 50 (dk_at dksX2_nextOf_1 11 rfl rfl)
theorem dX2_nextOf_38 : decode cX2_nextOf 38 = .ok (.iload 4, 2) := dk_21 4 (dk_at dksX2_nextOf_1 14 rfl rfl)
theorem dX2_nextOf_40 : decode cX2_nextOf 40 = .ok (.iaload, 1) := dk_46 (dk_at dksX2_nextOf_1 16 rfl rfl)
theorem dX2_nextOf_41 : decode cX2_nextOf 41 = .ok (.ldc_w 417, 3) := dk_19 1 161 (dk_at dksX2_nextOf_1 17 rfl rfl)
theorem dX2_nextOf_44 : decode cX2_nextOf 44 = .ok (.if_icmp .ge 25, 3) := dk_162 0 25 (dk_at dksX2_nextOf_1 20 rfl rfl)
theorem dX2_nextOf_47 : decode cX2_nextOf 47 = .ok (.iload 5, 2) := dk_21 5 (dk_at dksX2_nextOf_2 0 rfl rfl)
theorem dX2_nextOf_49 : decode cX2_nextOf 49 = .ok (.aload_n 0, 1) := dk_42 (dk_at dksX2_nextOf_2 2 rfl rfl)
theorem dX2_nextOf_50 : decode cX2_nextOf 50 = .ok (.getfield 50, 3) := dk_180 0 50 (dk_at dksX2_nextOf_2 3 rfl rfl)
theorem dX2_nextOf_53 : decode cX2_nextOf 53 = .ok (.iload 4, 2) := dk_21 4 (dk_at dksX2_nextOf_2 6 rfl rfl)
theorem dX2_nextOf_55 : decode cX2_nextOf 55 = .ok (.iaload, 1) := dk_46 (dk_at dksX2_nextOf_2 8 rfl rfl)
theorem dX2_nextOf_56 : decode cX2_nextOf 56 = .ok (.iadd, 1) := dk_96 (dk_at dksX2_nextOf_2 9 rfl rfl)
theorem dX2_nextOf_57 : decode cX2_nextOf 57 = .ok (.aload_n 0, 1) := dk_42 (dk_at dksX2_nextOf_2 10 rfl rfl)
theorem dX2_nextOf_58 : decode cX2_nextOf 58 = .ok (.getfield 50, 3) := dk_180 0 50 (dk_at dksX2_nextOf_2 11 rfl rfl)
theorem dX2_nextOf_61 : decode cX2_nextOf 61 = .ok (.iload_n 1, 1) := dk_27 (dk_at dksX2_nextOf_2 14 rfl rfl)
theorem dX2_nextOf_62 : decode cX2_nextOf 62 = .ok (.iaload, 1) := dk_46 (dk_at dksX2_nextOf_2 15 rfl rfl)
theorem dX2_nextOf_63 : decode cX2_nextOf 63 = .ok (.if_icmp .ne 6, 3) := dk_160 0 6 (dk_at dksX2_nextOf_2 16 rfl rfl)
theorem dX2_nextOf_66 : decode cX2_nextOf 66 = .ok (.iload 4, 2) := dk_21 4 (dk_at dksX2_nextOf_2 19 rfl rfl)
theorem dX2_nextOf_68 : decode cX2_nextOf 68 = .ok (.ireturn, 1) := dk_172 (dk_at dksX2_nextOf_2 21 rfl rfl)
theorem dX2_nextOf_69 : decode cX2_nextOf 69 = .ok (.iinc 4 1, 3) := dk_132 4 1 (dk_at dksX2_nextOf_3 0 rfl rfl)
theorem dX2_nextOf_72 : decode cX2_nextOf 72 = .ok (.goto (-67), 3) := dk_167 255 189 (dk_at dksX2_nextOf_3 3 rfl rfl)
theorem dX2_nextOf_75 : decode cX2_nextOf 75 = .ok (.iconst (-1), 1) := dk_2 (dk_at dksX2_nextOf_3 6 rfl rfl)
theorem dX2_nextOf_76 : decode cX2_nextOf 76 = .ok (.ireturn, 1) := dk_172 (dk_at dksX2_nextOf_3 7 rfl rfl)
abbrev cX2_takeWay : ByteArray := prog_20_method_115_code
def yX2_takeWay : MethodName := ⟨RX2, "takeWay", "(I)V"⟩
def dkwX2_takeWay_2 : List UInt8 := [132, 2, 1, 167, 255, 236, 177]
abbrev dktX2_takeWay_2 : List UInt8 := dkwX2_takeWay_2 ++ []
def dkwX2_takeWay_1 : List UInt8 := [42, 27, 181, 1, 168, 3, 61, 28, 27, 163, 0, 21, 42, 180, 0, 59, 28, 42, 180, 0, 53, 28, 46, 79]
abbrev dktX2_takeWay_1 : List UInt8 := dkwX2_takeWay_1 ++ dktX2_takeWay_2
def dkwX2_takeWay_0 : List UInt8 := [42, 180, 0, 56, 27, 46, 42, 180, 1, 165, 161, 0, 4, 177, 42, 42, 180, 0, 56, 27, 46, 181, 1, 165]
abbrev dktX2_takeWay_0 : List UInt8 := dkwX2_takeWay_0 ++ dktX2_takeWay_1
theorem dksX2_takeWay_0 : cX2_takeWay.data.toList.drop 0 = dktX2_takeWay_0 := by decide +kernel
theorem dksX2_takeWay_1 : cX2_takeWay.data.toList.drop 24 = dktX2_takeWay_1 := dk_seg dksX2_takeWay_0 24 rfl rfl
theorem dksX2_takeWay_2 : cX2_takeWay.data.toList.drop 48 = dktX2_takeWay_2 := dk_seg dksX2_takeWay_1 24 rfl rfl
theorem dX2_takeWay_0 : decode cX2_takeWay 0 = .ok (.aload_n 0, 1) := dk_42 (dk_at dksX2_takeWay_0 0 rfl rfl)
theorem dX2_takeWay_1 : decode cX2_takeWay 1 = .ok (.getfield 56, 3) := dk_180 0 56 (dk_at dksX2_takeWay_0 1 rfl rfl)
theorem dX2_takeWay_4 : decode cX2_takeWay 4 = .ok (.iload_n 1, 1) := dk_27 (dk_at dksX2_takeWay_0 4 rfl rfl)
theorem dX2_takeWay_5 : decode cX2_takeWay 5 = .ok (.iaload, 1) := dk_46 (dk_at dksX2_takeWay_0 5 rfl rfl)
theorem dX2_takeWay_6 : decode cX2_takeWay 6 = .ok (.aload_n 0, 1) := dk_42 (dk_at dksX2_takeWay_0 6 rfl rfl)
theorem dX2_takeWay_7 : decode cX2_takeWay 7 = .ok (.getfield 421, 3) := dk_180 1 165 (dk_at dksX2_takeWay_0 7 rfl rfl)
theorem dX2_takeWay_10 : decode cX2_takeWay 10 = .ok (.if_icmp .lt 4, 3) := dk_161 0 4 (dk_at dksX2_takeWay_0 10 rfl rfl)
theorem dX2_takeWay_13 : decode cX2_takeWay 13 = .ok (.return_, 1) := dk_177 (dk_at dksX2_takeWay_0 13 rfl rfl)
theorem dX2_takeWay_14 : decode cX2_takeWay 14 = .ok (.aload_n 0, 1) := dk_42 (dk_at dksX2_takeWay_0 14 rfl rfl)
theorem dX2_takeWay_15 : decode cX2_takeWay 15 = .ok (.aload_n 0, 1) := dk_42 (dk_at dksX2_takeWay_0 15 rfl rfl)
theorem dX2_takeWay_16 : decode cX2_takeWay 16 = .ok (.getfield 56, 3) := dk_180 0 56 (dk_at dksX2_takeWay_0 16 rfl rfl)
theorem dX2_takeWay_19 : decode cX2_takeWay 19 = .ok (.iload_n 1, 1) := dk_27 (dk_at dksX2_takeWay_0 19 rfl rfl)
theorem dX2_takeWay_20 : decode cX2_takeWay 20 = .ok (.iaload, 1) := dk_46 (dk_at dksX2_takeWay_0 20 rfl rfl)
theorem dX2_takeWay_21 : decode cX2_takeWay 21 = .ok (.putfield 421, 3) := dk_181 1 165 (dk_at dksX2_takeWay_0 21 rfl rfl)
theorem dX2_takeWay_24 : decode cX2_takeWay 24 = .ok (.aload_n 0, 1) := dk_42 (dk_at dksX2_takeWay_1 0 rfl rfl)
theorem dX2_takeWay_25 : decode cX2_takeWay 25 = .ok (.iload_n 1, 1) := dk_27 (dk_at dksX2_takeWay_1 1 rfl rfl)
theorem dX2_takeWay_26 : decode cX2_takeWay 26 = .ok (.putfield 424, 3) := dk_181 1 168 (dk_at dksX2_takeWay_1 2 rfl rfl)
theorem dX2_takeWay_29 : decode cX2_takeWay 29 = .ok (.iconst 0, 1) := dk_3 (dk_at dksX2_takeWay_1 5 rfl rfl)
theorem dX2_takeWay_30 : decode cX2_takeWay 30 = .ok (.istore_n 2, 1) := dk_61 (dk_at dksX2_takeWay_1 6 rfl rfl)
theorem dX2_takeWay_31 : decode cX2_takeWay 31 = .ok (.iload_n 2, 1) := dk_28 (dk_at dksX2_takeWay_1 7 rfl rfl)
theorem dX2_takeWay_32 : decode cX2_takeWay 32 = .ok (.iload_n 1, 1) := dk_27 (dk_at dksX2_takeWay_1 8 rfl rfl)
theorem dX2_takeWay_33 : decode cX2_takeWay 33 = .ok (.if_icmp .gt 21, 3) := dk_163 0 21 (dk_at dksX2_takeWay_1 9 rfl rfl)
theorem dX2_takeWay_36 : decode cX2_takeWay 36 = .ok (.aload_n 0, 1) := dk_42 (dk_at dksX2_takeWay_1 12 rfl rfl)
theorem dX2_takeWay_37 : decode cX2_takeWay 37 = .ok (.getfield 59, 3) := dk_180 0 59 (dk_at dksX2_takeWay_1 13 rfl rfl)
theorem dX2_takeWay_40 : decode cX2_takeWay 40 = .ok (.iload_n 2, 1) := dk_28 (dk_at dksX2_takeWay_1 16 rfl rfl)
theorem dX2_takeWay_41 : decode cX2_takeWay 41 = .ok (.aload_n 0, 1) := dk_42 (dk_at dksX2_takeWay_1 17 rfl rfl)
theorem dX2_takeWay_42 : decode cX2_takeWay 42 = .ok (.getfield 53, 3) := dk_180 0 53 (dk_at dksX2_takeWay_1 18 rfl rfl)
theorem dX2_takeWay_45 : decode cX2_takeWay 45 = .ok (.iload_n 2, 1) := dk_28 (dk_at dksX2_takeWay_1 21 rfl rfl)
theorem dX2_takeWay_46 : decode cX2_takeWay 46 = .ok (.iaload, 1) := dk_46 (dk_at dksX2_takeWay_1 22 rfl rfl)
theorem dX2_takeWay_47 : decode cX2_takeWay 47 = .ok (.iastore, 1) := dk_79 (dk_at dksX2_takeWay_1 23 rfl rfl)
theorem dX2_takeWay_48 : decode cX2_takeWay 48 = .ok (.iinc 2 1, 3) := dk_132 2 1 (dk_at dksX2_takeWay_2 0 rfl rfl)
theorem dX2_takeWay_51 : decode cX2_takeWay 51 = .ok (.goto (-20), 3) := dk_167 255 236 (dk_at dksX2_takeWay_2 3 rfl rfl)
theorem dX2_takeWay_54 : decode cX2_takeWay 54 = .ok (.return_, 1) := dk_177 (dk_at dksX2_takeWay_2 6 rfl rfl)
abbrev cX2_sizeBehind : ByteArray := prog_20_method_114_code
def yX2_sizeBehind : MethodName := ⟨RX2, "sizeBehind", "(IIIII)I"⟩
def dkwX2_sizeBehind_1 : List UInt8 := [182, 1, 41, 27, 42, 42, 180, 0, 7, 5, 46, 182, 1, 45, 96, 133, 3, 17, 39, 15, 184, 1, 33, 172]
abbrev dktX2_sizeBehind_1 : List UInt8 := dkwX2_sizeBehind_1 ++ []
def dkwX2_sizeBehind_0 : List UInt8 := [42, 180, 0, 7, 16, 90, 28, 96, 46, 29, 159, 0, 5, 27, 172, 42, 29, 27, 21, 4, 21, 5]
abbrev dktX2_sizeBehind_0 : List UInt8 := dkwX2_sizeBehind_0 ++ dktX2_sizeBehind_1
theorem dksX2_sizeBehind_0 : cX2_sizeBehind.data.toList.drop 0 = dktX2_sizeBehind_0 := by decide +kernel
theorem dksX2_sizeBehind_1 : cX2_sizeBehind.data.toList.drop 22 = dktX2_sizeBehind_1 := dk_seg dksX2_sizeBehind_0 22 rfl rfl
theorem dX2_sizeBehind_0 : decode cX2_sizeBehind 0 = .ok (.aload_n 0, 1) := dk_42 (dk_at dksX2_sizeBehind_0 0 rfl rfl)
theorem dX2_sizeBehind_1 : decode cX2_sizeBehind 1 = .ok (.getfield 7, 3) := dk_180 0 7 (dk_at dksX2_sizeBehind_0 1 rfl rfl)
theorem dX2_sizeBehind_4 : decode cX2_sizeBehind 4 = .ok (.bipush 90, 2) := dk_16 90 (dk_at dksX2_sizeBehind_0 4 rfl rfl)
theorem dX2_sizeBehind_6 : decode cX2_sizeBehind 6 = .ok (.iload_n 2, 1) := dk_28 (dk_at dksX2_sizeBehind_0 6 rfl rfl)
theorem dX2_sizeBehind_7 : decode cX2_sizeBehind 7 = .ok (.iadd, 1) := dk_96 (dk_at dksX2_sizeBehind_0 7 rfl rfl)
theorem dX2_sizeBehind_8 : decode cX2_sizeBehind 8 = .ok (.iaload, 1) := dk_46 (dk_at dksX2_sizeBehind_0 8 rfl rfl)
theorem dX2_sizeBehind_9 : decode cX2_sizeBehind 9 = .ok (.iload_n 3, 1) := dk_29 (dk_at dksX2_sizeBehind_0 9 rfl rfl)
theorem dX2_sizeBehind_10 : decode cX2_sizeBehind 10 = .ok (.if_icmp .eq 5, 3) := dk_159 0 5 (dk_at dksX2_sizeBehind_0 10 rfl rfl)
theorem dX2_sizeBehind_13 : decode cX2_sizeBehind 13 = .ok (.iload_n 1, 1) := dk_27 (dk_at dksX2_sizeBehind_0 13 rfl rfl)
theorem dX2_sizeBehind_14 : decode cX2_sizeBehind 14 = .ok (.ireturn, 1) := dk_172 (dk_at dksX2_sizeBehind_0 14 rfl rfl)
theorem dX2_sizeBehind_15 : decode cX2_sizeBehind 15 = .ok (.aload_n 0, 1) := dk_42 (dk_at dksX2_sizeBehind_0 15 rfl rfl)
theorem dX2_sizeBehind_16 : decode cX2_sizeBehind 16 = .ok (.iload_n 3, 1) := dk_29 (dk_at dksX2_sizeBehind_0 16 rfl rfl)
theorem dX2_sizeBehind_17 : decode cX2_sizeBehind 17 = .ok (.iload_n 1, 1) := dk_27 (dk_at dksX2_sizeBehind_0 17 rfl rfl)
theorem dX2_sizeBehind_18 : decode cX2_sizeBehind 18 = .ok (.iload 4, 2) := dk_21 4 (dk_at dksX2_sizeBehind_0 18 rfl rfl)
theorem dX2_sizeBehind_20 : decode cX2_sizeBehind 20 = .ok (.iload 5, 2) := dk_21 5 (dk_at dksX2_sizeBehind_0 20 rfl rfl)
theorem dX2_sizeBehind_22 : decode cX2_sizeBehind 22 = .ok (.invokevirtual 297, 3) := dk_182 1 41 (dk_at dksX2_sizeBehind_1 0 rfl rfl)
theorem dX2_sizeBehind_25 : decode cX2_sizeBehind 25 = .ok (.iload_n 1, 1) := dk_27 (dk_at dksX2_sizeBehind_1 3 rfl rfl)
theorem dX2_sizeBehind_26 : decode cX2_sizeBehind 26 = .ok (.aload_n 0, 1) := dk_42 (dk_at dksX2_sizeBehind_1 4 rfl rfl)
theorem dX2_sizeBehind_27 : decode cX2_sizeBehind 27 = .ok (.aload_n 0, 1) := dk_42 (dk_at dksX2_sizeBehind_1 5 rfl rfl)
theorem dX2_sizeBehind_28 : decode cX2_sizeBehind 28 = .ok (.getfield 7, 3) := dk_180 0 7 (dk_at dksX2_sizeBehind_1 6 rfl rfl)
theorem dX2_sizeBehind_31 : decode cX2_sizeBehind 31 = .ok (.iconst 2, 1) := dk_5 (dk_at dksX2_sizeBehind_1 9 rfl rfl)
theorem dX2_sizeBehind_32 : decode cX2_sizeBehind 32 = .ok (.iaload, 1) := dk_46 (dk_at dksX2_sizeBehind_1 10 rfl rfl)
theorem dX2_sizeBehind_33 : decode cX2_sizeBehind 33 = .ok (.invokevirtual 301, 3) := dk_182 1 45 (dk_at dksX2_sizeBehind_1 11 rfl rfl)
theorem dX2_sizeBehind_36 : decode cX2_sizeBehind 36 = .ok (.iadd, 1) := dk_96 (dk_at dksX2_sizeBehind_1 14 rfl rfl)
theorem dX2_sizeBehind_37 : decode cX2_sizeBehind 37 = .ok (.i2l, 1) := dk_133 (dk_at dksX2_sizeBehind_1 15 rfl rfl)
theorem dX2_sizeBehind_38 : decode cX2_sizeBehind 38 = .ok (.iconst 0, 1) := dk_3 (dk_at dksX2_sizeBehind_1 16 rfl rfl)
theorem dX2_sizeBehind_39 : decode cX2_sizeBehind 39 = .ok (.sipush 9999, 3) := dk_17 39 15 (dk_at dksX2_sizeBehind_1 17 rfl rfl)
theorem dX2_sizeBehind_42 : decode cX2_sizeBehind 42 = .ok (.invokestatic 289, 3) := dk_184 1 33 (dk_at dksX2_sizeBehind_1 20 rfl rfl)
theorem dX2_sizeBehind_45 : decode cX2_sizeBehind 45 = .ok (.ireturn, 1) := dk_172 (dk_at dksX2_sizeBehind_1 23 rfl rfl)
abbrev cX2_pile : ByteArray := prog_20_method_118_code
def yX2_pile : MethodName := ⟨RX2, "pile", "(I)I"⟩
def dkwX2_pile_3 : List UInt8 := [172]
abbrev dktX2_pile_3 : List UInt8 := dkwX2_pile_3 ++ []
def dkwX2_pile_2 : List UInt8 := [180, 0, 7, 7, 46, 96, 27, 79, 42, 180, 0, 7, 7, 92, 46, 4, 96, 79, 42, 180, 0, 7, 7, 46]
abbrev dktX2_pile_2 : List UInt8 := dkwX2_pile_2 ++ dktX2_pile_3
def dkwX2_pile_1 : List UInt8 := [153, 0, 14, 42, 180, 0, 7, 7, 46, 16, 8, 160, 0, 6, 16, 254, 172, 42, 180, 0, 7, 16, 120, 42]
abbrev dktX2_pile_1 : List UInt8 := dkwX2_pile_1 ++ dktX2_pile_2
def dkwX2_pile_0 : List UInt8 := [27, 2, 160, 0, 12, 42, 180, 0, 7, 7, 3, 79, 3, 172, 27, 4, 17, 3, 231, 184, 0, 69]
abbrev dktX2_pile_0 : List UInt8 := dkwX2_pile_0 ++ dktX2_pile_1
theorem dksX2_pile_0 : cX2_pile.data.toList.drop 0 = dktX2_pile_0 := by decide +kernel
theorem dksX2_pile_1 : cX2_pile.data.toList.drop 22 = dktX2_pile_1 := dk_seg dksX2_pile_0 22 rfl rfl
theorem dksX2_pile_2 : cX2_pile.data.toList.drop 46 = dktX2_pile_2 := dk_seg dksX2_pile_1 24 rfl rfl
theorem dksX2_pile_3 : cX2_pile.data.toList.drop 70 = dktX2_pile_3 := dk_seg dksX2_pile_2 24 rfl rfl
theorem dX2_pile_0 : decode cX2_pile 0 = .ok (.iload_n 1, 1) := dk_27 (dk_at dksX2_pile_0 0 rfl rfl)
theorem dX2_pile_1 : decode cX2_pile 1 = .ok (.iconst (-1), 1) := dk_2 (dk_at dksX2_pile_0 1 rfl rfl)
theorem dX2_pile_2 : decode cX2_pile 2 = .ok (.if_icmp .ne 12, 3) := dk_160 0 12 (dk_at dksX2_pile_0 2 rfl rfl)
theorem dX2_pile_5 : decode cX2_pile 5 = .ok (.aload_n 0, 1) := dk_42 (dk_at dksX2_pile_0 5 rfl rfl)
theorem dX2_pile_6 : decode cX2_pile 6 = .ok (.getfield 7, 3) := dk_180 0 7 (dk_at dksX2_pile_0 6 rfl rfl)
theorem dX2_pile_9 : decode cX2_pile 9 = .ok (.iconst 4, 1) := dk_7 (dk_at dksX2_pile_0 9 rfl rfl)
theorem dX2_pile_10 : decode cX2_pile 10 = .ok (.iconst 0, 1) := dk_3 (dk_at dksX2_pile_0 10 rfl rfl)
theorem dX2_pile_11 : decode cX2_pile 11 = .ok (.iastore, 1) := dk_79 (dk_at dksX2_pile_0 11 rfl rfl)
theorem dX2_pile_12 : decode cX2_pile 12 = .ok (.iconst 0, 1) := dk_3 (dk_at dksX2_pile_0 12 rfl rfl)
theorem dX2_pile_13 : decode cX2_pile 13 = .ok (.ireturn, 1) := dk_172 (dk_at dksX2_pile_0 13 rfl rfl)
theorem dX2_pile_14 : decode cX2_pile 14 = .ok (.iload_n 1, 1) := dk_27 (dk_at dksX2_pile_0 14 rfl rfl)
theorem dX2_pile_15 : decode cX2_pile 15 = .ok (.iconst 1, 1) := dk_4 (dk_at dksX2_pile_0 15 rfl rfl)
theorem dX2_pile_16 : decode cX2_pile 16 = .ok (.sipush 999, 3) := dk_17 3 231 (dk_at dksX2_pile_0 16 rfl rfl)
theorem dX2_pile_19 : decode cX2_pile 19 = .ok (.invokestatic 69, 3) := dk_184 0 69 (dk_at dksX2_pile_0 19 rfl rfl)
theorem dX2_pile_22 : decode cX2_pile 22 = .ok (.ifCond .eq 14, 3) := dk_153 0 14 (dk_at dksX2_pile_1 0 rfl rfl)
theorem dX2_pile_25 : decode cX2_pile 25 = .ok (.aload_n 0, 1) := dk_42 (dk_at dksX2_pile_1 3 rfl rfl)
theorem dX2_pile_26 : decode cX2_pile 26 = .ok (.getfield 7, 3) := dk_180 0 7 (dk_at dksX2_pile_1 4 rfl rfl)
theorem dX2_pile_29 : decode cX2_pile 29 = .ok (.iconst 4, 1) := dk_7 (dk_at dksX2_pile_1 7 rfl rfl)
theorem dX2_pile_30 : decode cX2_pile 30 = .ok (.iaload, 1) := dk_46 (dk_at dksX2_pile_1 8 rfl rfl)
theorem dX2_pile_31 : decode cX2_pile 31 = .ok (.bipush 8, 2) := dk_16 8 (dk_at dksX2_pile_1 9 rfl rfl)
theorem dX2_pile_33 : decode cX2_pile 33 = .ok (.if_icmp .ne 6, 3) := dk_160 0 6 (dk_at dksX2_pile_1 11 rfl rfl)
theorem dX2_pile_36 : decode cX2_pile 36 = .ok (.bipush (-2), 2) := dk_16 254 (dk_at dksX2_pile_1 14 rfl rfl)
theorem dX2_pile_38 : decode cX2_pile 38 = .ok (.ireturn, 1) := dk_172 (dk_at dksX2_pile_1 16 rfl rfl)
theorem dX2_pile_39 : decode cX2_pile 39 = .ok (.aload_n 0, 1) := dk_42 (dk_at dksX2_pile_1 17 rfl rfl)
theorem dX2_pile_40 : decode cX2_pile 40 = .ok (.getfield 7, 3) := dk_180 0 7 (dk_at dksX2_pile_1 18 rfl rfl)
theorem dX2_pile_43 : decode cX2_pile 43 = .ok (.bipush 120, 2) := dk_16 120 (dk_at dksX2_pile_1 21 rfl rfl)
theorem dX2_pile_45 : decode cX2_pile 45 = .ok (.aload_n 0, 1) := dk_42 (dk_at dksX2_pile_1 23 rfl rfl)
theorem dX2_pile_46 : decode cX2_pile 46 = .ok (.getfield 7, 3) := dk_180 0 7 (dk_at dksX2_pile_2 0 rfl rfl)
theorem dX2_pile_49 : decode cX2_pile 49 = .ok (.iconst 4, 1) := dk_7 (dk_at dksX2_pile_2 3 rfl rfl)
theorem dX2_pile_50 : decode cX2_pile 50 = .ok (.iaload, 1) := dk_46 (dk_at dksX2_pile_2 4 rfl rfl)
theorem dX2_pile_51 : decode cX2_pile 51 = .ok (.iadd, 1) := dk_96 (dk_at dksX2_pile_2 5 rfl rfl)
theorem dX2_pile_52 : decode cX2_pile 52 = .ok (.iload_n 1, 1) := dk_27 (dk_at dksX2_pile_2 6 rfl rfl)
theorem dX2_pile_53 : decode cX2_pile 53 = .ok (.iastore, 1) := dk_79 (dk_at dksX2_pile_2 7 rfl rfl)
theorem dX2_pile_54 : decode cX2_pile 54 = .ok (.aload_n 0, 1) := dk_42 (dk_at dksX2_pile_2 8 rfl rfl)
theorem dX2_pile_55 : decode cX2_pile 55 = .ok (.getfield 7, 3) := dk_180 0 7 (dk_at dksX2_pile_2 9 rfl rfl)
theorem dX2_pile_58 : decode cX2_pile 58 = .ok (.iconst 4, 1) := dk_7 (dk_at dksX2_pile_2 12 rfl rfl)
theorem dX2_pile_59 : decode cX2_pile 59 = .ok (.dup2, 1) := dk_92 (dk_at dksX2_pile_2 13 rfl rfl)
theorem dX2_pile_60 : decode cX2_pile 60 = .ok (.iaload, 1) := dk_46 (dk_at dksX2_pile_2 14 rfl rfl)
theorem dX2_pile_61 : decode cX2_pile 61 = .ok (.iconst 1, 1) := dk_4 (dk_at dksX2_pile_2 15 rfl rfl)
theorem dX2_pile_62 : decode cX2_pile 62 = .ok (.iadd, 1) := dk_96 (dk_at dksX2_pile_2 16 rfl rfl)
theorem dX2_pile_63 : decode cX2_pile 63 = .ok (.iastore, 1) := dk_79 (dk_at dksX2_pile_2 17 rfl rfl)
theorem dX2_pile_64 : decode cX2_pile 64 = .ok (.aload_n 0, 1) := dk_42 (dk_at dksX2_pile_2 18 rfl rfl)
theorem dX2_pile_65 : decode cX2_pile 65 = .ok (.getfield 7, 3) := dk_180 0 7 (dk_at dksX2_pile_2 19 rfl rfl)
theorem dX2_pile_68 : decode cX2_pile 68 = .ok (.iconst 4, 1) := dk_7 (dk_at dksX2_pile_2 22 rfl rfl)
theorem dX2_pile_69 : decode cX2_pile 69 = .ok (.iaload, 1) := dk_46 (dk_at dksX2_pile_2 23 rfl rfl)
theorem dX2_pile_70 : decode cX2_pile 70 = .ok (.ireturn, 1) := dk_172 (dk_at dksX2_pile_3 0 rfl rfl)
abbrev cX2_piles : ByteArray := prog_20_method_120_code
def yX2_piles : MethodName := ⟨RX2, "piles", "(II)I"⟩
def dkwX2_piles_4 : List UInt8 := [180, 1, 187, 167, 0, 4, 29, 172]
abbrev dktX2_piles_4 : List UInt8 := dkwX2_piles_4 ++ []
def dkwX2_piles_3 : List UInt8 := [160, 0, 10, 4, 21, 4, 120, 167, 0, 4, 3, 128, 62, 132, 4, 1, 167, 255, 201, 28, 154, 0, 10, 42]
abbrev dktX2_piles_3 : List UInt8 := dkwX2_piles_3 ++ dktX2_piles_4
def dkwX2_piles_2 : List UInt8 := [158, 0, 43, 29, 42, 180, 0, 62, 21, 4, 46, 28, 4, 160, 0, 10, 42, 180, 1, 187, 167, 0, 4, 3]
abbrev dktX2_piles_2 : List UInt8 := dkwX2_piles_2 ++ dktX2_piles_3
def dkwX2_piles_1 : List UInt8 := [182, 1, 190, 3, 62, 3, 54, 4, 21, 4, 42, 180, 0, 7, 7, 46, 162, 0, 50, 42, 180, 1, 187]
abbrev dktX2_piles_1 : List UInt8 := dkwX2_piles_1 ++ dktX2_piles_2
def dkwX2_piles_0 : List UInt8 := [27, 3, 17, 39, 15, 184, 0, 69, 153, 0, 12, 28, 3, 5, 184, 0, 69, 154, 0, 5, 2, 172, 42, 27]
abbrev dktX2_piles_0 : List UInt8 := dkwX2_piles_0 ++ dktX2_piles_1
theorem dksX2_piles_0 : cX2_piles.data.toList.drop 0 = dktX2_piles_0 := by decide +kernel
theorem dksX2_piles_1 : cX2_piles.data.toList.drop 24 = dktX2_piles_1 := dk_seg dksX2_piles_0 24 rfl rfl
theorem dksX2_piles_2 : cX2_piles.data.toList.drop 47 = dktX2_piles_2 := dk_seg dksX2_piles_1 23 rfl rfl
theorem dksX2_piles_3 : cX2_piles.data.toList.drop 71 = dktX2_piles_3 := dk_seg dksX2_piles_2 24 rfl rfl
theorem dksX2_piles_4 : cX2_piles.data.toList.drop 95 = dktX2_piles_4 := dk_seg dksX2_piles_3 24 rfl rfl
theorem dX2_piles_0 : decode cX2_piles 0 = .ok (.iload_n 1, 1) := dk_27 (dk_at dksX2_piles_0 0 rfl rfl)
theorem dX2_piles_1 : decode cX2_piles 1 = .ok (.iconst 0, 1) := dk_3 (dk_at dksX2_piles_0 1 rfl rfl)
theorem dX2_piles_2 : decode cX2_piles 2 = .ok (.sipush 9999, 3) := dk_17 39 15 (dk_at dksX2_piles_0 2 rfl rfl)
theorem dX2_piles_5 : decode cX2_piles 5 = .ok (.invokestatic 69, 3) := dk_184 0 69 (dk_at dksX2_piles_0 5 rfl rfl)
theorem dX2_piles_8 : decode cX2_piles 8 = .ok (.ifCond .eq 12, 3) := dk_153 0 12 (dk_at dksX2_piles_0 8 rfl rfl)
theorem dX2_piles_11 : decode cX2_piles 11 = .ok (.iload_n 2, 1) := dk_28 (dk_at dksX2_piles_0 11 rfl rfl)
theorem dX2_piles_12 : decode cX2_piles 12 = .ok (.iconst 0, 1) := dk_3 (dk_at dksX2_piles_0 12 rfl rfl)
theorem dX2_piles_13 : decode cX2_piles 13 = .ok (.iconst 2, 1) := dk_5 (dk_at dksX2_piles_0 13 rfl rfl)
theorem dX2_piles_14 : decode cX2_piles 14 = .ok (.invokestatic 69, 3) := dk_184 0 69 (dk_at dksX2_piles_0 14 rfl rfl)
theorem dX2_piles_17 : decode cX2_piles 17 = .ok (.ifCond .ne 5, 3) := dk_154 0 5 (dk_at dksX2_piles_0 17 rfl rfl)
theorem dX2_piles_20 : decode cX2_piles 20 = .ok (.iconst (-1), 1) := dk_2 (dk_at dksX2_piles_0 20 rfl rfl)
theorem dX2_piles_21 : decode cX2_piles 21 = .ok (.ireturn, 1) := dk_172 (dk_at dksX2_piles_0 21 rfl rfl)
theorem dX2_piles_22 : decode cX2_piles 22 = .ok (.aload_n 0, 1) := dk_42 (dk_at dksX2_piles_0 22 rfl rfl)
theorem dX2_piles_23 : decode cX2_piles 23 = .ok (.iload_n 1, 1) := dk_27 (dk_at dksX2_piles_0 23 rfl rfl)
theorem dX2_piles_24 : decode cX2_piles 24 = .ok (.invokevirtual 446, 3) := dk_182 1 190 (dk_at dksX2_piles_1 0 rfl rfl)
theorem dX2_piles_27 : decode cX2_piles 27 = .ok (.iconst 0, 1) := dk_3 (dk_at dksX2_piles_1 3 rfl rfl)
theorem dX2_piles_28 : decode cX2_piles 28 = .ok (.istore_n 3, 1) := dk_62 (dk_at dksX2_piles_1 4 rfl rfl)
theorem dX2_piles_29 : decode cX2_piles 29 = .ok (.iconst 0, 1) := dk_3 (dk_at dksX2_piles_1 5 rfl rfl)
theorem dX2_piles_30 : decode cX2_piles 30 = .ok (.istore 4, 2) := dk_54 4 (dk_at dksX2_piles_1 6 rfl rfl)
theorem dX2_piles_32 : decode cX2_piles 32 = .ok (.iload 4, 2) := dk_21 4 (dk_at dksX2_piles_1 8 rfl rfl)
theorem dX2_piles_34 : decode cX2_piles 34 = .ok (.aload_n 0, 1) := dk_42 (dk_at dksX2_piles_1 10 rfl rfl)
theorem dX2_piles_35 : decode cX2_piles 35 = .ok (.getfield 7, 3) := dk_180 0 7 (dk_at dksX2_piles_1 11 rfl rfl)
theorem dX2_piles_38 : decode cX2_piles 38 = .ok (.iconst 4, 1) := dk_7 (dk_at dksX2_piles_1 14 rfl rfl)
theorem dX2_piles_39 : decode cX2_piles 39 = .ok (.iaload, 1) := dk_46 (dk_at dksX2_piles_1 15 rfl rfl)
theorem dX2_piles_40 : decode cX2_piles 40 = .ok (.if_icmp .ge 50, 3) := dk_162 0 50 (dk_at dksX2_piles_1 16 rfl rfl)
theorem dX2_piles_43 : decode cX2_piles 43 = .ok (.aload_n 0, 1) := dk_42 (dk_at dksX2_piles_1 19 rfl rfl)
theorem dX2_piles_44 : decode cX2_piles 44 = .ok (.getfield 443, 3) := dk_180 1 187 (dk_at dksX2_piles_1 20 rfl rfl)
theorem dX2_piles_47 : decode cX2_piles 47 = .ok (.ifCond .le 43, 3) := dk_158 0 43 (dk_at dksX2_piles_2 0 rfl rfl)
theorem dX2_piles_50 : decode cX2_piles 50 = .ok (.iload_n 3, 1) := dk_29 (dk_at dksX2_piles_2 3 rfl rfl)
theorem dX2_piles_51 : decode cX2_piles 51 = .ok (.aload_n 0, 1) := dk_42 (dk_at dksX2_piles_2 4 rfl rfl)
theorem dX2_piles_52 : decode cX2_piles 52 = .ok (.getfield 62, 3) := dk_180 0 62 (dk_at dksX2_piles_2 5 rfl rfl)
theorem dX2_piles_55 : decode cX2_piles 55 = .ok (.iload 4, 2) := dk_21 4 (dk_at dksX2_piles_2 8 rfl rfl)
theorem dX2_piles_57 : decode cX2_piles 57 = .ok (.iaload, 1) := dk_46 (dk_at dksX2_piles_2 10 rfl rfl)
theorem dX2_piles_58 : decode cX2_piles 58 = .ok (.iload_n 2, 1) := dk_28 (dk_at dksX2_piles_2 11 rfl rfl)
theorem dX2_piles_59 : decode cX2_piles 59 = .ok (.iconst 1, 1) := dk_4 (dk_at dksX2_piles_2 12 rfl rfl)
theorem dX2_piles_60 : decode cX2_piles 60 = .ok (.if_icmp .ne 10, 3) := dk_160 0 10 (dk_at dksX2_piles_2 13 rfl rfl)
theorem dX2_piles_63 : decode cX2_piles 63 = .ok (.aload_n 0, 1) := dk_42 (dk_at dksX2_piles_2 16 rfl rfl)
theorem dX2_piles_64 : decode cX2_piles 64 = .ok (.getfield 443, 3) := dk_180 1 187 (dk_at dksX2_piles_2 17 rfl rfl)
theorem dX2_piles_67 : decode cX2_piles 67 = .ok (.goto 4, 3) := dk_167 0 4 (dk_at dksX2_piles_2 20 rfl rfl)
theorem dX2_piles_70 : decode cX2_piles 70 = .ok (.iconst 0, 1) := dk_3 (dk_at dksX2_piles_2 23 rfl rfl)
theorem dX2_piles_71 : decode cX2_piles 71 = .ok (.if_icmp .ne 10, 3) := dk_160 0 10 (dk_at dksX2_piles_3 0 rfl rfl)
theorem dX2_piles_74 : decode cX2_piles 74 = .ok (.iconst 1, 1) := dk_4 (dk_at dksX2_piles_3 3 rfl rfl)
theorem dX2_piles_75 : decode cX2_piles 75 = .ok (.iload 4, 2) := dk_21 4 (dk_at dksX2_piles_3 4 rfl rfl)
theorem dX2_piles_77 : decode cX2_piles 77 = .ok (.ishl, 1) := dk_120 (dk_at dksX2_piles_3 6 rfl rfl)
theorem dX2_piles_78 : decode cX2_piles 78 = .ok (.goto 4, 3) := dk_167 0 4 (dk_at dksX2_piles_3 7 rfl rfl)
theorem dX2_piles_81 : decode cX2_piles 81 = .ok (.iconst 0, 1) := dk_3 (dk_at dksX2_piles_3 10 rfl rfl)
theorem dX2_piles_82 : decode cX2_piles 82 = .ok (.ior, 1) := dk_128 (dk_at dksX2_piles_3 11 rfl rfl)
theorem dX2_piles_83 : decode cX2_piles 83 = .ok (.istore_n 3, 1) := dk_62 (dk_at dksX2_piles_3 12 rfl rfl)
theorem dX2_piles_84 : decode cX2_piles 84 = .ok (.iinc 4 1, 3) := dk_132 4 1 (dk_at dksX2_piles_3 13 rfl rfl)
theorem dX2_piles_87 : decode cX2_piles 87 = .ok (.goto (-55), 3) := dk_167 255 201 (dk_at dksX2_piles_3 16 rfl rfl)
theorem dX2_piles_90 : decode cX2_piles 90 = .ok (.iload_n 2, 1) := dk_28 (dk_at dksX2_piles_3 19 rfl rfl)
theorem dX2_piles_91 : decode cX2_piles 91 = .ok (.ifCond .ne 10, 3) := dk_154 0 10 (dk_at dksX2_piles_3 20 rfl rfl)
theorem dX2_piles_94 : decode cX2_piles 94 = .ok (.aload_n 0, 1) := dk_42 (dk_at dksX2_piles_3 23 rfl rfl)
theorem dX2_piles_95 : decode cX2_piles 95 = .ok (.getfield 443, 3) := dk_180 1 187 (dk_at dksX2_piles_4 0 rfl rfl)
theorem dX2_piles_98 : decode cX2_piles 98 = .ok (.goto 4, 3) := dk_167 0 4 (dk_at dksX2_piles_4 3 rfl rfl)
theorem dX2_piles_101 : decode cX2_piles 101 = .ok (.iload_n 3, 1) := dk_29 (dk_at dksX2_piles_4 6 rfl rfl)
theorem dX2_piles_102 : decode cX2_piles 102 = .ok (.ireturn, 1) := dk_172 (dk_at dksX2_piles_4 7 rfl rfl)
abbrev cX2_laySets : ByteArray := prog_20_method_119_code
def yX2_laySets : MethodName := ⟨RX2, "laySets", "(I)V"⟩
def dkwX2_laySets_6 : List UInt8 := [167, 255, 143, 177]
abbrev dktX2_laySets_6 : List UInt8 := dkwX2_laySets_6 ++ []
def dkwX2_laySets_5 : List UInt8 := [180, 0, 62, 21, 4, 92, 46, 28, 21, 4, 122, 4, 126, 96, 79, 132, 4, 1, 167, 255, 230, 132, 2, 1]
abbrev dktX2_laySets_5 : List UInt8 := dkwX2_laySets_5 ++ dktX2_laySets_6
def dkwX2_laySets_4 : List UInt8 := [167, 0, 45, 42, 89, 180, 1, 187, 4, 96, 181, 1, 187, 3, 54, 4, 21, 4, 16, 8, 162, 0, 25, 42]
abbrev dktX2_laySets_4 : List UInt8 := dkwX2_laySets_4 ++ dktX2_laySets_5
def dkwX2_laySets_3 : List UInt8 := [16, 120, 21, 4, 96, 46, 167, 0, 4, 3, 96, 62, 132, 4, 1, 167, 255, 216, 29, 27, 159, 0, 6]
abbrev dktX2_laySets_3 : List UInt8 := dkwX2_laySets_3 ++ dktX2_laySets_4
def dkwX2_laySets_2 : List UInt8 := [42, 180, 0, 7, 7, 46, 162, 0, 35, 29, 28, 21, 4, 184, 0, 77, 153, 0, 16, 42, 180, 0, 7]
abbrev dktX2_laySets_2 : List UInt8 := dkwX2_laySets_2 ++ dktX2_laySets_3
def dkwX2_laySets_1 : List UInt8 := [167, 255, 240, 3, 61, 28, 4, 42, 180, 0, 7, 7, 46, 120, 162, 0, 107, 3, 62, 3, 54, 4, 21, 4]
abbrev dktX2_laySets_1 : List UInt8 := dkwX2_laySets_1 ++ dktX2_laySets_2
def dkwX2_laySets_0 : List UInt8 := [42, 3, 181, 1, 187, 3, 61, 28, 16, 8, 162, 0, 16, 42, 180, 0, 62, 28, 3, 79, 132, 2, 1]
abbrev dktX2_laySets_0 : List UInt8 := dkwX2_laySets_0 ++ dktX2_laySets_1
theorem dksX2_laySets_0 : cX2_laySets.data.toList.drop 0 = dktX2_laySets_0 := by decide +kernel
theorem dksX2_laySets_1 : cX2_laySets.data.toList.drop 23 = dktX2_laySets_1 := dk_seg dksX2_laySets_0 23 rfl rfl
theorem dksX2_laySets_2 : cX2_laySets.data.toList.drop 47 = dktX2_laySets_2 := dk_seg dksX2_laySets_1 24 rfl rfl
theorem dksX2_laySets_3 : cX2_laySets.data.toList.drop 70 = dktX2_laySets_3 := dk_seg dksX2_laySets_2 23 rfl rfl
theorem dksX2_laySets_4 : cX2_laySets.data.toList.drop 93 = dktX2_laySets_4 := dk_seg dksX2_laySets_3 23 rfl rfl
theorem dksX2_laySets_5 : cX2_laySets.data.toList.drop 117 = dktX2_laySets_5 := dk_seg dksX2_laySets_4 24 rfl rfl
theorem dksX2_laySets_6 : cX2_laySets.data.toList.drop 141 = dktX2_laySets_6 := dk_seg dksX2_laySets_5 24 rfl rfl
theorem dX2_laySets_0 : decode cX2_laySets 0 = .ok (.aload_n 0, 1) := dk_42 (dk_at dksX2_laySets_0 0 rfl rfl)
theorem dX2_laySets_1 : decode cX2_laySets 1 = .ok (.iconst 0, 1) := dk_3 (dk_at dksX2_laySets_0 1 rfl rfl)
theorem dX2_laySets_2 : decode cX2_laySets 2 = .ok (.putfield 443, 3) := dk_181 1 187 (dk_at dksX2_laySets_0 2 rfl rfl)
theorem dX2_laySets_5 : decode cX2_laySets 5 = .ok (.iconst 0, 1) := dk_3 (dk_at dksX2_laySets_0 5 rfl rfl)
theorem dX2_laySets_6 : decode cX2_laySets 6 = .ok (.istore_n 2, 1) := dk_61 (dk_at dksX2_laySets_0 6 rfl rfl)
theorem dX2_laySets_7 : decode cX2_laySets 7 = .ok (.iload_n 2, 1) := dk_28 (dk_at dksX2_laySets_0 7 rfl rfl)
theorem dX2_laySets_8 : decode cX2_laySets 8 = .ok (.bipush 8, 2) := dk_16 8 (dk_at dksX2_laySets_0 8 rfl rfl)
theorem dX2_laySets_10 : decode cX2_laySets 10 = .ok (.if_icmp .ge 16, 3) := dk_162 0 16 (dk_at dksX2_laySets_0 10 rfl rfl)
theorem dX2_laySets_13 : decode cX2_laySets 13 = .ok (.aload_n 0, 1) := dk_42 (dk_at dksX2_laySets_0 13 rfl rfl)
theorem dX2_laySets_14 : decode cX2_laySets 14 = .ok (.getfield 62, 3) := dk_180 0 62 (dk_at dksX2_laySets_0 14 rfl rfl)
theorem dX2_laySets_17 : decode cX2_laySets 17 = .ok (.iload_n 2, 1) := dk_28 (dk_at dksX2_laySets_0 17 rfl rfl)
theorem dX2_laySets_18 : decode cX2_laySets 18 = .ok (.iconst 0, 1) := dk_3 (dk_at dksX2_laySets_0 18 rfl rfl)
theorem dX2_laySets_19 : decode cX2_laySets 19 = .ok (.iastore, 1) := dk_79 (dk_at dksX2_laySets_0 19 rfl rfl)
theorem dX2_laySets_20 : decode cX2_laySets 20 = .ok (.iinc 2 1, 3) := dk_132 2 1 (dk_at dksX2_laySets_0 20 rfl rfl)
theorem dX2_laySets_23 : decode cX2_laySets 23 = .ok (.goto (-16), 3) := dk_167 255 240 (dk_at dksX2_laySets_1 0 rfl rfl)
theorem dX2_laySets_26 : decode cX2_laySets 26 = .ok (.iconst 0, 1) := dk_3 (dk_at dksX2_laySets_1 3 rfl rfl)
theorem dX2_laySets_27 : decode cX2_laySets 27 = .ok (.istore_n 2, 1) := dk_61 (dk_at dksX2_laySets_1 4 rfl rfl)
theorem dX2_laySets_28 : decode cX2_laySets 28 = .ok (.iload_n 2, 1) := dk_28 (dk_at dksX2_laySets_1 5 rfl rfl)
theorem dX2_laySets_29 : decode cX2_laySets 29 = .ok (.iconst 1, 1) := dk_4 (dk_at dksX2_laySets_1 6 rfl rfl)
theorem dX2_laySets_30 : decode cX2_laySets 30 = .ok (.aload_n 0, 1) := dk_42 (dk_at dksX2_laySets_1 7 rfl rfl)
theorem dX2_laySets_31 : decode cX2_laySets 31 = .ok (.getfield 7, 3) := dk_180 0 7 (dk_at dksX2_laySets_1 8 rfl rfl)
theorem dX2_laySets_34 : decode cX2_laySets 34 = .ok (.iconst 4, 1) := dk_7 (dk_at dksX2_laySets_1 11 rfl rfl)
theorem dX2_laySets_35 : decode cX2_laySets 35 = .ok (.iaload, 1) := dk_46 (dk_at dksX2_laySets_1 12 rfl rfl)
theorem dX2_laySets_36 : decode cX2_laySets 36 = .ok (.ishl, 1) := dk_120 (dk_at dksX2_laySets_1 13 rfl rfl)
theorem dX2_laySets_37 : decode cX2_laySets 37 = .ok (.if_icmp .ge 107, 3) := dk_162 0 107 (dk_at dksX2_laySets_1 14 rfl rfl)
theorem dX2_laySets_40 : decode cX2_laySets 40 = .ok (.iconst 0, 1) := dk_3 (dk_at dksX2_laySets_1 17 rfl rfl)
theorem dX2_laySets_41 : decode cX2_laySets 41 = .ok (.istore_n 3, 1) := dk_62 (dk_at dksX2_laySets_1 18 rfl rfl)
theorem dX2_laySets_42 : decode cX2_laySets 42 = .ok (.iconst 0, 1) := dk_3 (dk_at dksX2_laySets_1 19 rfl rfl)
theorem dX2_laySets_43 : decode cX2_laySets 43 = .ok (.istore 4, 2) := dk_54 4 (dk_at dksX2_laySets_1 20 rfl rfl)
theorem dX2_laySets_45 : decode cX2_laySets 45 = .ok (.iload 4, 2) := dk_21 4 (dk_at dksX2_laySets_1 22 rfl rfl)
theorem dX2_laySets_47 : decode cX2_laySets 47 = .ok (.aload_n 0, 1) := dk_42 (dk_at dksX2_laySets_2 0 rfl rfl)
theorem dX2_laySets_48 : decode cX2_laySets 48 = .ok (.getfield 7, 3) := dk_180 0 7 (dk_at dksX2_laySets_2 1 rfl rfl)
theorem dX2_laySets_51 : decode cX2_laySets 51 = .ok (.iconst 4, 1) := dk_7 (dk_at dksX2_laySets_2 4 rfl rfl)
theorem dX2_laySets_52 : decode cX2_laySets 52 = .ok (.iaload, 1) := dk_46 (dk_at dksX2_laySets_2 5 rfl rfl)
theorem dX2_laySets_53 : decode cX2_laySets 53 = .ok (.if_icmp .ge 35, 3) := dk_162 0 35 (dk_at dksX2_laySets_2 6 rfl rfl)
theorem dX2_laySets_56 : decode cX2_laySets 56 = .ok (.iload_n 3, 1) := dk_29 (dk_at dksX2_laySets_2 9 rfl rfl)
theorem dX2_laySets_57 : decode cX2_laySets 57 = .ok (.iload_n 2, 1) := dk_28 (dk_at dksX2_laySets_2 10 rfl rfl)
theorem dX2_laySets_58 : decode cX2_laySets 58 = .ok (.iload 4, 2) := dk_21 4 (dk_at dksX2_laySets_2 11 rfl rfl)
theorem dX2_laySets_60 : decode cX2_laySets 60 = .ok (.invokestatic 77, 3) := dk_184 0 77 (dk_at dksX2_laySets_2 13 rfl rfl)
theorem dX2_laySets_63 : decode cX2_laySets 63 = .ok (.ifCond .eq 16, 3) := dk_153 0 16 (dk_at dksX2_laySets_2 16 rfl rfl)
theorem dX2_laySets_66 : decode cX2_laySets 66 = .ok (.aload_n 0, 1) := dk_42 (dk_at dksX2_laySets_2 19 rfl rfl)
theorem dX2_laySets_67 : decode cX2_laySets 67 = .ok (.getfield 7, 3) := dk_180 0 7 (dk_at dksX2_laySets_2 20 rfl rfl)
theorem dX2_laySets_70 : decode cX2_laySets 70 = .ok (.bipush 120, 2) := dk_16 120 (dk_at dksX2_laySets_3 0 rfl rfl)
theorem dX2_laySets_72 : decode cX2_laySets 72 = .ok (.iload 4, 2) := dk_21 4 (dk_at dksX2_laySets_3 2 rfl rfl)
theorem dX2_laySets_74 : decode cX2_laySets 74 = .ok (.iadd, 1) := dk_96 (dk_at dksX2_laySets_3 4 rfl rfl)
theorem dX2_laySets_75 : decode cX2_laySets 75 = .ok (.iaload, 1) := dk_46 (dk_at dksX2_laySets_3 5 rfl rfl)
theorem dX2_laySets_76 : decode cX2_laySets 76 = .ok (.goto 4, 3) := dk_167 0 4 (dk_at dksX2_laySets_3 6 rfl rfl)
theorem dX2_laySets_79 : decode cX2_laySets 79 = .ok (.iconst 0, 1) := dk_3 (dk_at dksX2_laySets_3 9 rfl rfl)
theorem dX2_laySets_80 : decode cX2_laySets 80 = .ok (.iadd, 1) := dk_96 (dk_at dksX2_laySets_3 10 rfl rfl)
theorem dX2_laySets_81 : decode cX2_laySets 81 = .ok (.istore_n 3, 1) := dk_62 (dk_at dksX2_laySets_3 11 rfl rfl)
theorem dX2_laySets_82 : decode cX2_laySets 82 = .ok (.iinc 4 1, 3) := dk_132 4 1 (dk_at dksX2_laySets_3 12 rfl rfl)
theorem dX2_laySets_85 : decode cX2_laySets 85 = .ok (.goto (-40), 3) := dk_167 255 216 (dk_at dksX2_laySets_3 15 rfl rfl)
theorem dX2_laySets_88 : decode cX2_laySets 88 = .ok (.iload_n 3, 1) := dk_29 (dk_at dksX2_laySets_3 18 rfl rfl)
theorem dX2_laySets_89 : decode cX2_laySets 89 = .ok (.iload_n 1, 1) := dk_27 (dk_at dksX2_laySets_3 19 rfl rfl)
theorem dX2_laySets_90 : decode cX2_laySets 90 = .ok (.if_icmp .eq 6, 3) := dk_159 0 6 (dk_at dksX2_laySets_3 20 rfl rfl)
theorem dX2_laySets_93 : decode cX2_laySets 93 = .ok (.goto 45, 3) := dk_167 0 45 (dk_at dksX2_laySets_4 0 rfl rfl)
theorem dX2_laySets_96 : decode cX2_laySets 96 = .ok (.aload_n 0, 1) := dk_42 (dk_at dksX2_laySets_4 3 rfl rfl)
theorem dX2_laySets_97 : decode cX2_laySets 97 = .ok (.dup, 1) := dk_89 (dk_at dksX2_laySets_4 4 rfl rfl)
theorem dX2_laySets_98 : decode cX2_laySets 98 = .ok (.getfield 443, 3) := dk_180 1 187 (dk_at dksX2_laySets_4 5 rfl rfl)
theorem dX2_laySets_101 : decode cX2_laySets 101 = .ok (.iconst 1, 1) := dk_4 (dk_at dksX2_laySets_4 8 rfl rfl)
theorem dX2_laySets_102 : decode cX2_laySets 102 = .ok (.iadd, 1) := dk_96 (dk_at dksX2_laySets_4 9 rfl rfl)
theorem dX2_laySets_103 : decode cX2_laySets 103 = .ok (.putfield 443, 3) := dk_181 1 187 (dk_at dksX2_laySets_4 10 rfl rfl)
theorem dX2_laySets_106 : decode cX2_laySets 106 = .ok (.iconst 0, 1) := dk_3 (dk_at dksX2_laySets_4 13 rfl rfl)
theorem dX2_laySets_107 : decode cX2_laySets 107 = .ok (.istore 4, 2) := dk_54 4 (dk_at dksX2_laySets_4 14 rfl rfl)
theorem dX2_laySets_109 : decode cX2_laySets 109 = .ok (.iload 4, 2) := dk_21 4 (dk_at dksX2_laySets_4 16 rfl rfl)
theorem dX2_laySets_111 : decode cX2_laySets 111 = .ok (.bipush 8, 2) := dk_16 8 (dk_at dksX2_laySets_4 18 rfl rfl)
theorem dX2_laySets_113 : decode cX2_laySets 113 = .ok (.if_icmp .ge 25, 3) := dk_162 0 25 (dk_at dksX2_laySets_4 20 rfl rfl)
theorem dX2_laySets_116 : decode cX2_laySets 116 = .ok (.aload_n 0, 1) := dk_42 (dk_at dksX2_laySets_4 23 rfl rfl)
theorem dX2_laySets_117 : decode cX2_laySets 117 = .ok (.getfield 62, 3) := dk_180 0 62 (dk_at dksX2_laySets_5 0 rfl rfl)
theorem dX2_laySets_120 : decode cX2_laySets 120 = .ok (.iload 4, 2) := dk_21 4 (dk_at dksX2_laySets_5 3 rfl rfl)
theorem dX2_laySets_122 : decode cX2_laySets 122 = .ok (.dup2, 1) := dk_92 (dk_at dksX2_laySets_5 5 rfl rfl)
theorem dX2_laySets_123 : decode cX2_laySets 123 = .ok (.iaload, 1) := dk_46 (dk_at dksX2_laySets_5 6 rfl rfl)
theorem dX2_laySets_124 : decode cX2_laySets 124 = .ok (.iload_n 2, 1) := dk_28 (dk_at dksX2_laySets_5 7 rfl rfl)
theorem dX2_laySets_125 : decode cX2_laySets 125 = .ok (.iload 4, 2) := dk_21 4 (dk_at dksX2_laySets_5 8 rfl rfl)
theorem dX2_laySets_127 : decode cX2_laySets 127 = .ok (.ishr, 1) := dk_122 (dk_at dksX2_laySets_5 10 rfl rfl)
theorem dX2_laySets_128 : decode cX2_laySets 128 = .ok (.iconst 1, 1) := dk_4 (dk_at dksX2_laySets_5 11 rfl rfl)
theorem dX2_laySets_129 : decode cX2_laySets 129 = .ok (.iand, 1) := dk_126 (dk_at dksX2_laySets_5 12 rfl rfl)
theorem dX2_laySets_130 : decode cX2_laySets 130 = .ok (.iadd, 1) := dk_96 (dk_at dksX2_laySets_5 13 rfl rfl)
theorem dX2_laySets_131 : decode cX2_laySets 131 = .ok (.iastore, 1) := dk_79 (dk_at dksX2_laySets_5 14 rfl rfl)
theorem dX2_laySets_132 : decode cX2_laySets 132 = .ok (.iinc 4 1, 3) := dk_132 4 1 (dk_at dksX2_laySets_5 15 rfl rfl)
theorem dX2_laySets_135 : decode cX2_laySets 135 = .ok (.goto (-26), 3) := dk_167 255 230 (dk_at dksX2_laySets_5 18 rfl rfl)
theorem dX2_laySets_138 : decode cX2_laySets 138 = .ok (.iinc 2 1, 3) := dk_132 2 1 (dk_at dksX2_laySets_5 21 rfl rfl)
theorem dX2_laySets_141 : decode cX2_laySets 141 = .ok (.goto (-113), 3) := dk_167 255 143 (dk_at dksX2_laySets_6 0 rfl rfl)
theorem dX2_laySets_144 : decode cX2_laySets 144 = .ok (.return_, 1) := dk_177 (dk_at dksX2_laySets_6 3 rfl rfl)
abbrev cX2_ask : ByteArray := prog_20_method_121_code
def yX2_ask : MethodName := ⟨RX2, "ask", "(I)I"⟩
def dkwX2_ask_5 : List UInt8 := [167, 0, 9, 21, 5, 62, 21, 4, 61, 132, 4, 1, 167, 255, 154, 28, 172]
abbrev dktX2_ask_5 : List UInt8 := dkwX2_ask_5 ++ []
def dkwX2_ask_4 : List UInt8 := [153, 0, 32, 42, 180, 0, 62, 21, 4, 46, 42, 180, 1, 187, 159, 0, 18, 21, 5, 29, 161, 0, 6]
abbrev dktX2_ask_4 : List UInt8 := dkwX2_ask_4 ++ dktX2_ask_5
def dkwX2_ask_3 : List UInt8 := [180, 1, 187, 5, 42, 180, 0, 62, 21, 4, 46, 104, 100, 54, 5, 42, 180, 0, 62, 21, 4, 46]
abbrev dktX2_ask_3 : List UInt8 := dkwX2_ask_3 ++ dktX2_ask_4
def dkwX2_ask_2 : List UInt8 := [180, 1, 187, 164, 0, 20, 5, 42, 180, 0, 62, 21, 4, 46, 104, 42, 180, 1, 187, 100, 167, 0, 17, 42]
abbrev dktX2_ask_2 : List UInt8 := dkwX2_ask_2 ++ dktX2_ask_3
def dkwX2_ask_1 : List UInt8 := [3, 54, 4, 21, 4, 42, 180, 0, 7, 7, 46, 162, 0, 97, 5, 42, 180, 0, 62, 21, 4, 46, 104, 42]
abbrev dktX2_ask_1 : List UInt8 := dkwX2_ask_1 ++ dktX2_ask_2
def dkwX2_ask_0 : List UInt8 := [27, 3, 17, 39, 15, 184, 0, 69, 154, 0, 5, 2, 172, 42, 27, 182, 1, 190, 2, 61, 19, 1, 161, 62]
abbrev dktX2_ask_0 : List UInt8 := dkwX2_ask_0 ++ dktX2_ask_1
theorem dksX2_ask_0 : cX2_ask.data.toList.drop 0 = dktX2_ask_0 := by decide +kernel
theorem dksX2_ask_1 : cX2_ask.data.toList.drop 24 = dktX2_ask_1 := dk_seg dksX2_ask_0 24 rfl rfl
theorem dksX2_ask_2 : cX2_ask.data.toList.drop 48 = dktX2_ask_2 := dk_seg dksX2_ask_1 24 rfl rfl
theorem dksX2_ask_3 : cX2_ask.data.toList.drop 72 = dktX2_ask_3 := dk_seg dksX2_ask_2 24 rfl rfl
theorem dksX2_ask_4 : cX2_ask.data.toList.drop 94 = dktX2_ask_4 := dk_seg dksX2_ask_3 22 rfl rfl
theorem dksX2_ask_5 : cX2_ask.data.toList.drop 117 = dktX2_ask_5 := dk_seg dksX2_ask_4 23 rfl rfl
theorem dX2_ask_0 : decode cX2_ask 0 = .ok (.iload_n 1, 1) := dk_27 (dk_at dksX2_ask_0 0 rfl rfl)
theorem dX2_ask_1 : decode cX2_ask 1 = .ok (.iconst 0, 1) := dk_3 (dk_at dksX2_ask_0 1 rfl rfl)
theorem dX2_ask_2 : decode cX2_ask 2 = .ok (.sipush 9999, 3) := dk_17 39 15 (dk_at dksX2_ask_0 2 rfl rfl)
theorem dX2_ask_5 : decode cX2_ask 5 = .ok (.invokestatic 69, 3) := dk_184 0 69 (dk_at dksX2_ask_0 5 rfl rfl)
theorem dX2_ask_8 : decode cX2_ask 8 = .ok (.ifCond .ne 5, 3) := dk_154 0 5 (dk_at dksX2_ask_0 8 rfl rfl)
theorem dX2_ask_11 : decode cX2_ask 11 = .ok (.iconst (-1), 1) := dk_2 (dk_at dksX2_ask_0 11 rfl rfl)
theorem dX2_ask_12 : decode cX2_ask 12 = .ok (.ireturn, 1) := dk_172 (dk_at dksX2_ask_0 12 rfl rfl)
theorem dX2_ask_13 : decode cX2_ask 13 = .ok (.aload_n 0, 1) := dk_42 (dk_at dksX2_ask_0 13 rfl rfl)
theorem dX2_ask_14 : decode cX2_ask 14 = .ok (.iload_n 1, 1) := dk_27 (dk_at dksX2_ask_0 14 rfl rfl)
theorem dX2_ask_15 : decode cX2_ask 15 = .ok (.invokevirtual 446, 3) := dk_182 1 190 (dk_at dksX2_ask_0 15 rfl rfl)
theorem dX2_ask_18 : decode cX2_ask 18 = .ok (.iconst (-1), 1) := dk_2 (dk_at dksX2_ask_0 18 rfl rfl)
theorem dX2_ask_19 : decode cX2_ask 19 = .ok (.istore_n 2, 1) := dk_61 (dk_at dksX2_ask_0 19 rfl rfl)
theorem dX2_ask_20 : decode cX2_ask 20 = .ok (.ldc_w 417, 3) := dk_19 1 161 (dk_at dksX2_ask_0 20 rfl rfl)
theorem dX2_ask_23 : decode cX2_ask 23 = .ok (.istore_n 3, 1) := dk_62 (dk_at dksX2_ask_0 23 rfl rfl)
theorem dX2_ask_24 : decode cX2_ask 24 = .ok (.iconst 0, 1) := dk_3 (dk_at dksX2_ask_1 0 rfl rfl)
theorem dX2_ask_25 : decode cX2_ask 25 = .ok (.istore 4, 2) := dk_54 4 (dk_at dksX2_ask_1 1 rfl rfl)
theorem dX2_ask_27 : decode cX2_ask 27 = .ok (.iload 4, 2) := dk_21 4 (dk_at dksX2_ask_1 3 rfl rfl)
theorem dX2_ask_29 : decode cX2_ask 29 = .ok (.aload_n 0, 1) := dk_42 (dk_at dksX2_ask_1 5 rfl rfl)
theorem dX2_ask_30 : decode cX2_ask 30 = .ok (.getfield 7, 3) := dk_180 0 7 (dk_at dksX2_ask_1 6 rfl rfl)
theorem dX2_ask_33 : decode cX2_ask 33 = .ok (.iconst 4, 1) := dk_7 (dk_at dksX2_ask_1 9 rfl rfl)
theorem dX2_ask_34 : decode cX2_ask 34 = .ok (.iaload, 1) := dk_46 (dk_at dksX2_ask_1 10 rfl rfl)
theorem dX2_ask_35 : decode cX2_ask 35 = .ok (.if_icmp .ge 97, 3) := dk_162 0 97 (dk_at dksX2_ask_1 11 rfl rfl)
theorem dX2_ask_38 : decode cX2_ask 38 = .ok (.iconst 2, 1) := dk_5 (dk_at dksX2_ask_1 14 rfl rfl)
theorem dX2_ask_39 : decode cX2_ask 39 = .ok (.aload_n 0, 1) := dk_42 (dk_at dksX2_ask_1 15 rfl rfl)
theorem dX2_ask_40 : decode cX2_ask 40 = .ok (.getfield 62, 3) := dk_180 0 62 (dk_at dksX2_ask_1 16 rfl rfl)
theorem dX2_ask_43 : decode cX2_ask 43 = .ok (.iload 4, 2) := dk_21 4 (dk_at dksX2_ask_1 19 rfl rfl)
theorem dX2_ask_45 : decode cX2_ask 45 = .ok (.iaload, 1) := dk_46 (dk_at dksX2_ask_1 21 rfl rfl)
theorem dX2_ask_46 : decode cX2_ask 46 = .ok (.imul, 1) := dk_104 (dk_at dksX2_ask_1 22 rfl rfl)
theorem dX2_ask_47 : decode cX2_ask 47 = .ok (.aload_n 0, 1) := dk_42 (dk_at dksX2_ask_1 23 rfl rfl)
theorem dX2_ask_48 : decode cX2_ask 48 = .ok (.getfield 443, 3) := dk_180 1 187 (dk_at dksX2_ask_2 0 rfl rfl)
theorem dX2_ask_51 : decode cX2_ask 51 = .ok (.if_icmp .le 20, 3) := dk_164 0 20 (dk_at dksX2_ask_2 3 rfl rfl)
theorem dX2_ask_54 : decode cX2_ask 54 = .ok (.iconst 2, 1) := dk_5 (dk_at dksX2_ask_2 6 rfl rfl)
theorem dX2_ask_55 : decode cX2_ask 55 = .ok (.aload_n 0, 1) := dk_42 (dk_at dksX2_ask_2 7 rfl rfl)
theorem dX2_ask_56 : decode cX2_ask 56 = .ok (.getfield 62, 3) := dk_180 0 62 (dk_at dksX2_ask_2 8 rfl rfl)
theorem dX2_ask_59 : decode cX2_ask 59 = .ok (.iload 4, 2) := dk_21 4 (dk_at dksX2_ask_2 11 rfl rfl)
theorem dX2_ask_61 : decode cX2_ask 61 = .ok (.iaload, 1) := dk_46 (dk_at dksX2_ask_2 13 rfl rfl)
theorem dX2_ask_62 : decode cX2_ask 62 = .ok (.imul, 1) := dk_104 (dk_at dksX2_ask_2 14 rfl rfl)
theorem dX2_ask_63 : decode cX2_ask 63 = .ok (.aload_n 0, 1) := dk_42 (dk_at dksX2_ask_2 15 rfl rfl)
theorem dX2_ask_64 : decode cX2_ask 64 = .ok (.getfield 443, 3) := dk_180 1 187 (dk_at dksX2_ask_2 16 rfl rfl)
theorem dX2_ask_67 : decode cX2_ask 67 = .ok (.isub, 1) := dk_100 (dk_at dksX2_ask_2 19 rfl rfl)
theorem dX2_ask_68 : decode cX2_ask 68 = .ok (.goto 17, 3) := dk_167 0 17 (dk_at dksX2_ask_2 20 rfl rfl)
theorem dX2_ask_71 : decode cX2_ask 71 = .ok (.aload_n 0, 1) := dk_42 (dk_at dksX2_ask_2 23 rfl rfl)
theorem dX2_ask_72 : decode cX2_ask 72 = .ok (.getfield 443, 3) := dk_180 1 187 (dk_at dksX2_ask_3 0 rfl rfl)
theorem dX2_ask_75 : decode cX2_ask 75 = .ok (.iconst 2, 1) := dk_5 (dk_at dksX2_ask_3 3 rfl rfl)
theorem dX2_ask_76 : decode cX2_ask 76 = .ok (.aload_n 0, 1) := dk_42 (dk_at dksX2_ask_3 4 rfl rfl)
theorem dX2_ask_77 : decode cX2_ask 77 = .ok (.getfield 62, 3) := dk_180 0 62 (dk_at dksX2_ask_3 5 rfl rfl)
theorem dX2_ask_80 : decode cX2_ask 80 = .ok (.iload 4, 2) := dk_21 4 (dk_at dksX2_ask_3 8 rfl rfl)
theorem dX2_ask_82 : decode cX2_ask 82 = .ok (.iaload, 1) := dk_46 (dk_at dksX2_ask_3 10 rfl rfl)
theorem dX2_ask_83 : decode cX2_ask 83 = .ok (.imul, 1) := dk_104 (dk_at dksX2_ask_3 11 rfl rfl)
theorem dX2_ask_84 : decode cX2_ask 84 = .ok (.isub, 1) := dk_100 (dk_at dksX2_ask_3 12 rfl rfl)
theorem dX2_ask_85 : decode cX2_ask 85 = .ok (.istore 5, 2) := dk_54 5 (dk_at dksX2_ask_3 13 rfl rfl)
theorem dX2_ask_87 : decode cX2_ask 87 = .ok (.aload_n 0, 1) := dk_42 (dk_at dksX2_ask_3 15 rfl rfl)
theorem dX2_ask_88 : decode cX2_ask 88 = .ok (.getfield 62, 3) := dk_180 0 62 (dk_at dksX2_ask_3 16 rfl rfl)
theorem dX2_ask_91 : decode cX2_ask 91 = .ok (.iload 4, 2) := dk_21 4 (dk_at dksX2_ask_3 19 rfl rfl)
theorem dX2_ask_93 : decode cX2_ask 93 = .ok (.iaload, 1) := dk_46 (dk_at dksX2_ask_3 21 rfl rfl)
theorem dX2_ask_94 : decode cX2_ask 94 = .ok (.ifCond .eq 32, 3) := dk_153 0 32 (dk_at dksX2_ask_4 0 rfl rfl)
theorem dX2_ask_97 : decode cX2_ask 97 = .ok (.aload_n 0, 1) := dk_42 (dk_at dksX2_ask_4 3 rfl rfl)
theorem dX2_ask_98 : decode cX2_ask 98 = .ok (.getfield 62, 3) := dk_180 0 62 (dk_at dksX2_ask_4 4 rfl rfl)
theorem dX2_ask_101 : decode cX2_ask 101 = .ok (.iload 4, 2) := dk_21 4 (dk_at dksX2_ask_4 7 rfl rfl)
theorem dX2_ask_103 : decode cX2_ask 103 = .ok (.iaload, 1) := dk_46 (dk_at dksX2_ask_4 9 rfl rfl)
theorem dX2_ask_104 : decode cX2_ask 104 = .ok (.aload_n 0, 1) := dk_42 (dk_at dksX2_ask_4 10 rfl rfl)
theorem dX2_ask_105 : decode cX2_ask 105 = .ok (.getfield 443, 3) := dk_180 1 187 (dk_at dksX2_ask_4 11 rfl rfl)
theorem dX2_ask_108 : decode cX2_ask 108 = .ok (.if_icmp .eq 18, 3) := dk_159 0 18 (dk_at dksX2_ask_4 14 rfl rfl)
theorem dX2_ask_111 : decode cX2_ask 111 = .ok (.iload 5, 2) := dk_21 5 (dk_at dksX2_ask_4 17 rfl rfl)
theorem dX2_ask_113 : decode cX2_ask 113 = .ok (.iload_n 3, 1) := dk_29 (dk_at dksX2_ask_4 19 rfl rfl)
theorem dX2_ask_114 : decode cX2_ask 114 = .ok (.if_icmp .lt 6, 3) := dk_161 0 6 (dk_at dksX2_ask_4 20 rfl rfl)
theorem dX2_ask_117 : decode cX2_ask 117 = .ok (.goto 9, 3) := dk_167 0 9 (dk_at dksX2_ask_5 0 rfl rfl)
theorem dX2_ask_120 : decode cX2_ask 120 = .ok (.iload 5, 2) := dk_21 5 (dk_at dksX2_ask_5 3 rfl rfl)
theorem dX2_ask_122 : decode cX2_ask 122 = .ok (.istore_n 3, 1) := dk_62 (dk_at dksX2_ask_5 5 rfl rfl)
theorem dX2_ask_123 : decode cX2_ask 123 = .ok (.iload 4, 2) := dk_21 4 (dk_at dksX2_ask_5 6 rfl rfl)
theorem dX2_ask_125 : decode cX2_ask 125 = .ok (.istore_n 2, 1) := dk_61 (dk_at dksX2_ask_5 8 rfl rfl)
theorem dX2_ask_126 : decode cX2_ask 126 = .ok (.iinc 4 1, 3) := dk_132 4 1 (dk_at dksX2_ask_5 9 rfl rfl)
theorem dX2_ask_129 : decode cX2_ask 129 = .ok (.goto (-102), 3) := dk_167 255 154 (dk_at dksX2_ask_5 12 rfl rfl)
theorem dX2_ask_132 : decode cX2_ask 132 = .ok (.iload_n 2, 1) := dk_28 (dk_at dksX2_ask_5 15 rfl rfl)
theorem dX2_ask_133 : decode cX2_ask 133 = .ok (.ireturn, 1) := dk_172 (dk_at dksX2_ask_5 16 rfl rfl)
abbrev cX2_orders : ByteArray := prog_20_method_122_code
def yX2_orders : MethodName := ⟨RX2, "orders", "()J"⟩
def dkwX2_orders_2 : List UInt8 := [133, 109, 64, 132, 3, 1, 167, 255, 231, 31, 173]
abbrev dktX2_orders_2 : List UInt8 := dkwX2_orders_2 ++ []
def dkwX2_orders_1 : List UInt8 := [167, 255, 238, 3, 62, 29, 42, 180, 0, 7, 3, 46, 162, 0, 21, 31, 42, 29, 182, 1, 142, 184, 1, 193]
abbrev dktX2_orders_1 : List UInt8 := dkwX2_orders_1 ++ dktX2_orders_2
def dkwX2_orders_0 : List UInt8 := [10, 64, 5, 62, 29, 42, 180, 0, 7, 3, 46, 163, 0, 14, 31, 29, 133, 105, 64, 132, 3, 1]
abbrev dktX2_orders_0 : List UInt8 := dkwX2_orders_0 ++ dktX2_orders_1
theorem dksX2_orders_0 : cX2_orders.data.toList.drop 0 = dktX2_orders_0 := by decide +kernel
theorem dksX2_orders_1 : cX2_orders.data.toList.drop 22 = dktX2_orders_1 := dk_seg dksX2_orders_0 22 rfl rfl
theorem dksX2_orders_2 : cX2_orders.data.toList.drop 46 = dktX2_orders_2 := dk_seg dksX2_orders_1 24 rfl rfl
theorem dX2_orders_0 : decode cX2_orders 0 = .ok (.lconst 1, 1) := dk_10 (dk_at dksX2_orders_0 0 rfl rfl)
theorem dX2_orders_1 : decode cX2_orders 1 = .ok (.lstore_n 1, 1) := dk_64 (dk_at dksX2_orders_0 1 rfl rfl)
theorem dX2_orders_2 : decode cX2_orders 2 = .ok (.iconst 2, 1) := dk_5 (dk_at dksX2_orders_0 2 rfl rfl)
theorem dX2_orders_3 : decode cX2_orders 3 = .ok (.istore_n 3, 1) := dk_62 (dk_at dksX2_orders_0 3 rfl rfl)
theorem dX2_orders_4 : decode cX2_orders 4 = .ok (.iload_n 3, 1) := dk_29 (dk_at dksX2_orders_0 4 rfl rfl)
theorem dX2_orders_5 : decode cX2_orders 5 = .ok (.aload_n 0, 1) := dk_42 (dk_at dksX2_orders_0 5 rfl rfl)
theorem dX2_orders_6 : decode cX2_orders 6 = .ok (.getfield 7, 3) := dk_180 0 7 (dk_at dksX2_orders_0 6 rfl rfl)
theorem dX2_orders_9 : decode cX2_orders 9 = .ok (.iconst 0, 1) := dk_3 (dk_at dksX2_orders_0 9 rfl rfl)
theorem dX2_orders_10 : decode cX2_orders 10 = .ok (.iaload, 1) := dk_46 (dk_at dksX2_orders_0 10 rfl rfl)
theorem dX2_orders_11 : decode cX2_orders 11 = .ok (.if_icmp .gt 14, 3) := dk_163 0 14 (dk_at dksX2_orders_0 11 rfl rfl)
theorem dX2_orders_14 : decode cX2_orders 14 = .ok (.lload_n 1, 1) := dk_31 (dk_at dksX2_orders_0 14 rfl rfl)
theorem dX2_orders_15 : decode cX2_orders 15 = .ok (.iload_n 3, 1) := dk_29 (dk_at dksX2_orders_0 15 rfl rfl)
theorem dX2_orders_16 : decode cX2_orders 16 = .ok (.i2l, 1) := dk_133 (dk_at dksX2_orders_0 16 rfl rfl)
theorem dX2_orders_17 : decode cX2_orders 17 = .ok (.lmul, 1) := dk_105 (dk_at dksX2_orders_0 17 rfl rfl)
theorem dX2_orders_18 : decode cX2_orders 18 = .ok (.lstore_n 1, 1) := dk_64 (dk_at dksX2_orders_0 18 rfl rfl)
theorem dX2_orders_19 : decode cX2_orders 19 = .ok (.iinc 3 1, 3) := dk_132 3 1 (dk_at dksX2_orders_0 19 rfl rfl)
theorem dX2_orders_22 : decode cX2_orders 22 = .ok (.goto (-18), 3) := dk_167 255 238 (dk_at dksX2_orders_1 0 rfl rfl)
theorem dX2_orders_25 : decode cX2_orders 25 = .ok (.iconst 0, 1) := dk_3 (dk_at dksX2_orders_1 3 rfl rfl)
theorem dX2_orders_26 : decode cX2_orders 26 = .ok (.istore_n 3, 1) := dk_62 (dk_at dksX2_orders_1 4 rfl rfl)
theorem dX2_orders_27 : decode cX2_orders 27 = .ok (.iload_n 3, 1) := dk_29 (dk_at dksX2_orders_1 5 rfl rfl)
theorem dX2_orders_28 : decode cX2_orders 28 = .ok (.aload_n 0, 1) := dk_42 (dk_at dksX2_orders_1 6 rfl rfl)
theorem dX2_orders_29 : decode cX2_orders 29 = .ok (.getfield 7, 3) := dk_180 0 7 (dk_at dksX2_orders_1 7 rfl rfl)
theorem dX2_orders_32 : decode cX2_orders 32 = .ok (.iconst 0, 1) := dk_3 (dk_at dksX2_orders_1 10 rfl rfl)
theorem dX2_orders_33 : decode cX2_orders 33 = .ok (.iaload, 1) := dk_46 (dk_at dksX2_orders_1 11 rfl rfl)
theorem dX2_orders_34 : decode cX2_orders 34 = .ok (.if_icmp .ge 21, 3) := dk_162 0 21 (dk_at dksX2_orders_1 12 rfl rfl)
theorem dX2_orders_37 : decode cX2_orders 37 = .ok (.lload_n 1, 1) := dk_31 (dk_at dksX2_orders_1 15 rfl rfl)
theorem dX2_orders_38 : decode cX2_orders 38 = .ok (.aload_n 0, 1) := dk_42 (dk_at dksX2_orders_1 16 rfl rfl)
theorem dX2_orders_39 : decode cX2_orders 39 = .ok (.iload_n 3, 1) := dk_29 (dk_at dksX2_orders_1 17 rfl rfl)
theorem dX2_orders_40 : decode cX2_orders 40 = .ok (.invokevirtual 398, 3) := dk_182 1 142 (dk_at dksX2_orders_1 18 rfl rfl)
theorem dX2_orders_43 : decode cX2_orders 43 = .ok (.invokestatic 449, 3) := dk_184 1 193 (dk_at dksX2_orders_1 21 rfl rfl)
theorem dX2_orders_46 : decode cX2_orders 46 = .ok (.i2l, 1) := dk_133 (dk_at dksX2_orders_2 0 rfl rfl)
theorem dX2_orders_47 : decode cX2_orders 47 = .ok (.ldiv, 1) := dk_109 (dk_at dksX2_orders_2 1 rfl rfl)
theorem dX2_orders_48 : decode cX2_orders 48 = .ok (.lstore_n 1, 1) := dk_64 (dk_at dksX2_orders_2 2 rfl rfl)
theorem dX2_orders_49 : decode cX2_orders 49 = .ok (.iinc 3 1, 3) := dk_132 3 1 (dk_at dksX2_orders_2 3 rfl rfl)
theorem dX2_orders_52 : decode cX2_orders 52 = .ok (.goto (-25), 3) := dk_167 255 231 (dk_at dksX2_orders_2 6 rfl rfl)
theorem dX2_orders_55 : decode cX2_orders 55 = .ok (.lload_n 1, 1) := dk_31 (dk_at dksX2_orders_2 9 rfl rfl)
theorem dX2_orders_56 : decode cX2_orders 56 = .ok (.lreturn, 1) := dk_173 (dk_at dksX2_orders_2 10 rfl rfl)
abbrev cX2_bits : ByteArray := prog_20_method_6_code
def yX2_bits : MethodName := ⟨RX2, "bits", "(I)I"⟩
def dkwX2_bits_0 : List UInt8 := [3, 60, 26, 61, 28, 153, 0, 15, 132, 1, 1, 28, 28, 4, 100, 126, 61, 167, 255, 243, 27, 172]
abbrev dktX2_bits_0 : List UInt8 := dkwX2_bits_0 ++ []
theorem dksX2_bits_0 : cX2_bits.data.toList.drop 0 = dktX2_bits_0 := by decide +kernel
theorem dX2_bits_0 : decode cX2_bits 0 = .ok (.iconst 0, 1) := dk_3 (dk_at dksX2_bits_0 0 rfl rfl)
theorem dX2_bits_1 : decode cX2_bits 1 = .ok (.istore_n 1, 1) := dk_60 (dk_at dksX2_bits_0 1 rfl rfl)
theorem dX2_bits_2 : decode cX2_bits 2 = .ok (.iload_n 0, 1) := dk_26 (dk_at dksX2_bits_0 2 rfl rfl)
theorem dX2_bits_3 : decode cX2_bits 3 = .ok (.istore_n 2, 1) := dk_61 (dk_at dksX2_bits_0 3 rfl rfl)
theorem dX2_bits_4 : decode cX2_bits 4 = .ok (.iload_n 2, 1) := dk_28 (dk_at dksX2_bits_0 4 rfl rfl)
theorem dX2_bits_5 : decode cX2_bits 5 = .ok (.ifCond .eq 15, 3) := dk_153 0 15 (dk_at dksX2_bits_0 5 rfl rfl)
theorem dX2_bits_8 : decode cX2_bits 8 = .ok (.iinc 1 1, 3) := dk_132 1 1 (dk_at dksX2_bits_0 8 rfl rfl)
theorem dX2_bits_11 : decode cX2_bits 11 = .ok (.iload_n 2, 1) := dk_28 (dk_at dksX2_bits_0 11 rfl rfl)
theorem dX2_bits_12 : decode cX2_bits 12 = .ok (.iload_n 2, 1) := dk_28 (dk_at dksX2_bits_0 12 rfl rfl)
theorem dX2_bits_13 : decode cX2_bits 13 = .ok (.iconst 1, 1) := dk_4 (dk_at dksX2_bits_0 13 rfl rfl)
theorem dX2_bits_14 : decode cX2_bits 14 = .ok (.isub, 1) := dk_100 (dk_at dksX2_bits_0 14 rfl rfl)
theorem dX2_bits_15 : decode cX2_bits 15 = .ok (.iand, 1) := dk_126 (dk_at dksX2_bits_0 15 rfl rfl)
theorem dX2_bits_16 : decode cX2_bits 16 = .ok (.istore_n 2, 1) := dk_61 (dk_at dksX2_bits_0 16 rfl rfl)
theorem dX2_bits_17 : decode cX2_bits 17 = .ok (.goto (-13), 3) := dk_167 255 243 (dk_at dksX2_bits_0 17 rfl rfl)
theorem dX2_bits_20 : decode cX2_bits 20 = .ok (.iload_n 1, 1) := dk_27 (dk_at dksX2_bits_0 20 rfl rfl)
theorem dX2_bits_21 : decode cX2_bits 21 = .ok (.ireturn, 1) := dk_172 (dk_at dksX2_bits_0 21 rfl rfl)
abbrev cX2_first : ByteArray := prog_20_method_123_code
def yX2_first : MethodName := ⟨RX2, "first", "(I)I"⟩
def dkwX2_first_5 : List UInt8 := [29, 120, 128, 61, 132, 4, 1, 167, 255, 146, 29, 172]
abbrev dktX2_first_5 : List UInt8 := dkwX2_first_5 ++ []
def dkwX2_first_4 : List UInt8 := [46, 42, 180, 0, 7, 16, 100, 29, 96, 46, 164, 0, 6, 21, 5, 62, 132, 5, 1, 167, 255, 169, 28, 4]
abbrev dktX2_first_4 : List UInt8 := dkwX2_first_4 ++ dktX2_first_5
def dkwX2_first_3 : List UInt8 := [46, 184, 0, 77, 154, 0, 6, 167, 0, 33, 29, 2, 159, 0, 25, 42, 180, 0, 7, 16, 100, 21, 5, 96]
abbrev dktX2_first_3 : List UInt8 := dkwX2_first_3 ++ dktX2_first_4
def dkwX2_first_2 : List UInt8 := [42, 180, 0, 7, 16, 90, 21, 5, 96, 46, 2, 159, 0, 23, 28, 42, 180, 0, 7, 16, 90, 21, 5, 96]
abbrev dktX2_first_2 : List UInt8 := dkwX2_first_2 ++ dktX2_first_3
def dkwX2_first_1 : List UInt8 := [62, 3, 54, 5, 21, 5, 42, 180, 0, 7, 3, 46, 162, 0, 82, 28, 21, 5, 184, 0, 77, 154, 0, 67]
abbrev dktX2_first_1 : List UInt8 := dkwX2_first_1 ++ dktX2_first_2
def dkwX2_first_0 : List UInt8 := [42, 27, 182, 0, 73, 154, 0, 5, 2, 172, 3, 61, 2, 62, 3, 54, 4, 21, 4, 27, 163, 0, 110, 2]
abbrev dktX2_first_0 : List UInt8 := dkwX2_first_0 ++ dktX2_first_1
theorem dksX2_first_0 : cX2_first.data.toList.drop 0 = dktX2_first_0 := by decide +kernel
theorem dksX2_first_1 : cX2_first.data.toList.drop 24 = dktX2_first_1 := dk_seg dksX2_first_0 24 rfl rfl
theorem dksX2_first_2 : cX2_first.data.toList.drop 48 = dktX2_first_2 := dk_seg dksX2_first_1 24 rfl rfl
theorem dksX2_first_3 : cX2_first.data.toList.drop 72 = dktX2_first_3 := dk_seg dksX2_first_2 24 rfl rfl
theorem dksX2_first_4 : cX2_first.data.toList.drop 96 = dktX2_first_4 := dk_seg dksX2_first_3 24 rfl rfl
theorem dksX2_first_5 : cX2_first.data.toList.drop 120 = dktX2_first_5 := dk_seg dksX2_first_4 24 rfl rfl
theorem dX2_first_0 : decode cX2_first 0 = .ok (.aload_n 0, 1) := dk_42 (dk_at dksX2_first_0 0 rfl rfl)
theorem dX2_first_1 : decode cX2_first 1 = .ok (.iload_n 1, 1) := dk_27 (dk_at dksX2_first_0 1 rfl rfl)
theorem dX2_first_2 : decode cX2_first 2 = .ok (.invokevirtual 73, 3) := dk_182 0 73 (dk_at dksX2_first_0 2 rfl rfl)
theorem dX2_first_5 : decode cX2_first 5 = .ok (.ifCond .ne 5, 3) := dk_154 0 5 (dk_at dksX2_first_0 5 rfl rfl)
theorem dX2_first_8 : decode cX2_first 8 = .ok (.iconst (-1), 1) := dk_2 (dk_at dksX2_first_0 8 rfl rfl)
theorem dX2_first_9 : decode cX2_first 9 = .ok (.ireturn, 1) := dk_172 (dk_at dksX2_first_0 9 rfl rfl)
theorem dX2_first_10 : decode cX2_first 10 = .ok (.iconst 0, 1) := dk_3 (dk_at dksX2_first_0 10 rfl rfl)
theorem dX2_first_11 : decode cX2_first 11 = .ok (.istore_n 2, 1) := dk_61 (dk_at dksX2_first_0 11 rfl rfl)
theorem dX2_first_12 : decode cX2_first 12 = .ok (.iconst (-1), 1) := dk_2 (dk_at dksX2_first_0 12 rfl rfl)
theorem dX2_first_13 : decode cX2_first 13 = .ok (.istore_n 3, 1) := dk_62 (dk_at dksX2_first_0 13 rfl rfl)
theorem dX2_first_14 : decode cX2_first 14 = .ok (.iconst 0, 1) := dk_3 (dk_at dksX2_first_0 14 rfl rfl)
theorem dX2_first_15 : decode cX2_first 15 = .ok (.istore 4, 2) := dk_54 4 (dk_at dksX2_first_0 15 rfl rfl)
theorem dX2_first_17 : decode cX2_first 17 = .ok (.iload 4, 2) := dk_21 4 (dk_at dksX2_first_0 17 rfl rfl)
theorem dX2_first_19 : decode cX2_first 19 = .ok (.iload_n 1, 1) := dk_27 (dk_at dksX2_first_0 19 rfl rfl)
theorem dX2_first_20 : decode cX2_first 20 = .ok (.if_icmp .gt 110, 3) := dk_163 0 110 (dk_at dksX2_first_0 20 rfl rfl)
theorem dX2_first_23 : decode cX2_first 23 = .ok (.iconst (-1), 1) := dk_2 (dk_at dksX2_first_0 23 rfl rfl)
theorem dX2_first_24 : decode cX2_first 24 = .ok (.istore_n 3, 1) := dk_62 (dk_at dksX2_first_1 0 rfl rfl)
theorem dX2_first_25 : decode cX2_first 25 = .ok (.iconst 0, 1) := dk_3 (dk_at dksX2_first_1 1 rfl rfl)
theorem dX2_first_26 : decode cX2_first 26 = .ok (.istore 5, 2) := dk_54 5 (dk_at dksX2_first_1 2 rfl rfl)
theorem dX2_first_28 : decode cX2_first 28 = .ok (.iload 5, 2) := dk_21 5 (dk_at dksX2_first_1 4 rfl rfl)
theorem dX2_first_30 : decode cX2_first 30 = .ok (.aload_n 0, 1) := dk_42 (dk_at dksX2_first_1 6 rfl rfl)
theorem dX2_first_31 : decode cX2_first 31 = .ok (.getfield 7, 3) := dk_180 0 7 (dk_at dksX2_first_1 7 rfl rfl)
theorem dX2_first_34 : decode cX2_first 34 = .ok (.iconst 0, 1) := dk_3 (dk_at dksX2_first_1 10 rfl rfl)
theorem dX2_first_35 : decode cX2_first 35 = .ok (.iaload, 1) := dk_46 (dk_at dksX2_first_1 11 rfl rfl)
theorem dX2_first_36 : decode cX2_first 36 = .ok (.if_icmp .ge 82, 3) := dk_162 0 82 (dk_at dksX2_first_1 12 rfl rfl)
theorem dX2_first_39 : decode cX2_first 39 = .ok (.iload_n 2, 1) := dk_28 (dk_at dksX2_first_1 15 rfl rfl)
theorem dX2_first_40 : decode cX2_first 40 = .ok (.iload 5, 2) := dk_21 5 (dk_at dksX2_first_1 16 rfl rfl)
theorem dX2_first_42 : decode cX2_first 42 = .ok (.invokestatic 77, 3) := dk_184 0 77 (dk_at dksX2_first_1 18 rfl rfl)
theorem dX2_first_45 : decode cX2_first 45 = .ok (.ifCond .ne 67, 3) := dk_154 0 67 (dk_at dksX2_first_1 21 rfl rfl)
theorem dX2_first_48 : decode cX2_first 48 = .ok (.aload_n 0, 1) := dk_42 (dk_at dksX2_first_2 0 rfl rfl)
theorem dX2_first_49 : decode cX2_first 49 = .ok (.getfield 7, 3) := dk_180 0 7 (dk_at dksX2_first_2 1 rfl rfl)
theorem dX2_first_52 : decode cX2_first 52 = .ok (.bipush 90, 2) := dk_16 90 (dk_at dksX2_first_2 4 rfl rfl)
theorem dX2_first_54 : decode cX2_first 54 = .ok (.iload 5, 2) := dk_21 5 (dk_at dksX2_first_2 6 rfl rfl)
theorem dX2_first_56 : decode cX2_first 56 = .ok (.iadd, 1) := dk_96 (dk_at dksX2_first_2 8 rfl rfl)
theorem dX2_first_57 : decode cX2_first 57 = .ok (.iaload, 1) := dk_46 (dk_at dksX2_first_2 9 rfl rfl)
theorem dX2_first_58 : decode cX2_first 58 = .ok (.iconst (-1), 1) := dk_2 (dk_at dksX2_first_2 10 rfl rfl)
theorem dX2_first_59 : decode cX2_first 59 = .ok (.if_icmp .eq 23, 3) := dk_159 0 23 (dk_at dksX2_first_2 11 rfl rfl)
theorem dX2_first_62 : decode cX2_first 62 = .ok (.iload_n 2, 1) := dk_28 (dk_at dksX2_first_2 14 rfl rfl)
theorem dX2_first_63 : decode cX2_first 63 = .ok (.aload_n 0, 1) := dk_42 (dk_at dksX2_first_2 15 rfl rfl)
theorem dX2_first_64 : decode cX2_first 64 = .ok (.getfield 7, 3) := dk_180 0 7 (dk_at dksX2_first_2 16 rfl rfl)
theorem dX2_first_67 : decode cX2_first 67 = .ok (.bipush 90, 2) := dk_16 90 (dk_at dksX2_first_2 19 rfl rfl)
theorem dX2_first_69 : decode cX2_first 69 = .ok (.iload 5, 2) := dk_21 5 (dk_at dksX2_first_2 21 rfl rfl)
theorem dX2_first_71 : decode cX2_first 71 = .ok (.iadd, 1) := dk_96 (dk_at dksX2_first_2 23 rfl rfl)
theorem dX2_first_72 : decode cX2_first 72 = .ok (.iaload, 1) := dk_46 (dk_at dksX2_first_3 0 rfl rfl)
theorem dX2_first_73 : decode cX2_first 73 = .ok (.invokestatic 77, 3) := dk_184 0 77 (dk_at dksX2_first_3 1 rfl rfl)
theorem dX2_first_76 : decode cX2_first 76 = .ok (.ifCond .ne 6, 3) := dk_154 0 6 (dk_at dksX2_first_3 4 rfl rfl)
theorem dX2_first_79 : decode cX2_first 79 = .ok (.goto 33, 3) := dk_167 0 33 (dk_at dksX2_first_3 7 rfl rfl)
theorem dX2_first_82 : decode cX2_first 82 = .ok (.iload_n 3, 1) := dk_29 (dk_at dksX2_first_3 10 rfl rfl)
theorem dX2_first_83 : decode cX2_first 83 = .ok (.iconst (-1), 1) := dk_2 (dk_at dksX2_first_3 11 rfl rfl)
theorem dX2_first_84 : decode cX2_first 84 = .ok (.if_icmp .eq 25, 3) := dk_159 0 25 (dk_at dksX2_first_3 12 rfl rfl)
theorem dX2_first_87 : decode cX2_first 87 = .ok (.aload_n 0, 1) := dk_42 (dk_at dksX2_first_3 15 rfl rfl)
theorem dX2_first_88 : decode cX2_first 88 = .ok (.getfield 7, 3) := dk_180 0 7 (dk_at dksX2_first_3 16 rfl rfl)
theorem dX2_first_91 : decode cX2_first 91 = .ok (.bipush 100, 2) := dk_16 100 (dk_at dksX2_first_3 19 rfl rfl)
theorem dX2_first_93 : decode cX2_first 93 = .ok (.iload 5, 2) := dk_21 5 (dk_at dksX2_first_3 21 rfl rfl)
theorem dX2_first_95 : decode cX2_first 95 = .ok (.iadd, 1) := dk_96 (dk_at dksX2_first_3 23 rfl rfl)
theorem dX2_first_96 : decode cX2_first 96 = .ok (.iaload, 1) := dk_46 (dk_at dksX2_first_4 0 rfl rfl)
theorem dX2_first_97 : decode cX2_first 97 = .ok (.aload_n 0, 1) := dk_42 (dk_at dksX2_first_4 1 rfl rfl)
theorem dX2_first_98 : decode cX2_first 98 = .ok (.getfield 7, 3) := dk_180 0 7 (dk_at dksX2_first_4 2 rfl rfl)
theorem dX2_first_101 : decode cX2_first 101 = .ok (.bipush 100, 2) := dk_16 100 (dk_at dksX2_first_4 5 rfl rfl)
theorem dX2_first_103 : decode cX2_first 103 = .ok (.iload_n 3, 1) := dk_29 (dk_at dksX2_first_4 7 rfl rfl)
theorem dX2_first_104 : decode cX2_first 104 = .ok (.iadd, 1) := dk_96 (dk_at dksX2_first_4 8 rfl rfl)
theorem dX2_first_105 : decode cX2_first 105 = .ok (.iaload, 1) := dk_46 (dk_at dksX2_first_4 9 rfl rfl)
theorem dX2_first_106 : decode cX2_first 106 = .ok (.if_icmp .le 6, 3) := dk_164 0 6 (dk_at dksX2_first_4 10 rfl rfl)
theorem dX2_first_109 : decode cX2_first 109 = .ok (.iload 5, 2) := dk_21 5 (dk_at dksX2_first_4 13 rfl rfl)
theorem dX2_first_111 : decode cX2_first 111 = .ok (.istore_n 3, 1) := dk_62 (dk_at dksX2_first_4 15 rfl rfl)
theorem dX2_first_112 : decode cX2_first 112 = .ok (.iinc 5 1, 3) := dk_132 5 1 (dk_at dksX2_first_4 16 rfl rfl)
theorem dX2_first_115 : decode cX2_first 115 = .ok (.goto (-87), 3) := dk_167 255 169 (dk_at dksX2_first_4 19 rfl rfl)
theorem dX2_first_118 : decode cX2_first 118 = .ok (.iload_n 2, 1) := dk_28 (dk_at dksX2_first_4 22 rfl rfl)
theorem dX2_first_119 : decode cX2_first 119 = .ok (.iconst 1, 1) := dk_4 (dk_at dksX2_first_4 23 rfl rfl)
theorem dX2_first_120 : decode cX2_first 120 = .ok (.iload_n 3, 1) := dk_29 (dk_at dksX2_first_5 0 rfl rfl)
theorem dX2_first_121 : decode cX2_first 121 = .ok (.ishl, 1) := dk_120 (dk_at dksX2_first_5 1 rfl rfl)
theorem dX2_first_122 : decode cX2_first 122 = .ok (.ior, 1) := dk_128 (dk_at dksX2_first_5 2 rfl rfl)
theorem dX2_first_123 : decode cX2_first 123 = .ok (.istore_n 2, 1) := dk_61 (dk_at dksX2_first_5 3 rfl rfl)
theorem dX2_first_124 : decode cX2_first 124 = .ok (.iinc 4 1, 3) := dk_132 4 1 (dk_at dksX2_first_5 4 rfl rfl)
theorem dX2_first_127 : decode cX2_first 127 = .ok (.goto (-110), 3) := dk_167 255 146 (dk_at dksX2_first_5 7 rfl rfl)
theorem dX2_first_130 : decode cX2_first 130 = .ok (.iload_n 3, 1) := dk_29 (dk_at dksX2_first_5 10 rfl rfl)
theorem dX2_first_131 : decode cX2_first 131 = .ok (.ireturn, 1) := dk_172 (dk_at dksX2_first_5 11 rfl rfl)
abbrev cX2_weigh : ByteArray := prog_20_method_124_code
def yX2_weigh : MethodName := ⟨RX2, "weigh", "(II)Z"⟩
def dkwX2_weigh_1 : List UInt8 := [17, 0, 128, 27, 96, 28, 79, 4, 172]
abbrev dktX2_weigh_1 : List UInt8 := dkwX2_weigh_1 ++ []
def dkwX2_weigh_0 : List UInt8 := [42, 27, 182, 0, 73, 153, 0, 13, 28, 3, 16, 99, 184, 0, 69, 154, 0, 5, 3, 172, 42, 180, 0, 7]
abbrev dktX2_weigh_0 : List UInt8 := dkwX2_weigh_0 ++ dktX2_weigh_1
theorem dksX2_weigh_0 : cX2_weigh.data.toList.drop 0 = dktX2_weigh_0 := by decide +kernel
theorem dksX2_weigh_1 : cX2_weigh.data.toList.drop 24 = dktX2_weigh_1 := dk_seg dksX2_weigh_0 24 rfl rfl
theorem dX2_weigh_0 : decode cX2_weigh 0 = .ok (.aload_n 0, 1) := dk_42 (dk_at dksX2_weigh_0 0 rfl rfl)
theorem dX2_weigh_1 : decode cX2_weigh 1 = .ok (.iload_n 1, 1) := dk_27 (dk_at dksX2_weigh_0 1 rfl rfl)
theorem dX2_weigh_2 : decode cX2_weigh 2 = .ok (.invokevirtual 73, 3) := dk_182 0 73 (dk_at dksX2_weigh_0 2 rfl rfl)
theorem dX2_weigh_5 : decode cX2_weigh 5 = .ok (.ifCond .eq 13, 3) := dk_153 0 13 (dk_at dksX2_weigh_0 5 rfl rfl)
theorem dX2_weigh_8 : decode cX2_weigh 8 = .ok (.iload_n 2, 1) := dk_28 (dk_at dksX2_weigh_0 8 rfl rfl)
theorem dX2_weigh_9 : decode cX2_weigh 9 = .ok (.iconst 0, 1) := dk_3 (dk_at dksX2_weigh_0 9 rfl rfl)
theorem dX2_weigh_10 : decode cX2_weigh 10 = .ok (.bipush 99, 2) := dk_16 99 (dk_at dksX2_weigh_0 10 rfl rfl)
theorem dX2_weigh_12 : decode cX2_weigh 12 = .ok (.invokestatic 69, 3) := dk_184 0 69 (dk_at dksX2_weigh_0 12 rfl rfl)
theorem dX2_weigh_15 : decode cX2_weigh 15 = .ok (.ifCond .ne 5, 3) := dk_154 0 5 (dk_at dksX2_weigh_0 15 rfl rfl)
theorem dX2_weigh_18 : decode cX2_weigh 18 = .ok (.iconst 0, 1) := dk_3 (dk_at dksX2_weigh_0 18 rfl rfl)
theorem dX2_weigh_19 : decode cX2_weigh 19 = .ok (.ireturn, 1) := dk_172 (dk_at dksX2_weigh_0 19 rfl rfl)
theorem dX2_weigh_20 : decode cX2_weigh 20 = .ok (.aload_n 0, 1) := dk_42 (dk_at dksX2_weigh_0 20 rfl rfl)
theorem dX2_weigh_21 : decode cX2_weigh 21 = .ok (.getfield 7, 3) := dk_180 0 7 (dk_at dksX2_weigh_0 21 rfl rfl)
theorem dX2_weigh_24 : decode cX2_weigh 24 = .ok (.sipush 128, 3) := dk_17 0 128 (dk_at dksX2_weigh_1 0 rfl rfl)
theorem dX2_weigh_27 : decode cX2_weigh 27 = .ok (.iload_n 1, 1) := dk_27 (dk_at dksX2_weigh_1 3 rfl rfl)
theorem dX2_weigh_28 : decode cX2_weigh 28 = .ok (.iadd, 1) := dk_96 (dk_at dksX2_weigh_1 4 rfl rfl)
theorem dX2_weigh_29 : decode cX2_weigh 29 = .ok (.iload_n 2, 1) := dk_28 (dk_at dksX2_weigh_1 5 rfl rfl)
theorem dX2_weigh_30 : decode cX2_weigh 30 = .ok (.iastore, 1) := dk_79 (dk_at dksX2_weigh_1 6 rfl rfl)
theorem dX2_weigh_31 : decode cX2_weigh 31 = .ok (.iconst 1, 1) := dk_4 (dk_at dksX2_weigh_1 7 rfl rfl)
theorem dX2_weigh_32 : decode cX2_weigh 32 = .ok (.ireturn, 1) := dk_172 (dk_at dksX2_weigh_1 8 rfl rfl)
abbrev cX2_apart : ByteArray := prog_20_method_127_code
def yX2_apart : MethodName := ⟨RX2, "apart", "(Z)I"⟩
def dkwX2_apart_2 : List UInt8 := [153, 0, 11, 42, 28, 182, 1, 196, 167, 0, 4, 28, 172]
abbrev dktX2_apart_2 : List UInt8 := dkwX2_apart_2 ++ []
def dkwX2_apart_1 : List UInt8 := [182, 1, 196, 164, 0, 13, 42, 29, 182, 1, 199, 153, 0, 5, 29, 61, 132, 3, 1, 167, 255, 218, 27]
abbrev dktX2_apart_1 : List UInt8 := dkwX2_apart_1 ++ dktX2_apart_2
def dkwX2_apart_0 : List UInt8 := [3, 61, 4, 62, 29, 4, 42, 180, 0, 7, 3, 46, 120, 162, 0, 32, 42, 29, 182, 1, 196, 42, 28]
abbrev dktX2_apart_0 : List UInt8 := dkwX2_apart_0 ++ dktX2_apart_1
theorem dksX2_apart_0 : cX2_apart.data.toList.drop 0 = dktX2_apart_0 := by decide +kernel
theorem dksX2_apart_1 : cX2_apart.data.toList.drop 23 = dktX2_apart_1 := dk_seg dksX2_apart_0 23 rfl rfl
theorem dksX2_apart_2 : cX2_apart.data.toList.drop 46 = dktX2_apart_2 := dk_seg dksX2_apart_1 23 rfl rfl
theorem dX2_apart_0 : decode cX2_apart 0 = .ok (.iconst 0, 1) := dk_3 (dk_at dksX2_apart_0 0 rfl rfl)
theorem dX2_apart_1 : decode cX2_apart 1 = .ok (.istore_n 2, 1) := dk_61 (dk_at dksX2_apart_0 1 rfl rfl)
theorem dX2_apart_2 : decode cX2_apart 2 = .ok (.iconst 1, 1) := dk_4 (dk_at dksX2_apart_0 2 rfl rfl)
theorem dX2_apart_3 : decode cX2_apart 3 = .ok (.istore_n 3, 1) := dk_62 (dk_at dksX2_apart_0 3 rfl rfl)
theorem dX2_apart_4 : decode cX2_apart 4 = .ok (.iload_n 3, 1) := dk_29 (dk_at dksX2_apart_0 4 rfl rfl)
theorem dX2_apart_5 : decode cX2_apart 5 = .ok (.iconst 1, 1) := dk_4 (dk_at dksX2_apart_0 5 rfl rfl)
theorem dX2_apart_6 : decode cX2_apart 6 = .ok (.aload_n 0, 1) := dk_42 (dk_at dksX2_apart_0 6 rfl rfl)
theorem dX2_apart_7 : decode cX2_apart 7 = .ok (.getfield 7, 3) := dk_180 0 7 (dk_at dksX2_apart_0 7 rfl rfl)
theorem dX2_apart_10 : decode cX2_apart 10 = .ok (.iconst 0, 1) := dk_3 (dk_at dksX2_apart_0 10 rfl rfl)
theorem dX2_apart_11 : decode cX2_apart 11 = .ok (.iaload, 1) := dk_46 (dk_at dksX2_apart_0 11 rfl rfl)
theorem dX2_apart_12 : decode cX2_apart 12 = .ok (.ishl, 1) := dk_120 (dk_at dksX2_apart_0 12 rfl rfl)
theorem dX2_apart_13 : decode cX2_apart 13 = .ok (.if_icmp .ge 32, 3) := dk_162 0 32 (dk_at dksX2_apart_0 13 rfl rfl)
theorem dX2_apart_16 : decode cX2_apart 16 = .ok (.aload_n 0, 1) := dk_42 (dk_at dksX2_apart_0 16 rfl rfl)
theorem dX2_apart_17 : decode cX2_apart 17 = .ok (.iload_n 3, 1) := dk_29 (dk_at dksX2_apart_0 17 rfl rfl)
theorem dX2_apart_18 : decode cX2_apart 18 = .ok (.invokevirtual 452, 3) := dk_182 1 196 (dk_at dksX2_apart_0 18 rfl rfl)
theorem dX2_apart_21 : decode cX2_apart 21 = .ok (.aload_n 0, 1) := dk_42 (dk_at dksX2_apart_0 21 rfl rfl)
theorem dX2_apart_22 : decode cX2_apart 22 = .ok (.iload_n 2, 1) := dk_28 (dk_at dksX2_apart_0 22 rfl rfl)
theorem dX2_apart_23 : decode cX2_apart 23 = .ok (.invokevirtual 452, 3) := dk_182 1 196 (dk_at dksX2_apart_1 0 rfl rfl)
theorem dX2_apart_26 : decode cX2_apart 26 = .ok (.if_icmp .le 13, 3) := dk_164 0 13 (dk_at dksX2_apart_1 3 rfl rfl)
theorem dX2_apart_29 : decode cX2_apart 29 = .ok (.aload_n 0, 1) := dk_42 (dk_at dksX2_apart_1 6 rfl rfl)
theorem dX2_apart_30 : decode cX2_apart 30 = .ok (.iload_n 3, 1) := dk_29 (dk_at dksX2_apart_1 7 rfl rfl)
theorem dX2_apart_31 : decode cX2_apart 31 = .ok (.invokevirtual 455, 3) := dk_182 1 199 (dk_at dksX2_apart_1 8 rfl rfl)
theorem dX2_apart_34 : decode cX2_apart 34 = .ok (.ifCond .eq 5, 3) := dk_153 0 5 (dk_at dksX2_apart_1 11 rfl rfl)
theorem dX2_apart_37 : decode cX2_apart 37 = .ok (.iload_n 3, 1) := dk_29 (dk_at dksX2_apart_1 14 rfl rfl)
theorem dX2_apart_38 : decode cX2_apart 38 = .ok (.istore_n 2, 1) := dk_61 (dk_at dksX2_apart_1 15 rfl rfl)
theorem dX2_apart_39 : decode cX2_apart 39 = .ok (.iinc 3 1, 3) := dk_132 3 1 (dk_at dksX2_apart_1 16 rfl rfl)
theorem dX2_apart_42 : decode cX2_apart 42 = .ok (.goto (-38), 3) := dk_167 255 218 (dk_at dksX2_apart_1 19 rfl rfl)
theorem dX2_apart_45 : decode cX2_apart 45 = .ok (.iload_n 1, 1) := dk_27 (dk_at dksX2_apart_1 22 rfl rfl)
theorem dX2_apart_46 : decode cX2_apart 46 = .ok (.ifCond .eq 11, 3) := dk_153 0 11 (dk_at dksX2_apart_2 0 rfl rfl)
theorem dX2_apart_49 : decode cX2_apart 49 = .ok (.aload_n 0, 1) := dk_42 (dk_at dksX2_apart_2 3 rfl rfl)
theorem dX2_apart_50 : decode cX2_apart 50 = .ok (.iload_n 2, 1) := dk_28 (dk_at dksX2_apart_2 4 rfl rfl)
theorem dX2_apart_51 : decode cX2_apart 51 = .ok (.invokevirtual 452, 3) := dk_182 1 196 (dk_at dksX2_apart_2 5 rfl rfl)
theorem dX2_apart_54 : decode cX2_apart 54 = .ok (.goto 4, 3) := dk_167 0 4 (dk_at dksX2_apart_2 8 rfl rfl)
theorem dX2_apart_57 : decode cX2_apart 57 = .ok (.iload_n 2, 1) := dk_28 (dk_at dksX2_apart_2 11 rfl rfl)
theorem dX2_apart_58 : decode cX2_apart 58 = .ok (.ireturn, 1) := dk_172 (dk_at dksX2_apart_2 12 rfl rfl)
abbrev cX2_weightOf : ByteArray := prog_20_method_126_code
def yX2_weightOf : MethodName := ⟨RX2, "weightOf", "(I)I"⟩
def dkwX2_weightOf_1 : List UInt8 := [180, 0, 7, 17, 0, 128, 29, 96, 46, 167, 0, 4, 3, 96, 61, 132, 3, 1, 167, 255, 218, 28, 172]
abbrev dktX2_weightOf_1 : List UInt8 := dkwX2_weightOf_1 ++ []
def dkwX2_weightOf_0 : List UInt8 := [3, 61, 3, 62, 29, 42, 180, 0, 7, 3, 46, 162, 0, 34, 28, 27, 29, 184, 0, 77, 153, 0, 16, 42]
abbrev dktX2_weightOf_0 : List UInt8 := dkwX2_weightOf_0 ++ dktX2_weightOf_1
theorem dksX2_weightOf_0 : cX2_weightOf.data.toList.drop 0 = dktX2_weightOf_0 := by decide +kernel
theorem dksX2_weightOf_1 : cX2_weightOf.data.toList.drop 24 = dktX2_weightOf_1 := dk_seg dksX2_weightOf_0 24 rfl rfl
theorem dX2_weightOf_0 : decode cX2_weightOf 0 = .ok (.iconst 0, 1) := dk_3 (dk_at dksX2_weightOf_0 0 rfl rfl)
theorem dX2_weightOf_1 : decode cX2_weightOf 1 = .ok (.istore_n 2, 1) := dk_61 (dk_at dksX2_weightOf_0 1 rfl rfl)
theorem dX2_weightOf_2 : decode cX2_weightOf 2 = .ok (.iconst 0, 1) := dk_3 (dk_at dksX2_weightOf_0 2 rfl rfl)
theorem dX2_weightOf_3 : decode cX2_weightOf 3 = .ok (.istore_n 3, 1) := dk_62 (dk_at dksX2_weightOf_0 3 rfl rfl)
theorem dX2_weightOf_4 : decode cX2_weightOf 4 = .ok (.iload_n 3, 1) := dk_29 (dk_at dksX2_weightOf_0 4 rfl rfl)
theorem dX2_weightOf_5 : decode cX2_weightOf 5 = .ok (.aload_n 0, 1) := dk_42 (dk_at dksX2_weightOf_0 5 rfl rfl)
theorem dX2_weightOf_6 : decode cX2_weightOf 6 = .ok (.getfield 7, 3) := dk_180 0 7 (dk_at dksX2_weightOf_0 6 rfl rfl)
theorem dX2_weightOf_9 : decode cX2_weightOf 9 = .ok (.iconst 0, 1) := dk_3 (dk_at dksX2_weightOf_0 9 rfl rfl)
theorem dX2_weightOf_10 : decode cX2_weightOf 10 = .ok (.iaload, 1) := dk_46 (dk_at dksX2_weightOf_0 10 rfl rfl)
theorem dX2_weightOf_11 : decode cX2_weightOf 11 = .ok (.if_icmp .ge 34, 3) := dk_162 0 34 (dk_at dksX2_weightOf_0 11 rfl rfl)
theorem dX2_weightOf_14 : decode cX2_weightOf 14 = .ok (.iload_n 2, 1) := dk_28 (dk_at dksX2_weightOf_0 14 rfl rfl)
theorem dX2_weightOf_15 : decode cX2_weightOf 15 = .ok (.iload_n 1, 1) := dk_27 (dk_at dksX2_weightOf_0 15 rfl rfl)
theorem dX2_weightOf_16 : decode cX2_weightOf 16 = .ok (.iload_n 3, 1) := dk_29 (dk_at dksX2_weightOf_0 16 rfl rfl)
theorem dX2_weightOf_17 : decode cX2_weightOf 17 = .ok (.invokestatic 77, 3) := dk_184 0 77 (dk_at dksX2_weightOf_0 17 rfl rfl)
theorem dX2_weightOf_20 : decode cX2_weightOf 20 = .ok (.ifCond .eq 16, 3) := dk_153 0 16 (dk_at dksX2_weightOf_0 20 rfl rfl)
theorem dX2_weightOf_23 : decode cX2_weightOf 23 = .ok (.aload_n 0, 1) := dk_42 (dk_at dksX2_weightOf_0 23 rfl rfl)
theorem dX2_weightOf_24 : decode cX2_weightOf 24 = .ok (.getfield 7, 3) := dk_180 0 7 (dk_at dksX2_weightOf_1 0 rfl rfl)
theorem dX2_weightOf_27 : decode cX2_weightOf 27 = .ok (.sipush 128, 3) := dk_17 0 128 (dk_at dksX2_weightOf_1 3 rfl rfl)
theorem dX2_weightOf_30 : decode cX2_weightOf 30 = .ok (.iload_n 3, 1) := dk_29 (dk_at dksX2_weightOf_1 6 rfl rfl)
theorem dX2_weightOf_31 : decode cX2_weightOf 31 = .ok (.iadd, 1) := dk_96 (dk_at dksX2_weightOf_1 7 rfl rfl)
theorem dX2_weightOf_32 : decode cX2_weightOf 32 = .ok (.iaload, 1) := dk_46 (dk_at dksX2_weightOf_1 8 rfl rfl)
theorem dX2_weightOf_33 : decode cX2_weightOf 33 = .ok (.goto 4, 3) := dk_167 0 4 (dk_at dksX2_weightOf_1 9 rfl rfl)
theorem dX2_weightOf_36 : decode cX2_weightOf 36 = .ok (.iconst 0, 1) := dk_3 (dk_at dksX2_weightOf_1 12 rfl rfl)
theorem dX2_weightOf_37 : decode cX2_weightOf 37 = .ok (.iadd, 1) := dk_96 (dk_at dksX2_weightOf_1 13 rfl rfl)
theorem dX2_weightOf_38 : decode cX2_weightOf 38 = .ok (.istore_n 2, 1) := dk_61 (dk_at dksX2_weightOf_1 14 rfl rfl)
theorem dX2_weightOf_39 : decode cX2_weightOf 39 = .ok (.iinc 3 1, 3) := dk_132 3 1 (dk_at dksX2_weightOf_1 15 rfl rfl)
theorem dX2_weightOf_42 : decode cX2_weightOf 42 = .ok (.goto (-38), 3) := dk_167 255 218 (dk_at dksX2_weightOf_1 18 rfl rfl)
theorem dX2_weightOf_45 : decode cX2_weightOf 45 = .ok (.iload_n 2, 1) := dk_28 (dk_at dksX2_weightOf_1 21 rfl rfl)
theorem dX2_weightOf_46 : decode cX2_weightOf 46 = .ok (.ireturn, 1) := dk_172 (dk_at dksX2_weightOf_1 22 rfl rfl)
abbrev cX2_areApart : ByteArray := prog_20_method_125_code
def yX2_areApart : MethodName := ⟨RX2, "areApart", "(I)Z"⟩
def dkwX2_areApart_1 : List UInt8 := [180, 0, 7, 16, 90, 28, 96, 46, 184, 0, 77, 153, 0, 5, 3, 172, 132, 2, 1, 167, 255, 217, 4, 172]
abbrev dktX2_areApart_1 : List UInt8 := dkwX2_areApart_1 ++ []
def dkwX2_areApart_0 : List UInt8 := [4, 61, 28, 42, 180, 0, 7, 3, 46, 162, 0, 35, 27, 28, 184, 0, 77, 153, 0, 21, 27, 42]
abbrev dktX2_areApart_0 : List UInt8 := dkwX2_areApart_0 ++ dktX2_areApart_1
theorem dksX2_areApart_0 : cX2_areApart.data.toList.drop 0 = dktX2_areApart_0 := by decide +kernel
theorem dksX2_areApart_1 : cX2_areApart.data.toList.drop 22 = dktX2_areApart_1 := dk_seg dksX2_areApart_0 22 rfl rfl
theorem dX2_areApart_0 : decode cX2_areApart 0 = .ok (.iconst 1, 1) := dk_4 (dk_at dksX2_areApart_0 0 rfl rfl)
theorem dX2_areApart_1 : decode cX2_areApart 1 = .ok (.istore_n 2, 1) := dk_61 (dk_at dksX2_areApart_0 1 rfl rfl)
theorem dX2_areApart_2 : decode cX2_areApart 2 = .ok (.iload_n 2, 1) := dk_28 (dk_at dksX2_areApart_0 2 rfl rfl)
theorem dX2_areApart_3 : decode cX2_areApart 3 = .ok (.aload_n 0, 1) := dk_42 (dk_at dksX2_areApart_0 3 rfl rfl)
theorem dX2_areApart_4 : decode cX2_areApart 4 = .ok (.getfield 7, 3) := dk_180 0 7 (dk_at dksX2_areApart_0 4 rfl rfl)
theorem dX2_areApart_7 : decode cX2_areApart 7 = .ok (.iconst 0, 1) := dk_3 (dk_at dksX2_areApart_0 7 rfl rfl)
theorem dX2_areApart_8 : decode cX2_areApart 8 = .ok (.iaload, 1) := dk_46 (dk_at dksX2_areApart_0 8 rfl rfl)
theorem dX2_areApart_9 : decode cX2_areApart 9 = .ok (.if_icmp .ge 35, 3) := dk_162 0 35 (dk_at dksX2_areApart_0 9 rfl rfl)
theorem dX2_areApart_12 : decode cX2_areApart 12 = .ok (.iload_n 1, 1) := dk_27 (dk_at dksX2_areApart_0 12 rfl rfl)
theorem dX2_areApart_13 : decode cX2_areApart 13 = .ok (.iload_n 2, 1) := dk_28 (dk_at dksX2_areApart_0 13 rfl rfl)
theorem dX2_areApart_14 : decode cX2_areApart 14 = .ok (.invokestatic 77, 3) := dk_184 0 77 (dk_at dksX2_areApart_0 14 rfl rfl)
theorem dX2_areApart_17 : decode cX2_areApart 17 = .ok (.ifCond .eq 21, 3) := dk_153 0 21 (dk_at dksX2_areApart_0 17 rfl rfl)
theorem dX2_areApart_20 : decode cX2_areApart 20 = .ok (.iload_n 1, 1) := dk_27 (dk_at dksX2_areApart_0 20 rfl rfl)
theorem dX2_areApart_21 : decode cX2_areApart 21 = .ok (.aload_n 0, 1) := dk_42 (dk_at dksX2_areApart_0 21 rfl rfl)
theorem dX2_areApart_22 : decode cX2_areApart 22 = .ok (.getfield 7, 3) := dk_180 0 7 (dk_at dksX2_areApart_1 0 rfl rfl)
theorem dX2_areApart_25 : decode cX2_areApart 25 = .ok (.bipush 90, 2) := dk_16 90 (dk_at dksX2_areApart_1 3 rfl rfl)
theorem dX2_areApart_27 : decode cX2_areApart 27 = .ok (.iload_n 2, 1) := dk_28 (dk_at dksX2_areApart_1 5 rfl rfl)
theorem dX2_areApart_28 : decode cX2_areApart 28 = .ok (.iadd, 1) := dk_96 (dk_at dksX2_areApart_1 6 rfl rfl)
theorem dX2_areApart_29 : decode cX2_areApart 29 = .ok (.iaload, 1) := dk_46 (dk_at dksX2_areApart_1 7 rfl rfl)
theorem dX2_areApart_30 : decode cX2_areApart 30 = .ok (.invokestatic 77, 3) := dk_184 0 77 (dk_at dksX2_areApart_1 8 rfl rfl)
theorem dX2_areApart_33 : decode cX2_areApart 33 = .ok (.ifCond .eq 5, 3) := dk_153 0 5 (dk_at dksX2_areApart_1 11 rfl rfl)
theorem dX2_areApart_36 : decode cX2_areApart 36 = .ok (.iconst 0, 1) := dk_3 (dk_at dksX2_areApart_1 14 rfl rfl)
theorem dX2_areApart_37 : decode cX2_areApart 37 = .ok (.ireturn, 1) := dk_172 (dk_at dksX2_areApart_1 15 rfl rfl)
theorem dX2_areApart_38 : decode cX2_areApart 38 = .ok (.iinc 2 1, 3) := dk_132 2 1 (dk_at dksX2_areApart_1 16 rfl rfl)
theorem dX2_areApart_41 : decode cX2_areApart 41 = .ok (.goto (-39), 3) := dk_167 255 217 (dk_at dksX2_areApart_1 19 rfl rfl)
theorem dX2_areApart_44 : decode cX2_areApart 44 = .ok (.iconst 1, 1) := dk_4 (dk_at dksX2_areApart_1 22 rfl rfl)
theorem dX2_areApart_45 : decode cX2_areApart 45 = .ok (.ireturn, 1) := dk_172 (dk_at dksX2_areApart_1 23 rfl rfl)
abbrev cX2_middle : ByteArray := prog_20_method_128_code
def yX2_middle : MethodName := ⟨RX2, "middle", "()I"⟩
def dkwX2_middle_3 : List UInt8 := [167, 255, 194, 27, 172]
abbrev dktX2_middle_3 : List UInt8 := dkwX2_middle_3 ++ []
def dkwX2_middle_2 : List UInt8 := [132, 5, 1, 167, 255, 230, 21, 4, 28, 161, 0, 6, 167, 0, 8, 21, 4, 61, 29, 60, 132, 3, 1]
abbrev dktX2_middle_2 : List UInt8 := dkwX2_middle_2 ++ dktX2_middle_3
def dkwX2_middle_1 : List UInt8 := [21, 5, 42, 180, 0, 7, 3, 46, 162, 0, 21, 21, 4, 42, 29, 21, 5, 182, 1, 158, 96, 54, 4]
abbrev dktX2_middle_1 : List UInt8 := dkwX2_middle_1 ++ dktX2_middle_2
def dkwX2_middle_0 : List UInt8 := [2, 60, 19, 1, 161, 61, 3, 62, 29, 42, 180, 0, 7, 3, 46, 162, 0, 58, 3, 54, 4, 3, 54, 5]
abbrev dktX2_middle_0 : List UInt8 := dkwX2_middle_0 ++ dktX2_middle_1
theorem dksX2_middle_0 : cX2_middle.data.toList.drop 0 = dktX2_middle_0 := by decide +kernel
theorem dksX2_middle_1 : cX2_middle.data.toList.drop 24 = dktX2_middle_1 := dk_seg dksX2_middle_0 24 rfl rfl
theorem dksX2_middle_2 : cX2_middle.data.toList.drop 47 = dktX2_middle_2 := dk_seg dksX2_middle_1 23 rfl rfl
theorem dksX2_middle_3 : cX2_middle.data.toList.drop 70 = dktX2_middle_3 := dk_seg dksX2_middle_2 23 rfl rfl
theorem dX2_middle_0 : decode cX2_middle 0 = .ok (.iconst (-1), 1) := dk_2 (dk_at dksX2_middle_0 0 rfl rfl)
theorem dX2_middle_1 : decode cX2_middle 1 = .ok (.istore_n 1, 1) := dk_60 (dk_at dksX2_middle_0 1 rfl rfl)
theorem dX2_middle_2 : decode cX2_middle 2 = .ok (.ldc_w 417, 3) := dk_19 1 161 (dk_at dksX2_middle_0 2 rfl rfl)
theorem dX2_middle_5 : decode cX2_middle 5 = .ok (.istore_n 2, 1) := dk_61 (dk_at dksX2_middle_0 5 rfl rfl)
theorem dX2_middle_6 : decode cX2_middle 6 = .ok (.iconst 0, 1) := dk_3 (dk_at dksX2_middle_0 6 rfl rfl)
theorem dX2_middle_7 : decode cX2_middle 7 = .ok (.istore_n 3, 1) := dk_62 (dk_at dksX2_middle_0 7 rfl rfl)
theorem dX2_middle_8 : decode cX2_middle 8 = .ok (.iload_n 3, 1) := dk_29 (dk_at dksX2_middle_0 8 rfl rfl)
theorem dX2_middle_9 : decode cX2_middle 9 = .ok (.aload_n 0, 1) := dk_42 (dk_at dksX2_middle_0 9 rfl rfl)
theorem dX2_middle_10 : decode cX2_middle 10 = .ok (.getfield 7, 3) := dk_180 0 7 (dk_at dksX2_middle_0 10 rfl rfl)
theorem dX2_middle_13 : decode cX2_middle 13 = .ok (.iconst 0, 1) := dk_3 (dk_at dksX2_middle_0 13 rfl rfl)
theorem dX2_middle_14 : decode cX2_middle 14 = .ok (.iaload, 1) := dk_46 (dk_at dksX2_middle_0 14 rfl rfl)
theorem dX2_middle_15 : decode cX2_middle 15 = .ok (.if_icmp .ge 58, 3) := dk_162 0 58 (dk_at dksX2_middle_0 15 rfl rfl)
theorem dX2_middle_18 : decode cX2_middle 18 = .ok (.iconst 0, 1) := dk_3 (dk_at dksX2_middle_0 18 rfl rfl)
theorem dX2_middle_19 : decode cX2_middle 19 = .ok (.istore 4, 2) := dk_54 4 (dk_at dksX2_middle_0 19 rfl rfl)
theorem dX2_middle_21 : decode cX2_middle 21 = .ok (.iconst 0, 1) := dk_3 (dk_at dksX2_middle_0 21 rfl rfl)
theorem dX2_middle_22 : decode cX2_middle 22 = .ok (.istore 5, 2) := dk_54 5 (dk_at dksX2_middle_0 22 rfl rfl)
theorem dX2_middle_24 : decode cX2_middle 24 = .ok (.iload 5, 2) := dk_21 5 (dk_at dksX2_middle_1 0 rfl rfl)
theorem dX2_middle_26 : decode cX2_middle 26 = .ok (.aload_n 0, 1) := dk_42 (dk_at dksX2_middle_1 2 rfl rfl)
theorem dX2_middle_27 : decode cX2_middle 27 = .ok (.getfield 7, 3) := dk_180 0 7 (dk_at dksX2_middle_1 3 rfl rfl)
theorem dX2_middle_30 : decode cX2_middle 30 = .ok (.iconst 0, 1) := dk_3 (dk_at dksX2_middle_1 6 rfl rfl)
theorem dX2_middle_31 : decode cX2_middle 31 = .ok (.iaload, 1) := dk_46 (dk_at dksX2_middle_1 7 rfl rfl)
theorem dX2_middle_32 : decode cX2_middle 32 = .ok (.if_icmp .ge 21, 3) := dk_162 0 21 (dk_at dksX2_middle_1 8 rfl rfl)
theorem dX2_middle_35 : decode cX2_middle 35 = .ok (.iload 4, 2) := dk_21 4 (dk_at dksX2_middle_1 11 rfl rfl)
theorem dX2_middle_37 : decode cX2_middle 37 = .ok (.aload_n 0, 1) := dk_42 (dk_at dksX2_middle_1 13 rfl rfl)
theorem dX2_middle_38 : decode cX2_middle 38 = .ok (.iload_n 3, 1) := dk_29 (dk_at dksX2_middle_1 14 rfl rfl)
theorem dX2_middle_39 : decode cX2_middle 39 = .ok (.iload 5, 2) := dk_21 5 (dk_at dksX2_middle_1 15 rfl rfl)
theorem dX2_middle_41 : decode cX2_middle 41 = .ok (.invokevirtual 414, 3) := dk_182 1 158 (dk_at dksX2_middle_1 17 rfl rfl)
theorem dX2_middle_44 : decode cX2_middle 44 = .ok (.iadd, 1) := dk_96 (dk_at dksX2_middle_1 20 rfl rfl)
theorem dX2_middle_45 : decode cX2_middle 45 = .ok (.istore 4, 2) := dk_54 4 (dk_at dksX2_middle_1 21 rfl rfl)
theorem dX2_middle_47 : decode cX2_middle 47 = .ok (.iinc 5 1, 3) := dk_132 5 1 (dk_at dksX2_middle_2 0 rfl rfl)
theorem dX2_middle_50 : decode cX2_middle 50 = .ok (.goto (-26), 3) := dk_167 255 230 (dk_at dksX2_middle_2 3 rfl rfl)
theorem dX2_middle_53 : decode cX2_middle 53 = .ok (.iload 4, 2) := dk_21 4 (dk_at dksX2_middle_2 6 rfl rfl)
theorem dX2_middle_55 : decode cX2_middle 55 = .ok (.iload_n 2, 1) := dk_28 (dk_at dksX2_middle_2 8 rfl rfl)
theorem dX2_middle_56 : decode cX2_middle 56 = .ok (.if_icmp .lt 6, 3) := dk_161 0 6 (dk_at dksX2_middle_2 9 rfl rfl)
theorem dX2_middle_59 : decode cX2_middle 59 = .ok (.goto 8, 3) := dk_167 0 8 (dk_at dksX2_middle_2 12 rfl rfl)
theorem dX2_middle_62 : decode cX2_middle 62 = .ok (.iload 4, 2) := dk_21 4 (dk_at dksX2_middle_2 15 rfl rfl)
theorem dX2_middle_64 : decode cX2_middle 64 = .ok (.istore_n 2, 1) := dk_61 (dk_at dksX2_middle_2 17 rfl rfl)
theorem dX2_middle_65 : decode cX2_middle 65 = .ok (.iload_n 3, 1) := dk_29 (dk_at dksX2_middle_2 18 rfl rfl)
theorem dX2_middle_66 : decode cX2_middle 66 = .ok (.istore_n 1, 1) := dk_60 (dk_at dksX2_middle_2 19 rfl rfl)
theorem dX2_middle_67 : decode cX2_middle 67 = .ok (.iinc 3 1, 3) := dk_132 3 1 (dk_at dksX2_middle_2 20 rfl rfl)
theorem dX2_middle_70 : decode cX2_middle 70 = .ok (.goto (-62), 3) := dk_167 255 194 (dk_at dksX2_middle_3 0 rfl rfl)
theorem dX2_middle_73 : decode cX2_middle 73 = .ok (.iload_n 1, 1) := dk_27 (dk_at dksX2_middle_3 3 rfl rfl)
theorem dX2_middle_74 : decode cX2_middle 74 = .ok (.ireturn, 1) := dk_172 (dk_at dksX2_middle_3 4 rfl rfl)
abbrev cX2_longest : ByteArray := prog_20_method_129_code
def yX2_longest : MethodName := ⟨RX2, "longest", "(Z)I"⟩
def dkwX2_longest_3 : List UInt8 := [153, 0, 7, 28, 167, 0, 13, 29, 2, 160, 0, 7, 3, 167, 0, 4, 29, 172]
abbrev dktX2_longest_3 : List UInt8 := dkwX2_longest_3 ++ []
def dkwX2_longest_2 : List UInt8 := [21, 4, 21, 5, 182, 1, 158, 62, 21, 4, 61, 132, 5, 1, 167, 255, 215, 132, 4, 1, 167, 255, 195, 27]
abbrev dktX2_longest_2 : List UInt8 := dkwX2_longest_2 ++ dktX2_longest_3
def dkwX2_longest_1 : List UInt8 := [180, 0, 7, 3, 46, 162, 0, 36, 42, 21, 4, 21, 5, 182, 1, 158, 29, 163, 0, 6, 167, 0, 15, 42]
abbrev dktX2_longest_1 : List UInt8 := dkwX2_longest_1 ++ dktX2_longest_2
def dkwX2_longest_0 : List UInt8 := [2, 61, 2, 62, 3, 54, 4, 21, 4, 42, 180, 0, 7, 3, 46, 162, 0, 56, 3, 54, 5, 21, 5, 42]
abbrev dktX2_longest_0 : List UInt8 := dkwX2_longest_0 ++ dktX2_longest_1
theorem dksX2_longest_0 : cX2_longest.data.toList.drop 0 = dktX2_longest_0 := by decide +kernel
theorem dksX2_longest_1 : cX2_longest.data.toList.drop 24 = dktX2_longest_1 := dk_seg dksX2_longest_0 24 rfl rfl
theorem dksX2_longest_2 : cX2_longest.data.toList.drop 48 = dktX2_longest_2 := dk_seg dksX2_longest_1 24 rfl rfl
theorem dksX2_longest_3 : cX2_longest.data.toList.drop 72 = dktX2_longest_3 := dk_seg dksX2_longest_2 24 rfl rfl
theorem dX2_longest_0 : decode cX2_longest 0 = .ok (.iconst (-1), 1) := dk_2 (dk_at dksX2_longest_0 0 rfl rfl)
theorem dX2_longest_1 : decode cX2_longest 1 = .ok (.istore_n 2, 1) := dk_61 (dk_at dksX2_longest_0 1 rfl rfl)
theorem dX2_longest_2 : decode cX2_longest 2 = .ok (.iconst (-1), 1) := dk_2 (dk_at dksX2_longest_0 2 rfl rfl)
theorem dX2_longest_3 : decode cX2_longest 3 = .ok (.istore_n 3, 1) := dk_62 (dk_at dksX2_longest_0 3 rfl rfl)
theorem dX2_longest_4 : decode cX2_longest 4 = .ok (.iconst 0, 1) := dk_3 (dk_at dksX2_longest_0 4 rfl rfl)
theorem dX2_longest_5 : decode cX2_longest 5 = .ok (.istore 4, 2) := dk_54 4 (dk_at dksX2_longest_0 5 rfl rfl)
theorem dX2_longest_7 : decode cX2_longest 7 = .ok (.iload 4, 2) := dk_21 4 (dk_at dksX2_longest_0 7 rfl rfl)
theorem dX2_longest_9 : decode cX2_longest 9 = .ok (.aload_n 0, 1) := dk_42 (dk_at dksX2_longest_0 9 rfl rfl)
theorem dX2_longest_10 : decode cX2_longest 10 = .ok (.getfield 7, 3) := dk_180 0 7 (dk_at dksX2_longest_0 10 rfl rfl)
theorem dX2_longest_13 : decode cX2_longest 13 = .ok (.iconst 0, 1) := dk_3 (dk_at dksX2_longest_0 13 rfl rfl)
theorem dX2_longest_14 : decode cX2_longest 14 = .ok (.iaload, 1) := dk_46 (dk_at dksX2_longest_0 14 rfl rfl)
theorem dX2_longest_15 : decode cX2_longest 15 = .ok (.if_icmp .ge 56, 3) := dk_162 0 56 (dk_at dksX2_longest_0 15 rfl rfl)
theorem dX2_longest_18 : decode cX2_longest 18 = .ok (.iconst 0, 1) := dk_3 (dk_at dksX2_longest_0 18 rfl rfl)
theorem dX2_longest_19 : decode cX2_longest 19 = .ok (.istore 5, 2) := dk_54 5 (dk_at dksX2_longest_0 19 rfl rfl)
theorem dX2_longest_21 : decode cX2_longest 21 = .ok (.iload 5, 2) := dk_21 5 (dk_at dksX2_longest_0 21 rfl rfl)
theorem dX2_longest_23 : decode cX2_longest 23 = .ok (.aload_n 0, 1) := dk_42 (dk_at dksX2_longest_0 23 rfl rfl)
theorem dX2_longest_24 : decode cX2_longest 24 = .ok (.getfield 7, 3) := dk_180 0 7 (dk_at dksX2_longest_1 0 rfl rfl)
theorem dX2_longest_27 : decode cX2_longest 27 = .ok (.iconst 0, 1) := dk_3 (dk_at dksX2_longest_1 3 rfl rfl)
theorem dX2_longest_28 : decode cX2_longest 28 = .ok (.iaload, 1) := dk_46 (dk_at dksX2_longest_1 4 rfl rfl)
theorem dX2_longest_29 : decode cX2_longest 29 = .ok (.if_icmp .ge 36, 3) := dk_162 0 36 (dk_at dksX2_longest_1 5 rfl rfl)
theorem dX2_longest_32 : decode cX2_longest 32 = .ok (.aload_n 0, 1) := dk_42 (dk_at dksX2_longest_1 8 rfl rfl)
theorem dX2_longest_33 : decode cX2_longest 33 = .ok (.iload 4, 2) := dk_21 4 (dk_at dksX2_longest_1 9 rfl rfl)
theorem dX2_longest_35 : decode cX2_longest 35 = .ok (.iload 5, 2) := dk_21 5 (dk_at dksX2_longest_1 11 rfl rfl)
theorem dX2_longest_37 : decode cX2_longest 37 = .ok (.invokevirtual 414, 3) := dk_182 1 158 (dk_at dksX2_longest_1 13 rfl rfl)
theorem dX2_longest_40 : decode cX2_longest 40 = .ok (.iload_n 3, 1) := dk_29 (dk_at dksX2_longest_1 16 rfl rfl)
theorem dX2_longest_41 : decode cX2_longest 41 = .ok (.if_icmp .gt 6, 3) := dk_163 0 6 (dk_at dksX2_longest_1 17 rfl rfl)
theorem dX2_longest_44 : decode cX2_longest 44 = .ok (.goto 15, 3) := dk_167 0 15 (dk_at dksX2_longest_1 20 rfl rfl)
theorem dX2_longest_47 : decode cX2_longest 47 = .ok (.aload_n 0, 1) := dk_42 (dk_at dksX2_longest_1 23 rfl rfl)
theorem dX2_longest_48 : decode cX2_longest 48 = .ok (.iload 4, 2) := dk_21 4 (dk_at dksX2_longest_2 0 rfl rfl)
theorem dX2_longest_50 : decode cX2_longest 50 = .ok (.iload 5, 2) := dk_21 5 (dk_at dksX2_longest_2 2 rfl rfl)
theorem dX2_longest_52 : decode cX2_longest 52 = .ok (.invokevirtual 414, 3) := dk_182 1 158 (dk_at dksX2_longest_2 4 rfl rfl)
theorem dX2_longest_55 : decode cX2_longest 55 = .ok (.istore_n 3, 1) := dk_62 (dk_at dksX2_longest_2 7 rfl rfl)
theorem dX2_longest_56 : decode cX2_longest 56 = .ok (.iload 4, 2) := dk_21 4 (dk_at dksX2_longest_2 8 rfl rfl)
theorem dX2_longest_58 : decode cX2_longest 58 = .ok (.istore_n 2, 1) := dk_61 (dk_at dksX2_longest_2 10 rfl rfl)
theorem dX2_longest_59 : decode cX2_longest 59 = .ok (.iinc 5 1, 3) := dk_132 5 1 (dk_at dksX2_longest_2 11 rfl rfl)
theorem dX2_longest_62 : decode cX2_longest 62 = .ok (.goto (-41), 3) := dk_167 255 215 (dk_at dksX2_longest_2 14 rfl rfl)
theorem dX2_longest_65 : decode cX2_longest 65 = .ok (.iinc 4 1, 3) := dk_132 4 1 (dk_at dksX2_longest_2 17 rfl rfl)
theorem dX2_longest_68 : decode cX2_longest 68 = .ok (.goto (-61), 3) := dk_167 255 195 (dk_at dksX2_longest_2 20 rfl rfl)
theorem dX2_longest_71 : decode cX2_longest 71 = .ok (.iload_n 1, 1) := dk_27 (dk_at dksX2_longest_2 23 rfl rfl)
theorem dX2_longest_72 : decode cX2_longest 72 = .ok (.ifCond .eq 7, 3) := dk_153 0 7 (dk_at dksX2_longest_3 0 rfl rfl)
theorem dX2_longest_75 : decode cX2_longest 75 = .ok (.iload_n 2, 1) := dk_28 (dk_at dksX2_longest_3 3 rfl rfl)
theorem dX2_longest_76 : decode cX2_longest 76 = .ok (.goto 13, 3) := dk_167 0 13 (dk_at dksX2_longest_3 4 rfl rfl)
theorem dX2_longest_79 : decode cX2_longest 79 = .ok (.iload_n 3, 1) := dk_29 (dk_at dksX2_longest_3 7 rfl rfl)
theorem dX2_longest_80 : decode cX2_longest 80 = .ok (.iconst (-1), 1) := dk_2 (dk_at dksX2_longest_3 8 rfl rfl)
theorem dX2_longest_81 : decode cX2_longest 81 = .ok (.if_icmp .ne 7, 3) := dk_160 0 7 (dk_at dksX2_longest_3 9 rfl rfl)
theorem dX2_longest_84 : decode cX2_longest 84 = .ok (.iconst 0, 1) := dk_3 (dk_at dksX2_longest_3 12 rfl rfl)
theorem dX2_longest_85 : decode cX2_longest 85 = .ok (.goto 4, 3) := dk_167 0 4 (dk_at dksX2_longest_3 13 rfl rfl)
theorem dX2_longest_88 : decode cX2_longest 88 = .ok (.iload_n 3, 1) := dk_29 (dk_at dksX2_longest_3 16 rfl rfl)
theorem dX2_longest_89 : decode cX2_longest 89 = .ok (.ireturn, 1) := dk_172 (dk_at dksX2_longest_3 17 rfl rfl)
abbrev cX2_parts : ByteArray := prog_20_method_130_code
def yX2_parts : MethodName := ⟨RX2, "parts", "(I)I"⟩
def dkwX2_parts_3 : List UInt8 := [132, 3, 1, 167, 255, 209, 28, 172]
abbrev dktX2_parts_3 : List UInt8 := dkwX2_parts_3 ++ []
def dkwX2_parts_2 : List UInt8 := [160, 0, 24, 42, 29, 182, 1, 142, 184, 1, 193, 28, 164, 0, 12, 42, 29, 182, 1, 142, 184, 1, 193, 61]
abbrev dktX2_parts_2 : List UInt8 := dkwX2_parts_2 ++ dktX2_parts_3
def dkwX2_parts_1 : List UInt8 := [100, 61, 4, 62, 29, 42, 180, 0, 7, 3, 46, 162, 0, 43, 42, 180, 0, 7, 16, 90, 29, 96, 46, 27]
abbrev dktX2_parts_1 : List UInt8 := dkwX2_parts_1 ++ dktX2_parts_2
def dkwX2_parts_0 : List UInt8 := [42, 27, 182, 0, 73, 154, 0, 5, 2, 172, 42, 180, 0, 7, 3, 46, 42, 27, 182, 1, 142, 184, 1, 193]
abbrev dktX2_parts_0 : List UInt8 := dkwX2_parts_0 ++ dktX2_parts_1
theorem dksX2_parts_0 : cX2_parts.data.toList.drop 0 = dktX2_parts_0 := by decide +kernel
theorem dksX2_parts_1 : cX2_parts.data.toList.drop 24 = dktX2_parts_1 := dk_seg dksX2_parts_0 24 rfl rfl
theorem dksX2_parts_2 : cX2_parts.data.toList.drop 48 = dktX2_parts_2 := dk_seg dksX2_parts_1 24 rfl rfl
theorem dksX2_parts_3 : cX2_parts.data.toList.drop 72 = dktX2_parts_3 := dk_seg dksX2_parts_2 24 rfl rfl
theorem dX2_parts_0 : decode cX2_parts 0 = .ok (.aload_n 0, 1) := dk_42 (dk_at dksX2_parts_0 0 rfl rfl)
theorem dX2_parts_1 : decode cX2_parts 1 = .ok (.iload_n 1, 1) := dk_27 (dk_at dksX2_parts_0 1 rfl rfl)
theorem dX2_parts_2 : decode cX2_parts 2 = .ok (.invokevirtual 73, 3) := dk_182 0 73 (dk_at dksX2_parts_0 2 rfl rfl)
theorem dX2_parts_5 : decode cX2_parts 5 = .ok (.ifCond .ne 5, 3) := dk_154 0 5 (dk_at dksX2_parts_0 5 rfl rfl)
theorem dX2_parts_8 : decode cX2_parts 8 = .ok (.iconst (-1), 1) := dk_2 (dk_at dksX2_parts_0 8 rfl rfl)
theorem dX2_parts_9 : decode cX2_parts 9 = .ok (.ireturn, 1) := dk_172 (dk_at dksX2_parts_0 9 rfl rfl)
theorem dX2_parts_10 : decode cX2_parts 10 = .ok (.aload_n 0, 1) := dk_42 (dk_at dksX2_parts_0 10 rfl rfl)
theorem dX2_parts_11 : decode cX2_parts 11 = .ok (.getfield 7, 3) := dk_180 0 7 (dk_at dksX2_parts_0 11 rfl rfl)
theorem dX2_parts_14 : decode cX2_parts 14 = .ok (.iconst 0, 1) := dk_3 (dk_at dksX2_parts_0 14 rfl rfl)
theorem dX2_parts_15 : decode cX2_parts 15 = .ok (.iaload, 1) := dk_46 (dk_at dksX2_parts_0 15 rfl rfl)
theorem dX2_parts_16 : decode cX2_parts 16 = .ok (.aload_n 0, 1) := dk_42 (dk_at dksX2_parts_0 16 rfl rfl)
theorem dX2_parts_17 : decode cX2_parts 17 = .ok (.iload_n 1, 1) := dk_27 (dk_at dksX2_parts_0 17 rfl rfl)
theorem dX2_parts_18 : decode cX2_parts 18 = .ok (.invokevirtual 398, 3) := dk_182 1 142 (dk_at dksX2_parts_0 18 rfl rfl)
theorem dX2_parts_21 : decode cX2_parts 21 = .ok (.invokestatic 449, 3) := dk_184 1 193 (dk_at dksX2_parts_0 21 rfl rfl)
theorem dX2_parts_24 : decode cX2_parts 24 = .ok (.isub, 1) := dk_100 (dk_at dksX2_parts_1 0 rfl rfl)
theorem dX2_parts_25 : decode cX2_parts 25 = .ok (.istore_n 2, 1) := dk_61 (dk_at dksX2_parts_1 1 rfl rfl)
theorem dX2_parts_26 : decode cX2_parts 26 = .ok (.iconst 1, 1) := dk_4 (dk_at dksX2_parts_1 2 rfl rfl)
theorem dX2_parts_27 : decode cX2_parts 27 = .ok (.istore_n 3, 1) := dk_62 (dk_at dksX2_parts_1 3 rfl rfl)
theorem dX2_parts_28 : decode cX2_parts 28 = .ok (.iload_n 3, 1) := dk_29 (dk_at dksX2_parts_1 4 rfl rfl)
theorem dX2_parts_29 : decode cX2_parts 29 = .ok (.aload_n 0, 1) := dk_42 (dk_at dksX2_parts_1 5 rfl rfl)
theorem dX2_parts_30 : decode cX2_parts 30 = .ok (.getfield 7, 3) := dk_180 0 7 (dk_at dksX2_parts_1 6 rfl rfl)
theorem dX2_parts_33 : decode cX2_parts 33 = .ok (.iconst 0, 1) := dk_3 (dk_at dksX2_parts_1 9 rfl rfl)
theorem dX2_parts_34 : decode cX2_parts 34 = .ok (.iaload, 1) := dk_46 (dk_at dksX2_parts_1 10 rfl rfl)
theorem dX2_parts_35 : decode cX2_parts 35 = .ok (.if_icmp .ge 43, 3) := dk_162 0 43 (dk_at dksX2_parts_1 11 rfl rfl)
theorem dX2_parts_38 : decode cX2_parts 38 = .ok (.aload_n 0, 1) := dk_42 (dk_at dksX2_parts_1 14 rfl rfl)
theorem dX2_parts_39 : decode cX2_parts 39 = .ok (.getfield 7, 3) := dk_180 0 7 (dk_at dksX2_parts_1 15 rfl rfl)
theorem dX2_parts_42 : decode cX2_parts 42 = .ok (.bipush 90, 2) := dk_16 90 (dk_at dksX2_parts_1 18 rfl rfl)
theorem dX2_parts_44 : decode cX2_parts 44 = .ok (.iload_n 3, 1) := dk_29 (dk_at dksX2_parts_1 20 rfl rfl)
theorem dX2_parts_45 : decode cX2_parts 45 = .ok (.iadd, 1) := dk_96 (dk_at dksX2_parts_1 21 rfl rfl)
theorem dX2_parts_46 : decode cX2_parts 46 = .ok (.iaload, 1) := dk_46 (dk_at dksX2_parts_1 22 rfl rfl)
theorem dX2_parts_47 : decode cX2_parts 47 = .ok (.iload_n 1, 1) := dk_27 (dk_at dksX2_parts_1 23 rfl rfl)
theorem dX2_parts_48 : decode cX2_parts 48 = .ok (.if_icmp .ne 24, 3) := dk_160 0 24 (dk_at dksX2_parts_2 0 rfl rfl)
theorem dX2_parts_51 : decode cX2_parts 51 = .ok (.aload_n 0, 1) := dk_42 (dk_at dksX2_parts_2 3 rfl rfl)
theorem dX2_parts_52 : decode cX2_parts 52 = .ok (.iload_n 3, 1) := dk_29 (dk_at dksX2_parts_2 4 rfl rfl)
theorem dX2_parts_53 : decode cX2_parts 53 = .ok (.invokevirtual 398, 3) := dk_182 1 142 (dk_at dksX2_parts_2 5 rfl rfl)
theorem dX2_parts_56 : decode cX2_parts 56 = .ok (.invokestatic 449, 3) := dk_184 1 193 (dk_at dksX2_parts_2 8 rfl rfl)
theorem dX2_parts_59 : decode cX2_parts 59 = .ok (.iload_n 2, 1) := dk_28 (dk_at dksX2_parts_2 11 rfl rfl)
theorem dX2_parts_60 : decode cX2_parts 60 = .ok (.if_icmp .le 12, 3) := dk_164 0 12 (dk_at dksX2_parts_2 12 rfl rfl)
theorem dX2_parts_63 : decode cX2_parts 63 = .ok (.aload_n 0, 1) := dk_42 (dk_at dksX2_parts_2 15 rfl rfl)
theorem dX2_parts_64 : decode cX2_parts 64 = .ok (.iload_n 3, 1) := dk_29 (dk_at dksX2_parts_2 16 rfl rfl)
theorem dX2_parts_65 : decode cX2_parts 65 = .ok (.invokevirtual 398, 3) := dk_182 1 142 (dk_at dksX2_parts_2 17 rfl rfl)
theorem dX2_parts_68 : decode cX2_parts 68 = .ok (.invokestatic 449, 3) := dk_184 1 193 (dk_at dksX2_parts_2 20 rfl rfl)
theorem dX2_parts_71 : decode cX2_parts 71 = .ok (.istore_n 2, 1) := dk_61 (dk_at dksX2_parts_2 23 rfl rfl)
theorem dX2_parts_72 : decode cX2_parts 72 = .ok (.iinc 3 1, 3) := dk_132 3 1 (dk_at dksX2_parts_3 0 rfl rfl)
theorem dX2_parts_75 : decode cX2_parts 75 = .ok (.goto (-47), 3) := dk_167 255 209 (dk_at dksX2_parts_3 3 rfl rfl)
theorem dX2_parts_78 : decode cX2_parts 78 = .ok (.iload_n 2, 1) := dk_28 (dk_at dksX2_parts_3 6 rfl rfl)
theorem dX2_parts_79 : decode cX2_parts 79 = .ok (.ireturn, 1) := dk_172 (dk_at dksX2_parts_3 7 rfl rfl)
abbrev cX2_deputies : ByteArray := prog_20_method_132_code
def yX2_deputies : MethodName := ⟨RX2, "deputies", "()I"⟩
def dkwX2_deputies_2 : List UInt8 := [172]
abbrev dktX2_deputies_2 : List UInt8 := dkwX2_deputies_2 ++ []
def dkwX2_deputies_1 : List UInt8 := [184, 1, 193, 163, 0, 14, 42, 29, 182, 1, 202, 27, 160, 0, 5, 29, 61, 132, 3, 255, 167, 255, 227, 28]
abbrev dktX2_deputies_1 : List UInt8 := dkwX2_deputies_1 ++ dktX2_deputies_2
def dkwX2_deputies_0 : List UInt8 := [4, 42, 180, 0, 7, 3, 46, 120, 4, 100, 60, 27, 61, 27, 62, 29, 155, 0, 31, 29, 184, 1, 193, 28]
abbrev dktX2_deputies_0 : List UInt8 := dkwX2_deputies_0 ++ dktX2_deputies_1
theorem dksX2_deputies_0 : cX2_deputies.data.toList.drop 0 = dktX2_deputies_0 := by decide +kernel
theorem dksX2_deputies_1 : cX2_deputies.data.toList.drop 24 = dktX2_deputies_1 := dk_seg dksX2_deputies_0 24 rfl rfl
theorem dksX2_deputies_2 : cX2_deputies.data.toList.drop 48 = dktX2_deputies_2 := dk_seg dksX2_deputies_1 24 rfl rfl
theorem dX2_deputies_0 : decode cX2_deputies 0 = .ok (.iconst 1, 1) := dk_4 (dk_at dksX2_deputies_0 0 rfl rfl)
theorem dX2_deputies_1 : decode cX2_deputies 1 = .ok (.aload_n 0, 1) := dk_42 (dk_at dksX2_deputies_0 1 rfl rfl)
theorem dX2_deputies_2 : decode cX2_deputies 2 = .ok (.getfield 7, 3) := dk_180 0 7 (dk_at dksX2_deputies_0 2 rfl rfl)
theorem dX2_deputies_5 : decode cX2_deputies 5 = .ok (.iconst 0, 1) := dk_3 (dk_at dksX2_deputies_0 5 rfl rfl)
theorem dX2_deputies_6 : decode cX2_deputies 6 = .ok (.iaload, 1) := dk_46 (dk_at dksX2_deputies_0 6 rfl rfl)
theorem dX2_deputies_7 : decode cX2_deputies 7 = .ok (.ishl, 1) := dk_120 (dk_at dksX2_deputies_0 7 rfl rfl)
theorem dX2_deputies_8 : decode cX2_deputies 8 = .ok (.iconst 1, 1) := dk_4 (dk_at dksX2_deputies_0 8 rfl rfl)
theorem dX2_deputies_9 : decode cX2_deputies 9 = .ok (.isub, 1) := dk_100 (dk_at dksX2_deputies_0 9 rfl rfl)
theorem dX2_deputies_10 : decode cX2_deputies 10 = .ok (.istore_n 1, 1) := dk_60 (dk_at dksX2_deputies_0 10 rfl rfl)
theorem dX2_deputies_11 : decode cX2_deputies 11 = .ok (.iload_n 1, 1) := dk_27 (dk_at dksX2_deputies_0 11 rfl rfl)
theorem dX2_deputies_12 : decode cX2_deputies 12 = .ok (.istore_n 2, 1) := dk_61 (dk_at dksX2_deputies_0 12 rfl rfl)
theorem dX2_deputies_13 : decode cX2_deputies 13 = .ok (.iload_n 1, 1) := dk_27 (dk_at dksX2_deputies_0 13 rfl rfl)
theorem dX2_deputies_14 : decode cX2_deputies 14 = .ok (.istore_n 3, 1) := dk_62 (dk_at dksX2_deputies_0 14 rfl rfl)
theorem dX2_deputies_15 : decode cX2_deputies 15 = .ok (.iload_n 3, 1) := dk_29 (dk_at dksX2_deputies_0 15 rfl rfl)
theorem dX2_deputies_16 : decode cX2_deputies 16 = .ok (.ifCond .lt 31, 3) := dk_155 0 31 (dk_at dksX2_deputies_0 16 rfl rfl)
theorem dX2_deputies_19 : decode cX2_deputies 19 = .ok (.iload_n 3, 1) := dk_29 (dk_at dksX2_deputies_0 19 rfl rfl)
theorem dX2_deputies_20 : decode cX2_deputies 20 = .ok (.invokestatic 449, 3) := dk_184 1 193 (dk_at dksX2_deputies_0 20 rfl rfl)
theorem dX2_deputies_23 : decode cX2_deputies 23 = .ok (.iload_n 2, 1) := dk_28 (dk_at dksX2_deputies_0 23 rfl rfl)
theorem dX2_deputies_24 : decode cX2_deputies 24 = .ok (.invokestatic 449, 3) := dk_184 1 193 (dk_at dksX2_deputies_1 0 rfl rfl)
theorem dX2_deputies_27 : decode cX2_deputies 27 = .ok (.if_icmp .gt 14, 3) := dk_163 0 14 (dk_at dksX2_deputies_1 3 rfl rfl)
theorem dX2_deputies_30 : decode cX2_deputies 30 = .ok (.aload_n 0, 1) := dk_42 (dk_at dksX2_deputies_1 6 rfl rfl)
theorem dX2_deputies_31 : decode cX2_deputies 31 = .ok (.iload_n 3, 1) := dk_29 (dk_at dksX2_deputies_1 7 rfl rfl)
theorem dX2_deputies_32 : decode cX2_deputies 32 = .ok (.invokevirtual 458, 3) := dk_182 1 202 (dk_at dksX2_deputies_1 8 rfl rfl)
theorem dX2_deputies_35 : decode cX2_deputies 35 = .ok (.iload_n 1, 1) := dk_27 (dk_at dksX2_deputies_1 11 rfl rfl)
theorem dX2_deputies_36 : decode cX2_deputies 36 = .ok (.if_icmp .ne 5, 3) := dk_160 0 5 (dk_at dksX2_deputies_1 12 rfl rfl)
theorem dX2_deputies_39 : decode cX2_deputies 39 = .ok (.iload_n 3, 1) := dk_29 (dk_at dksX2_deputies_1 15 rfl rfl)
theorem dX2_deputies_40 : decode cX2_deputies 40 = .ok (.istore_n 2, 1) := dk_61 (dk_at dksX2_deputies_1 16 rfl rfl)
theorem dX2_deputies_41 : decode cX2_deputies 41 = .ok (.iinc 3 (-1), 3) := dk_132 3 255 (dk_at dksX2_deputies_1 17 rfl rfl)
theorem dX2_deputies_44 : decode cX2_deputies 44 = .ok (.goto (-29), 3) := dk_167 255 227 (dk_at dksX2_deputies_1 20 rfl rfl)
theorem dX2_deputies_47 : decode cX2_deputies 47 = .ok (.iload_n 2, 1) := dk_28 (dk_at dksX2_deputies_1 23 rfl rfl)
theorem dX2_deputies_48 : decode cX2_deputies 48 = .ok (.ireturn, 1) := dk_172 (dk_at dksX2_deputies_2 0 rfl rfl)
abbrev cX2_standFor : ByteArray := prog_20_method_131_code
def yX2_standFor : MethodName := ⟨RX2, "standFor", "(I)I"⟩
def dkwX2_standFor_2 : List UInt8 := [184, 0, 77, 153, 0, 9, 28, 4, 29, 120, 128, 61, 132, 3, 1, 167, 255, 199, 28, 172]
abbrev dktX2_standFor_2 : List UInt8 := dkwX2_standFor_2 ++ []
def dkwX2_standFor_1 : List UInt8 := [42, 180, 0, 7, 16, 90, 29, 96, 46, 120, 128, 61, 27, 42, 180, 0, 7, 16, 90, 29, 96, 46]
abbrev dktX2_standFor_1 : List UInt8 := dkwX2_standFor_1 ++ dktX2_standFor_2
def dkwX2_standFor_0 : List UInt8 := [27, 61, 4, 62, 29, 42, 180, 0, 7, 3, 46, 162, 0, 53, 27, 29, 184, 0, 77, 153, 0, 17, 28, 4]
abbrev dktX2_standFor_0 : List UInt8 := dkwX2_standFor_0 ++ dktX2_standFor_1
theorem dksX2_standFor_0 : cX2_standFor.data.toList.drop 0 = dktX2_standFor_0 := by decide +kernel
theorem dksX2_standFor_1 : cX2_standFor.data.toList.drop 24 = dktX2_standFor_1 := dk_seg dksX2_standFor_0 24 rfl rfl
theorem dksX2_standFor_2 : cX2_standFor.data.toList.drop 46 = dktX2_standFor_2 := dk_seg dksX2_standFor_1 22 rfl rfl
theorem dX2_standFor_0 : decode cX2_standFor 0 = .ok (.iload_n 1, 1) := dk_27 (dk_at dksX2_standFor_0 0 rfl rfl)
theorem dX2_standFor_1 : decode cX2_standFor 1 = .ok (.istore_n 2, 1) := dk_61 (dk_at dksX2_standFor_0 1 rfl rfl)
theorem dX2_standFor_2 : decode cX2_standFor 2 = .ok (.iconst 1, 1) := dk_4 (dk_at dksX2_standFor_0 2 rfl rfl)
theorem dX2_standFor_3 : decode cX2_standFor 3 = .ok (.istore_n 3, 1) := dk_62 (dk_at dksX2_standFor_0 3 rfl rfl)
theorem dX2_standFor_4 : decode cX2_standFor 4 = .ok (.iload_n 3, 1) := dk_29 (dk_at dksX2_standFor_0 4 rfl rfl)
theorem dX2_standFor_5 : decode cX2_standFor 5 = .ok (.aload_n 0, 1) := dk_42 (dk_at dksX2_standFor_0 5 rfl rfl)
theorem dX2_standFor_6 : decode cX2_standFor 6 = .ok (.getfield 7, 3) := dk_180 0 7 (dk_at dksX2_standFor_0 6 rfl rfl)
theorem dX2_standFor_9 : decode cX2_standFor 9 = .ok (.iconst 0, 1) := dk_3 (dk_at dksX2_standFor_0 9 rfl rfl)
theorem dX2_standFor_10 : decode cX2_standFor 10 = .ok (.iaload, 1) := dk_46 (dk_at dksX2_standFor_0 10 rfl rfl)
theorem dX2_standFor_11 : decode cX2_standFor 11 = .ok (.if_icmp .ge 53, 3) := dk_162 0 53 (dk_at dksX2_standFor_0 11 rfl rfl)
theorem dX2_standFor_14 : decode cX2_standFor 14 = .ok (.iload_n 1, 1) := dk_27 (dk_at dksX2_standFor_0 14 rfl rfl)
theorem dX2_standFor_15 : decode cX2_standFor 15 = .ok (.iload_n 3, 1) := dk_29 (dk_at dksX2_standFor_0 15 rfl rfl)
theorem dX2_standFor_16 : decode cX2_standFor 16 = .ok (.invokestatic 77, 3) := dk_184 0 77 (dk_at dksX2_standFor_0 16 rfl rfl)
theorem dX2_standFor_19 : decode cX2_standFor 19 = .ok (.ifCond .eq 17, 3) := dk_153 0 17 (dk_at dksX2_standFor_0 19 rfl rfl)
theorem dX2_standFor_22 : decode cX2_standFor 22 = .ok (.iload_n 2, 1) := dk_28 (dk_at dksX2_standFor_0 22 rfl rfl)
theorem dX2_standFor_23 : decode cX2_standFor 23 = .ok (.iconst 1, 1) := dk_4 (dk_at dksX2_standFor_0 23 rfl rfl)
theorem dX2_standFor_24 : decode cX2_standFor 24 = .ok (.aload_n 0, 1) := dk_42 (dk_at dksX2_standFor_1 0 rfl rfl)
theorem dX2_standFor_25 : decode cX2_standFor 25 = .ok (.getfield 7, 3) := dk_180 0 7 (dk_at dksX2_standFor_1 1 rfl rfl)
theorem dX2_standFor_28 : decode cX2_standFor 28 = .ok (.bipush 90, 2) := dk_16 90 (dk_at dksX2_standFor_1 4 rfl rfl)
theorem dX2_standFor_30 : decode cX2_standFor 30 = .ok (.iload_n 3, 1) := dk_29 (dk_at dksX2_standFor_1 6 rfl rfl)
theorem dX2_standFor_31 : decode cX2_standFor 31 = .ok (.iadd, 1) := dk_96 (dk_at dksX2_standFor_1 7 rfl rfl)
theorem dX2_standFor_32 : decode cX2_standFor 32 = .ok (.iaload, 1) := dk_46 (dk_at dksX2_standFor_1 8 rfl rfl)
theorem dX2_standFor_33 : decode cX2_standFor 33 = .ok (.ishl, 1) := dk_120 (dk_at dksX2_standFor_1 9 rfl rfl)
theorem dX2_standFor_34 : decode cX2_standFor 34 = .ok (.ior, 1) := dk_128 (dk_at dksX2_standFor_1 10 rfl rfl)
theorem dX2_standFor_35 : decode cX2_standFor 35 = .ok (.istore_n 2, 1) := dk_61 (dk_at dksX2_standFor_1 11 rfl rfl)
theorem dX2_standFor_36 : decode cX2_standFor 36 = .ok (.iload_n 1, 1) := dk_27 (dk_at dksX2_standFor_1 12 rfl rfl)
theorem dX2_standFor_37 : decode cX2_standFor 37 = .ok (.aload_n 0, 1) := dk_42 (dk_at dksX2_standFor_1 13 rfl rfl)
theorem dX2_standFor_38 : decode cX2_standFor 38 = .ok (.getfield 7, 3) := dk_180 0 7 (dk_at dksX2_standFor_1 14 rfl rfl)
theorem dX2_standFor_41 : decode cX2_standFor 41 = .ok (.bipush 90, 2) := dk_16 90 (dk_at dksX2_standFor_1 17 rfl rfl)
theorem dX2_standFor_43 : decode cX2_standFor 43 = .ok (.iload_n 3, 1) := dk_29 (dk_at dksX2_standFor_1 19 rfl rfl)
theorem dX2_standFor_44 : decode cX2_standFor 44 = .ok (.iadd, 1) := dk_96 (dk_at dksX2_standFor_1 20 rfl rfl)
theorem dX2_standFor_45 : decode cX2_standFor 45 = .ok (.iaload, 1) := dk_46 (dk_at dksX2_standFor_1 21 rfl rfl)
theorem dX2_standFor_46 : decode cX2_standFor 46 = .ok (.invokestatic 77, 3) := dk_184 0 77 (dk_at dksX2_standFor_2 0 rfl rfl)
theorem dX2_standFor_49 : decode cX2_standFor 49 = .ok (.ifCond .eq 9, 3) := dk_153 0 9 (dk_at dksX2_standFor_2 3 rfl rfl)
theorem dX2_standFor_52 : decode cX2_standFor 52 = .ok (.iload_n 2, 1) := dk_28 (dk_at dksX2_standFor_2 6 rfl rfl)
theorem dX2_standFor_53 : decode cX2_standFor 53 = .ok (.iconst 1, 1) := dk_4 (dk_at dksX2_standFor_2 7 rfl rfl)
theorem dX2_standFor_54 : decode cX2_standFor 54 = .ok (.iload_n 3, 1) := dk_29 (dk_at dksX2_standFor_2 8 rfl rfl)
theorem dX2_standFor_55 : decode cX2_standFor 55 = .ok (.ishl, 1) := dk_120 (dk_at dksX2_standFor_2 9 rfl rfl)
theorem dX2_standFor_56 : decode cX2_standFor 56 = .ok (.ior, 1) := dk_128 (dk_at dksX2_standFor_2 10 rfl rfl)
theorem dX2_standFor_57 : decode cX2_standFor 57 = .ok (.istore_n 2, 1) := dk_61 (dk_at dksX2_standFor_2 11 rfl rfl)
theorem dX2_standFor_58 : decode cX2_standFor 58 = .ok (.iinc 3 1, 3) := dk_132 3 1 (dk_at dksX2_standFor_2 12 rfl rfl)
theorem dX2_standFor_61 : decode cX2_standFor 61 = .ok (.goto (-57), 3) := dk_167 255 199 (dk_at dksX2_standFor_2 15 rfl rfl)
theorem dX2_standFor_64 : decode cX2_standFor 64 = .ok (.iload_n 2, 1) := dk_28 (dk_at dksX2_standFor_2 18 rfl rfl)
theorem dX2_standFor_65 : decode cX2_standFor 65 = .ok (.ireturn, 1) := dk_172 (dk_at dksX2_standFor_2 19 rfl rfl)
abbrev cX2_owes : ByteArray := prog_20_method_133_code
def yX2_owes : MethodName := ⟨RX2, "owes", "(III)Z"⟩
def dkwX2_owes_2 : List UInt8 := [172]
abbrev dktX2_owes_2 : List UInt8 := dkwX2_owes_2 ++ []
def dkwX2_owes_1 : List UInt8 := [184, 0, 69, 154, 0, 5, 3, 172, 42, 180, 0, 7, 17, 0, 138, 8, 27, 104, 96, 28, 96, 29, 79, 4]
abbrev dktX2_owes_1 : List UInt8 := dkwX2_owes_1 ++ dktX2_owes_2
def dkwX2_owes_0 : List UInt8 := [27, 3, 4, 184, 0, 69, 153, 0, 22, 28, 3, 7, 184, 0, 69, 153, 0, 13, 29, 3, 16, 99]
abbrev dktX2_owes_0 : List UInt8 := dkwX2_owes_0 ++ dktX2_owes_1
theorem dksX2_owes_0 : cX2_owes.data.toList.drop 0 = dktX2_owes_0 := by decide +kernel
theorem dksX2_owes_1 : cX2_owes.data.toList.drop 22 = dktX2_owes_1 := dk_seg dksX2_owes_0 22 rfl rfl
theorem dksX2_owes_2 : cX2_owes.data.toList.drop 46 = dktX2_owes_2 := dk_seg dksX2_owes_1 24 rfl rfl
theorem dX2_owes_0 : decode cX2_owes 0 = .ok (.iload_n 1, 1) := dk_27 (dk_at dksX2_owes_0 0 rfl rfl)
theorem dX2_owes_1 : decode cX2_owes 1 = .ok (.iconst 0, 1) := dk_3 (dk_at dksX2_owes_0 1 rfl rfl)
theorem dX2_owes_2 : decode cX2_owes 2 = .ok (.iconst 1, 1) := dk_4 (dk_at dksX2_owes_0 2 rfl rfl)
theorem dX2_owes_3 : decode cX2_owes 3 = .ok (.invokestatic 69, 3) := dk_184 0 69 (dk_at dksX2_owes_0 3 rfl rfl)
theorem dX2_owes_6 : decode cX2_owes 6 = .ok (.ifCond .eq 22, 3) := dk_153 0 22 (dk_at dksX2_owes_0 6 rfl rfl)
theorem dX2_owes_9 : decode cX2_owes 9 = .ok (.iload_n 2, 1) := dk_28 (dk_at dksX2_owes_0 9 rfl rfl)
theorem dX2_owes_10 : decode cX2_owes 10 = .ok (.iconst 0, 1) := dk_3 (dk_at dksX2_owes_0 10 rfl rfl)
theorem dX2_owes_11 : decode cX2_owes 11 = .ok (.iconst 4, 1) := dk_7 (dk_at dksX2_owes_0 11 rfl rfl)
theorem dX2_owes_12 : decode cX2_owes 12 = .ok (.invokestatic 69, 3) := dk_184 0 69 (dk_at dksX2_owes_0 12 rfl rfl)
theorem dX2_owes_15 : decode cX2_owes 15 = .ok (.ifCond .eq 13, 3) := dk_153 0 13 (dk_at dksX2_owes_0 15 rfl rfl)
theorem dX2_owes_18 : decode cX2_owes 18 = .ok (.iload_n 3, 1) := dk_29 (dk_at dksX2_owes_0 18 rfl rfl)
theorem dX2_owes_19 : decode cX2_owes 19 = .ok (.iconst 0, 1) := dk_3 (dk_at dksX2_owes_0 19 rfl rfl)
theorem dX2_owes_20 : decode cX2_owes 20 = .ok (.bipush 99, 2) := dk_16 99 (dk_at dksX2_owes_0 20 rfl rfl)
theorem dX2_owes_22 : decode cX2_owes 22 = .ok (.invokestatic 69, 3) := dk_184 0 69 (dk_at dksX2_owes_1 0 rfl rfl)
theorem dX2_owes_25 : decode cX2_owes 25 = .ok (.ifCond .ne 5, 3) := dk_154 0 5 (dk_at dksX2_owes_1 3 rfl rfl)
theorem dX2_owes_28 : decode cX2_owes 28 = .ok (.iconst 0, 1) := dk_3 (dk_at dksX2_owes_1 6 rfl rfl)
theorem dX2_owes_29 : decode cX2_owes 29 = .ok (.ireturn, 1) := dk_172 (dk_at dksX2_owes_1 7 rfl rfl)
theorem dX2_owes_30 : decode cX2_owes 30 = .ok (.aload_n 0, 1) := dk_42 (dk_at dksX2_owes_1 8 rfl rfl)
theorem dX2_owes_31 : decode cX2_owes 31 = .ok (.getfield 7, 3) := dk_180 0 7 (dk_at dksX2_owes_1 9 rfl rfl)
theorem dX2_owes_34 : decode cX2_owes 34 = .ok (.sipush 138, 3) := dk_17 0 138 (dk_at dksX2_owes_1 12 rfl rfl)
theorem dX2_owes_37 : decode cX2_owes 37 = .ok (.iconst 5, 1) := dk_8 (dk_at dksX2_owes_1 15 rfl rfl)
theorem dX2_owes_38 : decode cX2_owes 38 = .ok (.iload_n 1, 1) := dk_27 (dk_at dksX2_owes_1 16 rfl rfl)
theorem dX2_owes_39 : decode cX2_owes 39 = .ok (.imul, 1) := dk_104 (dk_at dksX2_owes_1 17 rfl rfl)
theorem dX2_owes_40 : decode cX2_owes 40 = .ok (.iadd, 1) := dk_96 (dk_at dksX2_owes_1 18 rfl rfl)
theorem dX2_owes_41 : decode cX2_owes 41 = .ok (.iload_n 2, 1) := dk_28 (dk_at dksX2_owes_1 19 rfl rfl)
theorem dX2_owes_42 : decode cX2_owes 42 = .ok (.iadd, 1) := dk_96 (dk_at dksX2_owes_1 20 rfl rfl)
theorem dX2_owes_43 : decode cX2_owes 43 = .ok (.iload_n 3, 1) := dk_29 (dk_at dksX2_owes_1 21 rfl rfl)
theorem dX2_owes_44 : decode cX2_owes 44 = .ok (.iastore, 1) := dk_79 (dk_at dksX2_owes_1 22 rfl rfl)
theorem dX2_owes_45 : decode cX2_owes 45 = .ok (.iconst 1, 1) := dk_4 (dk_at dksX2_owes_1 23 rfl rfl)
theorem dX2_owes_46 : decode cX2_owes 46 = .ok (.ireturn, 1) := dk_172 (dk_at dksX2_owes_2 0 rfl rfl)
abbrev cX2_play : ByteArray := prog_20_method_134_code
def yX2_play : MethodName := ⟨RX2, "play", "(IZ)I"⟩
def dkwX2_play_6 : List UInt8 := [167, 0, 6, 4, 27, 100, 54, 5, 132, 6, 255, 167, 255, 146, 21, 5, 172]
abbrev dktX2_play_6 : List UInt8 := dkwX2_play_6 ++ []
def dkwX2_play_5 : List UInt8 := [167, 0, 4, 3, 62, 21, 7, 153, 0, 7, 3, 167, 0, 5, 21, 8, 54, 4, 21, 7, 153, 0, 7, 27]
abbrev dktX2_play_5 : List UInt8 := dkwX2_play_5 ++ dktX2_play_6
def dkwX2_play_4 : List UInt8 := [153, 0, 7, 29, 167, 0, 5, 21, 4, 164, 0, 6, 167, 0, 42, 21, 7, 153, 0, 8, 21, 8]
abbrev dktX2_play_4 : List UInt8 := dkwX2_play_4 ++ dktX2_play_5
def dkwX2_play_3 : List UInt8 := [153, 0, 7, 27, 167, 0, 6, 4, 27, 100, 104, 96, 21, 6, 5, 108, 96, 46, 54, 8, 21, 8, 21, 7]
abbrev dktX2_play_3 : List UInt8 := dkwX2_play_3 ++ dktX2_play_4
def dkwX2_play_2 : List UInt8 := [21, 6, 5, 112, 154, 0, 7, 4, 167, 0, 4, 3, 54, 7, 42, 180, 0, 7, 17, 0, 138, 8, 21, 7]
abbrev dktX2_play_2 : List UInt8 := dkwX2_play_2 ++ dktX2_play_3
def dkwX2_play_1 : List UInt8 := [153, 0, 7, 3, 167, 0, 5, 16, 99, 54, 4, 2, 54, 5, 16, 8, 54, 6, 21, 6, 155, 0, 111]
abbrev dktX2_play_1 : List UInt8 := dkwX2_play_1 ++ dktX2_play_2
def dkwX2_play_0 : List UInt8 := [27, 3, 4, 184, 0, 69, 154, 0, 6, 16, 254, 172, 28, 153, 0, 8, 16, 99, 167, 0, 4, 3, 62, 28]
abbrev dktX2_play_0 : List UInt8 := dkwX2_play_0 ++ dktX2_play_1
theorem dksX2_play_0 : cX2_play.data.toList.drop 0 = dktX2_play_0 := by decide +kernel
theorem dksX2_play_1 : cX2_play.data.toList.drop 24 = dktX2_play_1 := dk_seg dksX2_play_0 24 rfl rfl
theorem dksX2_play_2 : cX2_play.data.toList.drop 47 = dktX2_play_2 := dk_seg dksX2_play_1 23 rfl rfl
theorem dksX2_play_3 : cX2_play.data.toList.drop 71 = dktX2_play_3 := dk_seg dksX2_play_2 24 rfl rfl
theorem dksX2_play_4 : cX2_play.data.toList.drop 95 = dktX2_play_4 := dk_seg dksX2_play_3 24 rfl rfl
theorem dksX2_play_5 : cX2_play.data.toList.drop 117 = dktX2_play_5 := dk_seg dksX2_play_4 22 rfl rfl
theorem dksX2_play_6 : cX2_play.data.toList.drop 141 = dktX2_play_6 := dk_seg dksX2_play_5 24 rfl rfl
theorem dX2_play_0 : decode cX2_play 0 = .ok (.iload_n 1, 1) := dk_27 (dk_at dksX2_play_0 0 rfl rfl)
theorem dX2_play_1 : decode cX2_play 1 = .ok (.iconst 0, 1) := dk_3 (dk_at dksX2_play_0 1 rfl rfl)
theorem dX2_play_2 : decode cX2_play 2 = .ok (.iconst 1, 1) := dk_4 (dk_at dksX2_play_0 2 rfl rfl)
theorem dX2_play_3 : decode cX2_play 3 = .ok (.invokestatic 69, 3) := dk_184 0 69 (dk_at dksX2_play_0 3 rfl rfl)
theorem dX2_play_6 : decode cX2_play 6 = .ok (.ifCond .ne 6, 3) := dk_154 0 6 (dk_at dksX2_play_0 6 rfl rfl)
theorem dX2_play_9 : decode cX2_play 9 = .ok (.bipush (-2), 2) := dk_16 254 (dk_at dksX2_play_0 9 rfl rfl)
theorem dX2_play_11 : decode cX2_play 11 = .ok (.ireturn, 1) := dk_172 (dk_at dksX2_play_0 11 rfl rfl)
theorem dX2_play_12 : decode cX2_play 12 = .ok (.iload_n 2, 1) := dk_28 (dk_at dksX2_play_0 12 rfl rfl)
theorem dX2_play_13 : decode cX2_play 13 = .ok (.ifCond .eq 8, 3) := dk_153 0 8 (dk_at dksX2_play_0 13 rfl rfl)
theorem dX2_play_16 : decode cX2_play 16 = .ok (.bipush 99, 2) := dk_16 99 (dk_at dksX2_play_0 16 rfl rfl)
theorem dX2_play_18 : decode cX2_play 18 = .ok (.goto 4, 3) := dk_167 0 4 (dk_at dksX2_play_0 18 rfl rfl)
theorem dX2_play_21 : decode cX2_play 21 = .ok (.iconst 0, 1) := dk_3 (dk_at dksX2_play_0 21 rfl rfl)
theorem dX2_play_22 : decode cX2_play 22 = .ok (.istore_n 3, 1) := dk_62 (dk_at dksX2_play_0 22 rfl rfl)
theorem dX2_play_23 : decode cX2_play 23 = .ok (.iload_n 2, 1) := dk_28 (dk_at dksX2_play_0 23 rfl rfl)
theorem dX2_play_24 : decode cX2_play 24 = .ok (.ifCond .eq 7, 3) := dk_153 0 7 (dk_at dksX2_play_1 0 rfl rfl)
theorem dX2_play_27 : decode cX2_play 27 = .ok (.iconst 0, 1) := dk_3 (dk_at dksX2_play_1 3 rfl rfl)
theorem dX2_play_28 : decode cX2_play 28 = .ok (.goto 5, 3) := dk_167 0 5 (dk_at dksX2_play_1 4 rfl rfl)
theorem dX2_play_31 : decode cX2_play 31 = .ok (.bipush 99, 2) := dk_16 99 (dk_at dksX2_play_1 7 rfl rfl)
theorem dX2_play_33 : decode cX2_play 33 = .ok (.istore 4, 2) := dk_54 4 (dk_at dksX2_play_1 9 rfl rfl)
theorem dX2_play_35 : decode cX2_play 35 = .ok (.iconst (-1), 1) := dk_2 (dk_at dksX2_play_1 11 rfl rfl)
theorem dX2_play_36 : decode cX2_play 36 = .ok (.istore 5, 2) := dk_54 5 (dk_at dksX2_play_1 12 rfl rfl)
theorem dX2_play_38 : decode cX2_play 38 = .ok (.bipush 8, 2) := dk_16 8 (dk_at dksX2_play_1 14 rfl rfl)
theorem dX2_play_40 : decode cX2_play 40 = .ok (.istore 6, 2) := dk_54 6 (dk_at dksX2_play_1 16 rfl rfl)
theorem dX2_play_42 : decode cX2_play 42 = .ok (.iload 6, 2) := dk_21 6 (dk_at dksX2_play_1 18 rfl rfl)
theorem dX2_play_44 : decode cX2_play 44 = .ok (.ifCond .lt 111, 3) := dk_155 0 111 (dk_at dksX2_play_1 20 rfl rfl)
theorem dX2_play_47 : decode cX2_play 47 = .ok (.iload 6, 2) := dk_21 6 (dk_at dksX2_play_2 0 rfl rfl)
theorem dX2_play_49 : decode cX2_play 49 = .ok (.iconst 2, 1) := dk_5 (dk_at dksX2_play_2 2 rfl rfl)
theorem dX2_play_50 : decode cX2_play 50 = .ok (.irem, 1) := dk_112 (dk_at dksX2_play_2 3 rfl rfl)
theorem dX2_play_51 : decode cX2_play 51 = .ok (.ifCond .ne 7, 3) := dk_154 0 7 (dk_at dksX2_play_2 4 rfl rfl)
theorem dX2_play_54 : decode cX2_play 54 = .ok (.iconst 1, 1) := dk_4 (dk_at dksX2_play_2 7 rfl rfl)
theorem dX2_play_55 : decode cX2_play 55 = .ok (.goto 4, 3) := dk_167 0 4 (dk_at dksX2_play_2 8 rfl rfl)
theorem dX2_play_58 : decode cX2_play 58 = .ok (.iconst 0, 1) := dk_3 (dk_at dksX2_play_2 11 rfl rfl)
theorem dX2_play_59 : decode cX2_play 59 = .ok (.istore 7, 2) := dk_54 7 (dk_at dksX2_play_2 12 rfl rfl)
theorem dX2_play_61 : decode cX2_play 61 = .ok (.aload_n 0, 1) := dk_42 (dk_at dksX2_play_2 14 rfl rfl)
theorem dX2_play_62 : decode cX2_play 62 = .ok (.getfield 7, 3) := dk_180 0 7 (dk_at dksX2_play_2 15 rfl rfl)
theorem dX2_play_65 : decode cX2_play 65 = .ok (.sipush 138, 3) := dk_17 0 138 (dk_at dksX2_play_2 18 rfl rfl)
theorem dX2_play_68 : decode cX2_play 68 = .ok (.iconst 5, 1) := dk_8 (dk_at dksX2_play_2 21 rfl rfl)
theorem dX2_play_69 : decode cX2_play 69 = .ok (.iload 7, 2) := dk_21 7 (dk_at dksX2_play_2 22 rfl rfl)
theorem dX2_play_71 : decode cX2_play 71 = .ok (.ifCond .eq 7, 3) := dk_153 0 7 (dk_at dksX2_play_3 0 rfl rfl)
theorem dX2_play_74 : decode cX2_play 74 = .ok (.iload_n 1, 1) := dk_27 (dk_at dksX2_play_3 3 rfl rfl)
theorem dX2_play_75 : decode cX2_play 75 = .ok (.goto 6, 3) := dk_167 0 6 (dk_at dksX2_play_3 4 rfl rfl)
theorem dX2_play_78 : decode cX2_play 78 = .ok (.iconst 1, 1) := dk_4 (dk_at dksX2_play_3 7 rfl rfl)
theorem dX2_play_79 : decode cX2_play 79 = .ok (.iload_n 1, 1) := dk_27 (dk_at dksX2_play_3 8 rfl rfl)
theorem dX2_play_80 : decode cX2_play 80 = .ok (.isub, 1) := dk_100 (dk_at dksX2_play_3 9 rfl rfl)
theorem dX2_play_81 : decode cX2_play 81 = .ok (.imul, 1) := dk_104 (dk_at dksX2_play_3 10 rfl rfl)
theorem dX2_play_82 : decode cX2_play 82 = .ok (.iadd, 1) := dk_96 (dk_at dksX2_play_3 11 rfl rfl)
theorem dX2_play_83 : decode cX2_play 83 = .ok (.iload 6, 2) := dk_21 6 (dk_at dksX2_play_3 12 rfl rfl)
theorem dX2_play_85 : decode cX2_play 85 = .ok (.iconst 2, 1) := dk_5 (dk_at dksX2_play_3 14 rfl rfl)
theorem dX2_play_86 : decode cX2_play 86 = .ok (.idiv, 1) := dk_108 (dk_at dksX2_play_3 15 rfl rfl)
theorem dX2_play_87 : decode cX2_play 87 = .ok (.iadd, 1) := dk_96 (dk_at dksX2_play_3 16 rfl rfl)
theorem dX2_play_88 : decode cX2_play 88 = .ok (.iaload, 1) := dk_46 (dk_at dksX2_play_3 17 rfl rfl)
theorem dX2_play_89 : decode cX2_play 89 = .ok (.istore 8, 2) := dk_54 8 (dk_at dksX2_play_3 18 rfl rfl)
theorem dX2_play_91 : decode cX2_play 91 = .ok (.iload 8, 2) := dk_21 8 (dk_at dksX2_play_3 20 rfl rfl)
theorem dX2_play_93 : decode cX2_play 93 = .ok (.iload 7, 2) := dk_21 7 (dk_at dksX2_play_3 22 rfl rfl)
theorem dX2_play_95 : decode cX2_play 95 = .ok (.ifCond .eq 7, 3) := dk_153 0 7 (dk_at dksX2_play_4 0 rfl rfl)
theorem dX2_play_98 : decode cX2_play 98 = .ok (.iload_n 3, 1) := dk_29 (dk_at dksX2_play_4 3 rfl rfl)
theorem dX2_play_99 : decode cX2_play 99 = .ok (.goto 5, 3) := dk_167 0 5 (dk_at dksX2_play_4 4 rfl rfl)
theorem dX2_play_102 : decode cX2_play 102 = .ok (.iload 4, 2) := dk_21 4 (dk_at dksX2_play_4 7 rfl rfl)
theorem dX2_play_104 : decode cX2_play 104 = .ok (.if_icmp .le 6, 3) := dk_164 0 6 (dk_at dksX2_play_4 9 rfl rfl)
theorem dX2_play_107 : decode cX2_play 107 = .ok (.goto 42, 3) := dk_167 0 42 (dk_at dksX2_play_4 12 rfl rfl)
theorem dX2_play_110 : decode cX2_play 110 = .ok (.iload 7, 2) := dk_21 7 (dk_at dksX2_play_4 15 rfl rfl)
theorem dX2_play_112 : decode cX2_play 112 = .ok (.ifCond .eq 8, 3) := dk_153 0 8 (dk_at dksX2_play_4 17 rfl rfl)
theorem dX2_play_115 : decode cX2_play 115 = .ok (.iload 8, 2) := dk_21 8 (dk_at dksX2_play_4 20 rfl rfl)
theorem dX2_play_117 : decode cX2_play 117 = .ok (.goto 4, 3) := dk_167 0 4 (dk_at dksX2_play_5 0 rfl rfl)
theorem dX2_play_120 : decode cX2_play 120 = .ok (.iconst 0, 1) := dk_3 (dk_at dksX2_play_5 3 rfl rfl)
theorem dX2_play_121 : decode cX2_play 121 = .ok (.istore_n 3, 1) := dk_62 (dk_at dksX2_play_5 4 rfl rfl)
theorem dX2_play_122 : decode cX2_play 122 = .ok (.iload 7, 2) := dk_21 7 (dk_at dksX2_play_5 5 rfl rfl)
theorem dX2_play_124 : decode cX2_play 124 = .ok (.ifCond .eq 7, 3) := dk_153 0 7 (dk_at dksX2_play_5 7 rfl rfl)
theorem dX2_play_127 : decode cX2_play 127 = .ok (.iconst 0, 1) := dk_3 (dk_at dksX2_play_5 10 rfl rfl)
theorem dX2_play_128 : decode cX2_play 128 = .ok (.goto 5, 3) := dk_167 0 5 (dk_at dksX2_play_5 11 rfl rfl)
theorem dX2_play_131 : decode cX2_play 131 = .ok (.iload 8, 2) := dk_21 8 (dk_at dksX2_play_5 14 rfl rfl)
theorem dX2_play_133 : decode cX2_play 133 = .ok (.istore 4, 2) := dk_54 4 (dk_at dksX2_play_5 16 rfl rfl)
theorem dX2_play_135 : decode cX2_play 135 = .ok (.iload 7, 2) := dk_21 7 (dk_at dksX2_play_5 18 rfl rfl)
theorem dX2_play_137 : decode cX2_play 137 = .ok (.ifCond .eq 7, 3) := dk_153 0 7 (dk_at dksX2_play_5 20 rfl rfl)
theorem dX2_play_140 : decode cX2_play 140 = .ok (.iload_n 1, 1) := dk_27 (dk_at dksX2_play_5 23 rfl rfl)
theorem dX2_play_141 : decode cX2_play 141 = .ok (.goto 6, 3) := dk_167 0 6 (dk_at dksX2_play_6 0 rfl rfl)
theorem dX2_play_144 : decode cX2_play 144 = .ok (.iconst 1, 1) := dk_4 (dk_at dksX2_play_6 3 rfl rfl)
theorem dX2_play_145 : decode cX2_play 145 = .ok (.iload_n 1, 1) := dk_27 (dk_at dksX2_play_6 4 rfl rfl)
theorem dX2_play_146 : decode cX2_play 146 = .ok (.isub, 1) := dk_100 (dk_at dksX2_play_6 5 rfl rfl)
theorem dX2_play_147 : decode cX2_play 147 = .ok (.istore 5, 2) := dk_54 5 (dk_at dksX2_play_6 6 rfl rfl)
theorem dX2_play_149 : decode cX2_play 149 = .ok (.iinc 6 (-1), 3) := dk_132 6 255 (dk_at dksX2_play_6 8 rfl rfl)
theorem dX2_play_152 : decode cX2_play 152 = .ok (.goto (-110), 3) := dk_167 255 146 (dk_at dksX2_play_6 11 rfl rfl)
theorem dX2_play_155 : decode cX2_play 155 = .ok (.iload 5, 2) := dk_21 5 (dk_at dksX2_play_6 14 rfl rfl)
theorem dX2_play_157 : decode cX2_play 157 = .ok (.ireturn, 1) := dk_172 (dk_at dksX2_play_6 16 rfl rfl)
abbrev cX2_added : ByteArray := prog_20_method_135_code
def yX2_added : MethodName := ⟨RX2, "added", "(II)I"⟩
def dkwX2_added_4 : List UInt8 := [180, 0, 7, 8, 46, 172]
abbrev dktX2_added_4 : List UInt8 := dkwX2_added_4 ++ []
def dkwX2_added_3 : List UInt8 := [5, 42, 180, 0, 7, 8, 46, 104, 96, 4, 96, 28, 79, 42, 180, 0, 7, 8, 92, 46, 4, 96, 79, 42]
abbrev dktX2_added_3 : List UInt8 := dkwX2_added_3 ++ dktX2_added_4
def dkwX2_added_2 : List UInt8 := [180, 0, 7, 17, 0, 148, 5, 42, 180, 0, 7, 8, 46, 104, 96, 27, 79, 42, 180, 0, 7, 17, 0, 148]
abbrev dktX2_added_2 : List UInt8 := dkwX2_added_2 ++ dktX2_added_3
def dkwX2_added_1 : List UInt8 := [17, 3, 231, 184, 0, 69, 153, 0, 14, 42, 180, 0, 7, 8, 46, 16, 8, 160, 0, 6, 16, 254, 172, 42]
abbrev dktX2_added_1 : List UInt8 := dkwX2_added_1 ++ dktX2_added_2
def dkwX2_added_0 : List UInt8 := [27, 2, 160, 0, 12, 42, 180, 0, 7, 8, 3, 79, 3, 172, 42, 27, 182, 0, 73, 153, 0, 25, 28, 3]
abbrev dktX2_added_0 : List UInt8 := dkwX2_added_0 ++ dktX2_added_1
theorem dksX2_added_0 : cX2_added.data.toList.drop 0 = dktX2_added_0 := by decide +kernel
theorem dksX2_added_1 : cX2_added.data.toList.drop 24 = dktX2_added_1 := dk_seg dksX2_added_0 24 rfl rfl
theorem dksX2_added_2 : cX2_added.data.toList.drop 48 = dktX2_added_2 := dk_seg dksX2_added_1 24 rfl rfl
theorem dksX2_added_3 : cX2_added.data.toList.drop 72 = dktX2_added_3 := dk_seg dksX2_added_2 24 rfl rfl
theorem dksX2_added_4 : cX2_added.data.toList.drop 96 = dktX2_added_4 := dk_seg dksX2_added_3 24 rfl rfl
theorem dX2_added_0 : decode cX2_added 0 = .ok (.iload_n 1, 1) := dk_27 (dk_at dksX2_added_0 0 rfl rfl)
theorem dX2_added_1 : decode cX2_added 1 = .ok (.iconst (-1), 1) := dk_2 (dk_at dksX2_added_0 1 rfl rfl)
theorem dX2_added_2 : decode cX2_added 2 = .ok (.if_icmp .ne 12, 3) := dk_160 0 12 (dk_at dksX2_added_0 2 rfl rfl)
theorem dX2_added_5 : decode cX2_added 5 = .ok (.aload_n 0, 1) := dk_42 (dk_at dksX2_added_0 5 rfl rfl)
theorem dX2_added_6 : decode cX2_added 6 = .ok (.getfield 7, 3) := dk_180 0 7 (dk_at dksX2_added_0 6 rfl rfl)
theorem dX2_added_9 : decode cX2_added 9 = .ok (.iconst 5, 1) := dk_8 (dk_at dksX2_added_0 9 rfl rfl)
theorem dX2_added_10 : decode cX2_added 10 = .ok (.iconst 0, 1) := dk_3 (dk_at dksX2_added_0 10 rfl rfl)
theorem dX2_added_11 : decode cX2_added 11 = .ok (.iastore, 1) := dk_79 (dk_at dksX2_added_0 11 rfl rfl)
theorem dX2_added_12 : decode cX2_added 12 = .ok (.iconst 0, 1) := dk_3 (dk_at dksX2_added_0 12 rfl rfl)
theorem dX2_added_13 : decode cX2_added 13 = .ok (.ireturn, 1) := dk_172 (dk_at dksX2_added_0 13 rfl rfl)
theorem dX2_added_14 : decode cX2_added 14 = .ok (.aload_n 0, 1) := dk_42 (dk_at dksX2_added_0 14 rfl rfl)
theorem dX2_added_15 : decode cX2_added 15 = .ok (.iload_n 1, 1) := dk_27 (dk_at dksX2_added_0 15 rfl rfl)
theorem dX2_added_16 : decode cX2_added 16 = .ok (.invokevirtual 73, 3) := dk_182 0 73 (dk_at dksX2_added_0 16 rfl rfl)
theorem dX2_added_19 : decode cX2_added 19 = .ok (.ifCond .eq 25, 3) := dk_153 0 25 (dk_at dksX2_added_0 19 rfl rfl)
theorem dX2_added_22 : decode cX2_added 22 = .ok (.iload_n 2, 1) := dk_28 (dk_at dksX2_added_0 22 rfl rfl)
theorem dX2_added_23 : decode cX2_added 23 = .ok (.iconst 0, 1) := dk_3 (dk_at dksX2_added_0 23 rfl rfl)
theorem dX2_added_24 : decode cX2_added 24 = .ok (.sipush 999, 3) := dk_17 3 231 (dk_at dksX2_added_1 0 rfl rfl)
theorem dX2_added_27 : decode cX2_added 27 = .ok (.invokestatic 69, 3) := dk_184 0 69 (dk_at dksX2_added_1 3 rfl rfl)
theorem dX2_added_30 : decode cX2_added 30 = .ok (.ifCond .eq 14, 3) := dk_153 0 14 (dk_at dksX2_added_1 6 rfl rfl)
theorem dX2_added_33 : decode cX2_added 33 = .ok (.aload_n 0, 1) := dk_42 (dk_at dksX2_added_1 9 rfl rfl)
theorem dX2_added_34 : decode cX2_added 34 = .ok (.getfield 7, 3) := dk_180 0 7 (dk_at dksX2_added_1 10 rfl rfl)
theorem dX2_added_37 : decode cX2_added 37 = .ok (.iconst 5, 1) := dk_8 (dk_at dksX2_added_1 13 rfl rfl)
theorem dX2_added_38 : decode cX2_added 38 = .ok (.iaload, 1) := dk_46 (dk_at dksX2_added_1 14 rfl rfl)
theorem dX2_added_39 : decode cX2_added 39 = .ok (.bipush 8, 2) := dk_16 8 (dk_at dksX2_added_1 15 rfl rfl)
theorem dX2_added_41 : decode cX2_added 41 = .ok (.if_icmp .ne 6, 3) := dk_160 0 6 (dk_at dksX2_added_1 17 rfl rfl)
theorem dX2_added_44 : decode cX2_added 44 = .ok (.bipush (-2), 2) := dk_16 254 (dk_at dksX2_added_1 20 rfl rfl)
theorem dX2_added_46 : decode cX2_added 46 = .ok (.ireturn, 1) := dk_172 (dk_at dksX2_added_1 22 rfl rfl)
theorem dX2_added_47 : decode cX2_added 47 = .ok (.aload_n 0, 1) := dk_42 (dk_at dksX2_added_1 23 rfl rfl)
theorem dX2_added_48 : decode cX2_added 48 = .ok (.getfield 7, 3) := dk_180 0 7 (dk_at dksX2_added_2 0 rfl rfl)
theorem dX2_added_51 : decode cX2_added 51 = .ok (.sipush 148, 3) := dk_17 0 148 (dk_at dksX2_added_2 3 rfl rfl)
theorem dX2_added_54 : decode cX2_added 54 = .ok (.iconst 2, 1) := dk_5 (dk_at dksX2_added_2 6 rfl rfl)
theorem dX2_added_55 : decode cX2_added 55 = .ok (.aload_n 0, 1) := dk_42 (dk_at dksX2_added_2 7 rfl rfl)
theorem dX2_added_56 : decode cX2_added 56 = .ok (.getfield 7, 3) := dk_180 0 7 (dk_at dksX2_added_2 8 rfl rfl)
theorem dX2_added_59 : decode cX2_added 59 = .ok (.iconst 5, 1) := dk_8 (dk_at dksX2_added_2 11 rfl rfl)
theorem dX2_added_60 : decode cX2_added 60 = .ok (.iaload, 1) := dk_46 (dk_at dksX2_added_2 12 rfl rfl)
theorem dX2_added_61 : decode cX2_added 61 = .ok (.imul, 1) := dk_104 (dk_at dksX2_added_2 13 rfl rfl)
theorem dX2_added_62 : decode cX2_added 62 = .ok (.iadd, 1) := dk_96 (dk_at dksX2_added_2 14 rfl rfl)
theorem dX2_added_63 : decode cX2_added 63 = .ok (.iload_n 1, 1) := dk_27 (dk_at dksX2_added_2 15 rfl rfl)
theorem dX2_added_64 : decode cX2_added 64 = .ok (.iastore, 1) := dk_79 (dk_at dksX2_added_2 16 rfl rfl)
theorem dX2_added_65 : decode cX2_added 65 = .ok (.aload_n 0, 1) := dk_42 (dk_at dksX2_added_2 17 rfl rfl)
theorem dX2_added_66 : decode cX2_added 66 = .ok (.getfield 7, 3) := dk_180 0 7 (dk_at dksX2_added_2 18 rfl rfl)
theorem dX2_added_69 : decode cX2_added 69 = .ok (.sipush 148, 3) := dk_17 0 148 (dk_at dksX2_added_2 21 rfl rfl)
theorem dX2_added_72 : decode cX2_added 72 = .ok (.iconst 2, 1) := dk_5 (dk_at dksX2_added_3 0 rfl rfl)
theorem dX2_added_73 : decode cX2_added 73 = .ok (.aload_n 0, 1) := dk_42 (dk_at dksX2_added_3 1 rfl rfl)
theorem dX2_added_74 : decode cX2_added 74 = .ok (.getfield 7, 3) := dk_180 0 7 (dk_at dksX2_added_3 2 rfl rfl)
theorem dX2_added_77 : decode cX2_added 77 = .ok (.iconst 5, 1) := dk_8 (dk_at dksX2_added_3 5 rfl rfl)
theorem dX2_added_78 : decode cX2_added 78 = .ok (.iaload, 1) := dk_46 (dk_at dksX2_added_3 6 rfl rfl)
theorem dX2_added_79 : decode cX2_added 79 = .ok (.imul, 1) := dk_104 (dk_at dksX2_added_3 7 rfl rfl)
theorem dX2_added_80 : decode cX2_added 80 = .ok (.iadd, 1) := dk_96 (dk_at dksX2_added_3 8 rfl rfl)
theorem dX2_added_81 : decode cX2_added 81 = .ok (.iconst 1, 1) := dk_4 (dk_at dksX2_added_3 9 rfl rfl)
theorem dX2_added_82 : decode cX2_added 82 = .ok (.iadd, 1) := dk_96 (dk_at dksX2_added_3 10 rfl rfl)
theorem dX2_added_83 : decode cX2_added 83 = .ok (.iload_n 2, 1) := dk_28 (dk_at dksX2_added_3 11 rfl rfl)
theorem dX2_added_84 : decode cX2_added 84 = .ok (.iastore, 1) := dk_79 (dk_at dksX2_added_3 12 rfl rfl)
theorem dX2_added_85 : decode cX2_added 85 = .ok (.aload_n 0, 1) := dk_42 (dk_at dksX2_added_3 13 rfl rfl)
theorem dX2_added_86 : decode cX2_added 86 = .ok (.getfield 7, 3) := dk_180 0 7 (dk_at dksX2_added_3 14 rfl rfl)
theorem dX2_added_89 : decode cX2_added 89 = .ok (.iconst 5, 1) := dk_8 (dk_at dksX2_added_3 17 rfl rfl)
theorem dX2_added_90 : decode cX2_added 90 = .ok (.dup2, 1) := dk_92 (dk_at dksX2_added_3 18 rfl rfl)
theorem dX2_added_91 : decode cX2_added 91 = .ok (.iaload, 1) := dk_46 (dk_at dksX2_added_3 19 rfl rfl)
theorem dX2_added_92 : decode cX2_added 92 = .ok (.iconst 1, 1) := dk_4 (dk_at dksX2_added_3 20 rfl rfl)
theorem dX2_added_93 : decode cX2_added 93 = .ok (.iadd, 1) := dk_96 (dk_at dksX2_added_3 21 rfl rfl)
theorem dX2_added_94 : decode cX2_added 94 = .ok (.iastore, 1) := dk_79 (dk_at dksX2_added_3 22 rfl rfl)
theorem dX2_added_95 : decode cX2_added 95 = .ok (.aload_n 0, 1) := dk_42 (dk_at dksX2_added_3 23 rfl rfl)
theorem dX2_added_96 : decode cX2_added 96 = .ok (.getfield 7, 3) := dk_180 0 7 (dk_at dksX2_added_4 0 rfl rfl)
theorem dX2_added_99 : decode cX2_added 99 = .ok (.iconst 5, 1) := dk_8 (dk_at dksX2_added_4 3 rfl rfl)
theorem dX2_added_100 : decode cX2_added 100 = .ok (.iaload, 1) := dk_46 (dk_at dksX2_added_4 4 rfl rfl)
theorem dX2_added_101 : decode cX2_added 101 = .ok (.ireturn, 1) := dk_172 (dk_at dksX2_added_4 5 rfl rfl)
abbrev cX2_whose : ByteArray := prog_20_method_136_code
def yX2_whose : MethodName := ⟨RX2, "whose", "()I"⟩
def dkwX2_whose_4 : List UInt8 := [128, 60, 132, 2, 1, 167, 255, 161, 27, 172]
abbrev dktX2_whose_4 : List UInt8 := dkwX2_whose_4 ++ []
def dkwX2_whose_3 : List UInt8 := [4, 167, 0, 4, 3, 62, 132, 4, 1, 167, 255, 196, 27, 29, 153, 0, 9, 4, 28, 120, 167, 0, 4, 3]
abbrev dktX2_whose_3 : List UInt8 := dkwX2_whose_3 ++ dktX2_whose_4
def dkwX2_whose_2 : List UInt8 := [104, 96, 46, 182, 1, 139, 42, 180, 0, 7, 17, 0, 148, 5, 21, 4, 104, 96, 4, 96, 46, 160, 0, 7]
abbrev dktX2_whose_2 : List UInt8 := dkwX2_whose_2 ++ dktX2_whose_3
def dkwX2_whose_1 : List UInt8 := [180, 0, 7, 8, 46, 162, 0, 55, 29, 153, 0, 43, 42, 28, 42, 180, 0, 7, 17, 0, 148, 5, 21, 4]
abbrev dktX2_whose_1 : List UInt8 := dkwX2_whose_1 ++ dktX2_whose_2
def dkwX2_whose_0 : List UInt8 := [3, 60, 3, 61, 28, 42, 180, 0, 7, 4, 46, 162, 0, 91, 4, 62, 3, 54, 4, 21, 4, 42]
abbrev dktX2_whose_0 : List UInt8 := dkwX2_whose_0 ++ dktX2_whose_1
theorem dksX2_whose_0 : cX2_whose.data.toList.drop 0 = dktX2_whose_0 := by decide +kernel
theorem dksX2_whose_1 : cX2_whose.data.toList.drop 22 = dktX2_whose_1 := dk_seg dksX2_whose_0 22 rfl rfl
theorem dksX2_whose_2 : cX2_whose.data.toList.drop 46 = dktX2_whose_2 := dk_seg dksX2_whose_1 24 rfl rfl
theorem dksX2_whose_3 : cX2_whose.data.toList.drop 70 = dktX2_whose_3 := dk_seg dksX2_whose_2 24 rfl rfl
theorem dksX2_whose_4 : cX2_whose.data.toList.drop 94 = dktX2_whose_4 := dk_seg dksX2_whose_3 24 rfl rfl
theorem dX2_whose_0 : decode cX2_whose 0 = .ok (.iconst 0, 1) := dk_3 (dk_at dksX2_whose_0 0 rfl rfl)
theorem dX2_whose_1 : decode cX2_whose 1 = .ok (.istore_n 1, 1) := dk_60 (dk_at dksX2_whose_0 1 rfl rfl)
theorem dX2_whose_2 : decode cX2_whose 2 = .ok (.iconst 0, 1) := dk_3 (dk_at dksX2_whose_0 2 rfl rfl)
theorem dX2_whose_3 : decode cX2_whose 3 = .ok (.istore_n 2, 1) := dk_61 (dk_at dksX2_whose_0 3 rfl rfl)
theorem dX2_whose_4 : decode cX2_whose 4 = .ok (.iload_n 2, 1) := dk_28 (dk_at dksX2_whose_0 4 rfl rfl)
theorem dX2_whose_5 : decode cX2_whose 5 = .ok (.aload_n 0, 1) := dk_42 (dk_at dksX2_whose_0 5 rfl rfl)
theorem dX2_whose_6 : decode cX2_whose 6 = .ok (.getfield 7, 3) := dk_180 0 7 (dk_at dksX2_whose_0 6 rfl rfl)
theorem dX2_whose_9 : decode cX2_whose 9 = .ok (.iconst 1, 1) := dk_4 (dk_at dksX2_whose_0 9 rfl rfl)
theorem dX2_whose_10 : decode cX2_whose 10 = .ok (.iaload, 1) := dk_46 (dk_at dksX2_whose_0 10 rfl rfl)
theorem dX2_whose_11 : decode cX2_whose 11 = .ok (.if_icmp .ge 91, 3) := dk_162 0 91 (dk_at dksX2_whose_0 11 rfl rfl)
theorem dX2_whose_14 : decode cX2_whose 14 = .ok (.iconst 1, 1) := dk_4 (dk_at dksX2_whose_0 14 rfl rfl)
theorem dX2_whose_15 : decode cX2_whose 15 = .ok (.istore_n 3, 1) := dk_62 (dk_at dksX2_whose_0 15 rfl rfl)
theorem dX2_whose_16 : decode cX2_whose 16 = .ok (.iconst 0, 1) := dk_3 (dk_at dksX2_whose_0 16 rfl rfl)
theorem dX2_whose_17 : decode cX2_whose 17 = .ok (.istore 4, 2) := dk_54 4 (dk_at dksX2_whose_0 17 rfl rfl)
theorem dX2_whose_19 : decode cX2_whose 19 = .ok (.iload 4, 2) := dk_21 4 (dk_at dksX2_whose_0 19 rfl rfl)
theorem dX2_whose_21 : decode cX2_whose 21 = .ok (.aload_n 0, 1) := dk_42 (dk_at dksX2_whose_0 21 rfl rfl)
theorem dX2_whose_22 : decode cX2_whose 22 = .ok (.getfield 7, 3) := dk_180 0 7 (dk_at dksX2_whose_1 0 rfl rfl)
theorem dX2_whose_25 : decode cX2_whose 25 = .ok (.iconst 5, 1) := dk_8 (dk_at dksX2_whose_1 3 rfl rfl)
theorem dX2_whose_26 : decode cX2_whose 26 = .ok (.iaload, 1) := dk_46 (dk_at dksX2_whose_1 4 rfl rfl)
theorem dX2_whose_27 : decode cX2_whose 27 = .ok (.if_icmp .ge 55, 3) := dk_162 0 55 (dk_at dksX2_whose_1 5 rfl rfl)
theorem dX2_whose_30 : decode cX2_whose 30 = .ok (.iload_n 3, 1) := dk_29 (dk_at dksX2_whose_1 8 rfl rfl)
theorem dX2_whose_31 : decode cX2_whose 31 = .ok (.ifCond .eq 43, 3) := dk_153 0 43 (dk_at dksX2_whose_1 9 rfl rfl)
theorem dX2_whose_34 : decode cX2_whose 34 = .ok (.aload_n 0, 1) := dk_42 (dk_at dksX2_whose_1 12 rfl rfl)
theorem dX2_whose_35 : decode cX2_whose 35 = .ok (.iload_n 2, 1) := dk_28 (dk_at dksX2_whose_1 13 rfl rfl)
theorem dX2_whose_36 : decode cX2_whose 36 = .ok (.aload_n 0, 1) := dk_42 (dk_at dksX2_whose_1 14 rfl rfl)
theorem dX2_whose_37 : decode cX2_whose 37 = .ok (.getfield 7, 3) := dk_180 0 7 (dk_at dksX2_whose_1 15 rfl rfl)
theorem dX2_whose_40 : decode cX2_whose 40 = .ok (.sipush 148, 3) := dk_17 0 148 (dk_at dksX2_whose_1 18 rfl rfl)
theorem dX2_whose_43 : decode cX2_whose 43 = .ok (.iconst 2, 1) := dk_5 (dk_at dksX2_whose_1 21 rfl rfl)
theorem dX2_whose_44 : decode cX2_whose 44 = .ok (.iload 4, 2) := dk_21 4 (dk_at dksX2_whose_1 22 rfl rfl)
theorem dX2_whose_46 : decode cX2_whose 46 = .ok (.imul, 1) := dk_104 (dk_at dksX2_whose_2 0 rfl rfl)
theorem dX2_whose_47 : decode cX2_whose 47 = .ok (.iadd, 1) := dk_96 (dk_at dksX2_whose_2 1 rfl rfl)
theorem dX2_whose_48 : decode cX2_whose 48 = .ok (.iaload, 1) := dk_46 (dk_at dksX2_whose_2 2 rfl rfl)
theorem dX2_whose_49 : decode cX2_whose 49 = .ok (.invokevirtual 395, 3) := dk_182 1 139 (dk_at dksX2_whose_2 3 rfl rfl)
theorem dX2_whose_52 : decode cX2_whose 52 = .ok (.aload_n 0, 1) := dk_42 (dk_at dksX2_whose_2 6 rfl rfl)
theorem dX2_whose_53 : decode cX2_whose 53 = .ok (.getfield 7, 3) := dk_180 0 7 (dk_at dksX2_whose_2 7 rfl rfl)
theorem dX2_whose_56 : decode cX2_whose 56 = .ok (.sipush 148, 3) := dk_17 0 148 (dk_at dksX2_whose_2 10 rfl rfl)
theorem dX2_whose_59 : decode cX2_whose 59 = .ok (.iconst 2, 1) := dk_5 (dk_at dksX2_whose_2 13 rfl rfl)
theorem dX2_whose_60 : decode cX2_whose 60 = .ok (.iload 4, 2) := dk_21 4 (dk_at dksX2_whose_2 14 rfl rfl)
theorem dX2_whose_62 : decode cX2_whose 62 = .ok (.imul, 1) := dk_104 (dk_at dksX2_whose_2 16 rfl rfl)
theorem dX2_whose_63 : decode cX2_whose 63 = .ok (.iadd, 1) := dk_96 (dk_at dksX2_whose_2 17 rfl rfl)
theorem dX2_whose_64 : decode cX2_whose 64 = .ok (.iconst 1, 1) := dk_4 (dk_at dksX2_whose_2 18 rfl rfl)
theorem dX2_whose_65 : decode cX2_whose 65 = .ok (.iadd, 1) := dk_96 (dk_at dksX2_whose_2 19 rfl rfl)
theorem dX2_whose_66 : decode cX2_whose 66 = .ok (.iaload, 1) := dk_46 (dk_at dksX2_whose_2 20 rfl rfl)
theorem dX2_whose_67 : decode cX2_whose 67 = .ok (.if_icmp .ne 7, 3) := dk_160 0 7 (dk_at dksX2_whose_2 21 rfl rfl)
theorem dX2_whose_70 : decode cX2_whose 70 = .ok (.iconst 1, 1) := dk_4 (dk_at dksX2_whose_3 0 rfl rfl)
theorem dX2_whose_71 : decode cX2_whose 71 = .ok (.goto 4, 3) := dk_167 0 4 (dk_at dksX2_whose_3 1 rfl rfl)
theorem dX2_whose_74 : decode cX2_whose 74 = .ok (.iconst 0, 1) := dk_3 (dk_at dksX2_whose_3 4 rfl rfl)
theorem dX2_whose_75 : decode cX2_whose 75 = .ok (.istore_n 3, 1) := dk_62 (dk_at dksX2_whose_3 5 rfl rfl)
theorem dX2_whose_76 : decode cX2_whose 76 = .ok (.iinc 4 1, 3) := dk_132 4 1 (dk_at dksX2_whose_3 6 rfl rfl)
theorem dX2_whose_79 : decode cX2_whose 79 = .ok (.goto (-60), 3) := dk_167 255 196 (dk_at dksX2_whose_3 9 rfl rfl)
theorem dX2_whose_82 : decode cX2_whose 82 = .ok (.iload_n 1, 1) := dk_27 (dk_at dksX2_whose_3 12 rfl rfl)
theorem dX2_whose_83 : decode cX2_whose 83 = .ok (.iload_n 3, 1) := dk_29 (dk_at dksX2_whose_3 13 rfl rfl)
theorem dX2_whose_84 : decode cX2_whose 84 = .ok (.ifCond .eq 9, 3) := dk_153 0 9 (dk_at dksX2_whose_3 14 rfl rfl)
theorem dX2_whose_87 : decode cX2_whose 87 = .ok (.iconst 1, 1) := dk_4 (dk_at dksX2_whose_3 17 rfl rfl)
theorem dX2_whose_88 : decode cX2_whose 88 = .ok (.iload_n 2, 1) := dk_28 (dk_at dksX2_whose_3 18 rfl rfl)
theorem dX2_whose_89 : decode cX2_whose 89 = .ok (.ishl, 1) := dk_120 (dk_at dksX2_whose_3 19 rfl rfl)
theorem dX2_whose_90 : decode cX2_whose 90 = .ok (.goto 4, 3) := dk_167 0 4 (dk_at dksX2_whose_3 20 rfl rfl)
theorem dX2_whose_93 : decode cX2_whose 93 = .ok (.iconst 0, 1) := dk_3 (dk_at dksX2_whose_3 23 rfl rfl)
theorem dX2_whose_94 : decode cX2_whose 94 = .ok (.ior, 1) := dk_128 (dk_at dksX2_whose_4 0 rfl rfl)
theorem dX2_whose_95 : decode cX2_whose 95 = .ok (.istore_n 1, 1) := dk_60 (dk_at dksX2_whose_4 1 rfl rfl)
theorem dX2_whose_96 : decode cX2_whose 96 = .ok (.iinc 2 1, 3) := dk_132 2 1 (dk_at dksX2_whose_4 2 rfl rfl)
theorem dX2_whose_99 : decode cX2_whose 99 = .ok (.goto (-95), 3) := dk_167 255 161 (dk_at dksX2_whose_4 5 rfl rfl)
theorem dX2_whose_102 : decode cX2_whose 102 = .ok (.iload_n 1, 1) := dk_27 (dk_at dksX2_whose_4 8 rfl rfl)
theorem dX2_whose_103 : decode cX2_whose 103 = .ok (.ireturn, 1) := dk_172 (dk_at dksX2_whose_4 9 rfl rfl)
abbrev cX2_image : ByteArray := prog_20_method_137_code
def yX2_image : MethodName := ⟨RX2, "image", "()I"⟩
def dkwX2_image_0 : List UInt8 := [42, 180, 0, 7, 42, 180, 0, 13, 184, 0, 65, 42, 180, 0, 7, 16, 6, 46, 172]
abbrev dktX2_image_0 : List UInt8 := dkwX2_image_0 ++ []
theorem dksX2_image_0 : cX2_image.data.toList.drop 0 = dktX2_image_0 := by decide +kernel
theorem dX2_image_0 : decode cX2_image 0 = .ok (.aload_n 0, 1) := dk_42 (dk_at dksX2_image_0 0 rfl rfl)
theorem dX2_image_1 : decode cX2_image 1 = .ok (.getfield 7, 3) := dk_180 0 7 (dk_at dksX2_image_0 1 rfl rfl)
theorem dX2_image_4 : decode cX2_image 4 = .ok (.aload_n 0, 1) := dk_42 (dk_at dksX2_image_0 4 rfl rfl)
theorem dX2_image_5 : decode cX2_image 5 = .ok (.getfield 13, 3) := dk_180 0 13 (dk_at dksX2_image_0 5 rfl rfl)
theorem dX2_image_8 : decode cX2_image 8 = .ok (.invokestatic 65, 3) := dk_184 0 65 (dk_at dksX2_image_0 8 rfl rfl)
theorem dX2_image_11 : decode cX2_image 11 = .ok (.aload_n 0, 1) := dk_42 (dk_at dksX2_image_0 11 rfl rfl)
theorem dX2_image_12 : decode cX2_image 12 = .ok (.getfield 7, 3) := dk_180 0 7 (dk_at dksX2_image_0 12 rfl rfl)
theorem dX2_image_15 : decode cX2_image 15 = .ok (.bipush 6, 2) := dk_16 6 (dk_at dksX2_image_0 15 rfl rfl)
theorem dX2_image_17 : decode cX2_image 17 = .ok (.iaload, 1) := dk_46 (dk_at dksX2_image_0 17 rfl rfl)
theorem dX2_image_18 : decode cX2_image 18 = .ok (.ireturn, 1) := dk_172 (dk_at dksX2_image_0 18 rfl rfl)
abbrev cX2_back : ByteArray := prog_20_method_138_code
def yX2_back : MethodName := ⟨RX2, "back", "()I"⟩
def dkwX2_back_0 : List UInt8 := [42, 180, 0, 13, 42, 180, 0, 7, 184, 0, 65, 42, 180, 0, 7, 16, 6, 46, 172]
abbrev dktX2_back_0 : List UInt8 := dkwX2_back_0 ++ []
theorem dksX2_back_0 : cX2_back.data.toList.drop 0 = dktX2_back_0 := by decide +kernel
theorem dX2_back_0 : decode cX2_back 0 = .ok (.aload_n 0, 1) := dk_42 (dk_at dksX2_back_0 0 rfl rfl)
theorem dX2_back_1 : decode cX2_back 1 = .ok (.getfield 13, 3) := dk_180 0 13 (dk_at dksX2_back_0 1 rfl rfl)
theorem dX2_back_4 : decode cX2_back 4 = .ok (.aload_n 0, 1) := dk_42 (dk_at dksX2_back_0 4 rfl rfl)
theorem dX2_back_5 : decode cX2_back 5 = .ok (.getfield 7, 3) := dk_180 0 7 (dk_at dksX2_back_0 5 rfl rfl)
theorem dX2_back_8 : decode cX2_back 8 = .ok (.invokestatic 65, 3) := dk_184 0 65 (dk_at dksX2_back_0 8 rfl rfl)
theorem dX2_back_11 : decode cX2_back 11 = .ok (.aload_n 0, 1) := dk_42 (dk_at dksX2_back_0 11 rfl rfl)
theorem dX2_back_12 : decode cX2_back 12 = .ok (.getfield 7, 3) := dk_180 0 7 (dk_at dksX2_back_0 12 rfl rfl)
theorem dX2_back_15 : decode cX2_back 15 = .ok (.bipush 6, 2) := dk_16 6 (dk_at dksX2_back_0 15 rfl rfl)
theorem dX2_back_17 : decode cX2_back 17 = .ok (.iaload, 1) := dk_46 (dk_at dksX2_back_0 17 rfl rfl)
theorem dX2_back_18 : decode cX2_back 18 = .ok (.ireturn, 1) := dk_172 (dk_at dksX2_back_0 18 rfl rfl)
abbrev cX2_about : ByteArray := prog_20_method_139_code
def yX2_about : MethodName := ⟨RX2, "about", "(I)I"⟩
def dkwX2_about_1 : List UInt8 := [42, 180, 0, 81, 167, 0, 5, 16, 254, 172]
abbrev dktX2_about_1 : List UInt8 := dkwX2_about_1 ++ []
def dkwX2_about_0 : List UInt8 := [27, 3, 8, 184, 0, 69, 153, 0, 12, 42, 180, 0, 7, 27, 46, 167, 0, 18, 27, 16, 6, 160, 0, 10]
abbrev dktX2_about_0 : List UInt8 := dkwX2_about_0 ++ dktX2_about_1
theorem dksX2_about_0 : cX2_about.data.toList.drop 0 = dktX2_about_0 := by decide +kernel
theorem dksX2_about_1 : cX2_about.data.toList.drop 24 = dktX2_about_1 := dk_seg dksX2_about_0 24 rfl rfl
theorem dX2_about_0 : decode cX2_about 0 = .ok (.iload_n 1, 1) := dk_27 (dk_at dksX2_about_0 0 rfl rfl)
theorem dX2_about_1 : decode cX2_about 1 = .ok (.iconst 0, 1) := dk_3 (dk_at dksX2_about_0 1 rfl rfl)
theorem dX2_about_2 : decode cX2_about 2 = .ok (.iconst 5, 1) := dk_8 (dk_at dksX2_about_0 2 rfl rfl)
theorem dX2_about_3 : decode cX2_about 3 = .ok (.invokestatic 69, 3) := dk_184 0 69 (dk_at dksX2_about_0 3 rfl rfl)
theorem dX2_about_6 : decode cX2_about 6 = .ok (.ifCond .eq 12, 3) := dk_153 0 12 (dk_at dksX2_about_0 6 rfl rfl)
theorem dX2_about_9 : decode cX2_about 9 = .ok (.aload_n 0, 1) := dk_42 (dk_at dksX2_about_0 9 rfl rfl)
theorem dX2_about_10 : decode cX2_about 10 = .ok (.getfield 7, 3) := dk_180 0 7 (dk_at dksX2_about_0 10 rfl rfl)
theorem dX2_about_13 : decode cX2_about 13 = .ok (.iload_n 1, 1) := dk_27 (dk_at dksX2_about_0 13 rfl rfl)
theorem dX2_about_14 : decode cX2_about 14 = .ok (.iaload, 1) := dk_46 (dk_at dksX2_about_0 14 rfl rfl)
theorem dX2_about_15 : decode cX2_about 15 = .ok (.goto 18, 3) := dk_167 0 18 (dk_at dksX2_about_0 15 rfl rfl)
theorem dX2_about_18 : decode cX2_about 18 = .ok (.iload_n 1, 1) := dk_27 (dk_at dksX2_about_0 18 rfl rfl)
theorem dX2_about_19 : decode cX2_about 19 = .ok (.bipush 6, 2) := dk_16 6 (dk_at dksX2_about_0 19 rfl rfl)
theorem dX2_about_21 : decode cX2_about 21 = .ok (.if_icmp .ne 10, 3) := dk_160 0 10 (dk_at dksX2_about_0 21 rfl rfl)
theorem dX2_about_24 : decode cX2_about 24 = .ok (.aload_n 0, 1) := dk_42 (dk_at dksX2_about_1 0 rfl rfl)
theorem dX2_about_25 : decode cX2_about 25 = .ok (.getfield 81, 3) := dk_180 0 81 (dk_at dksX2_about_1 1 rfl rfl)
theorem dX2_about_28 : decode cX2_about 28 = .ok (.goto 5, 3) := dk_167 0 5 (dk_at dksX2_about_1 4 rfl rfl)
theorem dX2_about_31 : decode cX2_about 31 = .ok (.bipush (-2), 2) := dk_16 254 (dk_at dksX2_about_1 7 rfl rfl)
theorem dX2_about_33 : decode cX2_about 33 = .ok (.ireturn, 1) := dk_172 (dk_at dksX2_about_1 9 rfl rfl)
theorem q134 : (Jvm.Cond.initialized "ApologyUpModel") ∈ lw_all := lw_g (lw_at lw_m1 5 rfl) rfl
theorem q674 : (Jvm.Cond.selects "ApologyUpModel" ({ cls := "java/lang/Object", name := "getClass", desc := "()Ljava/lang/Class;" } : Jvm.MethodName) ({ cls := "java/lang/Object", name := "getClass", desc := "()Ljava/lang/Class;" } : Jvm.MethodName)) ∈ lw_all := lw_g (lw_at lw_m3 65 rfl) rfl
theorem q1351 : (Jvm.Cond.instantiable "ApologyUpModel" (35 : Nat)) ∈ lw_all := lw_g (lw_at lw_m6 22 rfl) rfl
theorem q1353 : (Jvm.Cond.instanceMethod ({ cls := "ApologyUpModel", name := "<init>", desc := "()V" } : Jvm.MethodName)) ∈ lw_all := lw_g (lw_at lw_m6 24 rfl) rfl
theorem q1354 : (Jvm.Cond.code ({ cls := "ApologyUpModel", name := "<init>", desc := "()V" } : Jvm.MethodName) prog_20_method_1_code (2 : Nat) (Option.none : Option Jvm.ClassFile.FieldType)) ∈ lw_all := lw_g (lw_at lw_m6 25 rfl) rfl
theorem q1355 : (Jvm.Cond.methodLink "ApologyUpModel" (1 : Nat) ({ cls := "java/lang/Object", name := "<init>", desc := "()V" } : Jvm.MethodName)) ∈ lw_all := lw_g (lw_at lw_m6 26 rfl) rfl
theorem q1356 : (Jvm.Cond.methodLink "ApologyUpModel" (65 : Nat) ({ cls := "ApologyUpModel", name := "copy", desc := "([I[I)V" } : Jvm.MethodName)) ∈ lw_all := lw_g (lw_at lw_m6 27 rfl) rfl
theorem q1357 : (Jvm.Cond.static ({ cls := "ApologyUpModel", name := "copy", desc := "([I[I)V" } : Jvm.MethodName)) ∈ lw_all := lw_g (lw_at lw_m6 28 rfl) rfl
theorem q1358 : (Jvm.Cond.code ({ cls := "ApologyUpModel", name := "copy", desc := "([I[I)V" } : Jvm.MethodName) prog_20_method_2_code (3 : Nat) (Option.none : Option Jvm.ClassFile.FieldType)) ∈ lw_all := lw_g (lw_at lw_m6 29 rfl) rfl
theorem q1359 : (Jvm.Cond.fieldLink "ApologyUpModel" (7 : Nat) "ApologyUpModel" "a" "[I") ∈ lw_all := lw_g (lw_at lw_m6 30 rfl) rfl
theorem q1360 : (Jvm.Cond.fieldLink "ApologyUpModel" (13 : Nat) "ApologyUpModel" "image" "[I") ∈ lw_all := lw_g (lw_at lw_m6 31 rfl) rfl
theorem q1361 : (Jvm.Cond.fieldLink "ApologyUpModel" (16 : Nat) "ApologyUpModel" "texts" "[I") ∈ lw_all := lw_g (lw_at lw_m6 32 rfl) rfl
theorem q1362 : (Jvm.Cond.fieldLink "ApologyUpModel" (19 : Nat) "ApologyUpModel" "tape" "[I") ∈ lw_all := lw_g (lw_at lw_m6 33 rfl) rfl
theorem q1363 : (Jvm.Cond.fieldLink "ApologyUpModel" (81 : Nat) "ApologyUpModel" "taped" "I") ∈ lw_all := lw_g (lw_at lw_m6 34 rfl) rfl
theorem q1364 : (Jvm.Cond.fieldLink "ApologyUpModel" (22 : Nat) "ApologyUpModel" "fault" "I") ∈ lw_all := lw_g (lw_at lw_m6 35 rfl) rfl
theorem q1365 : (Jvm.Cond.fieldLink "ApologyUpModel" (26 : Nat) "ApologyUpModel" "faultPlace" "I") ∈ lw_all := lw_g (lw_at lw_m6 36 rfl) rfl
theorem q1366 : (Jvm.Cond.fieldLink "ApologyUpModel" (88 : Nat) "ApologyUpModel" "at" "I") ∈ lw_all := lw_g (lw_at lw_m6 37 rfl) rfl
theorem q1367 : (Jvm.Cond.fieldLink "ApologyUpModel" (95 : Nat) "ApologyUpModel" "place" "I") ∈ lw_all := lw_g (lw_at lw_m6 38 rfl) rfl
theorem q1368 : (Jvm.Cond.fieldLink "ApologyUpModel" (98 : Nat) "ApologyUpModel" "token" "I") ∈ lw_all := lw_g (lw_at lw_m6 39 rfl) rfl
theorem q1369 : (Jvm.Cond.fieldLink "ApologyUpModel" (104 : Nat) "ApologyUpModel" "number" "I") ∈ lw_all := lw_g (lw_at lw_m6 40 rfl) rfl
theorem q1370 : (Jvm.Cond.fieldLink "ApologyUpModel" (111 : Nat) "ApologyUpModel" "word" "J") ∈ lw_all := lw_g (lw_at lw_m6 41 rfl) rfl
theorem q1371 : (Jvm.Cond.fieldLink "ApologyUpModel" (136 : Nat) "ApologyUpModel" "text0" "I") ∈ lw_all := lw_g (lw_at lw_m6 42 rfl) rfl
theorem q1372 : (Jvm.Cond.fieldLink "ApologyUpModel" (139 : Nat) "ApologyUpModel" "written" "I") ∈ lw_all := lw_g (lw_at lw_m6 43 rfl) rfl
theorem q1373 : (Jvm.Cond.fieldLink "ApologyUpModel" (142 : Nat) "ApologyUpModel" "sort0" "I") ∈ lw_all := lw_g (lw_at lw_m6 44 rfl) rfl
theorem q1374 : (Jvm.Cond.fieldLink "ApologyUpModel" (29 : Nat) "ApologyUpModel" "waiting" "[I") ∈ lw_all := lw_g (lw_at lw_m6 45 rfl) rfl
theorem q1375 : (Jvm.Cond.fieldLink "ApologyUpModel" (145 : Nat) "ApologyUpModel" "piled" "I") ∈ lw_all := lw_g (lw_at lw_m6 46 rfl) rfl
theorem q1376 : (Jvm.Cond.fieldLink "ApologyUpModel" (155 : Nat) "ApologyUpModel" "opens" "I") ∈ lw_all := lw_g (lw_at lw_m6 47 rfl) rfl
theorem q1377 : (Jvm.Cond.fieldLink "ApologyUpModel" (195 : Nat) "ApologyUpModel" "isWhole" "Z") ∈ lw_all := lw_g (lw_at lw_m6 48 rfl) rfl
theorem q1378 : (Jvm.Cond.fieldLink "ApologyUpModel" (241 : Nat) "ApologyUpModel" "once" "I") ∈ lw_all := lw_g (lw_at lw_m6 49 rfl) rfl
theorem q1379 : (Jvm.Cond.fieldLink "ApologyUpModel" (32 : Nat) "ApologyUpModel" "named" "[I") ∈ lw_all := lw_g (lw_at lw_m6 50 rfl) rfl
theorem q1380 : (Jvm.Cond.fieldLink "ApologyUpModel" (35 : Nat) "ApologyUpModel" "values" "[J") ∈ lw_all := lw_g (lw_at lw_m6 51 rfl) rfl
theorem q1381 : (Jvm.Cond.fieldLink "ApologyUpModel" (39 : Nat) "ApologyUpModel" "truth" "[Z") ∈ lw_all := lw_g (lw_at lw_m6 52 rfl) rfl
theorem q1382 : (Jvm.Cond.fieldLink "ApologyUpModel" (43 : Nat) "ApologyUpModel" "isWritten" "Z") ∈ lw_all := lw_g (lw_at lw_m6 53 rfl) rfl
theorem q1383 : (Jvm.Cond.fieldLink "ApologyUpModel" (332 : Nat) "ApologyUpModel" "done" "I") ∈ lw_all := lw_g (lw_at lw_m6 54 rfl) rfl
theorem q1384 : (Jvm.Cond.fieldLink "ApologyUpModel" (326 : Nat) "ApologyUpModel" "pardons" "I") ∈ lw_all := lw_g (lw_at lw_m6 55 rfl) rfl
theorem q1385 : (Jvm.Cond.fieldLink "ApologyUpModel" (47 : Nat) "ApologyUpModel" "aside" "[I") ∈ lw_all := lw_g (lw_at lw_m6 56 rfl) rfl
theorem q1386 : (Jvm.Cond.fieldLink "ApologyUpModel" (50 : Nat) "ApologyUpModel" "daysFrom" "[I") ∈ lw_all := lw_g (lw_at lw_m6 57 rfl) rfl
theorem q1387 : (Jvm.Cond.fieldLink "ApologyUpModel" (53 : Nat) "ApologyUpModel" "way" "[I") ∈ lw_all := lw_g (lw_at lw_m6 58 rfl) rfl
theorem q1388 : (Jvm.Cond.fieldLink "ApologyUpModel" (56 : Nat) "ApologyUpModel" "sizeAt" "[I") ∈ lw_all := lw_g (lw_at lw_m6 59 rfl) rfl
theorem q1389 : (Jvm.Cond.fieldLink "ApologyUpModel" (59 : Nat) "ApologyUpModel" "bestWay" "[I") ∈ lw_all := lw_g (lw_at lw_m6 60 rfl) rfl
theorem q1390 : (Jvm.Cond.fieldLink "ApologyUpModel" (421 : Nat) "ApologyUpModel" "bestSize" "I") ∈ lw_all := lw_g (lw_at lw_m6 61 rfl) rfl
theorem q1391 : (Jvm.Cond.fieldLink "ApologyUpModel" (424 : Nat) "ApologyUpModel" "bestLong" "I") ∈ lw_all := lw_g (lw_at lw_m6 62 rfl) rfl
theorem q1392 : (Jvm.Cond.fieldLink "ApologyUpModel" (62 : Nat) "ApologyUpModel" "with" "[I") ∈ lw_all := lw_g (lw_at lw_m6 63 rfl) rfl
theorem q1393 : (Jvm.Cond.fieldLink "ApologyUpModel" (443 : Nat) "ApologyUpModel" "found" "I") ∈ lw_all := lw_g (lw_at lw_m6 64 rfl) rfl
theorem q1394 : (Jvm.Cond.laysFinal "ApologyUpModel" "ApologyUpModel" "a" "[I") ∈ lw_all := lw_g (lw_at lw_m6 65 rfl) rfl
theorem q1395 : (Jvm.Cond.soleField "ApologyUpModel" "a") ∈ lw_all := lw_g (lw_at lw_m6 66 rfl) rfl
theorem q1396 : (Jvm.Cond.laysFinal "ApologyUpModel" "ApologyUpModel" "image" "[I") ∈ lw_all := lw_g (lw_at lw_m6 67 rfl) rfl
theorem q1397 : (Jvm.Cond.soleField "ApologyUpModel" "image") ∈ lw_all := lw_g (lw_at lw_m6 68 rfl) rfl
theorem q1398 : (Jvm.Cond.laysFinal "ApologyUpModel" "ApologyUpModel" "texts" "[I") ∈ lw_all := lw_g (lw_at lw_m6 69 rfl) rfl
theorem q1399 : (Jvm.Cond.soleField "ApologyUpModel" "texts") ∈ lw_all := lw_g (lw_at lw_m6 70 rfl) rfl
theorem q1400 : (Jvm.Cond.laysFinal "ApologyUpModel" "ApologyUpModel" "tape" "[I") ∈ lw_all := lw_g (lw_at lw_m6 71 rfl) rfl
theorem q1401 : (Jvm.Cond.soleField "ApologyUpModel" "tape") ∈ lw_all := lw_g (lw_at lw_m6 72 rfl) rfl
theorem q1402 : (Jvm.Cond.lays "ApologyUpModel" "ApologyUpModel" "taped" "I") ∈ lw_all := lw_g (lw_at lw_m6 73 rfl) rfl
theorem q1403 : (Jvm.Cond.soleField "ApologyUpModel" "taped") ∈ lw_all := lw_g (lw_at lw_m6 74 rfl) rfl
theorem q1404 : (Jvm.Cond.lays "ApologyUpModel" "ApologyUpModel" "fault" "I") ∈ lw_all := lw_g (lw_at lw_m6 75 rfl) rfl
theorem q1405 : (Jvm.Cond.soleField "ApologyUpModel" "fault") ∈ lw_all := lw_g (lw_at lw_m6 76 rfl) rfl
theorem q1406 : (Jvm.Cond.lays "ApologyUpModel" "ApologyUpModel" "faultPlace" "I") ∈ lw_all := lw_g (lw_at lw_m6 77 rfl) rfl
theorem q1407 : (Jvm.Cond.soleField "ApologyUpModel" "faultPlace") ∈ lw_all := lw_g (lw_at lw_m6 78 rfl) rfl
theorem q1408 : (Jvm.Cond.lays "ApologyUpModel" "ApologyUpModel" "at" "I") ∈ lw_all := lw_g (lw_at lw_m6 79 rfl) rfl
theorem q1409 : (Jvm.Cond.soleField "ApologyUpModel" "at") ∈ lw_all := lw_g (lw_at lw_m6 80 rfl) rfl
theorem q1410 : (Jvm.Cond.lays "ApologyUpModel" "ApologyUpModel" "place" "I") ∈ lw_all := lw_g (lw_at lw_m6 81 rfl) rfl
theorem q1411 : (Jvm.Cond.soleField "ApologyUpModel" "place") ∈ lw_all := lw_g (lw_at lw_m6 82 rfl) rfl
theorem q1412 : (Jvm.Cond.lays "ApologyUpModel" "ApologyUpModel" "token" "I") ∈ lw_all := lw_g (lw_at lw_m6 83 rfl) rfl
theorem q1413 : (Jvm.Cond.soleField "ApologyUpModel" "token") ∈ lw_all := lw_g (lw_at lw_m6 84 rfl) rfl
theorem q1414 : (Jvm.Cond.lays "ApologyUpModel" "ApologyUpModel" "number" "I") ∈ lw_all := lw_g (lw_at lw_m6 85 rfl) rfl
theorem q1415 : (Jvm.Cond.soleField "ApologyUpModel" "number") ∈ lw_all := lw_g (lw_at lw_m6 86 rfl) rfl
theorem q1416 : (Jvm.Cond.lays "ApologyUpModel" "ApologyUpModel" "word" "J") ∈ lw_all := lw_g (lw_at lw_m6 87 rfl) rfl
theorem q1417 : (Jvm.Cond.soleField "ApologyUpModel" "word") ∈ lw_all := lw_g (lw_at lw_m6 88 rfl) rfl
theorem q1418 : (Jvm.Cond.lays "ApologyUpModel" "ApologyUpModel" "text0" "I") ∈ lw_all := lw_g (lw_at lw_m6 89 rfl) rfl
theorem q1419 : (Jvm.Cond.soleField "ApologyUpModel" "text0") ∈ lw_all := lw_g (lw_at lw_m6 90 rfl) rfl
theorem q1420 : (Jvm.Cond.lays "ApologyUpModel" "ApologyUpModel" "written" "I") ∈ lw_all := lw_g (lw_at lw_m6 91 rfl) rfl
theorem q1421 : (Jvm.Cond.soleField "ApologyUpModel" "written") ∈ lw_all := lw_g (lw_at lw_m6 92 rfl) rfl
theorem q1422 : (Jvm.Cond.lays "ApologyUpModel" "ApologyUpModel" "sort0" "I") ∈ lw_all := lw_g (lw_at lw_m6 93 rfl) rfl
theorem q1423 : (Jvm.Cond.soleField "ApologyUpModel" "sort0") ∈ lw_all := lw_g (lw_at lw_m6 94 rfl) rfl
theorem q1424 : (Jvm.Cond.laysFinal "ApologyUpModel" "ApologyUpModel" "waiting" "[I") ∈ lw_all := lw_g (lw_at lw_m6 95 rfl) rfl
theorem q1425 : (Jvm.Cond.soleField "ApologyUpModel" "waiting") ∈ lw_all := lw_g (lw_at lw_m6 96 rfl) rfl
theorem q1426 : (Jvm.Cond.lays "ApologyUpModel" "ApologyUpModel" "piled" "I") ∈ lw_all := lw_g (lw_at lw_m6 97 rfl) rfl
theorem q1427 : (Jvm.Cond.soleField "ApologyUpModel" "piled") ∈ lw_all := lw_g (lw_at lw_m6 98 rfl) rfl
theorem q1428 : (Jvm.Cond.lays "ApologyUpModel" "ApologyUpModel" "opens" "I") ∈ lw_all := lw_g (lw_at lw_m6 99 rfl) rfl
theorem q1429 : (Jvm.Cond.soleField "ApologyUpModel" "opens") ∈ lw_all := lw_g (lw_at lw_m6 100 rfl) rfl
theorem q1430 : (Jvm.Cond.lays "ApologyUpModel" "ApologyUpModel" "isWhole" "Z") ∈ lw_all := lw_g (lw_at lw_m6 101 rfl) rfl
theorem q1431 : (Jvm.Cond.soleField "ApologyUpModel" "isWhole") ∈ lw_all := lw_g (lw_at lw_m6 102 rfl) rfl
theorem q1432 : (Jvm.Cond.lays "ApologyUpModel" "ApologyUpModel" "once" "I") ∈ lw_all := lw_g (lw_at lw_m6 103 rfl) rfl
theorem q1433 : (Jvm.Cond.soleField "ApologyUpModel" "once") ∈ lw_all := lw_g (lw_at lw_m6 104 rfl) rfl
theorem q1434 : (Jvm.Cond.laysFinal "ApologyUpModel" "ApologyUpModel" "named" "[I") ∈ lw_all := lw_g (lw_at lw_m6 105 rfl) rfl
theorem q1435 : (Jvm.Cond.soleField "ApologyUpModel" "named") ∈ lw_all := lw_g (lw_at lw_m6 106 rfl) rfl
theorem q1436 : (Jvm.Cond.laysFinal "ApologyUpModel" "ApologyUpModel" "values" "[J") ∈ lw_all := lw_g (lw_at lw_m6 107 rfl) rfl
theorem q1437 : (Jvm.Cond.soleField "ApologyUpModel" "values") ∈ lw_all := lw_g (lw_at lw_m6 108 rfl) rfl
theorem q1438 : (Jvm.Cond.laysFinal "ApologyUpModel" "ApologyUpModel" "truth" "[Z") ∈ lw_all := lw_g (lw_at lw_m6 109 rfl) rfl
theorem q1439 : (Jvm.Cond.soleField "ApologyUpModel" "truth") ∈ lw_all := lw_g (lw_at lw_m6 110 rfl) rfl
theorem q1440 : (Jvm.Cond.lays "ApologyUpModel" "ApologyUpModel" "isWritten" "Z") ∈ lw_all := lw_g (lw_at lw_m6 111 rfl) rfl
theorem q1441 : (Jvm.Cond.soleField "ApologyUpModel" "isWritten") ∈ lw_all := lw_g (lw_at lw_m6 112 rfl) rfl
theorem q1442 : (Jvm.Cond.lays "ApologyUpModel" "ApologyUpModel" "done" "I") ∈ lw_all := lw_g (lw_at lw_m6 113 rfl) rfl
theorem q1443 : (Jvm.Cond.soleField "ApologyUpModel" "done") ∈ lw_all := lw_g (lw_at lw_m6 114 rfl) rfl
theorem q1444 : (Jvm.Cond.lays "ApologyUpModel" "ApologyUpModel" "pardons" "I") ∈ lw_all := lw_g (lw_at lw_m6 115 rfl) rfl
theorem q1445 : (Jvm.Cond.soleField "ApologyUpModel" "pardons") ∈ lw_all := lw_g (lw_at lw_m6 116 rfl) rfl
theorem q1446 : (Jvm.Cond.laysFinal "ApologyUpModel" "ApologyUpModel" "aside" "[I") ∈ lw_all := lw_g (lw_at lw_m6 117 rfl) rfl
theorem q1447 : (Jvm.Cond.soleField "ApologyUpModel" "aside") ∈ lw_all := lw_g (lw_at lw_m6 118 rfl) rfl
theorem q1448 : (Jvm.Cond.laysFinal "ApologyUpModel" "ApologyUpModel" "daysFrom" "[I") ∈ lw_all := lw_g (lw_at lw_m6 119 rfl) rfl
theorem q1449 : (Jvm.Cond.soleField "ApologyUpModel" "daysFrom") ∈ lw_all := lw_g (lw_at lw_m6 120 rfl) rfl
theorem q1450 : (Jvm.Cond.laysFinal "ApologyUpModel" "ApologyUpModel" "way" "[I") ∈ lw_all := lw_g (lw_at lw_m6 121 rfl) rfl
theorem q1451 : (Jvm.Cond.soleField "ApologyUpModel" "way") ∈ lw_all := lw_g (lw_at lw_m6 122 rfl) rfl
theorem q1452 : (Jvm.Cond.laysFinal "ApologyUpModel" "ApologyUpModel" "sizeAt" "[I") ∈ lw_all := lw_g (lw_at lw_m6 123 rfl) rfl
theorem q1453 : (Jvm.Cond.soleField "ApologyUpModel" "sizeAt") ∈ lw_all := lw_g (lw_at lw_m6 124 rfl) rfl
theorem q1454 : (Jvm.Cond.laysFinal "ApologyUpModel" "ApologyUpModel" "bestWay" "[I") ∈ lw_all := lw_g (lw_at lw_m6 125 rfl) rfl
theorem q1455 : (Jvm.Cond.soleField "ApologyUpModel" "bestWay") ∈ lw_all := lw_g (lw_at lw_m6 126 rfl) rfl
theorem q1456 : (Jvm.Cond.lays "ApologyUpModel" "ApologyUpModel" "bestSize" "I") ∈ lw_all := lw_g (lw_at lw_m6 127 rfl) rfl
theorem q1457 : (Jvm.Cond.soleField "ApologyUpModel" "bestSize") ∈ lw_all := lw_g (lw_at lw_m6 128 rfl) rfl
theorem q1458 : (Jvm.Cond.lays "ApologyUpModel" "ApologyUpModel" "bestLong" "I") ∈ lw_all := lw_g (lw_at lw_m6 129 rfl) rfl
theorem q1459 : (Jvm.Cond.soleField "ApologyUpModel" "bestLong") ∈ lw_all := lw_g (lw_at lw_m6 130 rfl) rfl
theorem q1460 : (Jvm.Cond.laysFinal "ApologyUpModel" "ApologyUpModel" "with" "[I") ∈ lw_all := lw_g (lw_at lw_m6 131 rfl) rfl
theorem q1461 : (Jvm.Cond.soleField "ApologyUpModel" "with") ∈ lw_all := lw_g (lw_at lw_m6 132 rfl) rfl
theorem q1462 : (Jvm.Cond.lays "ApologyUpModel" "ApologyUpModel" "found" "I") ∈ lw_all := lw_g (lw_at lw_m6 133 rfl) rfl
theorem q1463 : (Jvm.Cond.soleField "ApologyUpModel" "found") ∈ lw_all := lw_g (lw_at lw_m6 134 rfl) rfl
theorem q1464 : (Jvm.Cond.superclass "ApologyUpModel" "java/lang/Object") ∈ lw_all := lw_g (lw_at lw_m6 135 rfl) rfl
theorem q1468 : (Jvm.Cond.instanceMethod ({ cls := "ApologyUpModel", name := "officer", desc := "(II)I" } : Jvm.MethodName)) ∈ lw_all := lw_g (lw_at lw_m6 139 rfl) rfl
theorem q1469 : (Jvm.Cond.selects "ApologyUpModel" ({ cls := "ApologyUpModel", name := "officer", desc := "(II)I" } : Jvm.MethodName) ({ cls := "ApologyUpModel", name := "officer", desc := "(II)I" } : Jvm.MethodName)) ∈ lw_all := lw_g (lw_at lw_m6 140 rfl) rfl
theorem q1470 : (Jvm.Cond.code ({ cls := "ApologyUpModel", name := "officer", desc := "(II)I" } : Jvm.MethodName) prog_20_method_14_code (4 : Nat) (Option.some Jvm.ClassFile.FieldType.int)) ∈ lw_all := lw_g (lw_at lw_m6 141 rfl) rfl
theorem q1471 : (Jvm.Cond.methodLink "ApologyUpModel" (73 : Nat) ({ cls := "ApologyUpModel", name := "isOfficer", desc := "(I)Z" } : Jvm.MethodName)) ∈ lw_all := lw_g (lw_at lw_m6 142 rfl) rfl
theorem q1472 : (Jvm.Cond.privateMethod ({ cls := "ApologyUpModel", name := "isOfficer", desc := "(I)Z" } : Jvm.MethodName)) ∈ lw_tbl := lw_at lw_m6 143 rfl
theorem q1473 : (Jvm.Cond.instanceMethod ({ cls := "ApologyUpModel", name := "isOfficer", desc := "(I)Z" } : Jvm.MethodName)) ∈ lw_all := lw_g (lw_at lw_m6 144 rfl) rfl
theorem q1474 : (Jvm.Cond.code ({ cls := "ApologyUpModel", name := "isOfficer", desc := "(I)Z" } : Jvm.MethodName) prog_20_method_7_code (2 : Nat) (Option.some Jvm.ClassFile.FieldType.boolean)) ∈ lw_all := lw_g (lw_at lw_m6 145 rfl) rfl
theorem q1475 : (Jvm.Cond.methodLink "ApologyUpModel" (69 : Nat) ({ cls := "ApologyUpModel", name := "isIn", desc := "(III)Z" } : Jvm.MethodName)) ∈ lw_all := lw_g (lw_at lw_m6 146 rfl) rfl
theorem q1476 : (Jvm.Cond.static ({ cls := "ApologyUpModel", name := "isIn", desc := "(III)Z" } : Jvm.MethodName)) ∈ lw_all := lw_g (lw_at lw_m6 147 rfl) rfl
theorem q1477 : (Jvm.Cond.code ({ cls := "ApologyUpModel", name := "isIn", desc := "(III)Z" } : Jvm.MethodName) prog_20_method_3_code (3 : Nat) (Option.some Jvm.ClassFile.FieldType.boolean)) ∈ lw_all := lw_g (lw_at lw_m6 148 rfl) rfl
theorem q1479 : (Jvm.Cond.instanceMethod ({ cls := "ApologyUpModel", name := "cousin", desc := "(II)Z" } : Jvm.MethodName)) ∈ lw_all := lw_g (lw_at lw_m6 150 rfl) rfl
theorem q1480 : (Jvm.Cond.selects "ApologyUpModel" ({ cls := "ApologyUpModel", name := "cousin", desc := "(II)Z" } : Jvm.MethodName) ({ cls := "ApologyUpModel", name := "cousin", desc := "(II)Z" } : Jvm.MethodName)) ∈ lw_all := lw_g (lw_at lw_m6 151 rfl) rfl
theorem q1481 : (Jvm.Cond.code ({ cls := "ApologyUpModel", name := "cousin", desc := "(II)Z" } : Jvm.MethodName) prog_20_method_15_code (3 : Nat) (Option.some Jvm.ClassFile.FieldType.boolean)) ∈ lw_all := lw_g (lw_at lw_m6 152 rfl) rfl
theorem q1482 : (Jvm.Cond.methodLink "ApologyUpModel" (77 : Nat) ({ cls := "ApologyUpModel", name := "has", desc := "(II)Z" } : Jvm.MethodName)) ∈ lw_all := lw_g (lw_at lw_m6 153 rfl) rfl
theorem q1483 : (Jvm.Cond.static ({ cls := "ApologyUpModel", name := "has", desc := "(II)Z" } : Jvm.MethodName)) ∈ lw_all := lw_g (lw_at lw_m6 154 rfl) rfl
theorem q1484 : (Jvm.Cond.code ({ cls := "ApologyUpModel", name := "has", desc := "(II)Z" } : Jvm.MethodName) prog_20_method_5_code (2 : Nat) (Option.some Jvm.ClassFile.FieldType.boolean)) ∈ lw_all := lw_g (lw_at lw_m6 155 rfl) rfl
theorem q1486 : (Jvm.Cond.instanceMethod ({ cls := "ApologyUpModel", name := "feed", desc := "(IIIII)I" } : Jvm.MethodName)) ∈ lw_all := lw_g (lw_at lw_m6 157 rfl) rfl
theorem q1487 : (Jvm.Cond.selects "ApologyUpModel" ({ cls := "ApologyUpModel", name := "feed", desc := "(IIIII)I" } : Jvm.MethodName) ({ cls := "ApologyUpModel", name := "feed", desc := "(IIIII)I" } : Jvm.MethodName)) ∈ lw_all := lw_g (lw_at lw_m6 158 rfl) rfl
theorem q1488 : (Jvm.Cond.code ({ cls := "ApologyUpModel", name := "feed", desc := "(IIIII)I" } : Jvm.MethodName) prog_20_method_17_code (6 : Nat) (Option.some Jvm.ClassFile.FieldType.int)) ∈ lw_all := lw_g (lw_at lw_m6 159 rfl) rfl
theorem q1489 : (Jvm.Cond.methodLink "ApologyUpModel" (84 : Nat) ({ cls := "ApologyUpModel", name := "four", desc := "(I)V" } : Jvm.MethodName)) ∈ lw_all := lw_g (lw_at lw_m6 160 rfl) rfl
theorem q1490 : (Jvm.Cond.privateMethod ({ cls := "ApologyUpModel", name := "four", desc := "(I)V" } : Jvm.MethodName)) ∈ lw_tbl := lw_at lw_m6 161 rfl
theorem q1491 : (Jvm.Cond.instanceMethod ({ cls := "ApologyUpModel", name := "four", desc := "(I)V" } : Jvm.MethodName)) ∈ lw_all := lw_g (lw_at lw_m6 162 rfl) rfl
theorem q1492 : (Jvm.Cond.code ({ cls := "ApologyUpModel", name := "four", desc := "(I)V" } : Jvm.MethodName) prog_20_method_16_code (3 : Nat) (Option.none : Option Jvm.ClassFile.FieldType)) ∈ lw_all := lw_g (lw_at lw_m6 163 rfl) rfl
theorem q1494 : (Jvm.Cond.instanceMethod ({ cls := "ApologyUpModel", name := "end", desc := "(I)I" } : Jvm.MethodName)) ∈ lw_all := lw_g (lw_at lw_m6 165 rfl) rfl
theorem q1495 : (Jvm.Cond.selects "ApologyUpModel" ({ cls := "ApologyUpModel", name := "end", desc := "(I)I" } : Jvm.MethodName) ({ cls := "ApologyUpModel", name := "end", desc := "(I)I" } : Jvm.MethodName)) ∈ lw_all := lw_g (lw_at lw_m6 166 rfl) rfl
theorem q1496 : (Jvm.Cond.code ({ cls := "ApologyUpModel", name := "end", desc := "(I)I" } : Jvm.MethodName) prog_20_method_18_code (2 : Nat) (Option.some Jvm.ClassFile.FieldType.int)) ∈ lw_all := lw_g (lw_at lw_m6 167 rfl) rfl
theorem q1498 : (Jvm.Cond.instanceMethod ({ cls := "ApologyUpModel", name := "text", desc := "()I" } : Jvm.MethodName)) ∈ lw_all := lw_g (lw_at lw_m6 169 rfl) rfl
theorem q1499 : (Jvm.Cond.selects "ApologyUpModel" ({ cls := "ApologyUpModel", name := "text", desc := "()I" } : Jvm.MethodName) ({ cls := "ApologyUpModel", name := "text", desc := "()I" } : Jvm.MethodName)) ∈ lw_all := lw_g (lw_at lw_m6 170 rfl) rfl
theorem q1500 : (Jvm.Cond.code ({ cls := "ApologyUpModel", name := "text", desc := "()I" } : Jvm.MethodName) prog_20_method_56_code (1 : Nat) (Option.some Jvm.ClassFile.FieldType.int)) ∈ lw_all := lw_g (lw_at lw_m6 171 rfl) rfl
theorem q1501 : (Jvm.Cond.methodLink "ApologyUpModel" (251 : Nat) ({ cls := "ApologyUpModel", name := "readText", desc := "()I" } : Jvm.MethodName)) ∈ lw_all := lw_g (lw_at lw_m6 172 rfl) rfl
theorem q1502 : (Jvm.Cond.privateMethod ({ cls := "ApologyUpModel", name := "readText", desc := "()I" } : Jvm.MethodName)) ∈ lw_tbl := lw_at lw_m6 173 rfl
theorem q1503 : (Jvm.Cond.instanceMethod ({ cls := "ApologyUpModel", name := "readText", desc := "()I" } : Jvm.MethodName)) ∈ lw_all := lw_g (lw_at lw_m6 174 rfl) rfl
theorem q1504 : (Jvm.Cond.code ({ cls := "ApologyUpModel", name := "readText", desc := "()I" } : Jvm.MethodName) prog_20_method_55_code (2 : Nat) (Option.some Jvm.ClassFile.FieldType.int)) ∈ lw_all := lw_g (lw_at lw_m6 175 rfl) rfl
theorem q1505 : (Jvm.Cond.methodLink "ApologyUpModel" (165 : Nat) ({ cls := "ApologyUpModel", name := "nextToken", desc := "()V" } : Jvm.MethodName)) ∈ lw_all := lw_g (lw_at lw_m6 176 rfl) rfl
theorem q1506 : (Jvm.Cond.privateMethod ({ cls := "ApologyUpModel", name := "nextToken", desc := "()V" } : Jvm.MethodName)) ∈ lw_tbl := lw_at lw_m6 177 rfl
theorem q1507 : (Jvm.Cond.instanceMethod ({ cls := "ApologyUpModel", name := "nextToken", desc := "()V" } : Jvm.MethodName)) ∈ lw_all := lw_g (lw_at lw_m6 178 rfl) rfl
theorem q1508 : (Jvm.Cond.code ({ cls := "ApologyUpModel", name := "nextToken", desc := "()V" } : Jvm.MethodName) prog_20_method_23_code (2 : Nat) (Option.none : Option Jvm.ClassFile.FieldType)) ∈ lw_all := lw_g (lw_at lw_m6 179 rfl) rfl
theorem q1509 : (Jvm.Cond.methodLink "ApologyUpModel" (91 : Nat) ({ cls := "ApologyUpModel", name := "byteAt", desc := "(I)I" } : Jvm.MethodName)) ∈ lw_all := lw_g (lw_at lw_m6 180 rfl) rfl
theorem q1510 : (Jvm.Cond.privateMethod ({ cls := "ApologyUpModel", name := "byteAt", desc := "(I)I" } : Jvm.MethodName)) ∈ lw_tbl := lw_at lw_m6 181 rfl
theorem q1511 : (Jvm.Cond.instanceMethod ({ cls := "ApologyUpModel", name := "byteAt", desc := "(I)I" } : Jvm.MethodName)) ∈ lw_all := lw_g (lw_at lw_m6 182 rfl) rfl
theorem q1512 : (Jvm.Cond.code ({ cls := "ApologyUpModel", name := "byteAt", desc := "(I)I" } : Jvm.MethodName) prog_20_method_19_code (2 : Nat) (Option.some Jvm.ClassFile.FieldType.int)) ∈ lw_all := lw_g (lw_at lw_m6 183 rfl) rfl
theorem q1513 : (Jvm.Cond.methodLink "ApologyUpModel" (101 : Nat) ({ cls := "ApologyUpModel", name := "isFigure", desc := "(I)Z" } : Jvm.MethodName)) ∈ lw_all := lw_g (lw_at lw_m6 184 rfl) rfl
theorem q1514 : (Jvm.Cond.static ({ cls := "ApologyUpModel", name := "isFigure", desc := "(I)Z" } : Jvm.MethodName)) ∈ lw_all := lw_g (lw_at lw_m6 185 rfl) rfl
theorem q1515 : (Jvm.Cond.code ({ cls := "ApologyUpModel", name := "isFigure", desc := "(I)Z" } : Jvm.MethodName) prog_20_method_21_code (1 : Nat) (Option.some Jvm.ClassFile.FieldType.boolean)) ∈ lw_all := lw_g (lw_at lw_m6 186 rfl) rfl
theorem q1516 : (Jvm.Cond.constant "ApologyUpModel" (107 : Nat) (99999 : Int32)) ∈ lw_all := lw_g (lw_at lw_m6 187 rfl) rfl
theorem q1517 : (Jvm.Cond.methodLink "ApologyUpModel" (108 : Nat) ({ cls := "ApologyUpModel", name := "isLetterByte", desc := "(I)Z" } : Jvm.MethodName)) ∈ lw_all := lw_g (lw_at lw_m6 188 rfl) rfl
theorem q1518 : (Jvm.Cond.static ({ cls := "ApologyUpModel", name := "isLetterByte", desc := "(I)Z" } : Jvm.MethodName)) ∈ lw_all := lw_g (lw_at lw_m6 189 rfl) rfl
theorem q1519 : (Jvm.Cond.code ({ cls := "ApologyUpModel", name := "isLetterByte", desc := "(I)Z" } : Jvm.MethodName) prog_20_method_20_code (1 : Nat) (Option.some Jvm.ClassFile.FieldType.boolean)) ∈ lw_all := lw_g (lw_at lw_m6 190 rfl) rfl
theorem q1520 : (Jvm.Cond.constantLong "ApologyUpModel" (115 : Nat) (1152921504606846976 : Int64)) ∈ lw_all := lw_g (lw_at lw_m6 191 rfl) rfl
theorem q1521 : (Jvm.Cond.methodLink "ApologyUpModel" (117 : Nat) ({ cls := "ApologyUpModel", name := "isSign", desc := "(I)Z" } : Jvm.MethodName)) ∈ lw_all := lw_g (lw_at lw_m6 192 rfl) rfl
theorem q1522 : (Jvm.Cond.static ({ cls := "ApologyUpModel", name := "isSign", desc := "(I)Z" } : Jvm.MethodName)) ∈ lw_all := lw_g (lw_at lw_m6 193 rfl) rfl
theorem q1523 : (Jvm.Cond.code ({ cls := "ApologyUpModel", name := "isSign", desc := "(I)Z" } : Jvm.MethodName) prog_20_method_22_code (1 : Nat) (Option.some Jvm.ClassFile.FieldType.boolean)) ∈ lw_all := lw_g (lw_at lw_m6 194 rfl) rfl
theorem q1524 : (Jvm.Cond.methodLink "ApologyUpModel" (248 : Nat) ({ cls := "ApologyUpModel", name := "clause", desc := "()I" } : Jvm.MethodName)) ∈ lw_all := lw_g (lw_at lw_m6 195 rfl) rfl
theorem q1525 : (Jvm.Cond.privateMethod ({ cls := "ApologyUpModel", name := "clause", desc := "()I" } : Jvm.MethodName)) ∈ lw_tbl := lw_at lw_m6 196 rfl
theorem q1526 : (Jvm.Cond.instanceMethod ({ cls := "ApologyUpModel", name := "clause", desc := "()I" } : Jvm.MethodName)) ∈ lw_all := lw_g (lw_at lw_m6 197 rfl) rfl
theorem q1527 : (Jvm.Cond.code ({ cls := "ApologyUpModel", name := "clause", desc := "()I" } : Jvm.MethodName) prog_20_method_54_code (5 : Nat) (Option.some Jvm.ClassFile.FieldType.int)) ∈ lw_all := lw_g (lw_at lw_m6 198 rfl) rfl
theorem q1528 : (Jvm.Cond.methodLink "ApologyUpModel" (238 : Nat) ({ cls := "ApologyUpModel", name := "sortOf", desc := "()I" } : Jvm.MethodName)) ∈ lw_all := lw_g (lw_at lw_m6 199 rfl) rfl
theorem q1529 : (Jvm.Cond.privateMethod ({ cls := "ApologyUpModel", name := "sortOf", desc := "()I" } : Jvm.MethodName)) ∈ lw_tbl := lw_at lw_m6 200 rfl
theorem q1530 : (Jvm.Cond.instanceMethod ({ cls := "ApologyUpModel", name := "sortOf", desc := "()I" } : Jvm.MethodName)) ∈ lw_all := lw_g (lw_at lw_m6 201 rfl) rfl
theorem q1531 : (Jvm.Cond.code ({ cls := "ApologyUpModel", name := "sortOf", desc := "()I" } : Jvm.MethodName) prog_20_method_53_code (1 : Nat) (Option.some Jvm.ClassFile.FieldType.int)) ∈ lw_all := lw_g (lw_at lw_m6 202 rfl) rfl
theorem q1532 : (Jvm.Cond.methodLink "ApologyUpModel" (128 : Nat) ({ cls := "ApologyUpModel", name := "w4", desc := "(IIII)J" } : Jvm.MethodName)) ∈ lw_all := lw_g (lw_at lw_m6 203 rfl) rfl
theorem q1533 : (Jvm.Cond.static ({ cls := "ApologyUpModel", name := "w4", desc := "(IIII)J" } : Jvm.MethodName)) ∈ lw_all := lw_g (lw_at lw_m6 204 rfl) rfl
theorem q1534 : (Jvm.Cond.code ({ cls := "ApologyUpModel", name := "w4", desc := "(IIII)J" } : Jvm.MethodName) prog_20_method_26_code (4 : Nat) (Option.some Jvm.ClassFile.FieldType.long)) ∈ lw_all := lw_g (lw_at lw_m6 205 rfl) rfl
theorem q1535 : (Jvm.Cond.methodLink "ApologyUpModel" (124 : Nat) ({ cls := "ApologyUpModel", name := "w3", desc := "(III)J" } : Jvm.MethodName)) ∈ lw_all := lw_g (lw_at lw_m6 206 rfl) rfl
theorem q1536 : (Jvm.Cond.static ({ cls := "ApologyUpModel", name := "w3", desc := "(III)J" } : Jvm.MethodName)) ∈ lw_all := lw_g (lw_at lw_m6 207 rfl) rfl
theorem q1537 : (Jvm.Cond.code ({ cls := "ApologyUpModel", name := "w3", desc := "(III)J" } : Jvm.MethodName) prog_20_method_25_code (3 : Nat) (Option.some Jvm.ClassFile.FieldType.long)) ∈ lw_all := lw_g (lw_at lw_m6 208 rfl) rfl
theorem q1538 : (Jvm.Cond.methodLink "ApologyUpModel" (120 : Nat) ({ cls := "ApologyUpModel", name := "w2", desc := "(II)J" } : Jvm.MethodName)) ∈ lw_all := lw_g (lw_at lw_m6 209 rfl) rfl
theorem q1539 : (Jvm.Cond.static ({ cls := "ApologyUpModel", name := "w2", desc := "(II)J" } : Jvm.MethodName)) ∈ lw_all := lw_g (lw_at lw_m6 210 rfl) rfl
theorem q1540 : (Jvm.Cond.code ({ cls := "ApologyUpModel", name := "w2", desc := "(II)J" } : Jvm.MethodName) prog_20_method_24_code (2 : Nat) (Option.some Jvm.ClassFile.FieldType.long)) ∈ lw_all := lw_g (lw_at lw_m6 211 rfl) rfl
theorem q1541 : (Jvm.Cond.methodLink "ApologyUpModel" (184 : Nat) ({ cls := "ApologyUpModel", name := "isWord", desc := "(J)Z" } : Jvm.MethodName)) ∈ lw_all := lw_g (lw_at lw_m6 212 rfl) rfl
theorem q1542 : (Jvm.Cond.privateMethod ({ cls := "ApologyUpModel", name := "isWord", desc := "(J)Z" } : Jvm.MethodName)) ∈ lw_tbl := lw_at lw_m6 213 rfl
theorem q1543 : (Jvm.Cond.instanceMethod ({ cls := "ApologyUpModel", name := "isWord", desc := "(J)Z" } : Jvm.MethodName)) ∈ lw_all := lw_g (lw_at lw_m6 214 rfl) rfl
theorem q1544 : (Jvm.Cond.code ({ cls := "ApologyUpModel", name := "isWord", desc := "(J)Z" } : Jvm.MethodName) prog_20_method_29_code (3 : Nat) (Option.some Jvm.ClassFile.FieldType.boolean)) ∈ lw_all := lw_g (lw_at lw_m6 215 rfl) rfl
theorem q1545 : (Jvm.Cond.methodLink "ApologyUpModel" (234 : Nat) ({ cls := "ApologyUpModel", name := "isLong", desc := "(JJ)Z" } : Jvm.MethodName)) ∈ lw_all := lw_g (lw_at lw_m6 216 rfl) rfl
theorem q1546 : (Jvm.Cond.privateMethod ({ cls := "ApologyUpModel", name := "isLong", desc := "(JJ)Z" } : Jvm.MethodName)) ∈ lw_tbl := lw_at lw_m6 217 rfl
theorem q1547 : (Jvm.Cond.instanceMethod ({ cls := "ApologyUpModel", name := "isLong", desc := "(JJ)Z" } : Jvm.MethodName)) ∈ lw_all := lw_g (lw_at lw_m6 218 rfl) rfl
theorem q1548 : (Jvm.Cond.code ({ cls := "ApologyUpModel", name := "isLong", desc := "(JJ)Z" } : Jvm.MethodName) prog_20_method_31_code (5 : Nat) (Option.some Jvm.ClassFile.FieldType.boolean)) ∈ lw_all := lw_g (lw_at lw_m6 219 rfl) rfl
theorem q1549 : (Jvm.Cond.methodLink "ApologyUpModel" (132 : Nat) ({ cls := "ApologyUpModel", name := "w5", desc := "(IIIII)J" } : Jvm.MethodName)) ∈ lw_all := lw_g (lw_at lw_m6 220 rfl) rfl
theorem q1550 : (Jvm.Cond.static ({ cls := "ApologyUpModel", name := "w5", desc := "(IIIII)J" } : Jvm.MethodName)) ∈ lw_all := lw_g (lw_at lw_m6 221 rfl) rfl
theorem q1551 : (Jvm.Cond.code ({ cls := "ApologyUpModel", name := "w5", desc := "(IIIII)J" } : Jvm.MethodName) prog_20_method_27_code (5 : Nat) (Option.some Jvm.ClassFile.FieldType.long)) ∈ lw_all := lw_g (lw_at lw_m6 222 rfl) rfl
theorem q1552 : (Jvm.Cond.methodLink "ApologyUpModel" (180 : Nat) ({ cls := "ApologyUpModel", name := "w6", desc := "(IIIIII)J" } : Jvm.MethodName)) ∈ lw_all := lw_g (lw_at lw_m6 223 rfl) rfl
theorem q1553 : (Jvm.Cond.static ({ cls := "ApologyUpModel", name := "w6", desc := "(IIIIII)J" } : Jvm.MethodName)) ∈ lw_all := lw_g (lw_at lw_m6 224 rfl) rfl
theorem q1554 : (Jvm.Cond.code ({ cls := "ApologyUpModel", name := "w6", desc := "(IIIIII)J" } : Jvm.MethodName) prog_20_method_28_code (6 : Nat) (Option.some Jvm.ClassFile.FieldType.long)) ∈ lw_all := lw_g (lw_at lw_m6 225 rfl) rfl
theorem q1555 : (Jvm.Cond.methodLink "ApologyUpModel" (244 : Nat) ({ cls := "ApologyUpModel", name := "body", desc := "(II)I" } : Jvm.MethodName)) ∈ lw_all := lw_g (lw_at lw_m6 226 rfl) rfl
theorem q1556 : (Jvm.Cond.privateMethod ({ cls := "ApologyUpModel", name := "body", desc := "(II)I" } : Jvm.MethodName)) ∈ lw_tbl := lw_at lw_m6 227 rfl
theorem q1557 : (Jvm.Cond.instanceMethod ({ cls := "ApologyUpModel", name := "body", desc := "(II)I" } : Jvm.MethodName)) ∈ lw_all := lw_g (lw_at lw_m6 228 rfl) rfl
theorem q1558 : (Jvm.Cond.code ({ cls := "ApologyUpModel", name := "body", desc := "(II)I" } : Jvm.MethodName) prog_20_method_52_code (4 : Nat) (Option.some Jvm.ClassFile.FieldType.int)) ∈ lw_all := lw_g (lw_at lw_m6 229 rfl) rfl
theorem q1559 : (Jvm.Cond.methodLink "ApologyUpModel" (227 : Nat) ({ cls := "ApologyUpModel", name := "pair", desc := "(IJI)I" } : Jvm.MethodName)) ∈ lw_all := lw_g (lw_at lw_m6 230 rfl) rfl
theorem q1560 : (Jvm.Cond.privateMethod ({ cls := "ApologyUpModel", name := "pair", desc := "(IJI)I" } : Jvm.MethodName)) ∈ lw_tbl := lw_at lw_m6 231 rfl
theorem q1561 : (Jvm.Cond.instanceMethod ({ cls := "ApologyUpModel", name := "pair", desc := "(IJI)I" } : Jvm.MethodName)) ∈ lw_all := lw_g (lw_at lw_m6 232 rfl) rfl
theorem q1562 : (Jvm.Cond.code ({ cls := "ApologyUpModel", name := "pair", desc := "(IJI)I" } : Jvm.MethodName) prog_20_method_51_code (6 : Nat) (Option.some Jvm.ClassFile.FieldType.int)) ∈ lw_all := lw_g (lw_at lw_m6 233 rfl) rfl
theorem q1563 : (Jvm.Cond.methodLink "ApologyUpModel" (216 : Nat) ({ cls := "ApologyUpModel", name := "figure", desc := "(III)I" } : Jvm.MethodName)) ∈ lw_all := lw_g (lw_at lw_m6 234 rfl) rfl
theorem q1564 : (Jvm.Cond.privateMethod ({ cls := "ApologyUpModel", name := "figure", desc := "(III)I" } : Jvm.MethodName)) ∈ lw_tbl := lw_at lw_m6 235 rfl
theorem q1565 : (Jvm.Cond.instanceMethod ({ cls := "ApologyUpModel", name := "figure", desc := "(III)I" } : Jvm.MethodName)) ∈ lw_all := lw_g (lw_at lw_m6 236 rfl) rfl
theorem q1566 : (Jvm.Cond.code ({ cls := "ApologyUpModel", name := "figure", desc := "(III)I" } : Jvm.MethodName) prog_20_method_48_code (4 : Nat) (Option.some Jvm.ClassFile.FieldType.int)) ∈ lw_all := lw_g (lw_at lw_m6 237 rfl) rfl
theorem q1567 : (Jvm.Cond.methodLink "ApologyUpModel" (223 : Nat) ({ cls := "ApologyUpModel", name := "worded", desc := "(JIII)I" } : Jvm.MethodName)) ∈ lw_all := lw_g (lw_at lw_m6 238 rfl) rfl
theorem q1568 : (Jvm.Cond.privateMethod ({ cls := "ApologyUpModel", name := "worded", desc := "(JIII)I" } : Jvm.MethodName)) ∈ lw_tbl := lw_at lw_m6 239 rfl
theorem q1569 : (Jvm.Cond.instanceMethod ({ cls := "ApologyUpModel", name := "worded", desc := "(JIII)I" } : Jvm.MethodName)) ∈ lw_all := lw_g (lw_at lw_m7 0 rfl) rfl
theorem q1570 : (Jvm.Cond.code ({ cls := "ApologyUpModel", name := "worded", desc := "(JIII)I" } : Jvm.MethodName) prog_20_method_49_code (6 : Nat) (Option.some Jvm.ClassFile.FieldType.int)) ∈ lw_all := lw_g (lw_at lw_m7 1 rfl) rfl
theorem q1571 : (Jvm.Cond.methodLink "ApologyUpModel" (231 : Nat) ({ cls := "ApologyUpModel", name := "lawClause", desc := "(I)I" } : Jvm.MethodName)) ∈ lw_all := lw_g (lw_at lw_m7 2 rfl) rfl
theorem q1572 : (Jvm.Cond.privateMethod ({ cls := "ApologyUpModel", name := "lawClause", desc := "(I)I" } : Jvm.MethodName)) ∈ lw_tbl := lw_at lw_m7 3 rfl
theorem q1573 : (Jvm.Cond.instanceMethod ({ cls := "ApologyUpModel", name := "lawClause", desc := "(I)I" } : Jvm.MethodName)) ∈ lw_all := lw_g (lw_at lw_m7 4 rfl) rfl
theorem q1574 : (Jvm.Cond.code ({ cls := "ApologyUpModel", name := "lawClause", desc := "(I)I" } : Jvm.MethodName) prog_20_method_50_code (3 : Nat) (Option.some Jvm.ClassFile.FieldType.int)) ∈ lw_all := lw_g (lw_at lw_m7 5 rfl) rfl
theorem q1575 : (Jvm.Cond.methodLink "ApologyUpModel" (220 : Nat) ({ cls := "ApologyUpModel", name := "summed", desc := "()I" } : Jvm.MethodName)) ∈ lw_all := lw_g (lw_at lw_m7 6 rfl) rfl
theorem q1576 : (Jvm.Cond.privateMethod ({ cls := "ApologyUpModel", name := "summed", desc := "()I" } : Jvm.MethodName)) ∈ lw_tbl := lw_at lw_m7 7 rfl
theorem q1577 : (Jvm.Cond.instanceMethod ({ cls := "ApologyUpModel", name := "summed", desc := "()I" } : Jvm.MethodName)) ∈ lw_all := lw_g (lw_at lw_m7 8 rfl) rfl
theorem q1578 : (Jvm.Cond.code ({ cls := "ApologyUpModel", name := "summed", desc := "()I" } : Jvm.MethodName) prog_20_method_47_code (2 : Nat) (Option.some Jvm.ClassFile.FieldType.int)) ∈ lw_all := lw_g (lw_at lw_m7 9 rfl) rfl
theorem q1579 : (Jvm.Cond.methodLink "ApologyUpModel" (210 : Nat) ({ cls := "ApologyUpModel", name := "behindOne", desc := "()I" } : Jvm.MethodName)) ∈ lw_all := lw_g (lw_at lw_m7 10 rfl) rfl
theorem q1580 : (Jvm.Cond.privateMethod ({ cls := "ApologyUpModel", name := "behindOne", desc := "()I" } : Jvm.MethodName)) ∈ lw_tbl := lw_at lw_m7 11 rfl
theorem q1581 : (Jvm.Cond.instanceMethod ({ cls := "ApologyUpModel", name := "behindOne", desc := "()I" } : Jvm.MethodName)) ∈ lw_all := lw_g (lw_at lw_m7 12 rfl) rfl
theorem q1582 : (Jvm.Cond.code ({ cls := "ApologyUpModel", name := "behindOne", desc := "()I" } : Jvm.MethodName) prog_20_method_46_code (4 : Nat) (Option.some Jvm.ClassFile.FieldType.int)) ∈ lw_all := lw_g (lw_at lw_m7 13 rfl) rfl
theorem q1583 : (Jvm.Cond.methodLink "ApologyUpModel" (204 : Nat) ({ cls := "ApologyUpModel", name := "betweenOf", desc := "()I" } : Jvm.MethodName)) ∈ lw_all := lw_g (lw_at lw_m7 14 rfl) rfl
theorem q1584 : (Jvm.Cond.privateMethod ({ cls := "ApologyUpModel", name := "betweenOf", desc := "()I" } : Jvm.MethodName)) ∈ lw_tbl := lw_at lw_m7 15 rfl
theorem q1585 : (Jvm.Cond.instanceMethod ({ cls := "ApologyUpModel", name := "betweenOf", desc := "()I" } : Jvm.MethodName)) ∈ lw_all := lw_g (lw_at lw_m7 16 rfl) rfl
theorem q1586 : (Jvm.Cond.code ({ cls := "ApologyUpModel", name := "betweenOf", desc := "()I" } : Jvm.MethodName) prog_20_method_44_code (1 : Nat) (Option.some Jvm.ClassFile.FieldType.int)) ∈ lw_all := lw_g (lw_at lw_m7 17 rfl) rfl
theorem q1587 : (Jvm.Cond.methodLink "ApologyUpModel" (162 : Nat) ({ cls := "ApologyUpModel", name := "openNow", desc := "()I" } : Jvm.MethodName)) ∈ lw_all := lw_g (lw_at lw_m7 18 rfl) rfl
theorem q1588 : (Jvm.Cond.privateMethod ({ cls := "ApologyUpModel", name := "openNow", desc := "()I" } : Jvm.MethodName)) ∈ lw_tbl := lw_at lw_m7 19 rfl
theorem q1589 : (Jvm.Cond.instanceMethod ({ cls := "ApologyUpModel", name := "openNow", desc := "()I" } : Jvm.MethodName)) ∈ lw_all := lw_g (lw_at lw_m7 20 rfl) rfl
theorem q1590 : (Jvm.Cond.code ({ cls := "ApologyUpModel", name := "openNow", desc := "()I" } : Jvm.MethodName) prog_20_method_37_code (1 : Nat) (Option.some Jvm.ClassFile.FieldType.int)) ∈ lw_all := lw_g (lw_at lw_m7 21 rfl) rfl
theorem q1591 : (Jvm.Cond.methodLink "ApologyUpModel" (158 : Nat) ({ cls := "ApologyUpModel", name := "openAt", desc := "()I" } : Jvm.MethodName)) ∈ lw_all := lw_g (lw_at lw_m7 22 rfl) rfl
theorem q1592 : (Jvm.Cond.privateMethod ({ cls := "ApologyUpModel", name := "openAt", desc := "()I" } : Jvm.MethodName)) ∈ lw_tbl := lw_at lw_m7 23 rfl
theorem q1593 : (Jvm.Cond.instanceMethod ({ cls := "ApologyUpModel", name := "openAt", desc := "()I" } : Jvm.MethodName)) ∈ lw_all := lw_g (lw_at lw_m7 24 rfl) rfl
theorem q1594 : (Jvm.Cond.code ({ cls := "ApologyUpModel", name := "openAt", desc := "()I" } : Jvm.MethodName) prog_20_method_36_code (2 : Nat) (Option.some Jvm.ClassFile.FieldType.int)) ∈ lw_all := lw_g (lw_at lw_m7 25 rfl) rfl
theorem q1595 : (Jvm.Cond.methodLink "ApologyUpModel" (198 : Nat) ({ cls := "ApologyUpModel", name := "isCompared", desc := "()Z" } : Jvm.MethodName)) ∈ lw_all := lw_g (lw_at lw_m7 26 rfl) rfl
theorem q1596 : (Jvm.Cond.privateMethod ({ cls := "ApologyUpModel", name := "isCompared", desc := "()Z" } : Jvm.MethodName)) ∈ lw_tbl := lw_at lw_m7 27 rfl
theorem q1597 : (Jvm.Cond.instanceMethod ({ cls := "ApologyUpModel", name := "isCompared", desc := "()Z" } : Jvm.MethodName)) ∈ lw_all := lw_g (lw_at lw_m7 28 rfl) rfl
theorem q1598 : (Jvm.Cond.code ({ cls := "ApologyUpModel", name := "isCompared", desc := "()Z" } : Jvm.MethodName) prog_20_method_38_code (2 : Nat) (Option.some Jvm.ClassFile.FieldType.boolean)) ∈ lw_all := lw_g (lw_at lw_m7 29 rfl) rfl
theorem q1599 : (Jvm.Cond.methodLink "ApologyUpModel" (148 : Nat) ({ cls := "ApologyUpModel", name := "rank", desc := "(I)I" } : Jvm.MethodName)) ∈ lw_all := lw_g (lw_at lw_m7 30 rfl) rfl
theorem q1600 : (Jvm.Cond.static ({ cls := "ApologyUpModel", name := "rank", desc := "(I)I" } : Jvm.MethodName)) ∈ lw_all := lw_g (lw_at lw_m7 31 rfl) rfl
theorem q1601 : (Jvm.Cond.code ({ cls := "ApologyUpModel", name := "rank", desc := "(I)I" } : Jvm.MethodName) prog_20_method_34_code (1 : Nat) (Option.some Jvm.ClassFile.FieldType.int)) ∈ lw_all := lw_g (lw_at lw_m7 32 rfl) rfl
theorem q1602 : (Jvm.Cond.methodLink "ApologyUpModel" (201 : Nat) ({ cls := "ApologyUpModel", name := "compareOf", desc := "()I" } : Jvm.MethodName)) ∈ lw_all := lw_g (lw_at lw_m7 33 rfl) rfl
theorem q1603 : (Jvm.Cond.privateMethod ({ cls := "ApologyUpModel", name := "compareOf", desc := "()I" } : Jvm.MethodName)) ∈ lw_tbl := lw_at lw_m7 34 rfl
theorem q1604 : (Jvm.Cond.instanceMethod ({ cls := "ApologyUpModel", name := "compareOf", desc := "()I" } : Jvm.MethodName)) ∈ lw_all := lw_g (lw_at lw_m7 35 rfl) rfl
theorem q1605 : (Jvm.Cond.code ({ cls := "ApologyUpModel", name := "compareOf", desc := "()I" } : Jvm.MethodName) prog_20_method_43_code (1 : Nat) (Option.some Jvm.ClassFile.FieldType.int)) ∈ lw_all := lw_g (lw_at lw_m7 36 rfl) rfl
theorem q1606 : (Jvm.Cond.methodLink "ApologyUpModel" (192 : Nat) ({ cls := "ApologyUpModel", name := "settle", desc := "(I)V" } : Jvm.MethodName)) ∈ lw_all := lw_g (lw_at lw_m7 37 rfl) rfl
theorem q1607 : (Jvm.Cond.privateMethod ({ cls := "ApologyUpModel", name := "settle", desc := "(I)V" } : Jvm.MethodName)) ∈ lw_tbl := lw_at lw_m7 38 rfl
theorem q1608 : (Jvm.Cond.instanceMethod ({ cls := "ApologyUpModel", name := "settle", desc := "(I)V" } : Jvm.MethodName)) ∈ lw_all := lw_g (lw_at lw_m7 39 rfl) rfl
theorem q1609 : (Jvm.Cond.code ({ cls := "ApologyUpModel", name := "settle", desc := "(I)V" } : Jvm.MethodName) prog_20_method_35_code (2 : Nat) (Option.none : Option Jvm.ClassFile.FieldType)) ∈ lw_all := lw_g (lw_at lw_m7 40 rfl) rfl
theorem q1610 : (Jvm.Cond.methodLink "ApologyUpModel" (151 : Nat) ({ cls := "ApologyUpModel", name := "emit", desc := "(II)V" } : Jvm.MethodName)) ∈ lw_all := lw_g (lw_at lw_m7 41 rfl) rfl
theorem q1611 : (Jvm.Cond.privateMethod ({ cls := "ApologyUpModel", name := "emit", desc := "(II)V" } : Jvm.MethodName)) ∈ lw_tbl := lw_at lw_m7 42 rfl
theorem q1612 : (Jvm.Cond.instanceMethod ({ cls := "ApologyUpModel", name := "emit", desc := "(II)V" } : Jvm.MethodName)) ∈ lw_all := lw_g (lw_at lw_m7 43 rfl) rfl
theorem q1613 : (Jvm.Cond.code ({ cls := "ApologyUpModel", name := "emit", desc := "(II)V" } : Jvm.MethodName) prog_20_method_30_code (3 : Nat) (Option.none : Option Jvm.ClassFile.FieldType)) ∈ lw_all := lw_g (lw_at lw_m7 44 rfl) rfl
theorem q1614 : (Jvm.Cond.methodLink "ApologyUpModel" (207 : Nat) ({ cls := "ApologyUpModel", name := "partOf", desc := "(I)I" } : Jvm.MethodName)) ∈ lw_all := lw_g (lw_at lw_m7 45 rfl) rfl
theorem q1615 : (Jvm.Cond.privateMethod ({ cls := "ApologyUpModel", name := "partOf", desc := "(I)I" } : Jvm.MethodName)) ∈ lw_tbl := lw_at lw_m7 46 rfl
theorem q1616 : (Jvm.Cond.instanceMethod ({ cls := "ApologyUpModel", name := "partOf", desc := "(I)I" } : Jvm.MethodName)) ∈ lw_all := lw_g (lw_at lw_m7 47 rfl) rfl
theorem q1617 : (Jvm.Cond.code ({ cls := "ApologyUpModel", name := "partOf", desc := "(I)I" } : Jvm.MethodName) prog_20_method_45_code (2 : Nat) (Option.some Jvm.ClassFile.FieldType.int)) ∈ lw_all := lw_g (lw_at lw_m7 48 rfl) rfl
theorem q1618 : (Jvm.Cond.methodLink "ApologyUpModel" (174 : Nat) ({ cls := "ApologyUpModel", name := "endOne", desc := "()I" } : Jvm.MethodName)) ∈ lw_all := lw_g (lw_at lw_m7 49 rfl) rfl
theorem q1619 : (Jvm.Cond.privateMethod ({ cls := "ApologyUpModel", name := "endOne", desc := "()I" } : Jvm.MethodName)) ∈ lw_tbl := lw_at lw_m7 50 rfl
theorem q1620 : (Jvm.Cond.instanceMethod ({ cls := "ApologyUpModel", name := "endOne", desc := "()I" } : Jvm.MethodName)) ∈ lw_all := lw_g (lw_at lw_m7 51 rfl) rfl
theorem q1621 : (Jvm.Cond.code ({ cls := "ApologyUpModel", name := "endOne", desc := "()I" } : Jvm.MethodName) prog_20_method_42_code (1 : Nat) (Option.some Jvm.ClassFile.FieldType.int)) ∈ lw_all := lw_g (lw_at lw_m7 52 rfl) rfl
theorem q1622 : (Jvm.Cond.methodLink "ApologyUpModel" (213 : Nat) ({ cls := "ApologyUpModel", name := "beginOne", desc := "()I" } : Jvm.MethodName)) ∈ lw_all := lw_g (lw_at lw_m7 53 rfl) rfl
theorem q1623 : (Jvm.Cond.privateMethod ({ cls := "ApologyUpModel", name := "beginOne", desc := "()I" } : Jvm.MethodName)) ∈ lw_tbl := lw_at lw_m7 54 rfl
theorem q1624 : (Jvm.Cond.instanceMethod ({ cls := "ApologyUpModel", name := "beginOne", desc := "()I" } : Jvm.MethodName)) ∈ lw_all := lw_g (lw_at lw_m7 55 rfl) rfl
theorem q1625 : (Jvm.Cond.code ({ cls := "ApologyUpModel", name := "beginOne", desc := "()I" } : Jvm.MethodName) prog_20_method_41_code (2 : Nat) (Option.some Jvm.ClassFile.FieldType.int)) ∈ lw_all := lw_g (lw_at lw_m7 56 rfl) rfl
theorem q1626 : (Jvm.Cond.methodLink "ApologyUpModel" (168 : Nat) ({ cls := "ApologyUpModel", name := "nameOf", desc := "()I" } : Jvm.MethodName)) ∈ lw_all := lw_g (lw_at lw_m7 57 rfl) rfl
theorem q1627 : (Jvm.Cond.privateMethod ({ cls := "ApologyUpModel", name := "nameOf", desc := "()I" } : Jvm.MethodName)) ∈ lw_tbl := lw_at lw_m7 58 rfl
theorem q1628 : (Jvm.Cond.instanceMethod ({ cls := "ApologyUpModel", name := "nameOf", desc := "()I" } : Jvm.MethodName)) ∈ lw_all := lw_g (lw_at lw_m7 59 rfl) rfl
theorem q1629 : (Jvm.Cond.code ({ cls := "ApologyUpModel", name := "nameOf", desc := "()I" } : Jvm.MethodName) prog_20_method_32_code (1 : Nat) (Option.some Jvm.ClassFile.FieldType.int)) ∈ lw_all := lw_g (lw_at lw_m7 60 rfl) rfl
theorem q1630 : (Jvm.Cond.methodLink "ApologyUpModel" (171 : Nat) ({ cls := "ApologyUpModel", name := "isOf", desc := "(I)Z" } : Jvm.MethodName)) ∈ lw_all := lw_g (lw_at lw_m7 61 rfl) rfl
theorem q1631 : (Jvm.Cond.privateMethod ({ cls := "ApologyUpModel", name := "isOf", desc := "(I)Z" } : Jvm.MethodName)) ∈ lw_tbl := lw_at lw_m7 62 rfl
theorem q1632 : (Jvm.Cond.instanceMethod ({ cls := "ApologyUpModel", name := "isOf", desc := "(I)Z" } : Jvm.MethodName)) ∈ lw_all := lw_g (lw_at lw_m7 63 rfl) rfl
theorem q1633 : (Jvm.Cond.code ({ cls := "ApologyUpModel", name := "isOf", desc := "(I)Z" } : Jvm.MethodName) prog_20_method_33_code (2 : Nat) (Option.some Jvm.ClassFile.FieldType.boolean)) ∈ lw_all := lw_g (lw_at lw_m7 64 rfl) rfl
theorem q1634 : (Jvm.Cond.methodLink "ApologyUpModel" (177 : Nat) ({ cls := "ApologyUpModel", name := "opened", desc := "(I)I" } : Jvm.MethodName)) ∈ lw_all := lw_g (lw_at lw_m7 65 rfl) rfl
theorem q1635 : (Jvm.Cond.privateMethod ({ cls := "ApologyUpModel", name := "opened", desc := "(I)I" } : Jvm.MethodName)) ∈ lw_tbl := lw_at lw_m7 66 rfl
theorem q1636 : (Jvm.Cond.instanceMethod ({ cls := "ApologyUpModel", name := "opened", desc := "(I)I" } : Jvm.MethodName)) ∈ lw_all := lw_g (lw_at lw_m7 67 rfl) rfl
theorem q1637 : (Jvm.Cond.code ({ cls := "ApologyUpModel", name := "opened", desc := "(I)I" } : Jvm.MethodName) prog_20_method_40_code (2 : Nat) (Option.some Jvm.ClassFile.FieldType.int)) ∈ lw_all := lw_g (lw_at lw_m7 68 rfl) rfl
theorem q1638 : (Jvm.Cond.methodLink "ApologyUpModel" (188 : Nat) ({ cls := "ApologyUpModel", name := "isAskAhead", desc := "()Z" } : Jvm.MethodName)) ∈ lw_all := lw_g (lw_at lw_m7 69 rfl) rfl
theorem q1639 : (Jvm.Cond.privateMethod ({ cls := "ApologyUpModel", name := "isAskAhead", desc := "()Z" } : Jvm.MethodName)) ∈ lw_tbl := lw_at lw_m7 70 rfl
theorem q1640 : (Jvm.Cond.instanceMethod ({ cls := "ApologyUpModel", name := "isAskAhead", desc := "()Z" } : Jvm.MethodName)) ∈ lw_all := lw_g (lw_at lw_m7 71 rfl) rfl
theorem q1641 : (Jvm.Cond.code ({ cls := "ApologyUpModel", name := "isAskAhead", desc := "()Z" } : Jvm.MethodName) prog_20_method_39_code (1 : Nat) (Option.some Jvm.ClassFile.FieldType.boolean)) ∈ lw_all := lw_g (lw_at lw_m7 72 rfl) rfl
theorem q1643 : (Jvm.Cond.instanceMethod ({ cls := "ApologyUpModel", name := "fault", desc := "(I)I" } : Jvm.MethodName)) ∈ lw_all := lw_g (lw_at lw_m7 74 rfl) rfl
theorem q1644 : (Jvm.Cond.selects "ApologyUpModel" ({ cls := "ApologyUpModel", name := "fault", desc := "(I)I" } : Jvm.MethodName) ({ cls := "ApologyUpModel", name := "fault", desc := "(I)I" } : Jvm.MethodName)) ∈ lw_all := lw_g (lw_at lw_m7 75 rfl) rfl
theorem q1645 : (Jvm.Cond.code ({ cls := "ApologyUpModel", name := "fault", desc := "(I)I" } : Jvm.MethodName) prog_20_method_57_code (2 : Nat) (Option.some Jvm.ClassFile.FieldType.int)) ∈ lw_all := lw_g (lw_at lw_m7 76 rfl) rfl
theorem q1647 : (Jvm.Cond.instanceMethod ({ cls := "ApologyUpModel", name := "by", desc := "(I)Z" } : Jvm.MethodName)) ∈ lw_all := lw_g (lw_at lw_m7 78 rfl) rfl
theorem q1648 : (Jvm.Cond.selects "ApologyUpModel" ({ cls := "ApologyUpModel", name := "by", desc := "(I)Z" } : Jvm.MethodName) ({ cls := "ApologyUpModel", name := "by", desc := "(I)Z" } : Jvm.MethodName)) ∈ lw_all := lw_g (lw_at lw_m7 79 rfl) rfl
theorem q1649 : (Jvm.Cond.code ({ cls := "ApologyUpModel", name := "by", desc := "(I)Z" } : Jvm.MethodName) prog_20_method_58_code (2 : Nat) (Option.some Jvm.ClassFile.FieldType.boolean)) ∈ lw_all := lw_g (lw_at lw_m7 80 rfl) rfl
theorem q1651 : (Jvm.Cond.instanceMethod ({ cls := "ApologyUpModel", name := "undo", desc := "()I" } : Jvm.MethodName)) ∈ lw_all := lw_g (lw_at lw_m7 82 rfl) rfl
theorem q1652 : (Jvm.Cond.selects "ApologyUpModel" ({ cls := "ApologyUpModel", name := "undo", desc := "()I" } : Jvm.MethodName) ({ cls := "ApologyUpModel", name := "undo", desc := "()I" } : Jvm.MethodName)) ∈ lw_all := lw_g (lw_at lw_m7 83 rfl) rfl
theorem q1653 : (Jvm.Cond.code ({ cls := "ApologyUpModel", name := "undo", desc := "()I" } : Jvm.MethodName) prog_20_method_80_code (3 : Nat) (Option.some Jvm.ClassFile.FieldType.int)) ∈ lw_all := lw_g (lw_at lw_m7 84 rfl) rfl
theorem q1655 : (Jvm.Cond.instanceMethod ({ cls := "ApologyUpModel", name := "wrong", desc := "(III)I" } : Jvm.MethodName)) ∈ lw_all := lw_g (lw_at lw_m7 86 rfl) rfl
theorem q1656 : (Jvm.Cond.selects "ApologyUpModel" ({ cls := "ApologyUpModel", name := "wrong", desc := "(III)I" } : Jvm.MethodName) ({ cls := "ApologyUpModel", name := "wrong", desc := "(III)I" } : Jvm.MethodName)) ∈ lw_all := lw_g (lw_at lw_m7 87 rfl) rfl
theorem q1657 : (Jvm.Cond.code ({ cls := "ApologyUpModel", name := "wrong", desc := "(III)I" } : Jvm.MethodName) prog_20_method_83_code (4 : Nat) (Option.some Jvm.ClassFile.FieldType.int)) ∈ lw_all := lw_g (lw_at lw_m7 88 rfl) rfl
theorem q1658 : (Jvm.Cond.methodLink "ApologyUpModel" (353 : Nat) ({ cls := "ApologyUpModel", name := "canWrong", desc := "(II)Z" } : Jvm.MethodName)) ∈ lw_all := lw_g (lw_at lw_m7 89 rfl) rfl
theorem q1659 : (Jvm.Cond.privateMethod ({ cls := "ApologyUpModel", name := "canWrong", desc := "(II)Z" } : Jvm.MethodName)) ∈ lw_tbl := lw_at lw_m7 90 rfl
theorem q1660 : (Jvm.Cond.instanceMethod ({ cls := "ApologyUpModel", name := "canWrong", desc := "(II)Z" } : Jvm.MethodName)) ∈ lw_all := lw_g (lw_at lw_m7 91 rfl) rfl
theorem q1661 : (Jvm.Cond.code ({ cls := "ApologyUpModel", name := "canWrong", desc := "(II)Z" } : Jvm.MethodName) prog_20_method_81_code (3 : Nat) (Option.some Jvm.ClassFile.FieldType.boolean)) ∈ lw_all := lw_g (lw_at lw_m7 92 rfl) rfl
theorem q1662 : (Jvm.Cond.methodLink "ApologyUpModel" (350 : Nat) ({ cls := "ApologyUpModel", name := "isAbove", desc := "(II)Z" } : Jvm.MethodName)) ∈ lw_all := lw_g (lw_at lw_m7 93 rfl) rfl
theorem q1663 : (Jvm.Cond.privateMethod ({ cls := "ApologyUpModel", name := "isAbove", desc := "(II)Z" } : Jvm.MethodName)) ∈ lw_tbl := lw_at lw_m7 94 rfl
theorem q1664 : (Jvm.Cond.instanceMethod ({ cls := "ApologyUpModel", name := "isAbove", desc := "(II)Z" } : Jvm.MethodName)) ∈ lw_all := lw_g (lw_at lw_m7 95 rfl) rfl
theorem q1665 : (Jvm.Cond.code ({ cls := "ApologyUpModel", name := "isAbove", desc := "(II)Z" } : Jvm.MethodName) prog_20_method_12_code (4 : Nat) (Option.some Jvm.ClassFile.FieldType.boolean)) ∈ lw_all := lw_g (lw_at lw_m7 96 rfl) rfl
theorem q1666 : (Jvm.Cond.methodLink "ApologyUpModel" (356 : Nat) ({ cls := "ApologyUpModel", name := "keep", desc := "()V" } : Jvm.MethodName)) ∈ lw_all := lw_g (lw_at lw_m7 97 rfl) rfl
theorem q1667 : (Jvm.Cond.privateMethod ({ cls := "ApologyUpModel", name := "keep", desc := "()V" } : Jvm.MethodName)) ∈ lw_tbl := lw_at lw_m7 98 rfl
theorem q1668 : (Jvm.Cond.instanceMethod ({ cls := "ApologyUpModel", name := "keep", desc := "()V" } : Jvm.MethodName)) ∈ lw_all := lw_g (lw_at lw_m7 99 rfl) rfl
theorem q1669 : (Jvm.Cond.code ({ cls := "ApologyUpModel", name := "keep", desc := "()V" } : Jvm.MethodName) prog_20_method_79_code (3 : Nat) (Option.none : Option Jvm.ClassFile.FieldType)) ∈ lw_all := lw_g (lw_at lw_m7 100 rfl) rfl
theorem q1670 : (Jvm.Cond.methodLink "ApologyUpModel" (359 : Nat) ({ cls := "ApologyUpModel", name := "wrongNow", desc := "(III)V" } : Jvm.MethodName)) ∈ lw_all := lw_g (lw_at lw_m7 101 rfl) rfl
theorem q1671 : (Jvm.Cond.privateMethod ({ cls := "ApologyUpModel", name := "wrongNow", desc := "(III)V" } : Jvm.MethodName)) ∈ lw_tbl := lw_at lw_m7 102 rfl
theorem q1672 : (Jvm.Cond.instanceMethod ({ cls := "ApologyUpModel", name := "wrongNow", desc := "(III)V" } : Jvm.MethodName)) ∈ lw_all := lw_g (lw_at lw_m7 103 rfl) rfl
theorem q1673 : (Jvm.Cond.code ({ cls := "ApologyUpModel", name := "wrongNow", desc := "(III)V" } : Jvm.MethodName) prog_20_method_82_code (5 : Nat) (Option.none : Option Jvm.ClassFile.FieldType)) ∈ lw_all := lw_g (lw_at lw_m7 104 rfl) rfl
theorem q1674 : (Jvm.Cond.methodLink "ApologyUpModel" (319 : Nat) ({ cls := "ApologyUpModel", name := "put", desc := "(III)V" } : Jvm.MethodName)) ∈ lw_all := lw_g (lw_at lw_m7 105 rfl) rfl
theorem q1675 : (Jvm.Cond.privateMethod ({ cls := "ApologyUpModel", name := "put", desc := "(III)V" } : Jvm.MethodName)) ∈ lw_tbl := lw_at lw_m7 106 rfl
theorem q1676 : (Jvm.Cond.instanceMethod ({ cls := "ApologyUpModel", name := "put", desc := "(III)V" } : Jvm.MethodName)) ∈ lw_all := lw_g (lw_at lw_m7 107 rfl) rfl
theorem q1677 : (Jvm.Cond.code ({ cls := "ApologyUpModel", name := "put", desc := "(III)V" } : Jvm.MethodName) prog_20_method_10_code (4 : Nat) (Option.none : Option Jvm.ClassFile.FieldType)) ∈ lw_all := lw_g (lw_at lw_m7 108 rfl) rfl
theorem q1679 : (Jvm.Cond.instanceMethod ({ cls := "ApologyUpModel", name := "away", desc := "(II)Z" } : Jvm.MethodName)) ∈ lw_all := lw_g (lw_at lw_m7 110 rfl) rfl
theorem q1680 : (Jvm.Cond.selects "ApologyUpModel" ({ cls := "ApologyUpModel", name := "away", desc := "(II)Z" } : Jvm.MethodName) ({ cls := "ApologyUpModel", name := "away", desc := "(II)Z" } : Jvm.MethodName)) ∈ lw_all := lw_g (lw_at lw_m7 111 rfl) rfl
theorem q1681 : (Jvm.Cond.code ({ cls := "ApologyUpModel", name := "away", desc := "(II)Z" } : Jvm.MethodName) prog_20_method_84_code (3 : Nat) (Option.some Jvm.ClassFile.FieldType.boolean)) ∈ lw_all := lw_g (lw_at lw_m7 112 rfl) rfl
theorem q1683 : (Jvm.Cond.instanceMethod ({ cls := "ApologyUpModel", name := "sideways", desc := "(II)Z" } : Jvm.MethodName)) ∈ lw_all := lw_g (lw_at lw_m7 114 rfl) rfl
theorem q1684 : (Jvm.Cond.selects "ApologyUpModel" ({ cls := "ApologyUpModel", name := "sideways", desc := "(II)Z" } : Jvm.MethodName) ({ cls := "ApologyUpModel", name := "sideways", desc := "(II)Z" } : Jvm.MethodName)) ∈ lw_all := lw_g (lw_at lw_m7 115 rfl) rfl
theorem q1685 : (Jvm.Cond.code ({ cls := "ApologyUpModel", name := "sideways", desc := "(II)Z" } : Jvm.MethodName) prog_20_method_86_code (3 : Nat) (Option.some Jvm.ClassFile.FieldType.boolean)) ∈ lw_all := lw_g (lw_at lw_m7 116 rfl) rfl
theorem q1686 : (Jvm.Cond.methodLink "ApologyUpModel" (365 : Nat) ({ cls := "ApologyUpModel", name := "canSend", desc := "(II)Z" } : Jvm.MethodName)) ∈ lw_all := lw_g (lw_at lw_m7 117 rfl) rfl
theorem q1687 : (Jvm.Cond.privateMethod ({ cls := "ApologyUpModel", name := "canSend", desc := "(II)Z" } : Jvm.MethodName)) ∈ lw_tbl := lw_at lw_m7 118 rfl
theorem q1688 : (Jvm.Cond.instanceMethod ({ cls := "ApologyUpModel", name := "canSend", desc := "(II)Z" } : Jvm.MethodName)) ∈ lw_all := lw_g (lw_at lw_m7 119 rfl) rfl
theorem q1689 : (Jvm.Cond.code ({ cls := "ApologyUpModel", name := "canSend", desc := "(II)Z" } : Jvm.MethodName) prog_20_method_85_code (3 : Nat) (Option.some Jvm.ClassFile.FieldType.boolean)) ∈ lw_all := lw_g (lw_at lw_m7 120 rfl) rfl
theorem q1690 : (Jvm.Cond.methodLink "ApologyUpModel" (362 : Nat) ({ cls := "ApologyUpModel", name := "isApology", desc := "(I)Z" } : Jvm.MethodName)) ∈ lw_all := lw_g (lw_at lw_m7 121 rfl) rfl
theorem q1691 : (Jvm.Cond.privateMethod ({ cls := "ApologyUpModel", name := "isApology", desc := "(I)Z" } : Jvm.MethodName)) ∈ lw_tbl := lw_at lw_m7 122 rfl
theorem q1692 : (Jvm.Cond.instanceMethod ({ cls := "ApologyUpModel", name := "isApology", desc := "(I)Z" } : Jvm.MethodName)) ∈ lw_all := lw_g (lw_at lw_m7 123 rfl) rfl
theorem q1693 : (Jvm.Cond.code ({ cls := "ApologyUpModel", name := "isApology", desc := "(I)Z" } : Jvm.MethodName) prog_20_method_8_code (2 : Nat) (Option.some Jvm.ClassFile.FieldType.boolean)) ∈ lw_all := lw_g (lw_at lw_m7 124 rfl) rfl
theorem q1694 : (Jvm.Cond.methodLink "ApologyUpModel" (304 : Nat) ({ cls := "ApologyUpModel", name := "get", desc := "(II)I" } : Jvm.MethodName)) ∈ lw_all := lw_g (lw_at lw_m7 125 rfl) rfl
theorem q1695 : (Jvm.Cond.privateMethod ({ cls := "ApologyUpModel", name := "get", desc := "(II)I" } : Jvm.MethodName)) ∈ lw_tbl := lw_at lw_m7 126 rfl
theorem q1696 : (Jvm.Cond.instanceMethod ({ cls := "ApologyUpModel", name := "get", desc := "(II)I" } : Jvm.MethodName)) ∈ lw_all := lw_g (lw_at lw_m7 127 rfl) rfl
theorem q1697 : (Jvm.Cond.code ({ cls := "ApologyUpModel", name := "get", desc := "(II)I" } : Jvm.MethodName) prog_20_method_9_code (3 : Nat) (Option.some Jvm.ClassFile.FieldType.int)) ∈ lw_all := lw_g (lw_at lw_m7 128 rfl) rfl
theorem q1699 : (Jvm.Cond.instanceMethod ({ cls := "ApologyUpModel", name := "day", desc := "(I)I" } : Jvm.MethodName)) ∈ lw_all := lw_g (lw_at lw_m7 130 rfl) rfl
theorem q1700 : (Jvm.Cond.selects "ApologyUpModel" ({ cls := "ApologyUpModel", name := "day", desc := "(I)I" } : Jvm.MethodName) ({ cls := "ApologyUpModel", name := "day", desc := "(I)I" } : Jvm.MethodName)) ∈ lw_all := lw_g (lw_at lw_m7 131 rfl) rfl
theorem q1701 : (Jvm.Cond.code ({ cls := "ApologyUpModel", name := "day", desc := "(I)I" } : Jvm.MethodName) prog_20_method_88_code (2 : Nat) (Option.some Jvm.ClassFile.FieldType.int)) ∈ lw_all := lw_g (lw_at lw_m7 132 rfl) rfl
theorem q1702 : (Jvm.Cond.methodLink "ApologyUpModel" (371 : Nat) ({ cls := "ApologyUpModel", name := "arePassed", desc := "(I)Z" } : Jvm.MethodName)) ∈ lw_all := lw_g (lw_at lw_m7 133 rfl) rfl
theorem q1703 : (Jvm.Cond.privateMethod ({ cls := "ApologyUpModel", name := "arePassed", desc := "(I)Z" } : Jvm.MethodName)) ∈ lw_tbl := lw_at lw_m7 134 rfl
theorem q1704 : (Jvm.Cond.instanceMethod ({ cls := "ApologyUpModel", name := "arePassed", desc := "(I)Z" } : Jvm.MethodName)) ∈ lw_all := lw_g (lw_at lw_m7 135 rfl) rfl
theorem q1705 : (Jvm.Cond.code ({ cls := "ApologyUpModel", name := "arePassed", desc := "(I)Z" } : Jvm.MethodName) prog_20_method_87_code (3 : Nat) (Option.some Jvm.ClassFile.FieldType.boolean)) ∈ lw_all := lw_g (lw_at lw_m7 136 rfl) rfl
theorem q1706 : (Jvm.Cond.methodLink "ApologyUpModel" (368 : Nat) ({ cls := "ApologyUpModel", name := "pass", desc := "()V" } : Jvm.MethodName)) ∈ lw_all := lw_g (lw_at lw_m7 137 rfl) rfl
theorem q1707 : (Jvm.Cond.privateMethod ({ cls := "ApologyUpModel", name := "pass", desc := "()V" } : Jvm.MethodName)) ∈ lw_tbl := lw_at lw_m7 138 rfl
theorem q1708 : (Jvm.Cond.instanceMethod ({ cls := "ApologyUpModel", name := "pass", desc := "()V" } : Jvm.MethodName)) ∈ lw_all := lw_g (lw_at lw_m7 139 rfl) rfl
theorem q1709 : (Jvm.Cond.code ({ cls := "ApologyUpModel", name := "pass", desc := "()V" } : Jvm.MethodName) prog_20_method_78_code (3 : Nat) (Option.none : Option Jvm.ClassFile.FieldType)) ∈ lw_all := lw_g (lw_at lw_m7 140 rfl) rfl
theorem q1710 : (Jvm.Cond.methodLink "ApologyUpModel" (341 : Nat) ({ cls := "ApologyUpModel", name := "goUp", desc := "(I)V" } : Jvm.MethodName)) ∈ lw_all := lw_g (lw_at lw_m7 141 rfl) rfl
theorem q1711 : (Jvm.Cond.privateMethod ({ cls := "ApologyUpModel", name := "goUp", desc := "(I)V" } : Jvm.MethodName)) ∈ lw_tbl := lw_at lw_m7 142 rfl
theorem q1712 : (Jvm.Cond.instanceMethod ({ cls := "ApologyUpModel", name := "goUp", desc := "(I)V" } : Jvm.MethodName)) ∈ lw_all := lw_g (lw_at lw_m7 143 rfl) rfl
theorem q1713 : (Jvm.Cond.code ({ cls := "ApologyUpModel", name := "goUp", desc := "(I)V" } : Jvm.MethodName) prog_20_method_74_code (4 : Nat) (Option.none : Option Jvm.ClassFile.FieldType)) ∈ lw_all := lw_g (lw_at lw_m7 144 rfl) rfl
theorem q1714 : (Jvm.Cond.methodLink "ApologyUpModel" (316 : Nat) ({ cls := "ApologyUpModel", name := "nameApology", desc := "(II)V" } : Jvm.MethodName)) ∈ lw_all := lw_g (lw_at lw_m7 145 rfl) rfl
theorem q1715 : (Jvm.Cond.privateMethod ({ cls := "ApologyUpModel", name := "nameApology", desc := "(II)V" } : Jvm.MethodName)) ∈ lw_tbl := lw_at lw_m7 146 rfl
theorem q1716 : (Jvm.Cond.instanceMethod ({ cls := "ApologyUpModel", name := "nameApology", desc := "(II)V" } : Jvm.MethodName)) ∈ lw_all := lw_g (lw_at lw_m7 147 rfl) rfl
theorem q1717 : (Jvm.Cond.code ({ cls := "ApologyUpModel", name := "nameApology", desc := "(II)V" } : Jvm.MethodName) prog_20_method_71_code (3 : Nat) (Option.none : Option Jvm.ClassFile.FieldType)) ∈ lw_all := lw_g (lw_at lw_m7 148 rfl) rfl
theorem q1718 : (Jvm.Cond.methodLink "ApologyUpModel" (297 : Nat) ({ cls := "ApologyUpModel", name := "name", desc := "(IIII)V" } : Jvm.MethodName)) ∈ lw_all := lw_g (lw_at lw_m7 149 rfl) rfl
theorem q1719 : (Jvm.Cond.privateMethod ({ cls := "ApologyUpModel", name := "name", desc := "(IIII)V" } : Jvm.MethodName)) ∈ lw_tbl := lw_at lw_m7 150 rfl
theorem q1720 : (Jvm.Cond.instanceMethod ({ cls := "ApologyUpModel", name := "name", desc := "(IIII)V" } : Jvm.MethodName)) ∈ lw_all := lw_g (lw_at lw_m7 151 rfl) rfl
theorem q1721 : (Jvm.Cond.code ({ cls := "ApologyUpModel", name := "name", desc := "(IIII)V" } : Jvm.MethodName) prog_20_method_67_code (5 : Nat) (Option.none : Option Jvm.ClassFile.FieldType)) ∈ lw_all := lw_g (lw_at lw_m7 152 rfl) rfl
theorem q1722 : (Jvm.Cond.methodLink "ApologyUpModel" (262 : Nat) ({ cls := "ApologyUpModel", name := "rankOf", desc := "(I)I" } : Jvm.MethodName)) ∈ lw_all := lw_g (lw_at lw_m7 153 rfl) rfl
theorem q1723 : (Jvm.Cond.privateMethod ({ cls := "ApologyUpModel", name := "rankOf", desc := "(I)I" } : Jvm.MethodName)) ∈ lw_tbl := lw_at lw_m7 154 rfl
theorem q1724 : (Jvm.Cond.instanceMethod ({ cls := "ApologyUpModel", name := "rankOf", desc := "(I)I" } : Jvm.MethodName)) ∈ lw_all := lw_g (lw_at lw_m7 155 rfl) rfl
theorem q1725 : (Jvm.Cond.code ({ cls := "ApologyUpModel", name := "rankOf", desc := "(I)I" } : Jvm.MethodName) prog_20_method_11_code (4 : Nat) (Option.some Jvm.ClassFile.FieldType.int)) ∈ lw_all := lw_g (lw_at lw_m7 156 rfl) rfl
theorem q1726 : (Jvm.Cond.methodLink "ApologyUpModel" (307 : Nat) ({ cls := "ApologyUpModel", name := "deskOf", desc := "(II)I" } : Jvm.MethodName)) ∈ lw_all := lw_g (lw_at lw_m7 157 rfl) rfl
theorem q1727 : (Jvm.Cond.privateMethod ({ cls := "ApologyUpModel", name := "deskOf", desc := "(II)I" } : Jvm.MethodName)) ∈ lw_tbl := lw_at lw_m7 158 rfl
theorem q1728 : (Jvm.Cond.instanceMethod ({ cls := "ApologyUpModel", name := "deskOf", desc := "(II)I" } : Jvm.MethodName)) ∈ lw_all := lw_g (lw_at lw_m7 159 rfl) rfl
theorem q1729 : (Jvm.Cond.code ({ cls := "ApologyUpModel", name := "deskOf", desc := "(II)I" } : Jvm.MethodName) prog_20_method_70_code (5 : Nat) (Option.some Jvm.ClassFile.FieldType.int)) ∈ lw_all := lw_g (lw_at lw_m7 160 rfl) rfl
theorem q1730 : (Jvm.Cond.methodLink "ApologyUpModel" (301 : Nat) ({ cls := "ApologyUpModel", name := "addsBy", desc := "(I)I" } : Jvm.MethodName)) ∈ lw_all := lw_g (lw_at lw_m7 161 rfl) rfl
theorem q1731 : (Jvm.Cond.privateMethod ({ cls := "ApologyUpModel", name := "addsBy", desc := "(I)I" } : Jvm.MethodName)) ∈ lw_tbl := lw_at lw_m7 162 rfl
theorem q1732 : (Jvm.Cond.instanceMethod ({ cls := "ApologyUpModel", name := "addsBy", desc := "(I)I" } : Jvm.MethodName)) ∈ lw_all := lw_g (lw_at lw_m7 163 rfl) rfl
theorem q1733 : (Jvm.Cond.code ({ cls := "ApologyUpModel", name := "addsBy", desc := "(I)I" } : Jvm.MethodName) prog_20_method_68_code (2 : Nat) (Option.some Jvm.ClassFile.FieldType.int)) ∈ lw_all := lw_g (lw_at lw_m7 164 rfl) rfl
theorem q1734 : (Jvm.Cond.methodLink "ApologyUpModel" (293 : Nat) ({ cls := "ApologyUpModel", name := "says", desc := "(IIII)I" } : Jvm.MethodName)) ∈ lw_all := lw_g (lw_at lw_m7 165 rfl) rfl
theorem q1735 : (Jvm.Cond.privateMethod ({ cls := "ApologyUpModel", name := "says", desc := "(IIII)I" } : Jvm.MethodName)) ∈ lw_tbl := lw_at lw_m7 166 rfl
theorem q1736 : (Jvm.Cond.instanceMethod ({ cls := "ApologyUpModel", name := "says", desc := "(IIII)I" } : Jvm.MethodName)) ∈ lw_all := lw_g (lw_at lw_m7 167 rfl) rfl
theorem q1737 : (Jvm.Cond.code ({ cls := "ApologyUpModel", name := "says", desc := "(IIII)I" } : Jvm.MethodName) prog_20_method_66_code (6 : Nat) (Option.some Jvm.ClassFile.FieldType.int)) ∈ lw_all := lw_g (lw_at lw_m7 168 rfl) rfl
theorem q1738 : (Jvm.Cond.methodLink "ApologyUpModel" (286 : Nat) ({ cls := "ApologyUpModel", name := "summedUp", desc := "(II)J" } : Jvm.MethodName)) ∈ lw_all := lw_g (lw_at lw_m7 169 rfl) rfl
theorem q1739 : (Jvm.Cond.privateMethod ({ cls := "ApologyUpModel", name := "summedUp", desc := "(II)J" } : Jvm.MethodName)) ∈ lw_tbl := lw_at lw_m7 170 rfl
theorem q1740 : (Jvm.Cond.instanceMethod ({ cls := "ApologyUpModel", name := "summedUp", desc := "(II)J" } : Jvm.MethodName)) ∈ lw_all := lw_g (lw_at lw_m7 171 rfl) rfl
theorem q1741 : (Jvm.Cond.code ({ cls := "ApologyUpModel", name := "summedUp", desc := "(II)J" } : Jvm.MethodName) prog_20_method_65_code (10 : Nat) (Option.some Jvm.ClassFile.FieldType.long)) ∈ lw_all := lw_g (lw_at lw_m7 172 rfl) rfl
theorem q1742 : (Jvm.Cond.methodLink "ApologyUpModel" (267 : Nat) ({ cls := "ApologyUpModel", name := "ranksOf", desc := "(J)J" } : Jvm.MethodName)) ∈ lw_all := lw_g (lw_at lw_m7 173 rfl) rfl
theorem q1743 : (Jvm.Cond.privateMethod ({ cls := "ApologyUpModel", name := "ranksOf", desc := "(J)J" } : Jvm.MethodName)) ∈ lw_tbl := lw_at lw_m7 174 rfl
theorem q1744 : (Jvm.Cond.instanceMethod ({ cls := "ApologyUpModel", name := "ranksOf", desc := "(J)J" } : Jvm.MethodName)) ∈ lw_all := lw_g (lw_at lw_m7 175 rfl) rfl
theorem q1745 : (Jvm.Cond.code ({ cls := "ApologyUpModel", name := "ranksOf", desc := "(J)J" } : Jvm.MethodName) prog_20_method_62_code (3 : Nat) (Option.some Jvm.ClassFile.FieldType.long)) ∈ lw_all := lw_g (lw_at lw_m7 176 rfl) rfl
theorem q1746 : (Jvm.Cond.methodLink "ApologyUpModel" (270 : Nat) ({ cls := "ApologyUpModel", name := "halved", desc := "(JJ)J" } : Jvm.MethodName)) ∈ lw_all := lw_g (lw_at lw_m7 177 rfl) rfl
theorem q1747 : (Jvm.Cond.static ({ cls := "ApologyUpModel", name := "halved", desc := "(JJ)J" } : Jvm.MethodName)) ∈ lw_all := lw_g (lw_at lw_m7 178 rfl) rfl
theorem q1748 : (Jvm.Cond.code ({ cls := "ApologyUpModel", name := "halved", desc := "(JJ)J" } : Jvm.MethodName) prog_20_method_63_code (8 : Nat) (Option.some Jvm.ClassFile.FieldType.long)) ∈ lw_all := lw_g (lw_at lw_m7 179 rfl) rfl
theorem q1749 : (Jvm.Cond.constantLong "ApologyUpModel" (265 : Nat) (2 : Int64)) ∈ lw_all := lw_g (lw_at lw_m7 180 rfl) rfl
theorem q1750 : (Jvm.Cond.methodLink "ApologyUpModel" (274 : Nat) ({ cls := "ApologyUpModel", name := "two", desc := "(IJJ)J" } : Jvm.MethodName)) ∈ lw_all := lw_g (lw_at lw_m7 181 rfl) rfl
theorem q1751 : (Jvm.Cond.static ({ cls := "ApologyUpModel", name := "two", desc := "(IJJ)J" } : Jvm.MethodName)) ∈ lw_all := lw_g (lw_at lw_m7 182 rfl) rfl
theorem q1752 : (Jvm.Cond.code ({ cls := "ApologyUpModel", name := "two", desc := "(IJJ)J" } : Jvm.MethodName) prog_20_method_60_code (5 : Nat) (Option.some Jvm.ClassFile.FieldType.long)) ∈ lw_all := lw_g (lw_at lw_m7 183 rfl) rfl
theorem q1753 : (Jvm.Cond.methodLink "ApologyUpModel" (258 : Nat) ({ cls := "ApologyUpModel", name := "clip", desc := "(J)J" } : Jvm.MethodName)) ∈ lw_all := lw_g (lw_at lw_m7 184 rfl) rfl
theorem q1754 : (Jvm.Cond.static ({ cls := "ApologyUpModel", name := "clip", desc := "(J)J" } : Jvm.MethodName)) ∈ lw_all := lw_g (lw_at lw_m7 185 rfl) rfl
theorem q1755 : (Jvm.Cond.code ({ cls := "ApologyUpModel", name := "clip", desc := "(J)J" } : Jvm.MethodName) prog_20_method_59_code (2 : Nat) (Option.some Jvm.ClassFile.FieldType.long)) ∈ lw_all := lw_g (lw_at lw_m7 186 rfl) rfl
theorem q1756 : (Jvm.Cond.constantLong "ApologyUpModel" (254 : Nat) (1000000 : Int64)) ∈ lw_all := lw_g (lw_at lw_m7 187 rfl) rfl
theorem q1757 : (Jvm.Cond.constantLong "ApologyUpModel" (256 : Nat) (-1000000 : Int64)) ∈ lw_all := lw_g (lw_at lw_m7 188 rfl) rfl
theorem q1758 : (Jvm.Cond.methodLink "ApologyUpModel" (278 : Nat) ({ cls := "ApologyUpModel", name := "isAsked", desc := "(IJJ)Z" } : Jvm.MethodName)) ∈ lw_all := lw_g (lw_at lw_m7 189 rfl) rfl
theorem q1759 : (Jvm.Cond.static ({ cls := "ApologyUpModel", name := "isAsked", desc := "(IJJ)Z" } : Jvm.MethodName)) ∈ lw_all := lw_g (lw_at lw_m7 190 rfl) rfl
theorem q1760 : (Jvm.Cond.code ({ cls := "ApologyUpModel", name := "isAsked", desc := "(IJJ)Z" } : Jvm.MethodName) prog_20_method_61_code (5 : Nat) (Option.some Jvm.ClassFile.FieldType.boolean)) ∈ lw_all := lw_g (lw_at lw_m7 191 rfl) rfl
theorem q1761 : (Jvm.Cond.methodLink "ApologyUpModel" (282 : Nat) ({ cls := "ApologyUpModel", name := "joined", desc := "(IZZ)Z" } : Jvm.MethodName)) ∈ lw_all := lw_g (lw_at lw_m7 192 rfl) rfl
theorem q1762 : (Jvm.Cond.static ({ cls := "ApologyUpModel", name := "joined", desc := "(IZZ)Z" } : Jvm.MethodName)) ∈ lw_all := lw_g (lw_at lw_m7 193 rfl) rfl
theorem q1763 : (Jvm.Cond.code ({ cls := "ApologyUpModel", name := "joined", desc := "(IZZ)Z" } : Jvm.MethodName) prog_20_method_64_code (3 : Nat) (Option.some Jvm.ClassFile.FieldType.boolean)) ∈ lw_all := lw_g (lw_at lw_m7 194 rfl) rfl
theorem q1764 : (Jvm.Cond.methodLink "ApologyUpModel" (289 : Nat) ({ cls := "ApologyUpModel", name := "cut", desc := "(JII)I" } : Jvm.MethodName)) ∈ lw_all := lw_g (lw_at lw_m7 195 rfl) rfl
theorem q1765 : (Jvm.Cond.static ({ cls := "ApologyUpModel", name := "cut", desc := "(JII)I" } : Jvm.MethodName)) ∈ lw_all := lw_g (lw_at lw_m7 196 rfl) rfl
theorem q1766 : (Jvm.Cond.code ({ cls := "ApologyUpModel", name := "cut", desc := "(JII)I" } : Jvm.MethodName) prog_20_method_4_code (4 : Nat) (Option.some Jvm.ClassFile.FieldType.int)) ∈ lw_all := lw_g (lw_at lw_m7 197 rfl) rfl
theorem q1767 : (Jvm.Cond.methodLink "ApologyUpModel" (323 : Nat) ({ cls := "ApologyUpModel", name := "anew", desc := "()V" } : Jvm.MethodName)) ∈ lw_all := lw_g (lw_at lw_m7 198 rfl) rfl
theorem q1768 : (Jvm.Cond.privateMethod ({ cls := "ApologyUpModel", name := "anew", desc := "()V" } : Jvm.MethodName)) ∈ lw_tbl := lw_at lw_m7 199 rfl
theorem q1769 : (Jvm.Cond.instanceMethod ({ cls := "ApologyUpModel", name := "anew", desc := "()V" } : Jvm.MethodName)) ∈ lw_all := lw_g (lw_at lw_m7 200 rfl) rfl
theorem q1770 : (Jvm.Cond.code ({ cls := "ApologyUpModel", name := "anew", desc := "()V" } : Jvm.MethodName) prog_20_method_73_code (1 : Nat) (Option.none : Option Jvm.ClassFile.FieldType)) ∈ lw_all := lw_g (lw_at lw_m7 201 rfl) rfl
theorem q1771 : (Jvm.Cond.constantLong "ApologyUpModel" (310 : Nat) (421 : Int64)) ∈ lw_all := lw_g (lw_at lw_m7 202 rfl) rfl
theorem q1772 : (Jvm.Cond.constantLong "ApologyUpModel" (312 : Nat) (307 : Int64)) ∈ lw_all := lw_g (lw_at lw_m7 203 rfl) rfl
theorem q1773 : (Jvm.Cond.constantLong "ApologyUpModel" (314 : Nat) (30539 : Int64)) ∈ lw_all := lw_g (lw_at lw_m7 204 rfl) rfl
theorem q1774 : (Jvm.Cond.methodLink "ApologyUpModel" (329 : Nat) ({ cls := "ApologyUpModel", name := "write", desc := "(II)V" } : Jvm.MethodName)) ∈ lw_all := lw_g (lw_at lw_m7 205 rfl) rfl
theorem q1775 : (Jvm.Cond.privateMethod ({ cls := "ApologyUpModel", name := "write", desc := "(II)V" } : Jvm.MethodName)) ∈ lw_tbl := lw_at lw_m7 206 rfl
theorem q1776 : (Jvm.Cond.instanceMethod ({ cls := "ApologyUpModel", name := "write", desc := "(II)V" } : Jvm.MethodName)) ∈ lw_all := lw_g (lw_at lw_m7 207 rfl) rfl
theorem q1777 : (Jvm.Cond.code ({ cls := "ApologyUpModel", name := "write", desc := "(II)V" } : Jvm.MethodName) prog_20_method_72_code (4 : Nat) (Option.none : Option Jvm.ClassFile.FieldType)) ∈ lw_all := lw_g (lw_at lw_m7 208 rfl) rfl
theorem q1778 : (Jvm.Cond.methodLink "ApologyUpModel" (344 : Nat) ({ cls := "ApologyUpModel", name := "goDown", desc := "(I)V" } : Jvm.MethodName)) ∈ lw_all := lw_g (lw_at lw_m7 209 rfl) rfl
theorem q1779 : (Jvm.Cond.privateMethod ({ cls := "ApologyUpModel", name := "goDown", desc := "(I)V" } : Jvm.MethodName)) ∈ lw_tbl := lw_at lw_m7 210 rfl
theorem q1780 : (Jvm.Cond.instanceMethod ({ cls := "ApologyUpModel", name := "goDown", desc := "(I)V" } : Jvm.MethodName)) ∈ lw_all := lw_g (lw_at lw_m7 211 rfl) rfl
theorem q1781 : (Jvm.Cond.code ({ cls := "ApologyUpModel", name := "goDown", desc := "(I)V" } : Jvm.MethodName) prog_20_method_76_code (3 : Nat) (Option.none : Option Jvm.ClassFile.FieldType)) ∈ lw_all := lw_g (lw_at lw_m7 212 rfl) rfl
theorem q1782 : (Jvm.Cond.methodLink "ApologyUpModel" (335 : Nat) ({ cls := "ApologyUpModel", name := "downTo", desc := "(II)I" } : Jvm.MethodName)) ∈ lw_all := lw_g (lw_at lw_m7 213 rfl) rfl
theorem q1783 : (Jvm.Cond.privateMethod ({ cls := "ApologyUpModel", name := "downTo", desc := "(II)I" } : Jvm.MethodName)) ∈ lw_tbl := lw_at lw_m7 214 rfl
theorem q1784 : (Jvm.Cond.instanceMethod ({ cls := "ApologyUpModel", name := "downTo", desc := "(II)I" } : Jvm.MethodName)) ∈ lw_all := lw_g (lw_at lw_m7 215 rfl) rfl
theorem q1785 : (Jvm.Cond.code ({ cls := "ApologyUpModel", name := "downTo", desc := "(II)I" } : Jvm.MethodName) prog_20_method_13_code (4 : Nat) (Option.some Jvm.ClassFile.FieldType.int)) ∈ lw_all := lw_g (lw_at lw_m7 216 rfl) rfl
theorem q1786 : (Jvm.Cond.methodLink "ApologyUpModel" (338 : Nat) ({ cls := "ApologyUpModel", name := "finish", desc := "(II)V" } : Jvm.MethodName)) ∈ lw_all := lw_g (lw_at lw_m7 217 rfl) rfl
theorem q1787 : (Jvm.Cond.privateMethod ({ cls := "ApologyUpModel", name := "finish", desc := "(II)V" } : Jvm.MethodName)) ∈ lw_tbl := lw_at lw_m7 218 rfl
theorem q1788 : (Jvm.Cond.instanceMethod ({ cls := "ApologyUpModel", name := "finish", desc := "(II)V" } : Jvm.MethodName)) ∈ lw_all := lw_g (lw_at lw_m7 219 rfl) rfl
theorem q1789 : (Jvm.Cond.code ({ cls := "ApologyUpModel", name := "finish", desc := "(II)V" } : Jvm.MethodName) prog_20_method_75_code (3 : Nat) (Option.none : Option Jvm.ClassFile.FieldType)) ∈ lw_all := lw_g (lw_at lw_m7 220 rfl) rfl
theorem q1790 : (Jvm.Cond.methodLink "ApologyUpModel" (347 : Nat) ({ cls := "ApologyUpModel", name := "merge", desc := "(II)V" } : Jvm.MethodName)) ∈ lw_all := lw_g (lw_at lw_m7 221 rfl) rfl
theorem q1791 : (Jvm.Cond.privateMethod ({ cls := "ApologyUpModel", name := "merge", desc := "(II)V" } : Jvm.MethodName)) ∈ lw_tbl := lw_at lw_m7 222 rfl
theorem q1792 : (Jvm.Cond.instanceMethod ({ cls := "ApologyUpModel", name := "merge", desc := "(II)V" } : Jvm.MethodName)) ∈ lw_all := lw_g (lw_at lw_m7 223 rfl) rfl
theorem q1793 : (Jvm.Cond.code ({ cls := "ApologyUpModel", name := "merge", desc := "(II)V" } : Jvm.MethodName) prog_20_method_77_code (5 : Nat) (Option.none : Option Jvm.ClassFile.FieldType)) ∈ lw_all := lw_g (lw_at lw_m7 224 rfl) rfl
theorem q1795 : (Jvm.Cond.instanceMethod ({ cls := "ApologyUpModel", name := "played", desc := "(I)I" } : Jvm.MethodName)) ∈ lw_all := lw_g (lw_at lw_m7 226 rfl) rfl
theorem q1796 : (Jvm.Cond.selects "ApologyUpModel" ({ cls := "ApologyUpModel", name := "played", desc := "(I)I" } : Jvm.MethodName) ({ cls := "ApologyUpModel", name := "played", desc := "(I)I" } : Jvm.MethodName)) ∈ lw_all := lw_g (lw_at lw_m7 227 rfl) rfl
theorem q1797 : (Jvm.Cond.code ({ cls := "ApologyUpModel", name := "played", desc := "(I)I" } : Jvm.MethodName) prog_20_method_90_code (3 : Nat) (Option.some Jvm.ClassFile.FieldType.int)) ∈ lw_all := lw_g (lw_at lw_m7 228 rfl) rfl
theorem q1798 : (Jvm.Cond.methodLink "ApologyUpModel" (389 : Nat) ({ cls := "ApologyUpModel", name := "isPlayed", desc := "(I)Z" } : Jvm.MethodName)) ∈ lw_all := lw_g (lw_at lw_m7 229 rfl) rfl
theorem q1799 : (Jvm.Cond.privateMethod ({ cls := "ApologyUpModel", name := "isPlayed", desc := "(I)Z" } : Jvm.MethodName)) ∈ lw_tbl := lw_at lw_m7 230 rfl
theorem q1800 : (Jvm.Cond.instanceMethod ({ cls := "ApologyUpModel", name := "isPlayed", desc := "(I)Z" } : Jvm.MethodName)) ∈ lw_all := lw_g (lw_at lw_m7 231 rfl) rfl
theorem q1801 : (Jvm.Cond.code ({ cls := "ApologyUpModel", name := "isPlayed", desc := "(I)Z" } : Jvm.MethodName) prog_20_method_89_code (4 : Nat) (Option.some Jvm.ClassFile.FieldType.boolean)) ∈ lw_all := lw_g (lw_at lw_m7 232 rfl) rfl
theorem q1802 : (Jvm.Cond.methodLink "ApologyUpModel" (374 : Nat) ({ cls := "ApologyUpModel", name := "officer", desc := "(II)I" } : Jvm.MethodName)) ∈ lw_all := lw_g (lw_at lw_m7 233 rfl) rfl
theorem q1803 : (Jvm.Cond.methodLink "ApologyUpModel" (377 : Nat) ({ cls := "ApologyUpModel", name := "cousin", desc := "(II)Z" } : Jvm.MethodName)) ∈ lw_all := lw_g (lw_at lw_m7 234 rfl) rfl
theorem q1804 : (Jvm.Cond.methodLink "ApologyUpModel" (380 : Nat) ({ cls := "ApologyUpModel", name := "wrong", desc := "(III)I" } : Jvm.MethodName)) ∈ lw_all := lw_g (lw_at lw_m7 235 rfl) rfl
theorem q1805 : (Jvm.Cond.methodLink "ApologyUpModel" (383 : Nat) ({ cls := "ApologyUpModel", name := "away", desc := "(II)Z" } : Jvm.MethodName)) ∈ lw_all := lw_g (lw_at lw_m7 236 rfl) rfl
theorem q1806 : (Jvm.Cond.methodLink "ApologyUpModel" (386 : Nat) ({ cls := "ApologyUpModel", name := "sideways", desc := "(II)Z" } : Jvm.MethodName)) ∈ lw_all := lw_g (lw_at lw_m7 237 rfl) rfl
theorem q1808 : (Jvm.Cond.instanceMethod ({ cls := "ApologyUpModel", name := "years", desc := "(II)I" } : Jvm.MethodName)) ∈ lw_all := lw_g (lw_at lw_m7 239 rfl) rfl
theorem q1809 : (Jvm.Cond.selects "ApologyUpModel" ({ cls := "ApologyUpModel", name := "years", desc := "(II)I" } : Jvm.MethodName) ({ cls := "ApologyUpModel", name := "years", desc := "(II)I" } : Jvm.MethodName)) ∈ lw_all := lw_g (lw_at lw_m8 0 rfl) rfl
theorem q1810 : (Jvm.Cond.code ({ cls := "ApologyUpModel", name := "years", desc := "(II)I" } : Jvm.MethodName) prog_20_method_92_code (5 : Nat) (Option.some Jvm.ClassFile.FieldType.int)) ∈ lw_all := lw_g (lw_at lw_m8 1 rfl) rfl
theorem q1811 : (Jvm.Cond.methodLink "ApologyUpModel" (392 : Nat) ({ cls := "ApologyUpModel", name := "happens", desc := "(I)V" } : Jvm.MethodName)) ∈ lw_all := lw_g (lw_at lw_m8 2 rfl) rfl
theorem q1812 : (Jvm.Cond.privateMethod ({ cls := "ApologyUpModel", name := "happens", desc := "(I)V" } : Jvm.MethodName)) ∈ lw_tbl := lw_at lw_m8 3 rfl
theorem q1813 : (Jvm.Cond.instanceMethod ({ cls := "ApologyUpModel", name := "happens", desc := "(I)V" } : Jvm.MethodName)) ∈ lw_all := lw_g (lw_at lw_m8 4 rfl) rfl
theorem q1814 : (Jvm.Cond.code ({ cls := "ApologyUpModel", name := "happens", desc := "(I)V" } : Jvm.MethodName) prog_20_method_91_code (3 : Nat) (Option.none : Option Jvm.ClassFile.FieldType)) ∈ lw_all := lw_g (lw_at lw_m8 5 rfl) rfl
theorem q1816 : (Jvm.Cond.instanceMethod ({ cls := "ApologyUpModel", name := "of", desc := "(II)I" } : Jvm.MethodName)) ∈ lw_all := lw_g (lw_at lw_m8 7 rfl) rfl
theorem q1817 : (Jvm.Cond.selects "ApologyUpModel" ({ cls := "ApologyUpModel", name := "of", desc := "(II)I" } : Jvm.MethodName) ({ cls := "ApologyUpModel", name := "of", desc := "(II)I" } : Jvm.MethodName)) ∈ lw_all := lw_g (lw_at lw_m8 8 rfl) rfl
theorem q1818 : (Jvm.Cond.code ({ cls := "ApologyUpModel", name := "of", desc := "(II)I" } : Jvm.MethodName) prog_20_method_94_code (3 : Nat) (Option.some Jvm.ClassFile.FieldType.int)) ∈ lw_all := lw_g (lw_at lw_m8 9 rfl) rfl
theorem q1819 : (Jvm.Cond.methodLink "ApologyUpModel" (395 : Nat) ({ cls := "ApologyUpModel", name := "addsOf", desc := "(II)I" } : Jvm.MethodName)) ∈ lw_all := lw_g (lw_at lw_m8 10 rfl) rfl
theorem q1820 : (Jvm.Cond.privateMethod ({ cls := "ApologyUpModel", name := "addsOf", desc := "(II)I" } : Jvm.MethodName)) ∈ lw_tbl := lw_at lw_m8 11 rfl
theorem q1821 : (Jvm.Cond.instanceMethod ({ cls := "ApologyUpModel", name := "addsOf", desc := "(II)I" } : Jvm.MethodName)) ∈ lw_all := lw_g (lw_at lw_m8 12 rfl) rfl
theorem q1822 : (Jvm.Cond.code ({ cls := "ApologyUpModel", name := "addsOf", desc := "(II)I" } : Jvm.MethodName) prog_20_method_69_code (3 : Nat) (Option.some Jvm.ClassFile.FieldType.int)) ∈ lw_all := lw_g (lw_at lw_m8 13 rfl) rfl
theorem q1823 : (Jvm.Cond.methodLink "ApologyUpModel" (398 : Nat) ({ cls := "ApologyUpModel", name := "belowOf", desc := "(I)I" } : Jvm.MethodName)) ∈ lw_all := lw_g (lw_at lw_m8 14 rfl) rfl
theorem q1824 : (Jvm.Cond.privateMethod ({ cls := "ApologyUpModel", name := "belowOf", desc := "(I)I" } : Jvm.MethodName)) ∈ lw_tbl := lw_at lw_m8 15 rfl
theorem q1825 : (Jvm.Cond.instanceMethod ({ cls := "ApologyUpModel", name := "belowOf", desc := "(I)I" } : Jvm.MethodName)) ∈ lw_all := lw_g (lw_at lw_m8 16 rfl) rfl
theorem q1826 : (Jvm.Cond.code ({ cls := "ApologyUpModel", name := "belowOf", desc := "(I)I" } : Jvm.MethodName) prog_20_method_93_code (4 : Nat) (Option.some Jvm.ClassFile.FieldType.int)) ∈ lw_all := lw_g (lw_at lw_m8 17 rfl) rfl
theorem q1828 : (Jvm.Cond.instanceMethod ({ cls := "ApologyUpModel", name := "ofApology", desc := "(II)I" } : Jvm.MethodName)) ∈ lw_all := lw_g (lw_at lw_m8 19 rfl) rfl
theorem q1829 : (Jvm.Cond.selects "ApologyUpModel" ({ cls := "ApologyUpModel", name := "ofApology", desc := "(II)I" } : Jvm.MethodName) ({ cls := "ApologyUpModel", name := "ofApology", desc := "(II)I" } : Jvm.MethodName)) ∈ lw_all := lw_g (lw_at lw_m8 20 rfl) rfl
theorem q1830 : (Jvm.Cond.code ({ cls := "ApologyUpModel", name := "ofApology", desc := "(II)I" } : Jvm.MethodName) prog_20_method_95_code (3 : Nat) (Option.some Jvm.ClassFile.FieldType.int)) ∈ lw_all := lw_g (lw_at lw_m8 21 rfl) rfl
theorem q1832 : (Jvm.Cond.instanceMethod ({ cls := "ApologyUpModel", name := "is", desc := "(I)I" } : Jvm.MethodName)) ∈ lw_all := lw_g (lw_at lw_m8 23 rfl) rfl
theorem q1833 : (Jvm.Cond.selects "ApologyUpModel" ({ cls := "ApologyUpModel", name := "is", desc := "(I)I" } : Jvm.MethodName) ({ cls := "ApologyUpModel", name := "is", desc := "(I)I" } : Jvm.MethodName)) ∈ lw_all := lw_g (lw_at lw_m8 24 rfl) rfl
theorem q1834 : (Jvm.Cond.code ({ cls := "ApologyUpModel", name := "is", desc := "(I)I" } : Jvm.MethodName) prog_20_method_96_code (2 : Nat) (Option.some Jvm.ClassFile.FieldType.int)) ∈ lw_all := lw_g (lw_at lw_m8 25 rfl) rfl
theorem q1836 : (Jvm.Cond.instanceMethod ({ cls := "ApologyUpModel", name := "book", desc := "(II)I" } : Jvm.MethodName)) ∈ lw_all := lw_g (lw_at lw_m8 27 rfl) rfl
theorem q1837 : (Jvm.Cond.selects "ApologyUpModel" ({ cls := "ApologyUpModel", name := "book", desc := "(II)I" } : Jvm.MethodName) ({ cls := "ApologyUpModel", name := "book", desc := "(II)I" } : Jvm.MethodName)) ∈ lw_all := lw_g (lw_at lw_m8 28 rfl) rfl
theorem q1838 : (Jvm.Cond.code ({ cls := "ApologyUpModel", name := "book", desc := "(II)I" } : Jvm.MethodName) prog_20_method_97_code (4 : Nat) (Option.some Jvm.ClassFile.FieldType.int)) ∈ lw_all := lw_g (lw_at lw_m8 29 rfl) rfl
theorem q1839 : (Jvm.Cond.constant "ApologyUpModel" (401 : Nat) (40000 : Int32)) ∈ lw_all := lw_g (lw_at lw_m8 30 rfl) rfl
theorem q1841 : (Jvm.Cond.instanceMethod ({ cls := "ApologyUpModel", name := "befell", desc := "(I)I" } : Jvm.MethodName)) ∈ lw_all := lw_g (lw_at lw_m8 32 rfl) rfl
theorem q1842 : (Jvm.Cond.selects "ApologyUpModel" ({ cls := "ApologyUpModel", name := "befell", desc := "(I)I" } : Jvm.MethodName) ({ cls := "ApologyUpModel", name := "befell", desc := "(I)I" } : Jvm.MethodName)) ∈ lw_all := lw_g (lw_at lw_m8 33 rfl) rfl
theorem q1843 : (Jvm.Cond.code ({ cls := "ApologyUpModel", name := "befell", desc := "(I)I" } : Jvm.MethodName) prog_20_method_98_code (4 : Nat) (Option.some Jvm.ClassFile.FieldType.int)) ∈ lw_all := lw_g (lw_at lw_m8 34 rfl) rfl
theorem q1844 : (Jvm.Cond.methodLink "ApologyUpModel" (402 : Nat) ({ cls := "ApologyUpModel", name := "book", desc := "(II)I" } : Jvm.MethodName)) ∈ lw_all := lw_g (lw_at lw_m8 35 rfl) rfl
theorem q1846 : (Jvm.Cond.instanceMethod ({ cls := "ApologyUpModel", name := "stuck", desc := "()I" } : Jvm.MethodName)) ∈ lw_all := lw_g (lw_at lw_m8 37 rfl) rfl
theorem q1847 : (Jvm.Cond.selects "ApologyUpModel" ({ cls := "ApologyUpModel", name := "stuck", desc := "()I" } : Jvm.MethodName) ({ cls := "ApologyUpModel", name := "stuck", desc := "()I" } : Jvm.MethodName)) ∈ lw_all := lw_g (lw_at lw_m8 38 rfl) rfl
theorem q1848 : (Jvm.Cond.code ({ cls := "ApologyUpModel", name := "stuck", desc := "()I" } : Jvm.MethodName) prog_20_method_99_code (4 : Nat) (Option.some Jvm.ClassFile.FieldType.int)) ∈ lw_all := lw_g (lw_at lw_m8 39 rfl) rfl
theorem q1850 : (Jvm.Cond.instanceMethod ({ cls := "ApologyUpModel", name := "eldest", desc := "()I" } : Jvm.MethodName)) ∈ lw_all := lw_g (lw_at lw_m8 41 rfl) rfl
theorem q1851 : (Jvm.Cond.selects "ApologyUpModel" ({ cls := "ApologyUpModel", name := "eldest", desc := "()I" } : Jvm.MethodName) ({ cls := "ApologyUpModel", name := "eldest", desc := "()I" } : Jvm.MethodName)) ∈ lw_all := lw_g (lw_at lw_m8 42 rfl) rfl
theorem q1852 : (Jvm.Cond.code ({ cls := "ApologyUpModel", name := "eldest", desc := "()I" } : Jvm.MethodName) prog_20_method_100_code (3 : Nat) (Option.some Jvm.ClassFile.FieldType.int)) ∈ lw_all := lw_g (lw_at lw_m8 43 rfl) rfl
theorem q1854 : (Jvm.Cond.instanceMethod ({ cls := "ApologyUpModel", name := "sorry", desc := "(I)I" } : Jvm.MethodName)) ∈ lw_all := lw_g (lw_at lw_m8 45 rfl) rfl
theorem q1855 : (Jvm.Cond.selects "ApologyUpModel" ({ cls := "ApologyUpModel", name := "sorry", desc := "(I)I" } : Jvm.MethodName) ({ cls := "ApologyUpModel", name := "sorry", desc := "(I)I" } : Jvm.MethodName)) ∈ lw_all := lw_g (lw_at lw_m8 46 rfl) rfl
theorem q1856 : (Jvm.Cond.code ({ cls := "ApologyUpModel", name := "sorry", desc := "(I)I" } : Jvm.MethodName) prog_20_method_101_code (4 : Nat) (Option.some Jvm.ClassFile.FieldType.int)) ∈ lw_all := lw_g (lw_at lw_m8 47 rfl) rfl
theorem q1858 : (Jvm.Cond.instanceMethod ({ cls := "ApologyUpModel", name := "ranked", desc := "(IZ)I" } : Jvm.MethodName)) ∈ lw_all := lw_g (lw_at lw_m8 49 rfl) rfl
theorem q1859 : (Jvm.Cond.selects "ApologyUpModel" ({ cls := "ApologyUpModel", name := "ranked", desc := "(IZ)I" } : Jvm.MethodName) ({ cls := "ApologyUpModel", name := "ranked", desc := "(IZ)I" } : Jvm.MethodName)) ∈ lw_all := lw_g (lw_at lw_m8 50 rfl) rfl
theorem q1860 : (Jvm.Cond.code ({ cls := "ApologyUpModel", name := "ranked", desc := "(IZ)I" } : Jvm.MethodName) prog_20_method_102_code (6 : Nat) (Option.some Jvm.ClassFile.FieldType.int)) ∈ lw_all := lw_g (lw_at lw_m8 51 rfl) rfl
theorem q1862 : (Jvm.Cond.instanceMethod ({ cls := "ApologyUpModel", name := "foretold", desc := "(III)I" } : Jvm.MethodName)) ∈ lw_all := lw_g (lw_at lw_m8 53 rfl) rfl
theorem q1863 : (Jvm.Cond.selects "ApologyUpModel" ({ cls := "ApologyUpModel", name := "foretold", desc := "(III)I" } : Jvm.MethodName) ({ cls := "ApologyUpModel", name := "foretold", desc := "(III)I" } : Jvm.MethodName)) ∈ lw_all := lw_g (lw_at lw_m8 54 rfl) rfl
theorem q1864 : (Jvm.Cond.code ({ cls := "ApologyUpModel", name := "foretold", desc := "(III)I" } : Jvm.MethodName) prog_20_method_105_code (5 : Nat) (Option.some Jvm.ClassFile.FieldType.int)) ∈ lw_all := lw_g (lw_at lw_m8 55 rfl) rfl
theorem q1865 : (Jvm.Cond.methodLink "ApologyUpModel" (405 : Nat) ({ cls := "ApologyUpModel", name := "setAside", desc := "()V" } : Jvm.MethodName)) ∈ lw_all := lw_g (lw_at lw_m8 56 rfl) rfl
theorem q1866 : (Jvm.Cond.privateMethod ({ cls := "ApologyUpModel", name := "setAside", desc := "()V" } : Jvm.MethodName)) ∈ lw_tbl := lw_at lw_m8 57 rfl
theorem q1867 : (Jvm.Cond.instanceMethod ({ cls := "ApologyUpModel", name := "setAside", desc := "()V" } : Jvm.MethodName)) ∈ lw_all := lw_g (lw_at lw_m8 58 rfl) rfl
theorem q1868 : (Jvm.Cond.code ({ cls := "ApologyUpModel", name := "setAside", desc := "()V" } : Jvm.MethodName) prog_20_method_103_code (2 : Nat) (Option.none : Option Jvm.ClassFile.FieldType)) ∈ lw_all := lw_g (lw_at lw_m8 59 rfl) rfl
theorem q1869 : (Jvm.Cond.methodLink "ApologyUpModel" (408 : Nat) ({ cls := "ApologyUpModel", name := "putBack", desc := "()V" } : Jvm.MethodName)) ∈ lw_all := lw_g (lw_at lw_m8 60 rfl) rfl
theorem q1870 : (Jvm.Cond.privateMethod ({ cls := "ApologyUpModel", name := "putBack", desc := "()V" } : Jvm.MethodName)) ∈ lw_tbl := lw_at lw_m8 61 rfl
theorem q1871 : (Jvm.Cond.instanceMethod ({ cls := "ApologyUpModel", name := "putBack", desc := "()V" } : Jvm.MethodName)) ∈ lw_all := lw_g (lw_at lw_m8 62 rfl) rfl
theorem q1872 : (Jvm.Cond.code ({ cls := "ApologyUpModel", name := "putBack", desc := "()V" } : Jvm.MethodName) prog_20_method_104_code (2 : Nat) (Option.none : Option Jvm.ClassFile.FieldType)) ∈ lw_all := lw_g (lw_at lw_m8 63 rfl) rfl
theorem q1874 : (Jvm.Cond.instanceMethod ({ cls := "ApologyUpModel", name := "pardoned", desc := "(I)I" } : Jvm.MethodName)) ∈ lw_all := lw_g (lw_at lw_m8 65 rfl) rfl
theorem q1875 : (Jvm.Cond.selects "ApologyUpModel" ({ cls := "ApologyUpModel", name := "pardoned", desc := "(I)I" } : Jvm.MethodName) ({ cls := "ApologyUpModel", name := "pardoned", desc := "(I)I" } : Jvm.MethodName)) ∈ lw_all := lw_g (lw_at lw_m8 66 rfl) rfl
theorem q1876 : (Jvm.Cond.code ({ cls := "ApologyUpModel", name := "pardoned", desc := "(I)I" } : Jvm.MethodName) prog_20_method_106_code (4 : Nat) (Option.some Jvm.ClassFile.FieldType.int)) ∈ lw_all := lw_g (lw_at lw_m8 67 rfl) rfl
theorem q1878 : (Jvm.Cond.instanceMethod ({ cls := "ApologyUpModel", name := "meets", desc := "(II)I" } : Jvm.MethodName)) ∈ lw_all := lw_g (lw_at lw_m8 69 rfl) rfl
theorem q1879 : (Jvm.Cond.selects "ApologyUpModel" ({ cls := "ApologyUpModel", name := "meets", desc := "(II)I" } : Jvm.MethodName) ({ cls := "ApologyUpModel", name := "meets", desc := "(II)I" } : Jvm.MethodName)) ∈ lw_all := lw_g (lw_at lw_m8 70 rfl) rfl
theorem q1880 : (Jvm.Cond.code ({ cls := "ApologyUpModel", name := "meets", desc := "(II)I" } : Jvm.MethodName) prog_20_method_109_code (3 : Nat) (Option.some Jvm.ClassFile.FieldType.int)) ∈ lw_all := lw_g (lw_at lw_m8 71 rfl) rfl
theorem q1881 : (Jvm.Cond.methodLink "ApologyUpModel" (411 : Nat) ({ cls := "ApologyUpModel", name := "meetOf", desc := "(II)I" } : Jvm.MethodName)) ∈ lw_all := lw_g (lw_at lw_m8 72 rfl) rfl
theorem q1882 : (Jvm.Cond.privateMethod ({ cls := "ApologyUpModel", name := "meetOf", desc := "(II)I" } : Jvm.MethodName)) ∈ lw_tbl := lw_at lw_m8 73 rfl
theorem q1883 : (Jvm.Cond.instanceMethod ({ cls := "ApologyUpModel", name := "meetOf", desc := "(II)I" } : Jvm.MethodName)) ∈ lw_all := lw_g (lw_at lw_m8 74 rfl) rfl
theorem q1884 : (Jvm.Cond.code ({ cls := "ApologyUpModel", name := "meetOf", desc := "(II)I" } : Jvm.MethodName) prog_20_method_107_code (4 : Nat) (Option.some Jvm.ClassFile.FieldType.int)) ∈ lw_all := lw_g (lw_at lw_m8 75 rfl) rfl
theorem q1886 : (Jvm.Cond.instanceMethod ({ cls := "ApologyUpModel", name := "steps", desc := "(II)I" } : Jvm.MethodName)) ∈ lw_all := lw_g (lw_at lw_m8 77 rfl) rfl
theorem q1887 : (Jvm.Cond.selects "ApologyUpModel" ({ cls := "ApologyUpModel", name := "steps", desc := "(II)I" } : Jvm.MethodName) ({ cls := "ApologyUpModel", name := "steps", desc := "(II)I" } : Jvm.MethodName)) ∈ lw_all := lw_g (lw_at lw_m8 78 rfl) rfl
theorem q1888 : (Jvm.Cond.code ({ cls := "ApologyUpModel", name := "steps", desc := "(II)I" } : Jvm.MethodName) prog_20_method_110_code (3 : Nat) (Option.some Jvm.ClassFile.FieldType.int)) ∈ lw_all := lw_g (lw_at lw_m8 79 rfl) rfl
theorem q1889 : (Jvm.Cond.methodLink "ApologyUpModel" (414 : Nat) ({ cls := "ApologyUpModel", name := "stepsOf", desc := "(II)I" } : Jvm.MethodName)) ∈ lw_all := lw_g (lw_at lw_m8 80 rfl) rfl
theorem q1890 : (Jvm.Cond.privateMethod ({ cls := "ApologyUpModel", name := "stepsOf", desc := "(II)I" } : Jvm.MethodName)) ∈ lw_tbl := lw_at lw_m8 81 rfl
theorem q1891 : (Jvm.Cond.instanceMethod ({ cls := "ApologyUpModel", name := "stepsOf", desc := "(II)I" } : Jvm.MethodName)) ∈ lw_all := lw_g (lw_at lw_m8 82 rfl) rfl
theorem q1892 : (Jvm.Cond.code ({ cls := "ApologyUpModel", name := "stepsOf", desc := "(II)I" } : Jvm.MethodName) prog_20_method_108_code (3 : Nat) (Option.some Jvm.ClassFile.FieldType.int)) ∈ lw_all := lw_g (lw_at lw_m8 83 rfl) rfl
theorem q1894 : (Jvm.Cond.instanceMethod ({ cls := "ApologyUpModel", name := "route", desc := "(III)I" } : Jvm.MethodName)) ∈ lw_all := lw_g (lw_at lw_m8 85 rfl) rfl
theorem q1895 : (Jvm.Cond.selects "ApologyUpModel" ({ cls := "ApologyUpModel", name := "route", desc := "(III)I" } : Jvm.MethodName) ({ cls := "ApologyUpModel", name := "route", desc := "(III)I" } : Jvm.MethodName)) ∈ lw_all := lw_g (lw_at lw_m8 86 rfl) rfl
theorem q1896 : (Jvm.Cond.code ({ cls := "ApologyUpModel", name := "route", desc := "(III)I" } : Jvm.MethodName) prog_20_method_117_code (4 : Nat) (Option.some Jvm.ClassFile.FieldType.int)) ∈ lw_all := lw_g (lw_at lw_m8 87 rfl) rfl
theorem q1897 : (Jvm.Cond.methodLink "ApologyUpModel" (440 : Nat) ({ cls := "ApologyUpModel", name := "layRoute", desc := "(II)V" } : Jvm.MethodName)) ∈ lw_all := lw_g (lw_at lw_m8 88 rfl) rfl
theorem q1898 : (Jvm.Cond.privateMethod ({ cls := "ApologyUpModel", name := "layRoute", desc := "(II)V" } : Jvm.MethodName)) ∈ lw_tbl := lw_at lw_m8 89 rfl
theorem q1899 : (Jvm.Cond.instanceMethod ({ cls := "ApologyUpModel", name := "layRoute", desc := "(II)V" } : Jvm.MethodName)) ∈ lw_all := lw_g (lw_at lw_m8 90 rfl) rfl
theorem q1900 : (Jvm.Cond.code ({ cls := "ApologyUpModel", name := "layRoute", desc := "(II)V" } : Jvm.MethodName) prog_20_method_116_code (6 : Nat) (Option.none : Option Jvm.ClassFile.FieldType)) ∈ lw_all := lw_g (lw_at lw_m8 91 rfl) rfl
theorem q1901 : (Jvm.Cond.methodLink "ApologyUpModel" (427 : Nat) ({ cls := "ApologyUpModel", name := "layDays", desc := "(I)V" } : Jvm.MethodName)) ∈ lw_all := lw_g (lw_at lw_m8 92 rfl) rfl
theorem q1902 : (Jvm.Cond.privateMethod ({ cls := "ApologyUpModel", name := "layDays", desc := "(I)V" } : Jvm.MethodName)) ∈ lw_tbl := lw_at lw_m8 93 rfl
theorem q1903 : (Jvm.Cond.instanceMethod ({ cls := "ApologyUpModel", name := "layDays", desc := "(I)V" } : Jvm.MethodName)) ∈ lw_all := lw_g (lw_at lw_m8 94 rfl) rfl
theorem q1904 : (Jvm.Cond.code ({ cls := "ApologyUpModel", name := "layDays", desc := "(I)V" } : Jvm.MethodName) prog_20_method_112_code (6 : Nat) (Option.none : Option Jvm.ClassFile.FieldType)) ∈ lw_all := lw_g (lw_at lw_m8 95 rfl) rfl
theorem q1905 : (Jvm.Cond.constant "ApologyUpModel" (417 : Nat) (1000000000 : Int32)) ∈ lw_all := lw_g (lw_at lw_m8 96 rfl) rfl
theorem q1906 : (Jvm.Cond.methodLink "ApologyUpModel" (418 : Nat) ({ cls := "ApologyUpModel", name := "daysOf", desc := "(III)I" } : Jvm.MethodName)) ∈ lw_all := lw_g (lw_at lw_m8 97 rfl) rfl
theorem q1907 : (Jvm.Cond.privateMethod ({ cls := "ApologyUpModel", name := "daysOf", desc := "(III)I" } : Jvm.MethodName)) ∈ lw_tbl := lw_at lw_m8 98 rfl
theorem q1908 : (Jvm.Cond.instanceMethod ({ cls := "ApologyUpModel", name := "daysOf", desc := "(III)I" } : Jvm.MethodName)) ∈ lw_all := lw_g (lw_at lw_m8 99 rfl) rfl
theorem q1909 : (Jvm.Cond.code ({ cls := "ApologyUpModel", name := "daysOf", desc := "(III)I" } : Jvm.MethodName) prog_20_method_111_code (4 : Nat) (Option.some Jvm.ClassFile.FieldType.int)) ∈ lw_all := lw_g (lw_at lw_m8 100 rfl) rfl
theorem q1910 : (Jvm.Cond.methodLink "ApologyUpModel" (430 : Nat) ({ cls := "ApologyUpModel", name := "nextOf", desc := "(III)I" } : Jvm.MethodName)) ∈ lw_all := lw_g (lw_at lw_m8 101 rfl) rfl
theorem q1911 : (Jvm.Cond.privateMethod ({ cls := "ApologyUpModel", name := "nextOf", desc := "(III)I" } : Jvm.MethodName)) ∈ lw_tbl := lw_at lw_m8 102 rfl
theorem q1912 : (Jvm.Cond.instanceMethod ({ cls := "ApologyUpModel", name := "nextOf", desc := "(III)I" } : Jvm.MethodName)) ∈ lw_all := lw_g (lw_at lw_m8 103 rfl) rfl
theorem q1913 : (Jvm.Cond.code ({ cls := "ApologyUpModel", name := "nextOf", desc := "(III)I" } : Jvm.MethodName) prog_20_method_113_code (6 : Nat) (Option.some Jvm.ClassFile.FieldType.int)) ∈ lw_all := lw_g (lw_at lw_m8 104 rfl) rfl
theorem q1914 : (Jvm.Cond.methodLink "ApologyUpModel" (433 : Nat) ({ cls := "ApologyUpModel", name := "takeWay", desc := "(I)V" } : Jvm.MethodName)) ∈ lw_all := lw_g (lw_at lw_m8 105 rfl) rfl
theorem q1915 : (Jvm.Cond.privateMethod ({ cls := "ApologyUpModel", name := "takeWay", desc := "(I)V" } : Jvm.MethodName)) ∈ lw_tbl := lw_at lw_m8 106 rfl
theorem q1916 : (Jvm.Cond.instanceMethod ({ cls := "ApologyUpModel", name := "takeWay", desc := "(I)V" } : Jvm.MethodName)) ∈ lw_all := lw_g (lw_at lw_m8 107 rfl) rfl
theorem q1917 : (Jvm.Cond.code ({ cls := "ApologyUpModel", name := "takeWay", desc := "(I)V" } : Jvm.MethodName) prog_20_method_115_code (3 : Nat) (Option.none : Option Jvm.ClassFile.FieldType)) ∈ lw_all := lw_g (lw_at lw_m8 108 rfl) rfl
theorem q1918 : (Jvm.Cond.methodLink "ApologyUpModel" (436 : Nat) ({ cls := "ApologyUpModel", name := "sizeBehind", desc := "(IIIII)I" } : Jvm.MethodName)) ∈ lw_all := lw_g (lw_at lw_m8 109 rfl) rfl
theorem q1919 : (Jvm.Cond.privateMethod ({ cls := "ApologyUpModel", name := "sizeBehind", desc := "(IIIII)I" } : Jvm.MethodName)) ∈ lw_tbl := lw_at lw_m8 110 rfl
theorem q1920 : (Jvm.Cond.instanceMethod ({ cls := "ApologyUpModel", name := "sizeBehind", desc := "(IIIII)I" } : Jvm.MethodName)) ∈ lw_all := lw_g (lw_at lw_m8 111 rfl) rfl
theorem q1921 : (Jvm.Cond.code ({ cls := "ApologyUpModel", name := "sizeBehind", desc := "(IIIII)I" } : Jvm.MethodName) prog_20_method_114_code (6 : Nat) (Option.some Jvm.ClassFile.FieldType.int)) ∈ lw_all := lw_g (lw_at lw_m8 112 rfl) rfl
theorem q1923 : (Jvm.Cond.instanceMethod ({ cls := "ApologyUpModel", name := "pile", desc := "(I)I" } : Jvm.MethodName)) ∈ lw_all := lw_g (lw_at lw_m8 114 rfl) rfl
theorem q1924 : (Jvm.Cond.selects "ApologyUpModel" ({ cls := "ApologyUpModel", name := "pile", desc := "(I)I" } : Jvm.MethodName) ({ cls := "ApologyUpModel", name := "pile", desc := "(I)I" } : Jvm.MethodName)) ∈ lw_all := lw_g (lw_at lw_m8 115 rfl) rfl
theorem q1925 : (Jvm.Cond.code ({ cls := "ApologyUpModel", name := "pile", desc := "(I)I" } : Jvm.MethodName) prog_20_method_118_code (2 : Nat) (Option.some Jvm.ClassFile.FieldType.int)) ∈ lw_all := lw_g (lw_at lw_m8 116 rfl) rfl
theorem q1927 : (Jvm.Cond.instanceMethod ({ cls := "ApologyUpModel", name := "piles", desc := "(II)I" } : Jvm.MethodName)) ∈ lw_all := lw_g (lw_at lw_m8 118 rfl) rfl
theorem q1928 : (Jvm.Cond.selects "ApologyUpModel" ({ cls := "ApologyUpModel", name := "piles", desc := "(II)I" } : Jvm.MethodName) ({ cls := "ApologyUpModel", name := "piles", desc := "(II)I" } : Jvm.MethodName)) ∈ lw_all := lw_g (lw_at lw_m8 119 rfl) rfl
theorem q1929 : (Jvm.Cond.code ({ cls := "ApologyUpModel", name := "piles", desc := "(II)I" } : Jvm.MethodName) prog_20_method_120_code (5 : Nat) (Option.some Jvm.ClassFile.FieldType.int)) ∈ lw_all := lw_g (lw_at lw_m8 120 rfl) rfl
theorem q1930 : (Jvm.Cond.methodLink "ApologyUpModel" (446 : Nat) ({ cls := "ApologyUpModel", name := "laySets", desc := "(I)V" } : Jvm.MethodName)) ∈ lw_all := lw_g (lw_at lw_m8 121 rfl) rfl
theorem q1931 : (Jvm.Cond.privateMethod ({ cls := "ApologyUpModel", name := "laySets", desc := "(I)V" } : Jvm.MethodName)) ∈ lw_tbl := lw_at lw_m8 122 rfl
theorem q1932 : (Jvm.Cond.instanceMethod ({ cls := "ApologyUpModel", name := "laySets", desc := "(I)V" } : Jvm.MethodName)) ∈ lw_all := lw_g (lw_at lw_m8 123 rfl) rfl
theorem q1933 : (Jvm.Cond.code ({ cls := "ApologyUpModel", name := "laySets", desc := "(I)V" } : Jvm.MethodName) prog_20_method_119_code (5 : Nat) (Option.none : Option Jvm.ClassFile.FieldType)) ∈ lw_all := lw_g (lw_at lw_m8 124 rfl) rfl
theorem q1935 : (Jvm.Cond.instanceMethod ({ cls := "ApologyUpModel", name := "ask", desc := "(I)I" } : Jvm.MethodName)) ∈ lw_all := lw_g (lw_at lw_m8 126 rfl) rfl
theorem q1936 : (Jvm.Cond.selects "ApologyUpModel" ({ cls := "ApologyUpModel", name := "ask", desc := "(I)I" } : Jvm.MethodName) ({ cls := "ApologyUpModel", name := "ask", desc := "(I)I" } : Jvm.MethodName)) ∈ lw_all := lw_g (lw_at lw_m8 127 rfl) rfl
theorem q1937 : (Jvm.Cond.code ({ cls := "ApologyUpModel", name := "ask", desc := "(I)I" } : Jvm.MethodName) prog_20_method_121_code (6 : Nat) (Option.some Jvm.ClassFile.FieldType.int)) ∈ lw_all := lw_g (lw_at lw_m8 128 rfl) rfl
theorem q1939 : (Jvm.Cond.instanceMethod ({ cls := "ApologyUpModel", name := "orders", desc := "()J" } : Jvm.MethodName)) ∈ lw_all := lw_g (lw_at lw_m8 130 rfl) rfl
theorem q1940 : (Jvm.Cond.selects "ApologyUpModel" ({ cls := "ApologyUpModel", name := "orders", desc := "()J" } : Jvm.MethodName) ({ cls := "ApologyUpModel", name := "orders", desc := "()J" } : Jvm.MethodName)) ∈ lw_all := lw_g (lw_at lw_m8 131 rfl) rfl
theorem q1941 : (Jvm.Cond.code ({ cls := "ApologyUpModel", name := "orders", desc := "()J" } : Jvm.MethodName) prog_20_method_122_code (4 : Nat) (Option.some Jvm.ClassFile.FieldType.long)) ∈ lw_all := lw_g (lw_at lw_m8 132 rfl) rfl
theorem q1942 : (Jvm.Cond.methodLink "ApologyUpModel" (449 : Nat) ({ cls := "ApologyUpModel", name := "bits", desc := "(I)I" } : Jvm.MethodName)) ∈ lw_all := lw_g (lw_at lw_m8 133 rfl) rfl
theorem q1943 : (Jvm.Cond.static ({ cls := "ApologyUpModel", name := "bits", desc := "(I)I" } : Jvm.MethodName)) ∈ lw_all := lw_g (lw_at lw_m8 134 rfl) rfl
theorem q1944 : (Jvm.Cond.code ({ cls := "ApologyUpModel", name := "bits", desc := "(I)I" } : Jvm.MethodName) prog_20_method_6_code (3 : Nat) (Option.some Jvm.ClassFile.FieldType.int)) ∈ lw_all := lw_g (lw_at lw_m8 135 rfl) rfl
theorem q1946 : (Jvm.Cond.instanceMethod ({ cls := "ApologyUpModel", name := "first", desc := "(I)I" } : Jvm.MethodName)) ∈ lw_all := lw_g (lw_at lw_m8 137 rfl) rfl
theorem q1947 : (Jvm.Cond.selects "ApologyUpModel" ({ cls := "ApologyUpModel", name := "first", desc := "(I)I" } : Jvm.MethodName) ({ cls := "ApologyUpModel", name := "first", desc := "(I)I" } : Jvm.MethodName)) ∈ lw_all := lw_g (lw_at lw_m8 138 rfl) rfl
theorem q1948 : (Jvm.Cond.code ({ cls := "ApologyUpModel", name := "first", desc := "(I)I" } : Jvm.MethodName) prog_20_method_123_code (6 : Nat) (Option.some Jvm.ClassFile.FieldType.int)) ∈ lw_all := lw_g (lw_at lw_m8 139 rfl) rfl
theorem q1950 : (Jvm.Cond.instanceMethod ({ cls := "ApologyUpModel", name := "weigh", desc := "(II)Z" } : Jvm.MethodName)) ∈ lw_all := lw_g (lw_at lw_m8 141 rfl) rfl
theorem q1951 : (Jvm.Cond.selects "ApologyUpModel" ({ cls := "ApologyUpModel", name := "weigh", desc := "(II)Z" } : Jvm.MethodName) ({ cls := "ApologyUpModel", name := "weigh", desc := "(II)Z" } : Jvm.MethodName)) ∈ lw_all := lw_g (lw_at lw_m8 142 rfl) rfl
theorem q1952 : (Jvm.Cond.code ({ cls := "ApologyUpModel", name := "weigh", desc := "(II)Z" } : Jvm.MethodName) prog_20_method_124_code (3 : Nat) (Option.some Jvm.ClassFile.FieldType.boolean)) ∈ lw_all := lw_g (lw_at lw_m8 143 rfl) rfl
theorem q1954 : (Jvm.Cond.instanceMethod ({ cls := "ApologyUpModel", name := "apart", desc := "(Z)I" } : Jvm.MethodName)) ∈ lw_all := lw_g (lw_at lw_m8 145 rfl) rfl
theorem q1955 : (Jvm.Cond.selects "ApologyUpModel" ({ cls := "ApologyUpModel", name := "apart", desc := "(Z)I" } : Jvm.MethodName) ({ cls := "ApologyUpModel", name := "apart", desc := "(Z)I" } : Jvm.MethodName)) ∈ lw_all := lw_g (lw_at lw_m8 146 rfl) rfl
theorem q1956 : (Jvm.Cond.code ({ cls := "ApologyUpModel", name := "apart", desc := "(Z)I" } : Jvm.MethodName) prog_20_method_127_code (4 : Nat) (Option.some Jvm.ClassFile.FieldType.int)) ∈ lw_all := lw_g (lw_at lw_m8 147 rfl) rfl
theorem q1957 : (Jvm.Cond.methodLink "ApologyUpModel" (452 : Nat) ({ cls := "ApologyUpModel", name := "weightOf", desc := "(I)I" } : Jvm.MethodName)) ∈ lw_all := lw_g (lw_at lw_m8 148 rfl) rfl
theorem q1958 : (Jvm.Cond.privateMethod ({ cls := "ApologyUpModel", name := "weightOf", desc := "(I)I" } : Jvm.MethodName)) ∈ lw_tbl := lw_at lw_m8 149 rfl
theorem q1959 : (Jvm.Cond.instanceMethod ({ cls := "ApologyUpModel", name := "weightOf", desc := "(I)I" } : Jvm.MethodName)) ∈ lw_all := lw_g (lw_at lw_m8 150 rfl) rfl
theorem q1960 : (Jvm.Cond.code ({ cls := "ApologyUpModel", name := "weightOf", desc := "(I)I" } : Jvm.MethodName) prog_20_method_126_code (4 : Nat) (Option.some Jvm.ClassFile.FieldType.int)) ∈ lw_all := lw_g (lw_at lw_m8 151 rfl) rfl
theorem q1961 : (Jvm.Cond.methodLink "ApologyUpModel" (455 : Nat) ({ cls := "ApologyUpModel", name := "areApart", desc := "(I)Z" } : Jvm.MethodName)) ∈ lw_all := lw_g (lw_at lw_m8 152 rfl) rfl
theorem q1962 : (Jvm.Cond.privateMethod ({ cls := "ApologyUpModel", name := "areApart", desc := "(I)Z" } : Jvm.MethodName)) ∈ lw_tbl := lw_at lw_m8 153 rfl
theorem q1963 : (Jvm.Cond.instanceMethod ({ cls := "ApologyUpModel", name := "areApart", desc := "(I)Z" } : Jvm.MethodName)) ∈ lw_all := lw_g (lw_at lw_m8 154 rfl) rfl
theorem q1964 : (Jvm.Cond.code ({ cls := "ApologyUpModel", name := "areApart", desc := "(I)Z" } : Jvm.MethodName) prog_20_method_125_code (3 : Nat) (Option.some Jvm.ClassFile.FieldType.boolean)) ∈ lw_all := lw_g (lw_at lw_m8 155 rfl) rfl
theorem q1966 : (Jvm.Cond.instanceMethod ({ cls := "ApologyUpModel", name := "middle", desc := "()I" } : Jvm.MethodName)) ∈ lw_all := lw_g (lw_at lw_m8 157 rfl) rfl
theorem q1967 : (Jvm.Cond.selects "ApologyUpModel" ({ cls := "ApologyUpModel", name := "middle", desc := "()I" } : Jvm.MethodName) ({ cls := "ApologyUpModel", name := "middle", desc := "()I" } : Jvm.MethodName)) ∈ lw_all := lw_g (lw_at lw_m8 158 rfl) rfl
theorem q1968 : (Jvm.Cond.code ({ cls := "ApologyUpModel", name := "middle", desc := "()I" } : Jvm.MethodName) prog_20_method_128_code (6 : Nat) (Option.some Jvm.ClassFile.FieldType.int)) ∈ lw_all := lw_g (lw_at lw_m8 159 rfl) rfl
theorem q1970 : (Jvm.Cond.instanceMethod ({ cls := "ApologyUpModel", name := "longest", desc := "(Z)I" } : Jvm.MethodName)) ∈ lw_all := lw_g (lw_at lw_m8 161 rfl) rfl
theorem q1971 : (Jvm.Cond.selects "ApologyUpModel" ({ cls := "ApologyUpModel", name := "longest", desc := "(Z)I" } : Jvm.MethodName) ({ cls := "ApologyUpModel", name := "longest", desc := "(Z)I" } : Jvm.MethodName)) ∈ lw_all := lw_g (lw_at lw_m8 162 rfl) rfl
theorem q1972 : (Jvm.Cond.code ({ cls := "ApologyUpModel", name := "longest", desc := "(Z)I" } : Jvm.MethodName) prog_20_method_129_code (6 : Nat) (Option.some Jvm.ClassFile.FieldType.int)) ∈ lw_all := lw_g (lw_at lw_m8 163 rfl) rfl
theorem q1974 : (Jvm.Cond.instanceMethod ({ cls := "ApologyUpModel", name := "parts", desc := "(I)I" } : Jvm.MethodName)) ∈ lw_all := lw_g (lw_at lw_m8 165 rfl) rfl
theorem q1975 : (Jvm.Cond.selects "ApologyUpModel" ({ cls := "ApologyUpModel", name := "parts", desc := "(I)I" } : Jvm.MethodName) ({ cls := "ApologyUpModel", name := "parts", desc := "(I)I" } : Jvm.MethodName)) ∈ lw_all := lw_g (lw_at lw_m8 166 rfl) rfl
theorem q1976 : (Jvm.Cond.code ({ cls := "ApologyUpModel", name := "parts", desc := "(I)I" } : Jvm.MethodName) prog_20_method_130_code (4 : Nat) (Option.some Jvm.ClassFile.FieldType.int)) ∈ lw_all := lw_g (lw_at lw_m8 167 rfl) rfl
theorem q1978 : (Jvm.Cond.instanceMethod ({ cls := "ApologyUpModel", name := "deputies", desc := "()I" } : Jvm.MethodName)) ∈ lw_all := lw_g (lw_at lw_m8 169 rfl) rfl
theorem q1979 : (Jvm.Cond.selects "ApologyUpModel" ({ cls := "ApologyUpModel", name := "deputies", desc := "()I" } : Jvm.MethodName) ({ cls := "ApologyUpModel", name := "deputies", desc := "()I" } : Jvm.MethodName)) ∈ lw_all := lw_g (lw_at lw_m8 170 rfl) rfl
theorem q1980 : (Jvm.Cond.code ({ cls := "ApologyUpModel", name := "deputies", desc := "()I" } : Jvm.MethodName) prog_20_method_132_code (4 : Nat) (Option.some Jvm.ClassFile.FieldType.int)) ∈ lw_all := lw_g (lw_at lw_m8 171 rfl) rfl
theorem q1981 : (Jvm.Cond.methodLink "ApologyUpModel" (458 : Nat) ({ cls := "ApologyUpModel", name := "standFor", desc := "(I)I" } : Jvm.MethodName)) ∈ lw_all := lw_g (lw_at lw_m8 172 rfl) rfl
theorem q1982 : (Jvm.Cond.privateMethod ({ cls := "ApologyUpModel", name := "standFor", desc := "(I)I" } : Jvm.MethodName)) ∈ lw_tbl := lw_at lw_m8 173 rfl
theorem q1983 : (Jvm.Cond.instanceMethod ({ cls := "ApologyUpModel", name := "standFor", desc := "(I)I" } : Jvm.MethodName)) ∈ lw_all := lw_g (lw_at lw_m8 174 rfl) rfl
theorem q1984 : (Jvm.Cond.code ({ cls := "ApologyUpModel", name := "standFor", desc := "(I)I" } : Jvm.MethodName) prog_20_method_131_code (4 : Nat) (Option.some Jvm.ClassFile.FieldType.int)) ∈ lw_all := lw_g (lw_at lw_m8 175 rfl) rfl
theorem q1986 : (Jvm.Cond.instanceMethod ({ cls := "ApologyUpModel", name := "owes", desc := "(III)Z" } : Jvm.MethodName)) ∈ lw_all := lw_g (lw_at lw_m8 177 rfl) rfl
theorem q1987 : (Jvm.Cond.selects "ApologyUpModel" ({ cls := "ApologyUpModel", name := "owes", desc := "(III)Z" } : Jvm.MethodName) ({ cls := "ApologyUpModel", name := "owes", desc := "(III)Z" } : Jvm.MethodName)) ∈ lw_all := lw_g (lw_at lw_m8 178 rfl) rfl
theorem q1988 : (Jvm.Cond.code ({ cls := "ApologyUpModel", name := "owes", desc := "(III)Z" } : Jvm.MethodName) prog_20_method_133_code (4 : Nat) (Option.some Jvm.ClassFile.FieldType.boolean)) ∈ lw_all := lw_g (lw_at lw_m8 179 rfl) rfl
theorem q1990 : (Jvm.Cond.instanceMethod ({ cls := "ApologyUpModel", name := "play", desc := "(IZ)I" } : Jvm.MethodName)) ∈ lw_all := lw_g (lw_at lw_m8 181 rfl) rfl
theorem q1991 : (Jvm.Cond.selects "ApologyUpModel" ({ cls := "ApologyUpModel", name := "play", desc := "(IZ)I" } : Jvm.MethodName) ({ cls := "ApologyUpModel", name := "play", desc := "(IZ)I" } : Jvm.MethodName)) ∈ lw_all := lw_g (lw_at lw_m8 182 rfl) rfl
theorem q1992 : (Jvm.Cond.code ({ cls := "ApologyUpModel", name := "play", desc := "(IZ)I" } : Jvm.MethodName) prog_20_method_134_code (9 : Nat) (Option.some Jvm.ClassFile.FieldType.int)) ∈ lw_all := lw_g (lw_at lw_m8 183 rfl) rfl
theorem q1994 : (Jvm.Cond.instanceMethod ({ cls := "ApologyUpModel", name := "added", desc := "(II)I" } : Jvm.MethodName)) ∈ lw_all := lw_g (lw_at lw_m8 185 rfl) rfl
theorem q1995 : (Jvm.Cond.selects "ApologyUpModel" ({ cls := "ApologyUpModel", name := "added", desc := "(II)I" } : Jvm.MethodName) ({ cls := "ApologyUpModel", name := "added", desc := "(II)I" } : Jvm.MethodName)) ∈ lw_all := lw_g (lw_at lw_m8 186 rfl) rfl
theorem q1996 : (Jvm.Cond.code ({ cls := "ApologyUpModel", name := "added", desc := "(II)I" } : Jvm.MethodName) prog_20_method_135_code (3 : Nat) (Option.some Jvm.ClassFile.FieldType.int)) ∈ lw_all := lw_g (lw_at lw_m8 187 rfl) rfl
theorem q1998 : (Jvm.Cond.instanceMethod ({ cls := "ApologyUpModel", name := "whose", desc := "()I" } : Jvm.MethodName)) ∈ lw_all := lw_g (lw_at lw_m8 189 rfl) rfl
theorem q1999 : (Jvm.Cond.selects "ApologyUpModel" ({ cls := "ApologyUpModel", name := "whose", desc := "()I" } : Jvm.MethodName) ({ cls := "ApologyUpModel", name := "whose", desc := "()I" } : Jvm.MethodName)) ∈ lw_all := lw_g (lw_at lw_m8 190 rfl) rfl
theorem q2000 : (Jvm.Cond.code ({ cls := "ApologyUpModel", name := "whose", desc := "()I" } : Jvm.MethodName) prog_20_method_136_code (5 : Nat) (Option.some Jvm.ClassFile.FieldType.int)) ∈ lw_all := lw_g (lw_at lw_m8 191 rfl) rfl
theorem q2002 : (Jvm.Cond.instanceMethod ({ cls := "ApologyUpModel", name := "image", desc := "()I" } : Jvm.MethodName)) ∈ lw_all := lw_g (lw_at lw_m8 193 rfl) rfl
theorem q2003 : (Jvm.Cond.selects "ApologyUpModel" ({ cls := "ApologyUpModel", name := "image", desc := "()I" } : Jvm.MethodName) ({ cls := "ApologyUpModel", name := "image", desc := "()I" } : Jvm.MethodName)) ∈ lw_all := lw_g (lw_at lw_m8 194 rfl) rfl
theorem q2004 : (Jvm.Cond.code ({ cls := "ApologyUpModel", name := "image", desc := "()I" } : Jvm.MethodName) prog_20_method_137_code (1 : Nat) (Option.some Jvm.ClassFile.FieldType.int)) ∈ lw_all := lw_g (lw_at lw_m8 195 rfl) rfl
theorem q2006 : (Jvm.Cond.instanceMethod ({ cls := "ApologyUpModel", name := "back", desc := "()I" } : Jvm.MethodName)) ∈ lw_all := lw_g (lw_at lw_m8 197 rfl) rfl
theorem q2007 : (Jvm.Cond.selects "ApologyUpModel" ({ cls := "ApologyUpModel", name := "back", desc := "()I" } : Jvm.MethodName) ({ cls := "ApologyUpModel", name := "back", desc := "()I" } : Jvm.MethodName)) ∈ lw_all := lw_g (lw_at lw_m8 198 rfl) rfl
theorem q2008 : (Jvm.Cond.code ({ cls := "ApologyUpModel", name := "back", desc := "()I" } : Jvm.MethodName) prog_20_method_138_code (1 : Nat) (Option.some Jvm.ClassFile.FieldType.int)) ∈ lw_all := lw_g (lw_at lw_m8 199 rfl) rfl
theorem q2010 : (Jvm.Cond.instanceMethod ({ cls := "ApologyUpModel", name := "about", desc := "(I)I" } : Jvm.MethodName)) ∈ lw_all := lw_g (lw_at lw_m8 201 rfl) rfl
theorem q2011 : (Jvm.Cond.selects "ApologyUpModel" ({ cls := "ApologyUpModel", name := "about", desc := "(I)I" } : Jvm.MethodName) ({ cls := "ApologyUpModel", name := "about", desc := "(I)I" } : Jvm.MethodName)) ∈ lw_all := lw_g (lw_at lw_m8 202 rfl) rfl
theorem q2012 : (Jvm.Cond.code ({ cls := "ApologyUpModel", name := "about", desc := "(I)I" } : Jvm.MethodName) prog_20_method_139_code (2 : Nat) (Option.some Jvm.ClassFile.FieldType.int)) ∈ lw_all := lw_g (lw_at lw_m8 203 rfl) rfl
theorem q2020 : (Jvm.Cond.castable "ApologyUpModel" "java/lang/Object") ∈ lw_tbl := lw_at lw_m8 211 rfl
theorem in_X2 : ∀ w ∈ wsX20, w ∈ lw_all := lw_in wsX20 [1394, 1396, 1398, 1400, 1402, 1404, 1406, 1408, 1410, 1412, 1414, 1416, 1418, 1420, 1422, 1424, 1426, 1428, 1430, 1432, 1434, 1436, 1438, 1440, 1442, 1444, 1446, 1448, 1450, 1452, 1454, 1456, 1458, 1460, 1462] (by decide +kernel) (by decide +kernel)
