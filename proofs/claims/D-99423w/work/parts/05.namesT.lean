/-! ApologyUp$Tokens -/
set_option maxRecDepth 100000
def RX3 : String := "ApologyUp$Tokens"
def TX3 : u_T := fun k => match k with
  | 0 => ("ApologyUp$Tokens", "text", "[B", true)
  | 1 => ("ApologyUp$Tokens", "size", "I", true)
  | 2 => ("ApologyUp$Tokens", "at", "I", false)
  | 3 => ("ApologyUp$Tokens", "token", "I", false)
  | 4 => ("ApologyUp$Tokens", "sort", "I", false)
  | 5 => ("ApologyUp$Tokens", "number", "I", false)
  | 6 => ("ApologyUp$Tokens", "open", "I", false)
  | _ => ("ApologyUp$Tokens", "kind", "I", false)
def tyX3 : Nat → FieldType := fun k => match k with
  | 0 => .array .byte
  | 1 => .int
  | 2 => .int
  | 3 => .int
  | 4 => .int
  | 5 => .int
  | 6 => .int
  | _ => .int
abbrev wsX30 : List Cond := u_ws RX3 TX3 8
theorem nmX3 : ∀ a, a < 8 → ∀ b, b < 8 → a ≠ b → (TX3 a).2.1 ≠ (TX3 b).2.1 := by decide +kernel
theorem tyX3_ok : ∀ k, k < 8 → parseFieldDescriptor (TX3 k).2.2.1 = some (tyX3 k) := by decide +kernel
abbrev cX3_init : ByteArray := prog_17_method_1_code
def yX3_init : MethodName := ⟨RX3, "<init>", "([BI)V"⟩
def dkwX3_init_0 : List UInt8 := [42, 183, 0, 3, 42, 43, 181, 0, 9, 42, 28, 181, 0, 15, 177]
abbrev dktX3_init_0 : List UInt8 := dkwX3_init_0 ++ []
theorem dksX3_init_0 : cX3_init.data.toList.drop 0 = dktX3_init_0 := by decide +kernel
theorem dX3_init_0 : decode cX3_init 0 = .ok (.aload_n 0, 1) := dk_42 (dk_at dksX3_init_0 0 rfl rfl)
theorem dX3_init_1 : decode cX3_init 1 = .ok (.invokespecial 3, 3) := dk_183 0 3 (dk_at dksX3_init_0 1 rfl rfl)
theorem dX3_init_4 : decode cX3_init 4 = .ok (.aload_n 0, 1) := dk_42 (dk_at dksX3_init_0 4 rfl rfl)
theorem dX3_init_5 : decode cX3_init 5 = .ok (.aload_n 1, 1) := dk_43 (dk_at dksX3_init_0 5 rfl rfl)
theorem dX3_init_6 : decode cX3_init 6 = .ok (.putfield 9, 3) := dk_181 0 9 (dk_at dksX3_init_0 6 rfl rfl)
theorem dX3_init_9 : decode cX3_init 9 = .ok (.aload_n 0, 1) := dk_42 (dk_at dksX3_init_0 9 rfl rfl)
theorem dX3_init_10 : decode cX3_init 10 = .ok (.iload_n 2, 1) := dk_28 (dk_at dksX3_init_0 10 rfl rfl)
theorem dX3_init_11 : decode cX3_init 11 = .ok (.putfield 15, 3) := dk_181 0 15 (dk_at dksX3_init_0 11 rfl rfl)
theorem dX3_init_14 : decode cX3_init 14 = .ok (.return_, 1) := dk_177 (dk_at dksX3_init_0 14 rfl rfl)
abbrev cX3_read : ByteArray := prog_17_method_10_code
def yX3_read : MethodName := ⟨RX3, "read", "()LApologyUp$Text;"⟩
def dkwX3_read_7 : List UInt8 := [96, 181, 0, 90, 167, 255, 98, 43, 176]
abbrev dktX3_read_7 : List UInt8 := dkwX3_read_7 ++ []
def dkwX3_read_6 : List UInt8 := [42, 43, 180, 0, 90, 182, 0, 101, 182, 0, 105, 87, 42, 16, 59, 182, 0, 111, 43, 89, 180, 0, 90, 4]
abbrev dktX3_read_6 : List UInt8 := dkwX3_read_6 ++ dktX3_read_7
def dkwX3_read_5 : List UInt8 := [43, 180, 0, 86, 42, 180, 0, 83, 17, 0, 200, 100, 42, 182, 0, 93, 83, 167, 0, 19, 43, 180, 0, 97]
abbrev dktX3_read_5 : List UInt8 := dkwX3_read_5 ++ dktX3_read_6
def dkwX3_read_4 : List UInt8 := [160, 0, 10, 42, 16, 6, 182, 0, 70, 191, 42, 182, 0, 74, 42, 180, 0, 83, 17, 0, 202, 163, 0, 23]
abbrev dktX3_read_4 : List UInt8 := dkwX3_read_4 ++ dktX3_read_5
def dkwX3_read_3 : List UInt8 := [180, 0, 83, 17, 0, 200, 100, 50, 198, 0, 9, 42, 7, 182, 0, 70, 191, 43, 180, 0, 90, 16, 24]
abbrev dktX3_read_3 : List UInt8 := dkwX3_read_3 ++ dktX3_read_4
def dkwX3_read_2 : List UInt8 := [191, 42, 42, 180, 0, 25, 181, 0, 83, 42, 180, 0, 83, 17, 0, 202, 163, 0, 25, 43, 180, 0, 86, 42]
abbrev dktX3_read_2 : List UInt8 := dkwX3_read_2 ++ dktX3_read_3
def dkwX3_read_1 : List UInt8 := [180, 0, 25, 17, 0, 200, 161, 0, 13, 42, 180, 0, 25, 17, 0, 208, 164, 0, 9, 42, 4, 182, 0, 70]
abbrev dktX3_read_1 : List UInt8 := dkwX3_read_1 ++ dktX3_read_2
def dkwX3_read_0 : List UInt8 := [187, 0, 80, 89, 183, 0, 82, 76, 42, 182, 0, 74, 42, 180, 0, 25, 17, 1, 45, 159, 0, 154, 42]
abbrev dktX3_read_0 : List UInt8 := dkwX3_read_0 ++ dktX3_read_1
theorem dksX3_read_0 : cX3_read.data.toList.drop 0 = dktX3_read_0 := by decide +kernel
theorem dksX3_read_1 : cX3_read.data.toList.drop 23 = dktX3_read_1 := dk_seg dksX3_read_0 23 rfl rfl
theorem dksX3_read_2 : cX3_read.data.toList.drop 47 = dktX3_read_2 := dk_seg dksX3_read_1 24 rfl rfl
theorem dksX3_read_3 : cX3_read.data.toList.drop 71 = dktX3_read_3 := dk_seg dksX3_read_2 24 rfl rfl
theorem dksX3_read_4 : cX3_read.data.toList.drop 94 = dktX3_read_4 := dk_seg dksX3_read_3 23 rfl rfl
theorem dksX3_read_5 : cX3_read.data.toList.drop 118 = dktX3_read_5 := dk_seg dksX3_read_4 24 rfl rfl
theorem dksX3_read_6 : cX3_read.data.toList.drop 142 = dktX3_read_6 := dk_seg dksX3_read_5 24 rfl rfl
theorem dksX3_read_7 : cX3_read.data.toList.drop 166 = dktX3_read_7 := dk_seg dksX3_read_6 24 rfl rfl
theorem dX3_read_0 : decode cX3_read 0 = .ok (.new 80, 3) := dk_187 0 80 (dk_at dksX3_read_0 0 rfl rfl)
theorem dX3_read_3 : decode cX3_read 3 = .ok (.dup, 1) := dk_89 (dk_at dksX3_read_0 3 rfl rfl)
theorem dX3_read_4 : decode cX3_read 4 = .ok (.invokespecial 82, 3) := dk_183 0 82 (dk_at dksX3_read_0 4 rfl rfl)
theorem dX3_read_7 : decode cX3_read 7 = .ok (.astore_n 1, 1) := dk_76 (dk_at dksX3_read_0 7 rfl rfl)
theorem dX3_read_8 : decode cX3_read 8 = .ok (.aload_n 0, 1) := dk_42 (dk_at dksX3_read_0 8 rfl rfl)
theorem dX3_read_9 : decode cX3_read 9 = .ok (.invokevirtual 74, 3) := dk_182 0 74 (dk_at dksX3_read_0 9 rfl rfl)
theorem dX3_read_12 : decode cX3_read 12 = .ok (.aload_n 0, 1) := dk_42 (dk_at dksX3_read_0 12 rfl rfl)
theorem dX3_read_13 : decode cX3_read 13 = .ok (.getfield 25, 3) := dk_180 0 25 (dk_at dksX3_read_0 13 rfl rfl)
theorem dX3_read_16 : decode cX3_read 16 = .ok (.sipush 301, 3) := dk_17 1 45 (dk_at dksX3_read_0 16 rfl rfl)
theorem dX3_read_19 : decode cX3_read 19 = .ok (.if_icmp .eq 154, 3) := dk_159 0 154 (dk_at dksX3_read_0 19 rfl rfl)
theorem dX3_read_22 : decode cX3_read 22 = .ok (.aload_n 0, 1) := dk_42 (dk_at dksX3_read_0 22 rfl rfl)
theorem dX3_read_23 : decode cX3_read 23 = .ok (.getfield 25, 3) := dk_180 0 25 (dk_at dksX3_read_1 0 rfl rfl)
theorem dX3_read_26 : decode cX3_read 26 = .ok (.sipush 200, 3) := dk_17 0 200 (dk_at dksX3_read_1 3 rfl rfl)
theorem dX3_read_29 : decode cX3_read 29 = .ok (.if_icmp .lt 13, 3) := dk_161 0 13 (dk_at dksX3_read_1 6 rfl rfl)
theorem dX3_read_32 : decode cX3_read 32 = .ok (.aload_n 0, 1) := dk_42 (dk_at dksX3_read_1 9 rfl rfl)
theorem dX3_read_33 : decode cX3_read 33 = .ok (.getfield 25, 3) := dk_180 0 25 (dk_at dksX3_read_1 10 rfl rfl)
theorem dX3_read_36 : decode cX3_read 36 = .ok (.sipush 208, 3) := dk_17 0 208 (dk_at dksX3_read_1 13 rfl rfl)
theorem dX3_read_39 : decode cX3_read 39 = .ok (.if_icmp .le 9, 3) := dk_164 0 9 (dk_at dksX3_read_1 16 rfl rfl)
theorem dX3_read_42 : decode cX3_read 42 = .ok (.aload_n 0, 1) := dk_42 (dk_at dksX3_read_1 19 rfl rfl)
theorem dX3_read_43 : decode cX3_read 43 = .ok (.iconst 1, 1) := dk_4 (dk_at dksX3_read_1 20 rfl rfl)
theorem dX3_read_44 : decode cX3_read 44 = .ok (.invokevirtual 70, 3) := dk_182 0 70 (dk_at dksX3_read_1 21 rfl rfl)
theorem dX3_read_47 : decode cX3_read 47 = .ok (.athrow, 1) := dk_191 (dk_at dksX3_read_2 0 rfl rfl)
theorem dX3_read_48 : decode cX3_read 48 = .ok (.aload_n 0, 1) := dk_42 (dk_at dksX3_read_2 1 rfl rfl)
theorem dX3_read_49 : decode cX3_read 49 = .ok (.aload_n 0, 1) := dk_42 (dk_at dksX3_read_2 2 rfl rfl)
theorem dX3_read_50 : decode cX3_read 50 = .ok (.getfield 25, 3) := dk_180 0 25 (dk_at dksX3_read_2 3 rfl rfl)
theorem dX3_read_53 : decode cX3_read 53 = .ok (.putfield 83, 3) := dk_181 0 83 (dk_at dksX3_read_2 6 rfl rfl)
theorem dX3_read_56 : decode cX3_read 56 = .ok (.aload_n 0, 1) := dk_42 (dk_at dksX3_read_2 9 rfl rfl)
theorem dX3_read_57 : decode cX3_read 57 = .ok (.getfield 83, 3) := dk_180 0 83 (dk_at dksX3_read_2 10 rfl rfl)
theorem dX3_read_60 : decode cX3_read 60 = .ok (.sipush 202, 3) := dk_17 0 202 (dk_at dksX3_read_2 13 rfl rfl)
theorem dX3_read_63 : decode cX3_read 63 = .ok (.if_icmp .gt 25, 3) := dk_163 0 25 (dk_at dksX3_read_2 16 rfl rfl)
theorem dX3_read_66 : decode cX3_read 66 = .ok (.aload_n 1, 1) := dk_43 (dk_at dksX3_read_2 19 rfl rfl)
theorem dX3_read_67 : decode cX3_read 67 = .ok (.getfield 86, 3) := dk_180 0 86 (dk_at dksX3_read_2 20 rfl rfl)
theorem dX3_read_70 : decode cX3_read 70 = .ok (.aload_n 0, 1) := dk_42 (dk_at dksX3_read_2 23 rfl rfl)
theorem dX3_read_71 : decode cX3_read 71 = .ok (.getfield 83, 3) := dk_180 0 83 (dk_at dksX3_read_3 0 rfl rfl)
theorem dX3_read_74 : decode cX3_read 74 = .ok (.sipush 200, 3) := dk_17 0 200 (dk_at dksX3_read_3 3 rfl rfl)
theorem dX3_read_77 : decode cX3_read 77 = .ok (.isub, 1) := dk_100 (dk_at dksX3_read_3 6 rfl rfl)
theorem dX3_read_78 : decode cX3_read 78 = .ok (.aaload, 1) := dk_50 (dk_at dksX3_read_3 7 rfl rfl)
theorem dX3_read_79 : decode cX3_read 79 = .ok (.ifnull 9, 3) := dk_198 0 9 (dk_at dksX3_read_3 8 rfl rfl)
theorem dX3_read_82 : decode cX3_read 82 = .ok (.aload_n 0, 1) := dk_42 (dk_at dksX3_read_3 11 rfl rfl)
theorem dX3_read_83 : decode cX3_read 83 = .ok (.iconst 4, 1) := dk_7 (dk_at dksX3_read_3 12 rfl rfl)
theorem dX3_read_84 : decode cX3_read 84 = .ok (.invokevirtual 70, 3) := dk_182 0 70 (dk_at dksX3_read_3 13 rfl rfl)
theorem dX3_read_87 : decode cX3_read 87 = .ok (.athrow, 1) := dk_191 (dk_at dksX3_read_3 16 rfl rfl)
theorem dX3_read_88 : decode cX3_read 88 = .ok (.aload_n 1, 1) := dk_43 (dk_at dksX3_read_3 17 rfl rfl)
theorem dX3_read_89 : decode cX3_read 89 = .ok (.getfield 90, 3) := dk_180 0 90 (dk_at dksX3_read_3 18 rfl rfl)
theorem dX3_read_92 : decode cX3_read 92 = .ok (.bipush 24, 2) := dk_16 24 (dk_at dksX3_read_3 21 rfl rfl)
theorem dX3_read_94 : decode cX3_read 94 = .ok (.if_icmp .ne 10, 3) := dk_160 0 10 (dk_at dksX3_read_4 0 rfl rfl)
theorem dX3_read_97 : decode cX3_read 97 = .ok (.aload_n 0, 1) := dk_42 (dk_at dksX3_read_4 3 rfl rfl)
theorem dX3_read_98 : decode cX3_read 98 = .ok (.bipush 6, 2) := dk_16 6 (dk_at dksX3_read_4 4 rfl rfl)
theorem dX3_read_100 : decode cX3_read 100 = .ok (.invokevirtual 70, 3) := dk_182 0 70 (dk_at dksX3_read_4 6 rfl rfl)
theorem dX3_read_103 : decode cX3_read 103 = .ok (.athrow, 1) := dk_191 (dk_at dksX3_read_4 9 rfl rfl)
theorem dX3_read_104 : decode cX3_read 104 = .ok (.aload_n 0, 1) := dk_42 (dk_at dksX3_read_4 10 rfl rfl)
theorem dX3_read_105 : decode cX3_read 105 = .ok (.invokevirtual 74, 3) := dk_182 0 74 (dk_at dksX3_read_4 11 rfl rfl)
theorem dX3_read_108 : decode cX3_read 108 = .ok (.aload_n 0, 1) := dk_42 (dk_at dksX3_read_4 14 rfl rfl)
theorem dX3_read_109 : decode cX3_read 109 = .ok (.getfield 83, 3) := dk_180 0 83 (dk_at dksX3_read_4 15 rfl rfl)
theorem dX3_read_112 : decode cX3_read 112 = .ok (.sipush 202, 3) := dk_17 0 202 (dk_at dksX3_read_4 18 rfl rfl)
theorem dX3_read_115 : decode cX3_read 115 = .ok (.if_icmp .gt 23, 3) := dk_163 0 23 (dk_at dksX3_read_4 21 rfl rfl)
theorem dX3_read_118 : decode cX3_read 118 = .ok (.aload_n 1, 1) := dk_43 (dk_at dksX3_read_5 0 rfl rfl)
theorem dX3_read_119 : decode cX3_read 119 = .ok (.getfield 86, 3) := dk_180 0 86 (dk_at dksX3_read_5 1 rfl rfl)
theorem dX3_read_122 : decode cX3_read 122 = .ok (.aload_n 0, 1) := dk_42 (dk_at dksX3_read_5 4 rfl rfl)
theorem dX3_read_123 : decode cX3_read 123 = .ok (.getfield 83, 3) := dk_180 0 83 (dk_at dksX3_read_5 5 rfl rfl)
theorem dX3_read_126 : decode cX3_read 126 = .ok (.sipush 200, 3) := dk_17 0 200 (dk_at dksX3_read_5 8 rfl rfl)
theorem dX3_read_129 : decode cX3_read 129 = .ok (.isub, 1) := dk_100 (dk_at dksX3_read_5 11 rfl rfl)
theorem dX3_read_130 : decode cX3_read 130 = .ok (.aload_n 0, 1) := dk_42 (dk_at dksX3_read_5 12 rfl rfl)
theorem dX3_read_131 : decode cX3_read 131 = .ok (.invokevirtual 93, 3) := dk_182 0 93 (dk_at dksX3_read_5 13 rfl rfl)
theorem dX3_read_134 : decode cX3_read 134 = .ok (.aastore, 1) := dk_83 (dk_at dksX3_read_5 16 rfl rfl)
theorem dX3_read_135 : decode cX3_read 135 = .ok (.goto 19, 3) := dk_167 0 19 (dk_at dksX3_read_5 17 rfl rfl)
theorem dX3_read_138 : decode cX3_read 138 = .ok (.aload_n 1, 1) := dk_43 (dk_at dksX3_read_5 20 rfl rfl)
theorem dX3_read_139 : decode cX3_read 139 = .ok (.getfield 97, 3) := dk_180 0 97 (dk_at dksX3_read_5 21 rfl rfl)
theorem dX3_read_142 : decode cX3_read 142 = .ok (.aload_n 0, 1) := dk_42 (dk_at dksX3_read_6 0 rfl rfl)
theorem dX3_read_143 : decode cX3_read 143 = .ok (.aload_n 1, 1) := dk_43 (dk_at dksX3_read_6 1 rfl rfl)
theorem dX3_read_144 : decode cX3_read 144 = .ok (.getfield 90, 3) := dk_180 0 90 (dk_at dksX3_read_6 2 rfl rfl)
theorem dX3_read_147 : decode cX3_read 147 = .ok (.invokevirtual 101, 3) := dk_182 0 101 (dk_at dksX3_read_6 5 rfl rfl)
theorem dX3_read_150 : decode cX3_read 150 = .ok (.invokevirtual 105, 3) := dk_182 0 105 (dk_at dksX3_read_6 8 rfl rfl)
theorem dX3_read_153 : decode cX3_read 153 = .ok (.pop, 1) := dk_87 (dk_at dksX3_read_6 11 rfl rfl)
theorem dX3_read_154 : decode cX3_read 154 = .ok (.aload_n 0, 1) := dk_42 (dk_at dksX3_read_6 12 rfl rfl)
theorem dX3_read_155 : decode cX3_read 155 = .ok (.bipush 59, 2) := dk_16 59 (dk_at dksX3_read_6 13 rfl rfl)
theorem dX3_read_157 : decode cX3_read 157 = .ok (.invokevirtual 111, 3) := dk_182 0 111 (dk_at dksX3_read_6 15 rfl rfl)
theorem dX3_read_160 : decode cX3_read 160 = .ok (.aload_n 1, 1) := dk_43 (dk_at dksX3_read_6 18 rfl rfl)
theorem dX3_read_161 : decode cX3_read 161 = .ok (.dup, 1) := dk_89 (dk_at dksX3_read_6 19 rfl rfl)
theorem dX3_read_162 : decode cX3_read 162 = .ok (.getfield 90, 3) := dk_180 0 90 (dk_at dksX3_read_6 20 rfl rfl)
theorem dX3_read_165 : decode cX3_read 165 = .ok (.iconst 1, 1) := dk_4 (dk_at dksX3_read_6 23 rfl rfl)
theorem dX3_read_166 : decode cX3_read 166 = .ok (.iadd, 1) := dk_96 (dk_at dksX3_read_7 0 rfl rfl)
theorem dX3_read_167 : decode cX3_read 167 = .ok (.putfield 90, 3) := dk_181 0 90 (dk_at dksX3_read_7 1 rfl rfl)
theorem dX3_read_170 : decode cX3_read 170 = .ok (.goto (-158), 3) := dk_167 255 98 (dk_at dksX3_read_7 4 rfl rfl)
theorem dX3_read_173 : decode cX3_read 173 = .ok (.aload_n 1, 1) := dk_43 (dk_at dksX3_read_7 7 rfl rfl)
theorem dX3_read_174 : decode cX3_read 174 = .ok (.areturn, 1) := dk_176 (dk_at dksX3_read_7 8 rfl rfl)
abbrev cX3_next : ByteArray := prog_17_method_4_code
def yX3_next : MethodName := ⟨RX3, "next", "()V"⟩
def dkwX3_next_17 : List UInt8 := [4, 96, 181, 0, 19, 177]
abbrev dktX3_next_17 : List UInt8 := dkwX3_next_17 ++ []
def dkwX3_next_16 : List UInt8 := [42, 27, 16, 60, 160, 0, 9, 17, 1, 47, 167, 0, 6, 17, 1, 48, 181, 0, 25, 42, 89, 180, 0, 19]
abbrev dktX3_next_16 : List UInt8 := dkwX3_next_16 ++ dktX3_next_17
def dkwX3_next_15 : List UInt8 := [180, 0, 19, 42, 180, 0, 15, 162, 0, 46, 42, 180, 0, 9, 42, 180, 0, 19, 51, 16, 61, 160, 0, 32]
abbrev dktX3_next_15 : List UInt8 := dkwX3_next_15 ++ dktX3_next_16
def dkwX3_next_14 : List UInt8 := [42, 27, 181, 0, 25, 132, 2, 1, 167, 255, 229, 27, 16, 60, 159, 0, 9, 27, 16, 62, 160, 0, 57, 42]
abbrev dktX3_next_14 : List UInt8 := dkwX3_next_14 ++ dktX3_next_15
def dkwX3_next_13 : List UInt8 := [181, 0, 25, 3, 61, 28, 18, 53, 182, 0, 55, 162, 0, 24, 18, 53, 28, 182, 0, 61, 27, 160, 0, 8]
abbrev dktX3_next_13 : List UInt8 := dkwX3_next_13 ++ dktX3_next_14
def dkwX3_next_12 : List UInt8 := [42, 180, 0, 9, 42, 180, 0, 19, 51, 60, 42, 89, 180, 0, 19, 4, 96, 181, 0, 19, 42, 17, 1, 46]
abbrev dktX3_next_12 : List UInt8 := dkwX3_next_12 ++ dktX3_next_13
def dkwX3_next_11 : List UInt8 := [51, 96, 16, 48, 100, 184, 0, 47, 181, 0, 43, 42, 89, 180, 0, 19, 4, 96, 181, 0, 19, 167, 255, 191]
abbrev dktX3_next_11 : List UInt8 := dkwX3_next_11 ++ dktX3_next_12
def dkwX3_next_10 : List UInt8 := [184, 0, 40, 153, 0, 170, 42, 18, 46, 16, 10, 42, 180, 0, 43, 104, 42, 180, 0, 9, 42, 180, 0, 19]
abbrev dktX3_next_10 : List UInt8 := dkwX3_next_10 ++ dktX3_next_11
def dkwX3_next_9 : List UInt8 := [181, 0, 43, 42, 180, 0, 19, 42, 180, 0, 15, 162, 0, 185, 42, 180, 0, 9, 42, 180, 0, 19, 51]
abbrev dktX3_next_9 : List UInt8 := dkwX3_next_9 ++ dktX3_next_10
def dkwX3_next_8 : List UInt8 := [42, 180, 0, 9, 42, 180, 0, 19, 51, 184, 0, 40, 153, 0, 83, 42, 17, 1, 44, 181, 0, 25, 42, 3]
abbrev dktX3_next_8 : List UInt8 := dkwX3_next_8 ++ dktX3_next_9
def dkwX3_next_7 : List UInt8 := [182, 0, 36, 153, 0, 12, 42, 17, 0, 200, 27, 96, 181, 0, 25, 132, 1, 1, 167, 255, 224, 167, 0, 223]
abbrev dktX3_next_7 : List UInt8 := dkwX3_next_7 ++ dktX3_next_8
def dkwX3_next_6 : List UInt8 := [17, 1, 46, 181, 0, 25, 3, 60, 27, 178, 0, 32, 190, 162, 0, 30, 42, 178, 0, 32, 27, 50]
abbrev dktX3_next_6 : List UInt8 := dkwX3_next_6 ++ dktX3_next_7
def dkwX3_next_5 : List UInt8 := [180, 0, 19, 51, 184, 0, 28, 153, 0, 16, 42, 89, 180, 0, 19, 4, 96, 181, 0, 19, 167, 255, 220, 42]
abbrev dktX3_next_5 : List UInt8 := dkwX3_next_5 ++ dktX3_next_6
def dkwX3_next_4 : List UInt8 := [184, 0, 28, 153, 0, 89, 42, 180, 0, 19, 42, 180, 0, 15, 162, 0, 31, 42, 180, 0, 9, 42]
abbrev dktX3_next_4 : List UInt8 := dkwX3_next_4 ++ dktX3_next_5
def dkwX3_next_3 : List UInt8 := [160, 0, 13, 42, 17, 1, 45, 181, 0, 25, 167, 1, 68, 42, 180, 0, 9, 42, 180, 0, 19, 51]
abbrev dktX3_next_3 : List UInt8 := dkwX3_next_3 ++ dktX3_next_4
def dkwX3_next_2 : List UInt8 := [181, 0, 19, 167, 255, 207, 42, 42, 180, 0, 19, 181, 0, 22, 42, 180, 0, 19, 42, 180, 0, 15]
abbrev dktX3_next_2 : List UInt8 := dkwX3_next_2 ++ dktX3_next_3
def dkwX3_next_1 : List UInt8 := [159, 0, 17, 42, 180, 0, 9, 42, 180, 0, 19, 51, 16, 10, 160, 0, 16, 42, 89, 180, 0, 19, 4, 96]
abbrev dktX3_next_1 : List UInt8 := dkwX3_next_1 ++ dktX3_next_2
def dkwX3_next_0 : List UInt8 := [42, 180, 0, 19, 42, 180, 0, 15, 162, 0, 44, 42, 180, 0, 9, 42, 180, 0, 19, 51, 16, 32]
abbrev dktX3_next_0 : List UInt8 := dkwX3_next_0 ++ dktX3_next_1
theorem dksX3_next_0 : cX3_next.data.toList.drop 0 = dktX3_next_0 := by decide +kernel
theorem dksX3_next_1 : cX3_next.data.toList.drop 22 = dktX3_next_1 := dk_seg dksX3_next_0 22 rfl rfl
theorem dksX3_next_2 : cX3_next.data.toList.drop 46 = dktX3_next_2 := dk_seg dksX3_next_1 24 rfl rfl
theorem dksX3_next_3 : cX3_next.data.toList.drop 68 = dktX3_next_3 := dk_seg dksX3_next_2 22 rfl rfl
theorem dksX3_next_4 : cX3_next.data.toList.drop 90 = dktX3_next_4 := dk_seg dksX3_next_3 22 rfl rfl
theorem dksX3_next_5 : cX3_next.data.toList.drop 112 = dktX3_next_5 := dk_seg dksX3_next_4 22 rfl rfl
theorem dksX3_next_6 : cX3_next.data.toList.drop 136 = dktX3_next_6 := dk_seg dksX3_next_5 24 rfl rfl
theorem dksX3_next_7 : cX3_next.data.toList.drop 158 = dktX3_next_7 := dk_seg dksX3_next_6 22 rfl rfl
theorem dksX3_next_8 : cX3_next.data.toList.drop 182 = dktX3_next_8 := dk_seg dksX3_next_7 24 rfl rfl
theorem dksX3_next_9 : cX3_next.data.toList.drop 206 = dktX3_next_9 := dk_seg dksX3_next_8 24 rfl rfl
theorem dksX3_next_10 : cX3_next.data.toList.drop 229 = dktX3_next_10 := dk_seg dksX3_next_9 23 rfl rfl
theorem dksX3_next_11 : cX3_next.data.toList.drop 253 = dktX3_next_11 := dk_seg dksX3_next_10 24 rfl rfl
theorem dksX3_next_12 : cX3_next.data.toList.drop 277 = dktX3_next_12 := dk_seg dksX3_next_11 24 rfl rfl
theorem dksX3_next_13 : cX3_next.data.toList.drop 301 = dktX3_next_13 := dk_seg dksX3_next_12 24 rfl rfl
theorem dksX3_next_14 : cX3_next.data.toList.drop 325 = dktX3_next_14 := dk_seg dksX3_next_13 24 rfl rfl
theorem dksX3_next_15 : cX3_next.data.toList.drop 349 = dktX3_next_15 := dk_seg dksX3_next_14 24 rfl rfl
theorem dksX3_next_16 : cX3_next.data.toList.drop 373 = dktX3_next_16 := dk_seg dksX3_next_15 24 rfl rfl
theorem dksX3_next_17 : cX3_next.data.toList.drop 397 = dktX3_next_17 := dk_seg dksX3_next_16 24 rfl rfl
theorem dX3_next_0 : decode cX3_next 0 = .ok (.aload_n 0, 1) := dk_42 (dk_at dksX3_next_0 0 rfl rfl)
theorem dX3_next_1 : decode cX3_next 1 = .ok (.getfield 19, 3) := dk_180 0 19 (dk_at dksX3_next_0 1 rfl rfl)
theorem dX3_next_4 : decode cX3_next 4 = .ok (.aload_n 0, 1) := dk_42 (dk_at dksX3_next_0 4 rfl rfl)
theorem dX3_next_5 : decode cX3_next 5 = .ok (.getfield 15, 3) := dk_180 0 15 (dk_at dksX3_next_0 5 rfl rfl)
theorem dX3_next_8 : decode cX3_next 8 = .ok (.if_icmp .ge 44, 3) := dk_162 0 44 (dk_at dksX3_next_0 8 rfl rfl)
theorem dX3_next_11 : decode cX3_next 11 = .ok (.aload_n 0, 1) := dk_42 (dk_at dksX3_next_0 11 rfl rfl)
theorem dX3_next_12 : decode cX3_next 12 = .ok (.getfield 9, 3) := dk_180 0 9 (dk_at dksX3_next_0 12 rfl rfl)
theorem dX3_next_15 : decode cX3_next 15 = .ok (.aload_n 0, 1) := dk_42 (dk_at dksX3_next_0 15 rfl rfl)
theorem dX3_next_16 : decode cX3_next 16 = .ok (.getfield 19, 3) := dk_180 0 19 (dk_at dksX3_next_0 16 rfl rfl)
theorem dX3_next_19 : decode cX3_next 19 = .ok (.baload, 1) := dk_51 (dk_at dksX3_next_0 19 rfl rfl)
theorem dX3_next_20 : decode cX3_next 20 = .ok (.bipush 32, 2) := dk_16 32 (dk_at dksX3_next_0 20 rfl rfl)
theorem dX3_next_22 : decode cX3_next 22 = .ok (.if_icmp .eq 17, 3) := dk_159 0 17 (dk_at dksX3_next_1 0 rfl rfl)
theorem dX3_next_25 : decode cX3_next 25 = .ok (.aload_n 0, 1) := dk_42 (dk_at dksX3_next_1 3 rfl rfl)
theorem dX3_next_26 : decode cX3_next 26 = .ok (.getfield 9, 3) := dk_180 0 9 (dk_at dksX3_next_1 4 rfl rfl)
theorem dX3_next_29 : decode cX3_next 29 = .ok (.aload_n 0, 1) := dk_42 (dk_at dksX3_next_1 7 rfl rfl)
theorem dX3_next_30 : decode cX3_next 30 = .ok (.getfield 19, 3) := dk_180 0 19 (dk_at dksX3_next_1 8 rfl rfl)
theorem dX3_next_33 : decode cX3_next 33 = .ok (.baload, 1) := dk_51 (dk_at dksX3_next_1 11 rfl rfl)
theorem dX3_next_34 : decode cX3_next 34 = .ok (.bipush 10, 2) := dk_16 10 (dk_at dksX3_next_1 12 rfl rfl)
theorem dX3_next_36 : decode cX3_next 36 = .ok (.if_icmp .ne 16, 3) := dk_160 0 16 (dk_at dksX3_next_1 14 rfl rfl)
theorem dX3_next_39 : decode cX3_next 39 = .ok (.aload_n 0, 1) := dk_42 (dk_at dksX3_next_1 17 rfl rfl)
theorem dX3_next_40 : decode cX3_next 40 = .ok (.dup, 1) := dk_89 (dk_at dksX3_next_1 18 rfl rfl)
theorem dX3_next_41 : decode cX3_next 41 = .ok (.getfield 19, 3) := dk_180 0 19 (dk_at dksX3_next_1 19 rfl rfl)
theorem dX3_next_44 : decode cX3_next 44 = .ok (.iconst 1, 1) := dk_4 (dk_at dksX3_next_1 22 rfl rfl)
theorem dX3_next_45 : decode cX3_next 45 = .ok (.iadd, 1) := dk_96 (dk_at dksX3_next_1 23 rfl rfl)
theorem dX3_next_46 : decode cX3_next 46 = .ok (.putfield 19, 3) := dk_181 0 19 (dk_at dksX3_next_2 0 rfl rfl)
theorem dX3_next_49 : decode cX3_next 49 = .ok (.goto (-49), 3) := dk_167 255 207 (dk_at dksX3_next_2 3 rfl rfl)
theorem dX3_next_52 : decode cX3_next 52 = .ok (.aload_n 0, 1) := dk_42 (dk_at dksX3_next_2 6 rfl rfl)
theorem dX3_next_53 : decode cX3_next 53 = .ok (.aload_n 0, 1) := dk_42 (dk_at dksX3_next_2 7 rfl rfl)
theorem dX3_next_54 : decode cX3_next 54 = .ok (.getfield 19, 3) := dk_180 0 19 (dk_at dksX3_next_2 8 rfl rfl)
theorem dX3_next_57 : decode cX3_next 57 = .ok (.putfield 22, 3) := dk_181 0 22 (dk_at dksX3_next_2 11 rfl rfl)
theorem dX3_next_60 : decode cX3_next 60 = .ok (.aload_n 0, 1) := dk_42 (dk_at dksX3_next_2 14 rfl rfl)
theorem dX3_next_61 : decode cX3_next 61 = .ok (.getfield 19, 3) := dk_180 0 19 (dk_at dksX3_next_2 15 rfl rfl)
theorem dX3_next_64 : decode cX3_next 64 = .ok (.aload_n 0, 1) := dk_42 (dk_at dksX3_next_2 18 rfl rfl)
theorem dX3_next_65 : decode cX3_next 65 = .ok (.getfield 15, 3) := dk_180 0 15 (dk_at dksX3_next_2 19 rfl rfl)
theorem dX3_next_68 : decode cX3_next 68 = .ok (.if_icmp .ne 13, 3) := dk_160 0 13 (dk_at dksX3_next_3 0 rfl rfl)
theorem dX3_next_71 : decode cX3_next 71 = .ok (.aload_n 0, 1) := dk_42 (dk_at dksX3_next_3 3 rfl rfl)
theorem dX3_next_72 : decode cX3_next 72 = .ok (.sipush 301, 3) := dk_17 1 45 (dk_at dksX3_next_3 4 rfl rfl)
theorem dX3_next_75 : decode cX3_next 75 = .ok (.putfield 25, 3) := dk_181 0 25 (dk_at dksX3_next_3 7 rfl rfl)
theorem dX3_next_78 : decode cX3_next 78 = .ok (.goto 324, 3) := dk_167 1 68 (dk_at dksX3_next_3 10 rfl rfl)
theorem dX3_next_81 : decode cX3_next 81 = .ok (.aload_n 0, 1) := dk_42 (dk_at dksX3_next_3 13 rfl rfl)
theorem dX3_next_82 : decode cX3_next 82 = .ok (.getfield 9, 3) := dk_180 0 9 (dk_at dksX3_next_3 14 rfl rfl)
theorem dX3_next_85 : decode cX3_next 85 = .ok (.aload_n 0, 1) := dk_42 (dk_at dksX3_next_3 17 rfl rfl)
theorem dX3_next_86 : decode cX3_next 86 = .ok (.getfield 19, 3) := dk_180 0 19 (dk_at dksX3_next_3 18 rfl rfl)
theorem dX3_next_89 : decode cX3_next 89 = .ok (.baload, 1) := dk_51 (dk_at dksX3_next_3 21 rfl rfl)
theorem dX3_next_90 : decode cX3_next 90 = .ok (.invokestatic 28, 3) := dk_184 0 28 (dk_at dksX3_next_4 0 rfl rfl)
theorem dX3_next_93 : decode cX3_next 93 = .ok (.ifCond .eq 89, 3) := dk_153 0 89 (dk_at dksX3_next_4 3 rfl rfl)
theorem dX3_next_96 : decode cX3_next 96 = .ok (.aload_n 0, 1) := dk_42 (dk_at dksX3_next_4 6 rfl rfl)
theorem dX3_next_97 : decode cX3_next 97 = .ok (.getfield 19, 3) := dk_180 0 19 (dk_at dksX3_next_4 7 rfl rfl)
theorem dX3_next_100 : decode cX3_next 100 = .ok (.aload_n 0, 1) := dk_42 (dk_at dksX3_next_4 10 rfl rfl)
theorem dX3_next_101 : decode cX3_next 101 = .ok (.getfield 15, 3) := dk_180 0 15 (dk_at dksX3_next_4 11 rfl rfl)
theorem dX3_next_104 : decode cX3_next 104 = .ok (.if_icmp .ge 31, 3) := dk_162 0 31 (dk_at dksX3_next_4 14 rfl rfl)
theorem dX3_next_107 : decode cX3_next 107 = .ok (.aload_n 0, 1) := dk_42 (dk_at dksX3_next_4 17 rfl rfl)
theorem dX3_next_108 : decode cX3_next 108 = .ok (.getfield 9, 3) := dk_180 0 9 (dk_at dksX3_next_4 18 rfl rfl)
theorem dX3_next_111 : decode cX3_next 111 = .ok (.aload_n 0, 1) := dk_42 (dk_at dksX3_next_4 21 rfl rfl)
theorem dX3_next_112 : decode cX3_next 112 = .ok (.getfield 19, 3) := dk_180 0 19 (dk_at dksX3_next_5 0 rfl rfl)
theorem dX3_next_115 : decode cX3_next 115 = .ok (.baload, 1) := dk_51 (dk_at dksX3_next_5 3 rfl rfl)
theorem dX3_next_116 : decode cX3_next 116 = .ok (.invokestatic 28, 3) := dk_184 0 28 (dk_at dksX3_next_5 4 rfl rfl)
theorem dX3_next_119 : decode cX3_next 119 = .ok (.ifCond .eq 16, 3) := dk_153 0 16 (dk_at dksX3_next_5 7 rfl rfl)
theorem dX3_next_122 : decode cX3_next 122 = .ok (.aload_n 0, 1) := dk_42 (dk_at dksX3_next_5 10 rfl rfl)
theorem dX3_next_123 : decode cX3_next 123 = .ok (.dup, 1) := dk_89 (dk_at dksX3_next_5 11 rfl rfl)
theorem dX3_next_124 : decode cX3_next 124 = .ok (.getfield 19, 3) := dk_180 0 19 (dk_at dksX3_next_5 12 rfl rfl)
theorem dX3_next_127 : decode cX3_next 127 = .ok (.iconst 1, 1) := dk_4 (dk_at dksX3_next_5 15 rfl rfl)
theorem dX3_next_128 : decode cX3_next 128 = .ok (.iadd, 1) := dk_96 (dk_at dksX3_next_5 16 rfl rfl)
theorem dX3_next_129 : decode cX3_next 129 = .ok (.putfield 19, 3) := dk_181 0 19 (dk_at dksX3_next_5 17 rfl rfl)
theorem dX3_next_132 : decode cX3_next 132 = .ok (.goto (-36), 3) := dk_167 255 220 (dk_at dksX3_next_5 20 rfl rfl)
theorem dX3_next_135 : decode cX3_next 135 = .ok (.aload_n 0, 1) := dk_42 (dk_at dksX3_next_5 23 rfl rfl)
theorem dX3_next_136 : decode cX3_next 136 = .ok (.sipush 302, 3) := dk_17 1 46 (dk_at dksX3_next_6 0 rfl rfl)
theorem dX3_next_139 : decode cX3_next 139 = .ok (.putfield 25, 3) := dk_181 0 25 (dk_at dksX3_next_6 3 rfl rfl)
theorem dX3_next_142 : decode cX3_next 142 = .ok (.iconst 0, 1) := dk_3 (dk_at dksX3_next_6 6 rfl rfl)
theorem dX3_next_143 : decode cX3_next 143 = .ok (.istore_n 1, 1) := dk_60 (dk_at dksX3_next_6 7 rfl rfl)
theorem dX3_next_144 : decode cX3_next 144 = .ok (.iload_n 1, 1) := dk_27 (dk_at dksX3_next_6 8 rfl rfl)
theorem dX3_next_145 : decode cX3_next 145 = .ok (.getstatic 32, 3) := dk_178 0 32 (dk_at dksX3_next_6 9 rfl rfl)
theorem dX3_next_148 : decode cX3_next 148 = .ok (.arraylength, 1) := dk_190 (dk_at dksX3_next_6 12 rfl rfl)
theorem dX3_next_149 : decode cX3_next 149 = .ok (.if_icmp .ge 30, 3) := dk_162 0 30 (dk_at dksX3_next_6 13 rfl rfl)
theorem dX3_next_152 : decode cX3_next 152 = .ok (.aload_n 0, 1) := dk_42 (dk_at dksX3_next_6 16 rfl rfl)
theorem dX3_next_153 : decode cX3_next 153 = .ok (.getstatic 32, 3) := dk_178 0 32 (dk_at dksX3_next_6 17 rfl rfl)
theorem dX3_next_156 : decode cX3_next 156 = .ok (.iload_n 1, 1) := dk_27 (dk_at dksX3_next_6 20 rfl rfl)
theorem dX3_next_157 : decode cX3_next 157 = .ok (.aaload, 1) := dk_50 (dk_at dksX3_next_6 21 rfl rfl)
theorem dX3_next_158 : decode cX3_next 158 = .ok (.invokevirtual 36, 3) := dk_182 0 36 (dk_at dksX3_next_7 0 rfl rfl)
theorem dX3_next_161 : decode cX3_next 161 = .ok (.ifCond .eq 12, 3) := dk_153 0 12 (dk_at dksX3_next_7 3 rfl rfl)
theorem dX3_next_164 : decode cX3_next 164 = .ok (.aload_n 0, 1) := dk_42 (dk_at dksX3_next_7 6 rfl rfl)
theorem dX3_next_165 : decode cX3_next 165 = .ok (.sipush 200, 3) := dk_17 0 200 (dk_at dksX3_next_7 7 rfl rfl)
theorem dX3_next_168 : decode cX3_next 168 = .ok (.iload_n 1, 1) := dk_27 (dk_at dksX3_next_7 10 rfl rfl)
theorem dX3_next_169 : decode cX3_next 169 = .ok (.iadd, 1) := dk_96 (dk_at dksX3_next_7 11 rfl rfl)
theorem dX3_next_170 : decode cX3_next 170 = .ok (.putfield 25, 3) := dk_181 0 25 (dk_at dksX3_next_7 12 rfl rfl)
theorem dX3_next_173 : decode cX3_next 173 = .ok (.iinc 1 1, 3) := dk_132 1 1 (dk_at dksX3_next_7 15 rfl rfl)
theorem dX3_next_176 : decode cX3_next 176 = .ok (.goto (-32), 3) := dk_167 255 224 (dk_at dksX3_next_7 18 rfl rfl)
theorem dX3_next_179 : decode cX3_next 179 = .ok (.goto 223, 3) := dk_167 0 223 (dk_at dksX3_next_7 21 rfl rfl)
theorem dX3_next_182 : decode cX3_next 182 = .ok (.aload_n 0, 1) := dk_42 (dk_at dksX3_next_8 0 rfl rfl)
theorem dX3_next_183 : decode cX3_next 183 = .ok (.getfield 9, 3) := dk_180 0 9 (dk_at dksX3_next_8 1 rfl rfl)
theorem dX3_next_186 : decode cX3_next 186 = .ok (.aload_n 0, 1) := dk_42 (dk_at dksX3_next_8 4 rfl rfl)
theorem dX3_next_187 : decode cX3_next 187 = .ok (.getfield 19, 3) := dk_180 0 19 (dk_at dksX3_next_8 5 rfl rfl)
theorem dX3_next_190 : decode cX3_next 190 = .ok (.baload, 1) := dk_51 (dk_at dksX3_next_8 8 rfl rfl)
theorem dX3_next_191 : decode cX3_next 191 = .ok (.invokestatic 40, 3) := dk_184 0 40 (dk_at dksX3_next_8 9 rfl rfl)
theorem dX3_next_194 : decode cX3_next 194 = .ok (.ifCond .eq 83, 3) := dk_153 0 83 (dk_at dksX3_next_8 12 rfl rfl)
theorem dX3_next_197 : decode cX3_next 197 = .ok (.aload_n 0, 1) := dk_42 (dk_at dksX3_next_8 15 rfl rfl)
theorem dX3_next_198 : decode cX3_next 198 = .ok (.sipush 300, 3) := dk_17 1 44 (dk_at dksX3_next_8 16 rfl rfl)
theorem dX3_next_201 : decode cX3_next 201 = .ok (.putfield 25, 3) := dk_181 0 25 (dk_at dksX3_next_8 19 rfl rfl)
theorem dX3_next_204 : decode cX3_next 204 = .ok (.aload_n 0, 1) := dk_42 (dk_at dksX3_next_8 22 rfl rfl)
theorem dX3_next_205 : decode cX3_next 205 = .ok (.iconst 0, 1) := dk_3 (dk_at dksX3_next_8 23 rfl rfl)
theorem dX3_next_206 : decode cX3_next 206 = .ok (.putfield 43, 3) := dk_181 0 43 (dk_at dksX3_next_9 0 rfl rfl)
theorem dX3_next_209 : decode cX3_next 209 = .ok (.aload_n 0, 1) := dk_42 (dk_at dksX3_next_9 3 rfl rfl)
theorem dX3_next_210 : decode cX3_next 210 = .ok (.getfield 19, 3) := dk_180 0 19 (dk_at dksX3_next_9 4 rfl rfl)
theorem dX3_next_213 : decode cX3_next 213 = .ok (.aload_n 0, 1) := dk_42 (dk_at dksX3_next_9 7 rfl rfl)
theorem dX3_next_214 : decode cX3_next 214 = .ok (.getfield 15, 3) := dk_180 0 15 (dk_at dksX3_next_9 8 rfl rfl)
theorem dX3_next_217 : decode cX3_next 217 = .ok (.if_icmp .ge 185, 3) := dk_162 0 185 (dk_at dksX3_next_9 11 rfl rfl)
theorem dX3_next_220 : decode cX3_next 220 = .ok (.aload_n 0, 1) := dk_42 (dk_at dksX3_next_9 14 rfl rfl)
theorem dX3_next_221 : decode cX3_next 221 = .ok (.getfield 9, 3) := dk_180 0 9 (dk_at dksX3_next_9 15 rfl rfl)
theorem dX3_next_224 : decode cX3_next 224 = .ok (.aload_n 0, 1) := dk_42 (dk_at dksX3_next_9 18 rfl rfl)
theorem dX3_next_225 : decode cX3_next 225 = .ok (.getfield 19, 3) := dk_180 0 19 (dk_at dksX3_next_9 19 rfl rfl)
theorem dX3_next_228 : decode cX3_next 228 = .ok (.baload, 1) := dk_51 (dk_at dksX3_next_9 22 rfl rfl)
theorem dX3_next_229 : decode cX3_next 229 = .ok (.invokestatic 40, 3) := dk_184 0 40 (dk_at dksX3_next_10 0 rfl rfl)
theorem dX3_next_232 : decode cX3_next 232 = .ok (.ifCond .eq 170, 3) := dk_153 0 170 (dk_at dksX3_next_10 3 rfl rfl)
theorem dX3_next_235 : decode cX3_next 235 = .ok (.aload_n 0, 1) := dk_42 (dk_at dksX3_next_10 6 rfl rfl)
theorem dX3_next_236 : decode cX3_next 236 = .ok (.ldc 46, 2) := dk_18 46 (dk_at dksX3_next_10 7 rfl rfl)
theorem dX3_next_238 : decode cX3_next 238 = .ok (.bipush 10, 2) := dk_16 10 (dk_at dksX3_next_10 9 rfl rfl)
theorem dX3_next_240 : decode cX3_next 240 = .ok (.aload_n 0, 1) := dk_42 (dk_at dksX3_next_10 11 rfl rfl)
theorem dX3_next_241 : decode cX3_next 241 = .ok (.getfield 43, 3) := dk_180 0 43 (dk_at dksX3_next_10 12 rfl rfl)
theorem dX3_next_244 : decode cX3_next 244 = .ok (.imul, 1) := dk_104 (dk_at dksX3_next_10 15 rfl rfl)
theorem dX3_next_245 : decode cX3_next 245 = .ok (.aload_n 0, 1) := dk_42 (dk_at dksX3_next_10 16 rfl rfl)
theorem dX3_next_246 : decode cX3_next 246 = .ok (.getfield 9, 3) := dk_180 0 9 (dk_at dksX3_next_10 17 rfl rfl)
theorem dX3_next_249 : decode cX3_next 249 = .ok (.aload_n 0, 1) := dk_42 (dk_at dksX3_next_10 20 rfl rfl)
theorem dX3_next_250 : decode cX3_next 250 = .ok (.getfield 19, 3) := dk_180 0 19 (dk_at dksX3_next_10 21 rfl rfl)
theorem dX3_next_253 : decode cX3_next 253 = .ok (.baload, 1) := dk_51 (dk_at dksX3_next_11 0 rfl rfl)
theorem dX3_next_254 : decode cX3_next 254 = .ok (.iadd, 1) := dk_96 (dk_at dksX3_next_11 1 rfl rfl)
theorem dX3_next_255 : decode cX3_next 255 = .ok (.bipush 48, 2) := dk_16 48 (dk_at dksX3_next_11 2 rfl rfl)
theorem dX3_next_257 : decode cX3_next 257 = .ok (.isub, 1) := dk_100 (dk_at dksX3_next_11 4 rfl rfl)
theorem dX3_next_258 : decode cX3_next 258 = .ok (.invokestatic 47, 3) := dk_184 0 47 (dk_at dksX3_next_11 5 rfl rfl)
theorem dX3_next_261 : decode cX3_next 261 = .ok (.putfield 43, 3) := dk_181 0 43 (dk_at dksX3_next_11 8 rfl rfl)
theorem dX3_next_264 : decode cX3_next 264 = .ok (.aload_n 0, 1) := dk_42 (dk_at dksX3_next_11 11 rfl rfl)
theorem dX3_next_265 : decode cX3_next 265 = .ok (.dup, 1) := dk_89 (dk_at dksX3_next_11 12 rfl rfl)
theorem dX3_next_266 : decode cX3_next 266 = .ok (.getfield 19, 3) := dk_180 0 19 (dk_at dksX3_next_11 13 rfl rfl)
theorem dX3_next_269 : decode cX3_next 269 = .ok (.iconst 1, 1) := dk_4 (dk_at dksX3_next_11 16 rfl rfl)
theorem dX3_next_270 : decode cX3_next 270 = .ok (.iadd, 1) := dk_96 (dk_at dksX3_next_11 17 rfl rfl)
theorem dX3_next_271 : decode cX3_next 271 = .ok (.putfield 19, 3) := dk_181 0 19 (dk_at dksX3_next_11 18 rfl rfl)
theorem dX3_next_274 : decode cX3_next 274 = .ok (.goto (-65), 3) := dk_167 255 191 (dk_at dksX3_next_11 21 rfl rfl)
theorem dX3_next_277 : decode cX3_next 277 = .ok (.aload_n 0, 1) := dk_42 (dk_at dksX3_next_12 0 rfl rfl)
theorem dX3_next_278 : decode cX3_next 278 = .ok (.getfield 9, 3) := dk_180 0 9 (dk_at dksX3_next_12 1 rfl rfl)
theorem dX3_next_281 : decode cX3_next 281 = .ok (.aload_n 0, 1) := dk_42 (dk_at dksX3_next_12 4 rfl rfl)
theorem dX3_next_282 : decode cX3_next 282 = .ok (.getfield 19, 3) := dk_180 0 19 (dk_at dksX3_next_12 5 rfl rfl)
theorem dX3_next_285 : decode cX3_next 285 = .ok (.baload, 1) := dk_51 (dk_at dksX3_next_12 8 rfl rfl)
theorem dX3_next_286 : decode cX3_next 286 = .ok (.istore_n 1, 1) := dk_60 (dk_at dksX3_next_12 9 rfl rfl)
theorem dX3_next_287 : decode cX3_next 287 = .ok (.aload_n 0, 1) := dk_42 (dk_at dksX3_next_12 10 rfl rfl)
theorem dX3_next_288 : decode cX3_next 288 = .ok (.dup, 1) := dk_89 (dk_at dksX3_next_12 11 rfl rfl)
theorem dX3_next_289 : decode cX3_next 289 = .ok (.getfield 19, 3) := dk_180 0 19 (dk_at dksX3_next_12 12 rfl rfl)
theorem dX3_next_292 : decode cX3_next 292 = .ok (.iconst 1, 1) := dk_4 (dk_at dksX3_next_12 15 rfl rfl)
theorem dX3_next_293 : decode cX3_next 293 = .ok (.iadd, 1) := dk_96 (dk_at dksX3_next_12 16 rfl rfl)
theorem dX3_next_294 : decode cX3_next 294 = .ok (.putfield 19, 3) := dk_181 0 19 (dk_at dksX3_next_12 17 rfl rfl)
theorem dX3_next_297 : decode cX3_next 297 = .ok (.aload_n 0, 1) := dk_42 (dk_at dksX3_next_12 20 rfl rfl)
theorem dX3_next_298 : decode cX3_next 298 = .ok (.sipush 302, 3) := dk_17 1 46 (dk_at dksX3_next_12 21 rfl rfl)
theorem dX3_next_301 : decode cX3_next 301 = .ok (.putfield 25, 3) := dk_181 0 25 (dk_at dksX3_next_13 0 rfl rfl)
theorem dX3_next_304 : decode cX3_next 304 = .ok (.iconst 0, 1) := dk_3 (dk_at dksX3_next_13 3 rfl rfl)
theorem dX3_next_305 : decode cX3_next 305 = .ok (.istore_n 2, 1) := dk_61 (dk_at dksX3_next_13 4 rfl rfl)
theorem dX3_next_306 : decode cX3_next 306 = .ok (.iload_n 2, 1) := dk_28 (dk_at dksX3_next_13 5 rfl rfl)
theorem dX3_next_307 : decode cX3_next 307 = .ok (.ldc 53, 2) := dk_18 53 (dk_at dksX3_next_13 6 rfl rfl)
theorem dX3_next_309 : decode cX3_next 309 = .ok (.invokevirtual 55, 3) := dk_182 0 55 (dk_at dksX3_next_13 8 rfl rfl)
theorem dX3_next_312 : decode cX3_next 312 = .ok (.if_icmp .ge 24, 3) := dk_162 0 24 (dk_at dksX3_next_13 11 rfl rfl)
theorem dX3_next_315 : decode cX3_next 315 = .ok (.ldc 53, 2) := dk_18 53 (dk_at dksX3_next_13 14 rfl rfl)
theorem dX3_next_317 : decode cX3_next 317 = .ok (.iload_n 2, 1) := dk_28 (dk_at dksX3_next_13 16 rfl rfl)
theorem dX3_next_318 : decode cX3_next 318 = .ok (.invokevirtual 61, 3) := dk_182 0 61 (dk_at dksX3_next_13 17 rfl rfl)
theorem dX3_next_321 : decode cX3_next 321 = .ok (.iload_n 1, 1) := dk_27 (dk_at dksX3_next_13 20 rfl rfl)
theorem dX3_next_322 : decode cX3_next 322 = .ok (.if_icmp .ne 8, 3) := dk_160 0 8 (dk_at dksX3_next_13 21 rfl rfl)
theorem dX3_next_325 : decode cX3_next 325 = .ok (.aload_n 0, 1) := dk_42 (dk_at dksX3_next_14 0 rfl rfl)
theorem dX3_next_326 : decode cX3_next 326 = .ok (.iload_n 1, 1) := dk_27 (dk_at dksX3_next_14 1 rfl rfl)
theorem dX3_next_327 : decode cX3_next 327 = .ok (.putfield 25, 3) := dk_181 0 25 (dk_at dksX3_next_14 2 rfl rfl)
theorem dX3_next_330 : decode cX3_next 330 = .ok (.iinc 2 1, 3) := dk_132 2 1 (dk_at dksX3_next_14 5 rfl rfl)
theorem dX3_next_333 : decode cX3_next 333 = .ok (.goto (-27), 3) := dk_167 255 229 (dk_at dksX3_next_14 8 rfl rfl)
theorem dX3_next_336 : decode cX3_next 336 = .ok (.iload_n 1, 1) := dk_27 (dk_at dksX3_next_14 11 rfl rfl)
theorem dX3_next_337 : decode cX3_next 337 = .ok (.bipush 60, 2) := dk_16 60 (dk_at dksX3_next_14 12 rfl rfl)
theorem dX3_next_339 : decode cX3_next 339 = .ok (.if_icmp .eq 9, 3) := dk_159 0 9 (dk_at dksX3_next_14 14 rfl rfl)
theorem dX3_next_342 : decode cX3_next 342 = .ok (.iload_n 1, 1) := dk_27 (dk_at dksX3_next_14 17 rfl rfl)
theorem dX3_next_343 : decode cX3_next 343 = .ok (.bipush 62, 2) := dk_16 62 (dk_at dksX3_next_14 18 rfl rfl)
theorem dX3_next_345 : decode cX3_next 345 = .ok (.if_icmp .ne 57, 3) := dk_160 0 57 (dk_at dksX3_next_14 20 rfl rfl)
theorem dX3_next_348 : decode cX3_next 348 = .ok (.aload_n 0, 1) := dk_42 (dk_at dksX3_next_14 23 rfl rfl)
theorem dX3_next_349 : decode cX3_next 349 = .ok (.getfield 19, 3) := dk_180 0 19 (dk_at dksX3_next_15 0 rfl rfl)
theorem dX3_next_352 : decode cX3_next 352 = .ok (.aload_n 0, 1) := dk_42 (dk_at dksX3_next_15 3 rfl rfl)
theorem dX3_next_353 : decode cX3_next 353 = .ok (.getfield 15, 3) := dk_180 0 15 (dk_at dksX3_next_15 4 rfl rfl)
theorem dX3_next_356 : decode cX3_next 356 = .ok (.if_icmp .ge 46, 3) := dk_162 0 46 (dk_at dksX3_next_15 7 rfl rfl)
theorem dX3_next_359 : decode cX3_next 359 = .ok (.aload_n 0, 1) := dk_42 (dk_at dksX3_next_15 10 rfl rfl)
theorem dX3_next_360 : decode cX3_next 360 = .ok (.getfield 9, 3) := dk_180 0 9 (dk_at dksX3_next_15 11 rfl rfl)
theorem dX3_next_363 : decode cX3_next 363 = .ok (.aload_n 0, 1) := dk_42 (dk_at dksX3_next_15 14 rfl rfl)
theorem dX3_next_364 : decode cX3_next 364 = .ok (.getfield 19, 3) := dk_180 0 19 (dk_at dksX3_next_15 15 rfl rfl)
theorem dX3_next_367 : decode cX3_next 367 = .ok (.baload, 1) := dk_51 (dk_at dksX3_next_15 18 rfl rfl)
theorem dX3_next_368 : decode cX3_next 368 = .ok (.bipush 61, 2) := dk_16 61 (dk_at dksX3_next_15 19 rfl rfl)
theorem dX3_next_370 : decode cX3_next 370 = .ok (.if_icmp .ne 32, 3) := dk_160 0 32 (dk_at dksX3_next_15 21 rfl rfl)
theorem dX3_next_373 : decode cX3_next 373 = .ok (.aload_n 0, 1) := dk_42 (dk_at dksX3_next_16 0 rfl rfl)
theorem dX3_next_374 : decode cX3_next 374 = .ok (.iload_n 1, 1) := dk_27 (dk_at dksX3_next_16 1 rfl rfl)
theorem dX3_next_375 : decode cX3_next 375 = .ok (.bipush 60, 2) := dk_16 60 (dk_at dksX3_next_16 2 rfl rfl)
theorem dX3_next_377 : decode cX3_next 377 = .ok (.if_icmp .ne 9, 3) := dk_160 0 9 (dk_at dksX3_next_16 4 rfl rfl)
theorem dX3_next_380 : decode cX3_next 380 = .ok (.sipush 303, 3) := dk_17 1 47 (dk_at dksX3_next_16 7 rfl rfl)
theorem dX3_next_383 : decode cX3_next 383 = .ok (.goto 6, 3) := dk_167 0 6 (dk_at dksX3_next_16 10 rfl rfl)
theorem dX3_next_386 : decode cX3_next 386 = .ok (.sipush 304, 3) := dk_17 1 48 (dk_at dksX3_next_16 13 rfl rfl)
theorem dX3_next_389 : decode cX3_next 389 = .ok (.putfield 25, 3) := dk_181 0 25 (dk_at dksX3_next_16 16 rfl rfl)
theorem dX3_next_392 : decode cX3_next 392 = .ok (.aload_n 0, 1) := dk_42 (dk_at dksX3_next_16 19 rfl rfl)
theorem dX3_next_393 : decode cX3_next 393 = .ok (.dup, 1) := dk_89 (dk_at dksX3_next_16 20 rfl rfl)
theorem dX3_next_394 : decode cX3_next 394 = .ok (.getfield 19, 3) := dk_180 0 19 (dk_at dksX3_next_16 21 rfl rfl)
theorem dX3_next_397 : decode cX3_next 397 = .ok (.iconst 1, 1) := dk_4 (dk_at dksX3_next_17 0 rfl rfl)
theorem dX3_next_398 : decode cX3_next 398 = .ok (.iadd, 1) := dk_96 (dk_at dksX3_next_17 1 rfl rfl)
theorem dX3_next_399 : decode cX3_next 399 = .ok (.putfield 19, 3) := dk_181 0 19 (dk_at dksX3_next_17 2 rfl rfl)
theorem dX3_next_402 : decode cX3_next 402 = .ok (.return_, 1) := dk_177 (dk_at dksX3_next_17 5 rfl rfl)
abbrev cX3_isLetter : ByteArray := prog_17_method_2_code
def yX3_isLetter : MethodName := ⟨RX3, "isLetter", "(I)Z"⟩
def dkwX3_isLetter_1 : List UInt8 := [4, 167, 0, 4, 3, 172]
abbrev dktX3_isLetter_1 : List UInt8 := dkwX3_isLetter_1 ++ []
def dkwX3_isLetter_0 : List UInt8 := [26, 16, 97, 161, 0, 9, 26, 16, 122, 164, 0, 15, 26, 16, 65, 161, 0, 13, 26, 16, 90, 163, 0, 7]
abbrev dktX3_isLetter_0 : List UInt8 := dkwX3_isLetter_0 ++ dktX3_isLetter_1
theorem dksX3_isLetter_0 : cX3_isLetter.data.toList.drop 0 = dktX3_isLetter_0 := by decide +kernel
theorem dksX3_isLetter_1 : cX3_isLetter.data.toList.drop 24 = dktX3_isLetter_1 := dk_seg dksX3_isLetter_0 24 rfl rfl
theorem dX3_isLetter_0 : decode cX3_isLetter 0 = .ok (.iload_n 0, 1) := dk_26 (dk_at dksX3_isLetter_0 0 rfl rfl)
theorem dX3_isLetter_1 : decode cX3_isLetter 1 = .ok (.bipush 97, 2) := dk_16 97 (dk_at dksX3_isLetter_0 1 rfl rfl)
theorem dX3_isLetter_3 : decode cX3_isLetter 3 = .ok (.if_icmp .lt 9, 3) := dk_161 0 9 (dk_at dksX3_isLetter_0 3 rfl rfl)
theorem dX3_isLetter_6 : decode cX3_isLetter 6 = .ok (.iload_n 0, 1) := dk_26 (dk_at dksX3_isLetter_0 6 rfl rfl)
theorem dX3_isLetter_7 : decode cX3_isLetter 7 = .ok (.bipush 122, 2) := dk_16 122 (dk_at dksX3_isLetter_0 7 rfl rfl)
theorem dX3_isLetter_9 : decode cX3_isLetter 9 = .ok (.if_icmp .le 15, 3) := dk_164 0 15 (dk_at dksX3_isLetter_0 9 rfl rfl)
theorem dX3_isLetter_12 : decode cX3_isLetter 12 = .ok (.iload_n 0, 1) := dk_26 (dk_at dksX3_isLetter_0 12 rfl rfl)
theorem dX3_isLetter_13 : decode cX3_isLetter 13 = .ok (.bipush 65, 2) := dk_16 65 (dk_at dksX3_isLetter_0 13 rfl rfl)
theorem dX3_isLetter_15 : decode cX3_isLetter 15 = .ok (.if_icmp .lt 13, 3) := dk_161 0 13 (dk_at dksX3_isLetter_0 15 rfl rfl)
theorem dX3_isLetter_18 : decode cX3_isLetter 18 = .ok (.iload_n 0, 1) := dk_26 (dk_at dksX3_isLetter_0 18 rfl rfl)
theorem dX3_isLetter_19 : decode cX3_isLetter 19 = .ok (.bipush 90, 2) := dk_16 90 (dk_at dksX3_isLetter_0 19 rfl rfl)
theorem dX3_isLetter_21 : decode cX3_isLetter 21 = .ok (.if_icmp .gt 7, 3) := dk_163 0 7 (dk_at dksX3_isLetter_0 21 rfl rfl)
theorem dX3_isLetter_24 : decode cX3_isLetter 24 = .ok (.iconst 1, 1) := dk_4 (dk_at dksX3_isLetter_1 0 rfl rfl)
theorem dX3_isLetter_25 : decode cX3_isLetter 25 = .ok (.goto 4, 3) := dk_167 0 4 (dk_at dksX3_isLetter_1 1 rfl rfl)
theorem dX3_isLetter_28 : decode cX3_isLetter 28 = .ok (.iconst 0, 1) := dk_3 (dk_at dksX3_isLetter_1 4 rfl rfl)
theorem dX3_isLetter_29 : decode cX3_isLetter 29 = .ok (.ireturn, 1) := dk_172 (dk_at dksX3_isLetter_1 5 rfl rfl)
abbrev cX3_isWord : ByteArray := prog_17_method_5_code
def yX3_isWord : MethodName := ⟨RX3, "isWord", "(Ljava/lang/String;)Z"⟩
def dkwX3_isWord_2 : List UInt8 := [159, 0, 5, 3, 172, 132, 2, 1, 167, 255, 224, 4, 172]
abbrev dktX3_isWord_2 : List UInt8 := dkwX3_isWord_2 ++ []
def dkwX3_isWord_1 : List UInt8 := [182, 0, 55, 162, 0, 30, 42, 180, 0, 9, 42, 180, 0, 22, 28, 96, 51, 43, 28, 182, 0, 61]
abbrev dktX3_isWord_1 : List UInt8 := dkwX3_isWord_1 ++ dktX3_isWord_2
def dkwX3_isWord_0 : List UInt8 := [42, 180, 0, 19, 42, 180, 0, 22, 100, 43, 182, 0, 55, 159, 0, 5, 3, 172, 3, 61, 28, 43]
abbrev dktX3_isWord_0 : List UInt8 := dkwX3_isWord_0 ++ dktX3_isWord_1
theorem dksX3_isWord_0 : cX3_isWord.data.toList.drop 0 = dktX3_isWord_0 := by decide +kernel
theorem dksX3_isWord_1 : cX3_isWord.data.toList.drop 22 = dktX3_isWord_1 := dk_seg dksX3_isWord_0 22 rfl rfl
theorem dksX3_isWord_2 : cX3_isWord.data.toList.drop 44 = dktX3_isWord_2 := dk_seg dksX3_isWord_1 22 rfl rfl
theorem dX3_isWord_0 : decode cX3_isWord 0 = .ok (.aload_n 0, 1) := dk_42 (dk_at dksX3_isWord_0 0 rfl rfl)
theorem dX3_isWord_1 : decode cX3_isWord 1 = .ok (.getfield 19, 3) := dk_180 0 19 (dk_at dksX3_isWord_0 1 rfl rfl)
theorem dX3_isWord_4 : decode cX3_isWord 4 = .ok (.aload_n 0, 1) := dk_42 (dk_at dksX3_isWord_0 4 rfl rfl)
theorem dX3_isWord_5 : decode cX3_isWord 5 = .ok (.getfield 22, 3) := dk_180 0 22 (dk_at dksX3_isWord_0 5 rfl rfl)
theorem dX3_isWord_8 : decode cX3_isWord 8 = .ok (.isub, 1) := dk_100 (dk_at dksX3_isWord_0 8 rfl rfl)
theorem dX3_isWord_9 : decode cX3_isWord 9 = .ok (.aload_n 1, 1) := dk_43 (dk_at dksX3_isWord_0 9 rfl rfl)
theorem dX3_isWord_10 : decode cX3_isWord 10 = .ok (.invokevirtual 55, 3) := dk_182 0 55 (dk_at dksX3_isWord_0 10 rfl rfl)
theorem dX3_isWord_13 : decode cX3_isWord 13 = .ok (.if_icmp .eq 5, 3) := dk_159 0 5 (dk_at dksX3_isWord_0 13 rfl rfl)
theorem dX3_isWord_16 : decode cX3_isWord 16 = .ok (.iconst 0, 1) := dk_3 (dk_at dksX3_isWord_0 16 rfl rfl)
theorem dX3_isWord_17 : decode cX3_isWord 17 = .ok (.ireturn, 1) := dk_172 (dk_at dksX3_isWord_0 17 rfl rfl)
theorem dX3_isWord_18 : decode cX3_isWord 18 = .ok (.iconst 0, 1) := dk_3 (dk_at dksX3_isWord_0 18 rfl rfl)
theorem dX3_isWord_19 : decode cX3_isWord 19 = .ok (.istore_n 2, 1) := dk_61 (dk_at dksX3_isWord_0 19 rfl rfl)
theorem dX3_isWord_20 : decode cX3_isWord 20 = .ok (.iload_n 2, 1) := dk_28 (dk_at dksX3_isWord_0 20 rfl rfl)
theorem dX3_isWord_21 : decode cX3_isWord 21 = .ok (.aload_n 1, 1) := dk_43 (dk_at dksX3_isWord_0 21 rfl rfl)
theorem dX3_isWord_22 : decode cX3_isWord 22 = .ok (.invokevirtual 55, 3) := dk_182 0 55 (dk_at dksX3_isWord_1 0 rfl rfl)
theorem dX3_isWord_25 : decode cX3_isWord 25 = .ok (.if_icmp .ge 30, 3) := dk_162 0 30 (dk_at dksX3_isWord_1 3 rfl rfl)
theorem dX3_isWord_28 : decode cX3_isWord 28 = .ok (.aload_n 0, 1) := dk_42 (dk_at dksX3_isWord_1 6 rfl rfl)
theorem dX3_isWord_29 : decode cX3_isWord 29 = .ok (.getfield 9, 3) := dk_180 0 9 (dk_at dksX3_isWord_1 7 rfl rfl)
theorem dX3_isWord_32 : decode cX3_isWord 32 = .ok (.aload_n 0, 1) := dk_42 (dk_at dksX3_isWord_1 10 rfl rfl)
theorem dX3_isWord_33 : decode cX3_isWord 33 = .ok (.getfield 22, 3) := dk_180 0 22 (dk_at dksX3_isWord_1 11 rfl rfl)
theorem dX3_isWord_36 : decode cX3_isWord 36 = .ok (.iload_n 2, 1) := dk_28 (dk_at dksX3_isWord_1 14 rfl rfl)
theorem dX3_isWord_37 : decode cX3_isWord 37 = .ok (.iadd, 1) := dk_96 (dk_at dksX3_isWord_1 15 rfl rfl)
theorem dX3_isWord_38 : decode cX3_isWord 38 = .ok (.baload, 1) := dk_51 (dk_at dksX3_isWord_1 16 rfl rfl)
theorem dX3_isWord_39 : decode cX3_isWord 39 = .ok (.aload_n 1, 1) := dk_43 (dk_at dksX3_isWord_1 17 rfl rfl)
theorem dX3_isWord_40 : decode cX3_isWord 40 = .ok (.iload_n 2, 1) := dk_28 (dk_at dksX3_isWord_1 18 rfl rfl)
theorem dX3_isWord_41 : decode cX3_isWord 41 = .ok (.invokevirtual 61, 3) := dk_182 0 61 (dk_at dksX3_isWord_1 19 rfl rfl)
theorem dX3_isWord_44 : decode cX3_isWord 44 = .ok (.if_icmp .eq 5, 3) := dk_159 0 5 (dk_at dksX3_isWord_2 0 rfl rfl)
theorem dX3_isWord_47 : decode cX3_isWord 47 = .ok (.iconst 0, 1) := dk_3 (dk_at dksX3_isWord_2 3 rfl rfl)
theorem dX3_isWord_48 : decode cX3_isWord 48 = .ok (.ireturn, 1) := dk_172 (dk_at dksX3_isWord_2 4 rfl rfl)
theorem dX3_isWord_49 : decode cX3_isWord 49 = .ok (.iinc 2 1, 3) := dk_132 2 1 (dk_at dksX3_isWord_2 5 rfl rfl)
theorem dX3_isWord_52 : decode cX3_isWord 52 = .ok (.goto (-32), 3) := dk_167 255 224 (dk_at dksX3_isWord_2 8 rfl rfl)
theorem dX3_isWord_55 : decode cX3_isWord 55 = .ok (.iconst 1, 1) := dk_4 (dk_at dksX3_isWord_2 11 rfl rfl)
theorem dX3_isWord_56 : decode cX3_isWord 56 = .ok (.ireturn, 1) := dk_172 (dk_at dksX3_isWord_2 12 rfl rfl)
abbrev cX3_isDigit : ByteArray := prog_17_method_3_code
def yX3_isDigit : MethodName := ⟨RX3, "isDigit", "(I)Z"⟩
def dkwX3_isDigit_0 : List UInt8 := [26, 16, 48, 161, 0, 13, 26, 16, 57, 163, 0, 7, 4, 167, 0, 4, 3, 172]
abbrev dktX3_isDigit_0 : List UInt8 := dkwX3_isDigit_0 ++ []
theorem dksX3_isDigit_0 : cX3_isDigit.data.toList.drop 0 = dktX3_isDigit_0 := by decide +kernel
theorem dX3_isDigit_0 : decode cX3_isDigit 0 = .ok (.iload_n 0, 1) := dk_26 (dk_at dksX3_isDigit_0 0 rfl rfl)
theorem dX3_isDigit_1 : decode cX3_isDigit 1 = .ok (.bipush 48, 2) := dk_16 48 (dk_at dksX3_isDigit_0 1 rfl rfl)
theorem dX3_isDigit_3 : decode cX3_isDigit 3 = .ok (.if_icmp .lt 13, 3) := dk_161 0 13 (dk_at dksX3_isDigit_0 3 rfl rfl)
theorem dX3_isDigit_6 : decode cX3_isDigit 6 = .ok (.iload_n 0, 1) := dk_26 (dk_at dksX3_isDigit_0 6 rfl rfl)
theorem dX3_isDigit_7 : decode cX3_isDigit 7 = .ok (.bipush 57, 2) := dk_16 57 (dk_at dksX3_isDigit_0 7 rfl rfl)
theorem dX3_isDigit_9 : decode cX3_isDigit 9 = .ok (.if_icmp .gt 7, 3) := dk_163 0 7 (dk_at dksX3_isDigit_0 9 rfl rfl)
theorem dX3_isDigit_12 : decode cX3_isDigit 12 = .ok (.iconst 1, 1) := dk_4 (dk_at dksX3_isDigit_0 12 rfl rfl)
theorem dX3_isDigit_13 : decode cX3_isDigit 13 = .ok (.goto 4, 3) := dk_167 0 4 (dk_at dksX3_isDigit_0 13 rfl rfl)
theorem dX3_isDigit_16 : decode cX3_isDigit 16 = .ok (.iconst 0, 1) := dk_3 (dk_at dksX3_isDigit_0 16 rfl rfl)
theorem dX3_isDigit_17 : decode cX3_isDigit 17 = .ok (.ireturn, 1) := dk_172 (dk_at dksX3_isDigit_0 17 rfl rfl)
abbrev cX3_wrong : ByteArray := prog_17_method_6_code
def yX3_wrong : MethodName := ⟨RX3, "wrong", "(I)LApologyUp$Wrong;"⟩
def dkwX3_wrong_0 : List UInt8 := [187, 0, 65, 89, 27, 42, 180, 0, 22, 183, 0, 67, 176]
abbrev dktX3_wrong_0 : List UInt8 := dkwX3_wrong_0 ++ []
theorem dksX3_wrong_0 : cX3_wrong.data.toList.drop 0 = dktX3_wrong_0 := by decide +kernel
theorem dX3_wrong_0 : decode cX3_wrong 0 = .ok (.new 65, 3) := dk_187 0 65 (dk_at dksX3_wrong_0 0 rfl rfl)
theorem dX3_wrong_3 : decode cX3_wrong 3 = .ok (.dup, 1) := dk_89 (dk_at dksX3_wrong_0 3 rfl rfl)
theorem dX3_wrong_4 : decode cX3_wrong 4 = .ok (.iload_n 1, 1) := dk_27 (dk_at dksX3_wrong_0 4 rfl rfl)
theorem dX3_wrong_5 : decode cX3_wrong 5 = .ok (.aload_n 0, 1) := dk_42 (dk_at dksX3_wrong_0 5 rfl rfl)
theorem dX3_wrong_6 : decode cX3_wrong 6 = .ok (.getfield 22, 3) := dk_180 0 22 (dk_at dksX3_wrong_0 6 rfl rfl)
theorem dX3_wrong_9 : decode cX3_wrong 9 = .ok (.invokespecial 67, 3) := dk_183 0 67 (dk_at dksX3_wrong_0 9 rfl rfl)
theorem dX3_wrong_12 : decode cX3_wrong 12 = .ok (.areturn, 1) := dk_176 (dk_at dksX3_wrong_0 12 rfl rfl)
abbrev cX3_sum : ByteArray := prog_17_method_16_code
def yX3_sum : MethodName := ⟨RX3, "sum", "()LApologyUp$Sum;"⟩
def dkwX3_sum_2 : List UInt8 := [182, 0, 168, 167, 255, 220, 43, 182, 0, 171, 176]
abbrev dktX3_sum_2 : List UInt8 := dkwX3_sum_2 ++ []
def dkwX3_sum_1 : List UInt8 := [180, 0, 25, 16, 45, 160, 0, 24, 42, 180, 0, 25, 61, 42, 182, 0, 74, 43, 28, 42, 182, 0, 162]
abbrev dktX3_sum_1 : List UInt8 := dkwX3_sum_1 ++ dktX3_sum_2
def dkwX3_sum_0 : List UInt8 := [187, 0, 160, 89, 42, 182, 0, 162, 183, 0, 165, 76, 42, 180, 0, 25, 16, 43, 159, 0, 12, 42]
abbrev dktX3_sum_0 : List UInt8 := dkwX3_sum_0 ++ dktX3_sum_1
theorem dksX3_sum_0 : cX3_sum.data.toList.drop 0 = dktX3_sum_0 := by decide +kernel
theorem dksX3_sum_1 : cX3_sum.data.toList.drop 22 = dktX3_sum_1 := dk_seg dksX3_sum_0 22 rfl rfl
theorem dksX3_sum_2 : cX3_sum.data.toList.drop 45 = dktX3_sum_2 := dk_seg dksX3_sum_1 23 rfl rfl
theorem dX3_sum_0 : decode cX3_sum 0 = .ok (.new 160, 3) := dk_187 0 160 (dk_at dksX3_sum_0 0 rfl rfl)
theorem dX3_sum_3 : decode cX3_sum 3 = .ok (.dup, 1) := dk_89 (dk_at dksX3_sum_0 3 rfl rfl)
theorem dX3_sum_4 : decode cX3_sum 4 = .ok (.aload_n 0, 1) := dk_42 (dk_at dksX3_sum_0 4 rfl rfl)
theorem dX3_sum_5 : decode cX3_sum 5 = .ok (.invokevirtual 162, 3) := dk_182 0 162 (dk_at dksX3_sum_0 5 rfl rfl)
theorem dX3_sum_8 : decode cX3_sum 8 = .ok (.invokespecial 165, 3) := dk_183 0 165 (dk_at dksX3_sum_0 8 rfl rfl)
theorem dX3_sum_11 : decode cX3_sum 11 = .ok (.astore_n 1, 1) := dk_76 (dk_at dksX3_sum_0 11 rfl rfl)
theorem dX3_sum_12 : decode cX3_sum 12 = .ok (.aload_n 0, 1) := dk_42 (dk_at dksX3_sum_0 12 rfl rfl)
theorem dX3_sum_13 : decode cX3_sum 13 = .ok (.getfield 25, 3) := dk_180 0 25 (dk_at dksX3_sum_0 13 rfl rfl)
theorem dX3_sum_16 : decode cX3_sum 16 = .ok (.bipush 43, 2) := dk_16 43 (dk_at dksX3_sum_0 16 rfl rfl)
theorem dX3_sum_18 : decode cX3_sum 18 = .ok (.if_icmp .eq 12, 3) := dk_159 0 12 (dk_at dksX3_sum_0 18 rfl rfl)
theorem dX3_sum_21 : decode cX3_sum 21 = .ok (.aload_n 0, 1) := dk_42 (dk_at dksX3_sum_0 21 rfl rfl)
theorem dX3_sum_22 : decode cX3_sum 22 = .ok (.getfield 25, 3) := dk_180 0 25 (dk_at dksX3_sum_1 0 rfl rfl)
theorem dX3_sum_25 : decode cX3_sum 25 = .ok (.bipush 45, 2) := dk_16 45 (dk_at dksX3_sum_1 3 rfl rfl)
theorem dX3_sum_27 : decode cX3_sum 27 = .ok (.if_icmp .ne 24, 3) := dk_160 0 24 (dk_at dksX3_sum_1 5 rfl rfl)
theorem dX3_sum_30 : decode cX3_sum 30 = .ok (.aload_n 0, 1) := dk_42 (dk_at dksX3_sum_1 8 rfl rfl)
theorem dX3_sum_31 : decode cX3_sum 31 = .ok (.getfield 25, 3) := dk_180 0 25 (dk_at dksX3_sum_1 9 rfl rfl)
theorem dX3_sum_34 : decode cX3_sum 34 = .ok (.istore_n 2, 1) := dk_61 (dk_at dksX3_sum_1 12 rfl rfl)
theorem dX3_sum_35 : decode cX3_sum 35 = .ok (.aload_n 0, 1) := dk_42 (dk_at dksX3_sum_1 13 rfl rfl)
theorem dX3_sum_36 : decode cX3_sum 36 = .ok (.invokevirtual 74, 3) := dk_182 0 74 (dk_at dksX3_sum_1 14 rfl rfl)
theorem dX3_sum_39 : decode cX3_sum 39 = .ok (.aload_n 1, 1) := dk_43 (dk_at dksX3_sum_1 17 rfl rfl)
theorem dX3_sum_40 : decode cX3_sum 40 = .ok (.iload_n 2, 1) := dk_28 (dk_at dksX3_sum_1 18 rfl rfl)
theorem dX3_sum_41 : decode cX3_sum 41 = .ok (.aload_n 0, 1) := dk_42 (dk_at dksX3_sum_1 19 rfl rfl)
theorem dX3_sum_42 : decode cX3_sum 42 = .ok (.invokevirtual 162, 3) := dk_182 0 162 (dk_at dksX3_sum_1 20 rfl rfl)
theorem dX3_sum_45 : decode cX3_sum 45 = .ok (.invokevirtual 168, 3) := dk_182 0 168 (dk_at dksX3_sum_2 0 rfl rfl)
theorem dX3_sum_48 : decode cX3_sum 48 = .ok (.goto (-36), 3) := dk_167 255 220 (dk_at dksX3_sum_2 3 rfl rfl)
theorem dX3_sum_51 : decode cX3_sum 51 = .ok (.aload_n 1, 1) := dk_43 (dk_at dksX3_sum_2 6 rfl rfl)
theorem dX3_sum_52 : decode cX3_sum 52 = .ok (.invokevirtual 171, 3) := dk_182 0 171 (dk_at dksX3_sum_2 7 rfl rfl)
theorem dX3_sum_55 : decode cX3_sum 55 = .ok (.areturn, 1) := dk_176 (dk_at dksX3_sum_2 10 rfl rfl)
abbrev cX3_product : ByteArray := prog_17_method_17_code
def yX3_product : MethodName := ⟨RX3, "product", "()LApologyUp$Sum;"⟩
def dkwX3_product_2 : List UInt8 := [182, 0, 168, 167, 255, 220, 43, 182, 0, 171, 176]
abbrev dktX3_product_2 : List UInt8 := dkwX3_product_2 ++ []
def dkwX3_product_1 : List UInt8 := [180, 0, 25, 16, 47, 160, 0, 24, 42, 180, 0, 25, 61, 42, 182, 0, 74, 43, 28, 42, 182, 0, 174]
abbrev dktX3_product_1 : List UInt8 := dkwX3_product_1 ++ dktX3_product_2
def dkwX3_product_0 : List UInt8 := [187, 0, 160, 89, 42, 182, 0, 174, 183, 0, 165, 76, 42, 180, 0, 25, 16, 42, 159, 0, 12, 42]
abbrev dktX3_product_0 : List UInt8 := dkwX3_product_0 ++ dktX3_product_1
theorem dksX3_product_0 : cX3_product.data.toList.drop 0 = dktX3_product_0 := by decide +kernel
theorem dksX3_product_1 : cX3_product.data.toList.drop 22 = dktX3_product_1 := dk_seg dksX3_product_0 22 rfl rfl
theorem dksX3_product_2 : cX3_product.data.toList.drop 45 = dktX3_product_2 := dk_seg dksX3_product_1 23 rfl rfl
theorem dX3_product_0 : decode cX3_product 0 = .ok (.new 160, 3) := dk_187 0 160 (dk_at dksX3_product_0 0 rfl rfl)
theorem dX3_product_3 : decode cX3_product 3 = .ok (.dup, 1) := dk_89 (dk_at dksX3_product_0 3 rfl rfl)
theorem dX3_product_4 : decode cX3_product 4 = .ok (.aload_n 0, 1) := dk_42 (dk_at dksX3_product_0 4 rfl rfl)
theorem dX3_product_5 : decode cX3_product 5 = .ok (.invokevirtual 174, 3) := dk_182 0 174 (dk_at dksX3_product_0 5 rfl rfl)
theorem dX3_product_8 : decode cX3_product 8 = .ok (.invokespecial 165, 3) := dk_183 0 165 (dk_at dksX3_product_0 8 rfl rfl)
theorem dX3_product_11 : decode cX3_product 11 = .ok (.astore_n 1, 1) := dk_76 (dk_at dksX3_product_0 11 rfl rfl)
theorem dX3_product_12 : decode cX3_product 12 = .ok (.aload_n 0, 1) := dk_42 (dk_at dksX3_product_0 12 rfl rfl)
theorem dX3_product_13 : decode cX3_product 13 = .ok (.getfield 25, 3) := dk_180 0 25 (dk_at dksX3_product_0 13 rfl rfl)
theorem dX3_product_16 : decode cX3_product 16 = .ok (.bipush 42, 2) := dk_16 42 (dk_at dksX3_product_0 16 rfl rfl)
theorem dX3_product_18 : decode cX3_product 18 = .ok (.if_icmp .eq 12, 3) := dk_159 0 12 (dk_at dksX3_product_0 18 rfl rfl)
theorem dX3_product_21 : decode cX3_product 21 = .ok (.aload_n 0, 1) := dk_42 (dk_at dksX3_product_0 21 rfl rfl)
theorem dX3_product_22 : decode cX3_product 22 = .ok (.getfield 25, 3) := dk_180 0 25 (dk_at dksX3_product_1 0 rfl rfl)
theorem dX3_product_25 : decode cX3_product 25 = .ok (.bipush 47, 2) := dk_16 47 (dk_at dksX3_product_1 3 rfl rfl)
theorem dX3_product_27 : decode cX3_product 27 = .ok (.if_icmp .ne 24, 3) := dk_160 0 24 (dk_at dksX3_product_1 5 rfl rfl)
theorem dX3_product_30 : decode cX3_product 30 = .ok (.aload_n 0, 1) := dk_42 (dk_at dksX3_product_1 8 rfl rfl)
theorem dX3_product_31 : decode cX3_product 31 = .ok (.getfield 25, 3) := dk_180 0 25 (dk_at dksX3_product_1 9 rfl rfl)
theorem dX3_product_34 : decode cX3_product 34 = .ok (.istore_n 2, 1) := dk_61 (dk_at dksX3_product_1 12 rfl rfl)
theorem dX3_product_35 : decode cX3_product 35 = .ok (.aload_n 0, 1) := dk_42 (dk_at dksX3_product_1 13 rfl rfl)
theorem dX3_product_36 : decode cX3_product 36 = .ok (.invokevirtual 74, 3) := dk_182 0 74 (dk_at dksX3_product_1 14 rfl rfl)
theorem dX3_product_39 : decode cX3_product 39 = .ok (.aload_n 1, 1) := dk_43 (dk_at dksX3_product_1 17 rfl rfl)
theorem dX3_product_40 : decode cX3_product 40 = .ok (.iload_n 2, 1) := dk_28 (dk_at dksX3_product_1 18 rfl rfl)
theorem dX3_product_41 : decode cX3_product 41 = .ok (.aload_n 0, 1) := dk_42 (dk_at dksX3_product_1 19 rfl rfl)
theorem dX3_product_42 : decode cX3_product 42 = .ok (.invokevirtual 174, 3) := dk_182 0 174 (dk_at dksX3_product_1 20 rfl rfl)
theorem dX3_product_45 : decode cX3_product 45 = .ok (.invokevirtual 168, 3) := dk_182 0 168 (dk_at dksX3_product_2 0 rfl rfl)
theorem dX3_product_48 : decode cX3_product 48 = .ok (.goto (-36), 3) := dk_167 255 220 (dk_at dksX3_product_2 3 rfl rfl)
theorem dX3_product_51 : decode cX3_product 51 = .ok (.aload_n 1, 1) := dk_43 (dk_at dksX3_product_2 6 rfl rfl)
theorem dX3_product_52 : decode cX3_product 52 = .ok (.invokevirtual 171, 3) := dk_182 0 171 (dk_at dksX3_product_2 7 rfl rfl)
theorem dX3_product_55 : decode cX3_product 55 = .ok (.areturn, 1) := dk_176 (dk_at dksX3_product_2 10 rfl rfl)
abbrev cX3_one : ByteArray := prog_17_method_22_code
def yX3_one : MethodName := ⟨RX3, "one", "()LApologyUp$Sum;"⟩
def dkwX3_one_8 : List UInt8 := [77, 167, 0, 9, 42, 4, 182, 0, 70, 191, 42, 89, 180, 0, 77, 4, 100, 181, 0, 77, 44, 176]
abbrev dktX3_one_8 : List UInt8 := dkwX3_one_8 ++ []
def dkwX3_one_7 : List UInt8 := [160, 0, 15, 187, 0, 213, 89, 25, 4, 183, 0, 215, 167, 0, 12, 187, 0, 216, 89, 25, 4, 183, 0, 218]
abbrev dktX3_one_7 : List UInt8 := dkwX3_one_7 ++ dktX3_one_8
def dkwX3_one_6 : List UInt8 := [160, 0, 50, 42, 180, 0, 25, 62, 42, 182, 0, 147, 42, 182, 0, 174, 58, 4, 29, 17, 0, 215]
abbrev dktX3_one_6 : List UInt8 := dkwX3_one_6 ++ dktX3_one_7
def dkwX3_one_5 : List UInt8 := [182, 0, 111, 167, 0, 75, 42, 180, 0, 25, 16, 45, 159, 0, 13, 42, 180, 0, 25, 17, 0, 215]
abbrev dktX3_one_5 : List UInt8 := dkwX3_one_5 ++ dktX3_one_6
def dkwX3_one_4 : List UInt8 := [176, 42, 180, 0, 25, 16, 40, 160, 0, 21, 42, 182, 0, 147, 42, 182, 0, 93, 77, 42, 16, 41]
abbrev dktX3_one_4 : List UInt8 := dkwX3_one_4 ++ dktX3_one_5
def dkwX3_one_3 : List UInt8 := [182, 0, 207, 154, 0, 9, 42, 8, 182, 0, 70, 191, 42, 182, 0, 74, 187, 0, 210, 89, 27, 183, 0, 212]
abbrev dktX3_one_3 : List UInt8 := dkwX3_one_3 ++ dktX3_one_4
def dkwX3_one_2 : List UInt8 := [17, 0, 213, 160, 0, 8, 42, 182, 0, 201, 176, 42, 182, 0, 204, 60, 27, 2, 159, 0, 30, 42, 27]
abbrev dktX3_one_2 : List UInt8 := dkwX3_one_2 ++ dktX3_one_3
def dkwX3_one_1 : List UInt8 := [183, 0, 196, 176, 42, 180, 0, 25, 17, 0, 216, 160, 0, 8, 42, 182, 0, 198, 176, 42, 180, 0, 25]
abbrev dktX3_one_1 : List UInt8 := dkwX3_one_1 ++ dktX3_one_2
def dkwX3_one_0 : List UInt8 := [42, 180, 0, 25, 17, 1, 44, 160, 0, 19, 187, 0, 194, 89, 42, 3, 17, 39, 15, 182, 0, 115]
abbrev dktX3_one_0 : List UInt8 := dkwX3_one_0 ++ dktX3_one_1
theorem dksX3_one_0 : cX3_one.data.toList.drop 0 = dktX3_one_0 := by decide +kernel
theorem dksX3_one_1 : cX3_one.data.toList.drop 22 = dktX3_one_1 := dk_seg dksX3_one_0 22 rfl rfl
theorem dksX3_one_2 : cX3_one.data.toList.drop 45 = dktX3_one_2 := dk_seg dksX3_one_1 23 rfl rfl
theorem dksX3_one_3 : cX3_one.data.toList.drop 68 = dktX3_one_3 := dk_seg dksX3_one_2 23 rfl rfl
theorem dksX3_one_4 : cX3_one.data.toList.drop 92 = dktX3_one_4 := dk_seg dksX3_one_3 24 rfl rfl
theorem dksX3_one_5 : cX3_one.data.toList.drop 114 = dktX3_one_5 := dk_seg dksX3_one_4 22 rfl rfl
theorem dksX3_one_6 : cX3_one.data.toList.drop 136 = dktX3_one_6 := dk_seg dksX3_one_5 22 rfl rfl
theorem dksX3_one_7 : cX3_one.data.toList.drop 158 = dktX3_one_7 := dk_seg dksX3_one_6 22 rfl rfl
theorem dksX3_one_8 : cX3_one.data.toList.drop 182 = dktX3_one_8 := dk_seg dksX3_one_7 24 rfl rfl
theorem dX3_one_0 : decode cX3_one 0 = .ok (.aload_n 0, 1) := dk_42 (dk_at dksX3_one_0 0 rfl rfl)
theorem dX3_one_1 : decode cX3_one 1 = .ok (.getfield 25, 3) := dk_180 0 25 (dk_at dksX3_one_0 1 rfl rfl)
theorem dX3_one_4 : decode cX3_one 4 = .ok (.sipush 300, 3) := dk_17 1 44 (dk_at dksX3_one_0 4 rfl rfl)
theorem dX3_one_7 : decode cX3_one 7 = .ok (.if_icmp .ne 19, 3) := dk_160 0 19 (dk_at dksX3_one_0 7 rfl rfl)
theorem dX3_one_10 : decode cX3_one 10 = .ok (.new 194, 3) := dk_187 0 194 (dk_at dksX3_one_0 10 rfl rfl)
theorem dX3_one_13 : decode cX3_one 13 = .ok (.dup, 1) := dk_89 (dk_at dksX3_one_0 13 rfl rfl)
theorem dX3_one_14 : decode cX3_one 14 = .ok (.aload_n 0, 1) := dk_42 (dk_at dksX3_one_0 14 rfl rfl)
theorem dX3_one_15 : decode cX3_one 15 = .ok (.iconst 0, 1) := dk_3 (dk_at dksX3_one_0 15 rfl rfl)
theorem dX3_one_16 : decode cX3_one 16 = .ok (.sipush 9999, 3) := dk_17 39 15 (dk_at dksX3_one_0 16 rfl rfl)
theorem dX3_one_19 : decode cX3_one 19 = .ok (.invokevirtual 115, 3) := dk_182 0 115 (dk_at dksX3_one_0 19 rfl rfl)
theorem dX3_one_22 : decode cX3_one 22 = .ok (.invokespecial 196, 3) := dk_183 0 196 (dk_at dksX3_one_1 0 rfl rfl)
theorem dX3_one_25 : decode cX3_one 25 = .ok (.areturn, 1) := dk_176 (dk_at dksX3_one_1 3 rfl rfl)
theorem dX3_one_26 : decode cX3_one 26 = .ok (.aload_n 0, 1) := dk_42 (dk_at dksX3_one_1 4 rfl rfl)
theorem dX3_one_27 : decode cX3_one 27 = .ok (.getfield 25, 3) := dk_180 0 25 (dk_at dksX3_one_1 5 rfl rfl)
theorem dX3_one_30 : decode cX3_one 30 = .ok (.sipush 216, 3) := dk_17 0 216 (dk_at dksX3_one_1 8 rfl rfl)
theorem dX3_one_33 : decode cX3_one 33 = .ok (.if_icmp .ne 8, 3) := dk_160 0 8 (dk_at dksX3_one_1 11 rfl rfl)
theorem dX3_one_36 : decode cX3_one 36 = .ok (.aload_n 0, 1) := dk_42 (dk_at dksX3_one_1 14 rfl rfl)
theorem dX3_one_37 : decode cX3_one 37 = .ok (.invokevirtual 198, 3) := dk_182 0 198 (dk_at dksX3_one_1 15 rfl rfl)
theorem dX3_one_40 : decode cX3_one 40 = .ok (.areturn, 1) := dk_176 (dk_at dksX3_one_1 18 rfl rfl)
theorem dX3_one_41 : decode cX3_one 41 = .ok (.aload_n 0, 1) := dk_42 (dk_at dksX3_one_1 19 rfl rfl)
theorem dX3_one_42 : decode cX3_one 42 = .ok (.getfield 25, 3) := dk_180 0 25 (dk_at dksX3_one_1 20 rfl rfl)
theorem dX3_one_45 : decode cX3_one 45 = .ok (.sipush 213, 3) := dk_17 0 213 (dk_at dksX3_one_2 0 rfl rfl)
theorem dX3_one_48 : decode cX3_one 48 = .ok (.if_icmp .ne 8, 3) := dk_160 0 8 (dk_at dksX3_one_2 3 rfl rfl)
theorem dX3_one_51 : decode cX3_one 51 = .ok (.aload_n 0, 1) := dk_42 (dk_at dksX3_one_2 6 rfl rfl)
theorem dX3_one_52 : decode cX3_one 52 = .ok (.invokevirtual 201, 3) := dk_182 0 201 (dk_at dksX3_one_2 7 rfl rfl)
theorem dX3_one_55 : decode cX3_one 55 = .ok (.areturn, 1) := dk_176 (dk_at dksX3_one_2 10 rfl rfl)
theorem dX3_one_56 : decode cX3_one 56 = .ok (.aload_n 0, 1) := dk_42 (dk_at dksX3_one_2 11 rfl rfl)
theorem dX3_one_57 : decode cX3_one 57 = .ok (.invokevirtual 204, 3) := dk_182 0 204 (dk_at dksX3_one_2 12 rfl rfl)
theorem dX3_one_60 : decode cX3_one 60 = .ok (.istore_n 1, 1) := dk_60 (dk_at dksX3_one_2 15 rfl rfl)
theorem dX3_one_61 : decode cX3_one 61 = .ok (.iload_n 1, 1) := dk_27 (dk_at dksX3_one_2 16 rfl rfl)
theorem dX3_one_62 : decode cX3_one 62 = .ok (.iconst (-1), 1) := dk_2 (dk_at dksX3_one_2 17 rfl rfl)
theorem dX3_one_63 : decode cX3_one 63 = .ok (.if_icmp .eq 30, 3) := dk_159 0 30 (dk_at dksX3_one_2 18 rfl rfl)
theorem dX3_one_66 : decode cX3_one 66 = .ok (.aload_n 0, 1) := dk_42 (dk_at dksX3_one_2 21 rfl rfl)
theorem dX3_one_67 : decode cX3_one 67 = .ok (.iload_n 1, 1) := dk_27 (dk_at dksX3_one_2 22 rfl rfl)
theorem dX3_one_68 : decode cX3_one 68 = .ok (.invokevirtual 207, 3) := dk_182 0 207 (dk_at dksX3_one_3 0 rfl rfl)
theorem dX3_one_71 : decode cX3_one 71 = .ok (.ifCond .ne 9, 3) := dk_154 0 9 (dk_at dksX3_one_3 3 rfl rfl)
theorem dX3_one_74 : decode cX3_one 74 = .ok (.aload_n 0, 1) := dk_42 (dk_at dksX3_one_3 6 rfl rfl)
theorem dX3_one_75 : decode cX3_one 75 = .ok (.iconst 5, 1) := dk_8 (dk_at dksX3_one_3 7 rfl rfl)
theorem dX3_one_76 : decode cX3_one 76 = .ok (.invokevirtual 70, 3) := dk_182 0 70 (dk_at dksX3_one_3 8 rfl rfl)
theorem dX3_one_79 : decode cX3_one 79 = .ok (.athrow, 1) := dk_191 (dk_at dksX3_one_3 11 rfl rfl)
theorem dX3_one_80 : decode cX3_one 80 = .ok (.aload_n 0, 1) := dk_42 (dk_at dksX3_one_3 12 rfl rfl)
theorem dX3_one_81 : decode cX3_one 81 = .ok (.invokevirtual 74, 3) := dk_182 0 74 (dk_at dksX3_one_3 13 rfl rfl)
theorem dX3_one_84 : decode cX3_one 84 = .ok (.new 210, 3) := dk_187 0 210 (dk_at dksX3_one_3 16 rfl rfl)
theorem dX3_one_87 : decode cX3_one 87 = .ok (.dup, 1) := dk_89 (dk_at dksX3_one_3 19 rfl rfl)
theorem dX3_one_88 : decode cX3_one 88 = .ok (.iload_n 1, 1) := dk_27 (dk_at dksX3_one_3 20 rfl rfl)
theorem dX3_one_89 : decode cX3_one 89 = .ok (.invokespecial 212, 3) := dk_183 0 212 (dk_at dksX3_one_3 21 rfl rfl)
theorem dX3_one_92 : decode cX3_one 92 = .ok (.areturn, 1) := dk_176 (dk_at dksX3_one_4 0 rfl rfl)
theorem dX3_one_93 : decode cX3_one 93 = .ok (.aload_n 0, 1) := dk_42 (dk_at dksX3_one_4 1 rfl rfl)
theorem dX3_one_94 : decode cX3_one 94 = .ok (.getfield 25, 3) := dk_180 0 25 (dk_at dksX3_one_4 2 rfl rfl)
theorem dX3_one_97 : decode cX3_one 97 = .ok (.bipush 40, 2) := dk_16 40 (dk_at dksX3_one_4 5 rfl rfl)
theorem dX3_one_99 : decode cX3_one 99 = .ok (.if_icmp .ne 21, 3) := dk_160 0 21 (dk_at dksX3_one_4 7 rfl rfl)
theorem dX3_one_102 : decode cX3_one 102 = .ok (.aload_n 0, 1) := dk_42 (dk_at dksX3_one_4 10 rfl rfl)
theorem dX3_one_103 : decode cX3_one 103 = .ok (.invokevirtual 147, 3) := dk_182 0 147 (dk_at dksX3_one_4 11 rfl rfl)
theorem dX3_one_106 : decode cX3_one 106 = .ok (.aload_n 0, 1) := dk_42 (dk_at dksX3_one_4 14 rfl rfl)
theorem dX3_one_107 : decode cX3_one 107 = .ok (.invokevirtual 93, 3) := dk_182 0 93 (dk_at dksX3_one_4 15 rfl rfl)
theorem dX3_one_110 : decode cX3_one 110 = .ok (.astore_n 2, 1) := dk_77 (dk_at dksX3_one_4 18 rfl rfl)
theorem dX3_one_111 : decode cX3_one 111 = .ok (.aload_n 0, 1) := dk_42 (dk_at dksX3_one_4 19 rfl rfl)
theorem dX3_one_112 : decode cX3_one 112 = .ok (.bipush 41, 2) := dk_16 41 (dk_at dksX3_one_4 20 rfl rfl)
theorem dX3_one_114 : decode cX3_one 114 = .ok (.invokevirtual 111, 3) := dk_182 0 111 (dk_at dksX3_one_5 0 rfl rfl)
theorem dX3_one_117 : decode cX3_one 117 = .ok (.goto 75, 3) := dk_167 0 75 (dk_at dksX3_one_5 3 rfl rfl)
theorem dX3_one_120 : decode cX3_one 120 = .ok (.aload_n 0, 1) := dk_42 (dk_at dksX3_one_5 6 rfl rfl)
theorem dX3_one_121 : decode cX3_one 121 = .ok (.getfield 25, 3) := dk_180 0 25 (dk_at dksX3_one_5 7 rfl rfl)
theorem dX3_one_124 : decode cX3_one 124 = .ok (.bipush 45, 2) := dk_16 45 (dk_at dksX3_one_5 10 rfl rfl)
theorem dX3_one_126 : decode cX3_one 126 = .ok (.if_icmp .eq 13, 3) := dk_159 0 13 (dk_at dksX3_one_5 12 rfl rfl)
theorem dX3_one_129 : decode cX3_one 129 = .ok (.aload_n 0, 1) := dk_42 (dk_at dksX3_one_5 15 rfl rfl)
theorem dX3_one_130 : decode cX3_one 130 = .ok (.getfield 25, 3) := dk_180 0 25 (dk_at dksX3_one_5 16 rfl rfl)
theorem dX3_one_133 : decode cX3_one 133 = .ok (.sipush 215, 3) := dk_17 0 215 (dk_at dksX3_one_5 19 rfl rfl)
theorem dX3_one_136 : decode cX3_one 136 = .ok (.if_icmp .ne 50, 3) := dk_160 0 50 (dk_at dksX3_one_6 0 rfl rfl)
theorem dX3_one_139 : decode cX3_one 139 = .ok (.aload_n 0, 1) := dk_42 (dk_at dksX3_one_6 3 rfl rfl)
theorem dX3_one_140 : decode cX3_one 140 = .ok (.getfield 25, 3) := dk_180 0 25 (dk_at dksX3_one_6 4 rfl rfl)
theorem dX3_one_143 : decode cX3_one 143 = .ok (.istore_n 3, 1) := dk_62 (dk_at dksX3_one_6 7 rfl rfl)
theorem dX3_one_144 : decode cX3_one 144 = .ok (.aload_n 0, 1) := dk_42 (dk_at dksX3_one_6 8 rfl rfl)
theorem dX3_one_145 : decode cX3_one 145 = .ok (.invokevirtual 147, 3) := dk_182 0 147 (dk_at dksX3_one_6 9 rfl rfl)
theorem dX3_one_148 : decode cX3_one 148 = .ok (.aload_n 0, 1) := dk_42 (dk_at dksX3_one_6 12 rfl rfl)
theorem dX3_one_149 : decode cX3_one 149 = .ok (.invokevirtual 174, 3) := dk_182 0 174 (dk_at dksX3_one_6 13 rfl rfl)
theorem dX3_one_152 : decode cX3_one 152 = .ok (.astore 4, 2) := dk_58 4 (dk_at dksX3_one_6 16 rfl rfl)
theorem dX3_one_154 : decode cX3_one 154 = .ok (.iload_n 3, 1) := dk_29 (dk_at dksX3_one_6 18 rfl rfl)
theorem dX3_one_155 : decode cX3_one 155 = .ok (.sipush 215, 3) := dk_17 0 215 (dk_at dksX3_one_6 19 rfl rfl)
theorem dX3_one_158 : decode cX3_one 158 = .ok (.if_icmp .ne 15, 3) := dk_160 0 15 (dk_at dksX3_one_7 0 rfl rfl)
theorem dX3_one_161 : decode cX3_one 161 = .ok (.new 213, 3) := dk_187 0 213 (dk_at dksX3_one_7 3 rfl rfl)
theorem dX3_one_164 : decode cX3_one 164 = .ok (.dup, 1) := dk_89 (dk_at dksX3_one_7 6 rfl rfl)
theorem dX3_one_165 : decode cX3_one 165 = .ok (.aload 4, 2) := dk_25 4 (dk_at dksX3_one_7 7 rfl rfl)
theorem dX3_one_167 : decode cX3_one 167 = .ok (.invokespecial 215, 3) := dk_183 0 215 (dk_at dksX3_one_7 9 rfl rfl)
theorem dX3_one_170 : decode cX3_one 170 = .ok (.goto 12, 3) := dk_167 0 12 (dk_at dksX3_one_7 12 rfl rfl)
theorem dX3_one_173 : decode cX3_one 173 = .ok (.new 216, 3) := dk_187 0 216 (dk_at dksX3_one_7 15 rfl rfl)
theorem dX3_one_176 : decode cX3_one 176 = .ok (.dup, 1) := dk_89 (dk_at dksX3_one_7 18 rfl rfl)
theorem dX3_one_177 : decode cX3_one 177 = .ok (.aload 4, 2) := dk_25 4 (dk_at dksX3_one_7 19 rfl rfl)
theorem dX3_one_179 : decode cX3_one 179 = .ok (.invokespecial 218, 3) := dk_183 0 218 (dk_at dksX3_one_7 21 rfl rfl)
theorem dX3_one_182 : decode cX3_one 182 = .ok (.astore_n 2, 1) := dk_77 (dk_at dksX3_one_8 0 rfl rfl)
theorem dX3_one_183 : decode cX3_one 183 = .ok (.goto 9, 3) := dk_167 0 9 (dk_at dksX3_one_8 1 rfl rfl)
theorem dX3_one_186 : decode cX3_one 186 = .ok (.aload_n 0, 1) := dk_42 (dk_at dksX3_one_8 4 rfl rfl)
theorem dX3_one_187 : decode cX3_one 187 = .ok (.iconst 1, 1) := dk_4 (dk_at dksX3_one_8 5 rfl rfl)
theorem dX3_one_188 : decode cX3_one 188 = .ok (.invokevirtual 70, 3) := dk_182 0 70 (dk_at dksX3_one_8 6 rfl rfl)
theorem dX3_one_191 : decode cX3_one 191 = .ok (.athrow, 1) := dk_191 (dk_at dksX3_one_8 9 rfl rfl)
theorem dX3_one_192 : decode cX3_one 192 = .ok (.aload_n 0, 1) := dk_42 (dk_at dksX3_one_8 10 rfl rfl)
theorem dX3_one_193 : decode cX3_one 193 = .ok (.dup, 1) := dk_89 (dk_at dksX3_one_8 11 rfl rfl)
theorem dX3_one_194 : decode cX3_one 194 = .ok (.getfield 77, 3) := dk_180 0 77 (dk_at dksX3_one_8 12 rfl rfl)
theorem dX3_one_197 : decode cX3_one 197 = .ok (.iconst 1, 1) := dk_4 (dk_at dksX3_one_8 15 rfl rfl)
theorem dX3_one_198 : decode cX3_one 198 = .ok (.isub, 1) := dk_100 (dk_at dksX3_one_8 16 rfl rfl)
theorem dX3_one_199 : decode cX3_one 199 = .ok (.putfield 77, 3) := dk_181 0 77 (dk_at dksX3_one_8 17 rfl rfl)
theorem dX3_one_202 : decode cX3_one 202 = .ok (.aload_n 2, 1) := dk_44 (dk_at dksX3_one_8 20 rfl rfl)
theorem dX3_one_203 : decode cX3_one 203 = .ok (.areturn, 1) := dk_176 (dk_at dksX3_one_8 21 rfl rfl)
abbrev cX3_number : ByteArray := prog_17_method_8_code
def yX3_number : MethodName := ⟨RX3, "number", "(II)I"⟩
def dkwX3_number_2 : List UInt8 := [172]
abbrev dktX3_number_2 : List UInt8 := dkwX3_number_2 ++ []
def dkwX3_number_1 : List UInt8 := [42, 180, 0, 43, 28, 164, 0, 9, 42, 5, 182, 0, 70, 191, 42, 180, 0, 43, 62, 42, 182, 0, 74, 29]
abbrev dktX3_number_1 : List UInt8 := dkwX3_number_1 ++ dktX3_number_2
def dkwX3_number_0 : List UInt8 := [42, 180, 0, 25, 17, 1, 44, 159, 0, 9, 42, 4, 182, 0, 70, 191, 42, 180, 0, 43, 27, 161, 0, 11]
abbrev dktX3_number_0 : List UInt8 := dkwX3_number_0 ++ dktX3_number_1
theorem dksX3_number_0 : cX3_number.data.toList.drop 0 = dktX3_number_0 := by decide +kernel
theorem dksX3_number_1 : cX3_number.data.toList.drop 24 = dktX3_number_1 := dk_seg dksX3_number_0 24 rfl rfl
theorem dksX3_number_2 : cX3_number.data.toList.drop 48 = dktX3_number_2 := dk_seg dksX3_number_1 24 rfl rfl
theorem dX3_number_0 : decode cX3_number 0 = .ok (.aload_n 0, 1) := dk_42 (dk_at dksX3_number_0 0 rfl rfl)
theorem dX3_number_1 : decode cX3_number 1 = .ok (.getfield 25, 3) := dk_180 0 25 (dk_at dksX3_number_0 1 rfl rfl)
theorem dX3_number_4 : decode cX3_number 4 = .ok (.sipush 300, 3) := dk_17 1 44 (dk_at dksX3_number_0 4 rfl rfl)
theorem dX3_number_7 : decode cX3_number 7 = .ok (.if_icmp .eq 9, 3) := dk_159 0 9 (dk_at dksX3_number_0 7 rfl rfl)
theorem dX3_number_10 : decode cX3_number 10 = .ok (.aload_n 0, 1) := dk_42 (dk_at dksX3_number_0 10 rfl rfl)
theorem dX3_number_11 : decode cX3_number 11 = .ok (.iconst 1, 1) := dk_4 (dk_at dksX3_number_0 11 rfl rfl)
theorem dX3_number_12 : decode cX3_number 12 = .ok (.invokevirtual 70, 3) := dk_182 0 70 (dk_at dksX3_number_0 12 rfl rfl)
theorem dX3_number_15 : decode cX3_number 15 = .ok (.athrow, 1) := dk_191 (dk_at dksX3_number_0 15 rfl rfl)
theorem dX3_number_16 : decode cX3_number 16 = .ok (.aload_n 0, 1) := dk_42 (dk_at dksX3_number_0 16 rfl rfl)
theorem dX3_number_17 : decode cX3_number 17 = .ok (.getfield 43, 3) := dk_180 0 43 (dk_at dksX3_number_0 17 rfl rfl)
theorem dX3_number_20 : decode cX3_number 20 = .ok (.iload_n 1, 1) := dk_27 (dk_at dksX3_number_0 20 rfl rfl)
theorem dX3_number_21 : decode cX3_number 21 = .ok (.if_icmp .lt 11, 3) := dk_161 0 11 (dk_at dksX3_number_0 21 rfl rfl)
theorem dX3_number_24 : decode cX3_number 24 = .ok (.aload_n 0, 1) := dk_42 (dk_at dksX3_number_1 0 rfl rfl)
theorem dX3_number_25 : decode cX3_number 25 = .ok (.getfield 43, 3) := dk_180 0 43 (dk_at dksX3_number_1 1 rfl rfl)
theorem dX3_number_28 : decode cX3_number 28 = .ok (.iload_n 2, 1) := dk_28 (dk_at dksX3_number_1 4 rfl rfl)
theorem dX3_number_29 : decode cX3_number 29 = .ok (.if_icmp .le 9, 3) := dk_164 0 9 (dk_at dksX3_number_1 5 rfl rfl)
theorem dX3_number_32 : decode cX3_number 32 = .ok (.aload_n 0, 1) := dk_42 (dk_at dksX3_number_1 8 rfl rfl)
theorem dX3_number_33 : decode cX3_number 33 = .ok (.iconst 2, 1) := dk_5 (dk_at dksX3_number_1 9 rfl rfl)
theorem dX3_number_34 : decode cX3_number 34 = .ok (.invokevirtual 70, 3) := dk_182 0 70 (dk_at dksX3_number_1 10 rfl rfl)
theorem dX3_number_37 : decode cX3_number 37 = .ok (.athrow, 1) := dk_191 (dk_at dksX3_number_1 13 rfl rfl)
theorem dX3_number_38 : decode cX3_number 38 = .ok (.aload_n 0, 1) := dk_42 (dk_at dksX3_number_1 14 rfl rfl)
theorem dX3_number_39 : decode cX3_number 39 = .ok (.getfield 43, 3) := dk_180 0 43 (dk_at dksX3_number_1 15 rfl rfl)
theorem dX3_number_42 : decode cX3_number 42 = .ok (.istore_n 3, 1) := dk_62 (dk_at dksX3_number_1 18 rfl rfl)
theorem dX3_number_43 : decode cX3_number 43 = .ok (.aload_n 0, 1) := dk_42 (dk_at dksX3_number_1 19 rfl rfl)
theorem dX3_number_44 : decode cX3_number 44 = .ok (.invokevirtual 74, 3) := dk_182 0 74 (dk_at dksX3_number_1 20 rfl rfl)
theorem dX3_number_47 : decode cX3_number 47 = .ok (.iload_n 3, 1) := dk_29 (dk_at dksX3_number_1 23 rfl rfl)
theorem dX3_number_48 : decode cX3_number 48 = .ok (.ireturn, 1) := dk_172 (dk_at dksX3_number_2 0 rfl rfl)
abbrev cX3_choice : ByteArray := prog_17_method_21_code
def yX3_choice : MethodName := ⟨RX3, "choice", "()LApologyUp$Sum;"⟩
def dkwX3_choice_2 : List UInt8 := [100, 181, 0, 77, 187, 0, 189, 89, 43, 44, 45, 183, 0, 191, 176]
abbrev dktX3_choice_2 : List UInt8 := dkwX3_choice_2 ++ []
def dkwX3_choice_1 : List UInt8 := [17, 0, 218, 182, 0, 111, 42, 182, 0, 93, 78, 42, 17, 0, 219, 182, 0, 111, 42, 89, 180, 0, 77, 4]
abbrev dktX3_choice_1 : List UInt8 := dkwX3_choice_1 ++ dktX3_choice_2
def dkwX3_choice_0 : List UInt8 := [42, 182, 0, 147, 42, 182, 0, 186, 76, 42, 17, 0, 217, 182, 0, 111, 42, 182, 0, 93, 77, 42]
abbrev dktX3_choice_0 : List UInt8 := dkwX3_choice_0 ++ dktX3_choice_1
theorem dksX3_choice_0 : cX3_choice.data.toList.drop 0 = dktX3_choice_0 := by decide +kernel
theorem dksX3_choice_1 : cX3_choice.data.toList.drop 22 = dktX3_choice_1 := dk_seg dksX3_choice_0 22 rfl rfl
theorem dksX3_choice_2 : cX3_choice.data.toList.drop 46 = dktX3_choice_2 := dk_seg dksX3_choice_1 24 rfl rfl
theorem dX3_choice_0 : decode cX3_choice 0 = .ok (.aload_n 0, 1) := dk_42 (dk_at dksX3_choice_0 0 rfl rfl)
theorem dX3_choice_1 : decode cX3_choice 1 = .ok (.invokevirtual 147, 3) := dk_182 0 147 (dk_at dksX3_choice_0 1 rfl rfl)
theorem dX3_choice_4 : decode cX3_choice 4 = .ok (.aload_n 0, 1) := dk_42 (dk_at dksX3_choice_0 4 rfl rfl)
theorem dX3_choice_5 : decode cX3_choice 5 = .ok (.invokevirtual 186, 3) := dk_182 0 186 (dk_at dksX3_choice_0 5 rfl rfl)
theorem dX3_choice_8 : decode cX3_choice 8 = .ok (.astore_n 1, 1) := dk_76 (dk_at dksX3_choice_0 8 rfl rfl)
theorem dX3_choice_9 : decode cX3_choice 9 = .ok (.aload_n 0, 1) := dk_42 (dk_at dksX3_choice_0 9 rfl rfl)
theorem dX3_choice_10 : decode cX3_choice 10 = .ok (.sipush 217, 3) := dk_17 0 217 (dk_at dksX3_choice_0 10 rfl rfl)
theorem dX3_choice_13 : decode cX3_choice 13 = .ok (.invokevirtual 111, 3) := dk_182 0 111 (dk_at dksX3_choice_0 13 rfl rfl)
theorem dX3_choice_16 : decode cX3_choice 16 = .ok (.aload_n 0, 1) := dk_42 (dk_at dksX3_choice_0 16 rfl rfl)
theorem dX3_choice_17 : decode cX3_choice 17 = .ok (.invokevirtual 93, 3) := dk_182 0 93 (dk_at dksX3_choice_0 17 rfl rfl)
theorem dX3_choice_20 : decode cX3_choice 20 = .ok (.astore_n 2, 1) := dk_77 (dk_at dksX3_choice_0 20 rfl rfl)
theorem dX3_choice_21 : decode cX3_choice 21 = .ok (.aload_n 0, 1) := dk_42 (dk_at dksX3_choice_0 21 rfl rfl)
theorem dX3_choice_22 : decode cX3_choice 22 = .ok (.sipush 218, 3) := dk_17 0 218 (dk_at dksX3_choice_1 0 rfl rfl)
theorem dX3_choice_25 : decode cX3_choice 25 = .ok (.invokevirtual 111, 3) := dk_182 0 111 (dk_at dksX3_choice_1 3 rfl rfl)
theorem dX3_choice_28 : decode cX3_choice 28 = .ok (.aload_n 0, 1) := dk_42 (dk_at dksX3_choice_1 6 rfl rfl)
theorem dX3_choice_29 : decode cX3_choice 29 = .ok (.invokevirtual 93, 3) := dk_182 0 93 (dk_at dksX3_choice_1 7 rfl rfl)
theorem dX3_choice_32 : decode cX3_choice 32 = .ok (.astore_n 3, 1) := dk_78 (dk_at dksX3_choice_1 10 rfl rfl)
theorem dX3_choice_33 : decode cX3_choice 33 = .ok (.aload_n 0, 1) := dk_42 (dk_at dksX3_choice_1 11 rfl rfl)
theorem dX3_choice_34 : decode cX3_choice 34 = .ok (.sipush 219, 3) := dk_17 0 219 (dk_at dksX3_choice_1 12 rfl rfl)
theorem dX3_choice_37 : decode cX3_choice 37 = .ok (.invokevirtual 111, 3) := dk_182 0 111 (dk_at dksX3_choice_1 15 rfl rfl)
theorem dX3_choice_40 : decode cX3_choice 40 = .ok (.aload_n 0, 1) := dk_42 (dk_at dksX3_choice_1 18 rfl rfl)
theorem dX3_choice_41 : decode cX3_choice 41 = .ok (.dup, 1) := dk_89 (dk_at dksX3_choice_1 19 rfl rfl)
theorem dX3_choice_42 : decode cX3_choice 42 = .ok (.getfield 77, 3) := dk_180 0 77 (dk_at dksX3_choice_1 20 rfl rfl)
theorem dX3_choice_45 : decode cX3_choice 45 = .ok (.iconst 1, 1) := dk_4 (dk_at dksX3_choice_1 23 rfl rfl)
theorem dX3_choice_46 : decode cX3_choice 46 = .ok (.isub, 1) := dk_100 (dk_at dksX3_choice_2 0 rfl rfl)
theorem dX3_choice_47 : decode cX3_choice 47 = .ok (.putfield 77, 3) := dk_181 0 77 (dk_at dksX3_choice_2 1 rfl rfl)
theorem dX3_choice_50 : decode cX3_choice 50 = .ok (.new 189, 3) := dk_187 0 189 (dk_at dksX3_choice_2 4 rfl rfl)
theorem dX3_choice_53 : decode cX3_choice 53 = .ok (.dup, 1) := dk_89 (dk_at dksX3_choice_2 7 rfl rfl)
theorem dX3_choice_54 : decode cX3_choice 54 = .ok (.aload_n 1, 1) := dk_43 (dk_at dksX3_choice_2 8 rfl rfl)
theorem dX3_choice_55 : decode cX3_choice 55 = .ok (.aload_n 2, 1) := dk_44 (dk_at dksX3_choice_2 9 rfl rfl)
theorem dX3_choice_56 : decode cX3_choice 56 = .ok (.aload_n 3, 1) := dk_45 (dk_at dksX3_choice_2 10 rfl rfl)
theorem dX3_choice_57 : decode cX3_choice 57 = .ok (.invokespecial 191, 3) := dk_183 0 191 (dk_at dksX3_choice_2 11 rfl rfl)
theorem dX3_choice_60 : decode cX3_choice 60 = .ok (.areturn, 1) := dk_176 (dk_at dksX3_choice_2 14 rfl rfl)
abbrev cX3_opens : ByteArray := prog_17_method_9_code
def yX3_opens : MethodName := ⟨RX3, "opens", "()V"⟩
def dkwX3_opens_1 : List UInt8 := [181, 0, 77, 42, 182, 0, 74, 177]
abbrev dktX3_opens_1 : List UInt8 := dkwX3_opens_1 ++ []
def dkwX3_opens_0 : List UInt8 := [42, 180, 0, 77, 16, 8, 160, 0, 9, 42, 6, 182, 0, 70, 191, 42, 89, 180, 0, 77, 4, 96]
abbrev dktX3_opens_0 : List UInt8 := dkwX3_opens_0 ++ dktX3_opens_1
theorem dksX3_opens_0 : cX3_opens.data.toList.drop 0 = dktX3_opens_0 := by decide +kernel
theorem dksX3_opens_1 : cX3_opens.data.toList.drop 22 = dktX3_opens_1 := dk_seg dksX3_opens_0 22 rfl rfl
theorem dX3_opens_0 : decode cX3_opens 0 = .ok (.aload_n 0, 1) := dk_42 (dk_at dksX3_opens_0 0 rfl rfl)
theorem dX3_opens_1 : decode cX3_opens 1 = .ok (.getfield 77, 3) := dk_180 0 77 (dk_at dksX3_opens_0 1 rfl rfl)
theorem dX3_opens_4 : decode cX3_opens 4 = .ok (.bipush 8, 2) := dk_16 8 (dk_at dksX3_opens_0 4 rfl rfl)
theorem dX3_opens_6 : decode cX3_opens 6 = .ok (.if_icmp .ne 9, 3) := dk_160 0 9 (dk_at dksX3_opens_0 6 rfl rfl)
theorem dX3_opens_9 : decode cX3_opens 9 = .ok (.aload_n 0, 1) := dk_42 (dk_at dksX3_opens_0 9 rfl rfl)
theorem dX3_opens_10 : decode cX3_opens 10 = .ok (.iconst 3, 1) := dk_6 (dk_at dksX3_opens_0 10 rfl rfl)
theorem dX3_opens_11 : decode cX3_opens 11 = .ok (.invokevirtual 70, 3) := dk_182 0 70 (dk_at dksX3_opens_0 11 rfl rfl)
theorem dX3_opens_14 : decode cX3_opens 14 = .ok (.athrow, 1) := dk_191 (dk_at dksX3_opens_0 14 rfl rfl)
theorem dX3_opens_15 : decode cX3_opens 15 = .ok (.aload_n 0, 1) := dk_42 (dk_at dksX3_opens_0 15 rfl rfl)
theorem dX3_opens_16 : decode cX3_opens 16 = .ok (.dup, 1) := dk_89 (dk_at dksX3_opens_0 16 rfl rfl)
theorem dX3_opens_17 : decode cX3_opens 17 = .ok (.getfield 77, 3) := dk_180 0 77 (dk_at dksX3_opens_0 17 rfl rfl)
theorem dX3_opens_20 : decode cX3_opens 20 = .ok (.iconst 1, 1) := dk_4 (dk_at dksX3_opens_0 20 rfl rfl)
theorem dX3_opens_21 : decode cX3_opens 21 = .ok (.iadd, 1) := dk_96 (dk_at dksX3_opens_0 21 rfl rfl)
theorem dX3_opens_22 : decode cX3_opens 22 = .ok (.putfield 77, 3) := dk_181 0 77 (dk_at dksX3_opens_1 0 rfl rfl)
theorem dX3_opens_25 : decode cX3_opens 25 = .ok (.aload_n 0, 1) := dk_42 (dk_at dksX3_opens_1 3 rfl rfl)
theorem dX3_opens_26 : decode cX3_opens 26 = .ok (.invokevirtual 74, 3) := dk_182 0 74 (dk_at dksX3_opens_1 4 rfl rfl)
theorem dX3_opens_29 : decode cX3_opens 29 = .ok (.return_, 1) := dk_177 (dk_at dksX3_opens_1 7 rfl rfl)
abbrev cX3_either : ByteArray := prog_17_method_13_code
def yX3_either : MethodName := ⟨RX3, "either", "()LApologyUp$Asked;"⟩
def dkwX3_either_2 : List UInt8 := [160, 0, 14, 43, 3, 182, 0, 133, 192, 0, 137, 167, 0, 12, 187, 0, 139, 89, 3, 43, 183, 0, 141, 176]
abbrev dktX3_either_2 : List UInt8 := dkwX3_either_2 ++ []
def dkwX3_either_1 : List UInt8 := [160, 0, 19, 42, 182, 0, 74, 43, 42, 182, 0, 127, 182, 0, 105, 87, 167, 255, 233, 43, 182, 0, 131, 4]
abbrev dktX3_either_1 : List UInt8 := dkwX3_either_1 ++ dktX3_either_2
def dkwX3_either_0 : List UInt8 := [187, 0, 106, 89, 183, 0, 126, 76, 43, 42, 182, 0, 127, 182, 0, 105, 87, 42, 180, 0, 25, 17, 0, 220]
abbrev dktX3_either_0 : List UInt8 := dkwX3_either_0 ++ dktX3_either_1
theorem dksX3_either_0 : cX3_either.data.toList.drop 0 = dktX3_either_0 := by decide +kernel
theorem dksX3_either_1 : cX3_either.data.toList.drop 24 = dktX3_either_1 := dk_seg dksX3_either_0 24 rfl rfl
theorem dksX3_either_2 : cX3_either.data.toList.drop 48 = dktX3_either_2 := dk_seg dksX3_either_1 24 rfl rfl
theorem dX3_either_0 : decode cX3_either 0 = .ok (.new 106, 3) := dk_187 0 106 (dk_at dksX3_either_0 0 rfl rfl)
theorem dX3_either_3 : decode cX3_either 3 = .ok (.dup, 1) := dk_89 (dk_at dksX3_either_0 3 rfl rfl)
theorem dX3_either_4 : decode cX3_either 4 = .ok (.invokespecial 126, 3) := dk_183 0 126 (dk_at dksX3_either_0 4 rfl rfl)
theorem dX3_either_7 : decode cX3_either 7 = .ok (.astore_n 1, 1) := dk_76 (dk_at dksX3_either_0 7 rfl rfl)
theorem dX3_either_8 : decode cX3_either 8 = .ok (.aload_n 1, 1) := dk_43 (dk_at dksX3_either_0 8 rfl rfl)
theorem dX3_either_9 : decode cX3_either 9 = .ok (.aload_n 0, 1) := dk_42 (dk_at dksX3_either_0 9 rfl rfl)
theorem dX3_either_10 : decode cX3_either 10 = .ok (.invokevirtual 127, 3) := dk_182 0 127 (dk_at dksX3_either_0 10 rfl rfl)
theorem dX3_either_13 : decode cX3_either 13 = .ok (.invokevirtual 105, 3) := dk_182 0 105 (dk_at dksX3_either_0 13 rfl rfl)
theorem dX3_either_16 : decode cX3_either 16 = .ok (.pop, 1) := dk_87 (dk_at dksX3_either_0 16 rfl rfl)
theorem dX3_either_17 : decode cX3_either 17 = .ok (.aload_n 0, 1) := dk_42 (dk_at dksX3_either_0 17 rfl rfl)
theorem dX3_either_18 : decode cX3_either 18 = .ok (.getfield 25, 3) := dk_180 0 25 (dk_at dksX3_either_0 18 rfl rfl)
theorem dX3_either_21 : decode cX3_either 21 = .ok (.sipush 220, 3) := dk_17 0 220 (dk_at dksX3_either_0 21 rfl rfl)
theorem dX3_either_24 : decode cX3_either 24 = .ok (.if_icmp .ne 19, 3) := dk_160 0 19 (dk_at dksX3_either_1 0 rfl rfl)
theorem dX3_either_27 : decode cX3_either 27 = .ok (.aload_n 0, 1) := dk_42 (dk_at dksX3_either_1 3 rfl rfl)
theorem dX3_either_28 : decode cX3_either 28 = .ok (.invokevirtual 74, 3) := dk_182 0 74 (dk_at dksX3_either_1 4 rfl rfl)
theorem dX3_either_31 : decode cX3_either 31 = .ok (.aload_n 1, 1) := dk_43 (dk_at dksX3_either_1 7 rfl rfl)
theorem dX3_either_32 : decode cX3_either 32 = .ok (.aload_n 0, 1) := dk_42 (dk_at dksX3_either_1 8 rfl rfl)
theorem dX3_either_33 : decode cX3_either 33 = .ok (.invokevirtual 127, 3) := dk_182 0 127 (dk_at dksX3_either_1 9 rfl rfl)
theorem dX3_either_36 : decode cX3_either 36 = .ok (.invokevirtual 105, 3) := dk_182 0 105 (dk_at dksX3_either_1 12 rfl rfl)
theorem dX3_either_39 : decode cX3_either 39 = .ok (.pop, 1) := dk_87 (dk_at dksX3_either_1 15 rfl rfl)
theorem dX3_either_40 : decode cX3_either 40 = .ok (.goto (-23), 3) := dk_167 255 233 (dk_at dksX3_either_1 16 rfl rfl)
theorem dX3_either_43 : decode cX3_either 43 = .ok (.aload_n 1, 1) := dk_43 (dk_at dksX3_either_1 19 rfl rfl)
theorem dX3_either_44 : decode cX3_either 44 = .ok (.invokevirtual 131, 3) := dk_182 0 131 (dk_at dksX3_either_1 20 rfl rfl)
theorem dX3_either_47 : decode cX3_either 47 = .ok (.iconst 1, 1) := dk_4 (dk_at dksX3_either_1 23 rfl rfl)
theorem dX3_either_48 : decode cX3_either 48 = .ok (.if_icmp .ne 14, 3) := dk_160 0 14 (dk_at dksX3_either_2 0 rfl rfl)
theorem dX3_either_51 : decode cX3_either 51 = .ok (.aload_n 1, 1) := dk_43 (dk_at dksX3_either_2 3 rfl rfl)
theorem dX3_either_52 : decode cX3_either 52 = .ok (.iconst 0, 1) := dk_3 (dk_at dksX3_either_2 4 rfl rfl)
theorem dX3_either_53 : decode cX3_either 53 = .ok (.invokevirtual 133, 3) := dk_182 0 133 (dk_at dksX3_either_2 5 rfl rfl)
theorem dX3_either_56 : decode cX3_either 56 = .ok (.checkcast 137, 3) := dk_192 0 137 (dk_at dksX3_either_2 8 rfl rfl)
theorem dX3_either_59 : decode cX3_either 59 = .ok (.goto 12, 3) := dk_167 0 12 (dk_at dksX3_either_2 11 rfl rfl)
theorem dX3_either_62 : decode cX3_either 62 = .ok (.new 139, 3) := dk_187 0 139 (dk_at dksX3_either_2 14 rfl rfl)
theorem dX3_either_65 : decode cX3_either 65 = .ok (.dup, 1) := dk_89 (dk_at dksX3_either_2 17 rfl rfl)
theorem dX3_either_66 : decode cX3_either 66 = .ok (.iconst 0, 1) := dk_3 (dk_at dksX3_either_2 18 rfl rfl)
theorem dX3_either_67 : decode cX3_either 67 = .ok (.aload_n 1, 1) := dk_43 (dk_at dksX3_either_2 19 rfl rfl)
theorem dX3_either_68 : decode cX3_either 68 = .ok (.invokespecial 141, 3) := dk_183 0 141 (dk_at dksX3_either_2 20 rfl rfl)
theorem dX3_either_71 : decode cX3_either 71 = .ok (.areturn, 1) := dk_176 (dk_at dksX3_either_2 23 rfl rfl)
abbrev cX3_both : ByteArray := prog_17_method_14_code
def yX3_both : MethodName := ⟨RX3, "both", "()LApologyUp$Asked;"⟩
def dkwX3_both_2 : List UInt8 := [160, 0, 14, 43, 3, 182, 0, 133, 192, 0, 137, 167, 0, 12, 187, 0, 139, 89, 4, 43, 183, 0, 141, 176]
abbrev dktX3_both_2 : List UInt8 := dkwX3_both_2 ++ []
def dkwX3_both_1 : List UInt8 := [160, 0, 19, 42, 182, 0, 74, 43, 42, 182, 0, 144, 182, 0, 105, 87, 167, 255, 233, 43, 182, 0, 131, 4]
abbrev dktX3_both_1 : List UInt8 := dkwX3_both_1 ++ dktX3_both_2
def dkwX3_both_0 : List UInt8 := [187, 0, 106, 89, 183, 0, 126, 76, 43, 42, 182, 0, 144, 182, 0, 105, 87, 42, 180, 0, 25, 17, 0, 221]
abbrev dktX3_both_0 : List UInt8 := dkwX3_both_0 ++ dktX3_both_1
theorem dksX3_both_0 : cX3_both.data.toList.drop 0 = dktX3_both_0 := by decide +kernel
theorem dksX3_both_1 : cX3_both.data.toList.drop 24 = dktX3_both_1 := dk_seg dksX3_both_0 24 rfl rfl
theorem dksX3_both_2 : cX3_both.data.toList.drop 48 = dktX3_both_2 := dk_seg dksX3_both_1 24 rfl rfl
theorem dX3_both_0 : decode cX3_both 0 = .ok (.new 106, 3) := dk_187 0 106 (dk_at dksX3_both_0 0 rfl rfl)
theorem dX3_both_3 : decode cX3_both 3 = .ok (.dup, 1) := dk_89 (dk_at dksX3_both_0 3 rfl rfl)
theorem dX3_both_4 : decode cX3_both 4 = .ok (.invokespecial 126, 3) := dk_183 0 126 (dk_at dksX3_both_0 4 rfl rfl)
theorem dX3_both_7 : decode cX3_both 7 = .ok (.astore_n 1, 1) := dk_76 (dk_at dksX3_both_0 7 rfl rfl)
theorem dX3_both_8 : decode cX3_both 8 = .ok (.aload_n 1, 1) := dk_43 (dk_at dksX3_both_0 8 rfl rfl)
theorem dX3_both_9 : decode cX3_both 9 = .ok (.aload_n 0, 1) := dk_42 (dk_at dksX3_both_0 9 rfl rfl)
theorem dX3_both_10 : decode cX3_both 10 = .ok (.invokevirtual 144, 3) := dk_182 0 144 (dk_at dksX3_both_0 10 rfl rfl)
theorem dX3_both_13 : decode cX3_both 13 = .ok (.invokevirtual 105, 3) := dk_182 0 105 (dk_at dksX3_both_0 13 rfl rfl)
theorem dX3_both_16 : decode cX3_both 16 = .ok (.pop, 1) := dk_87 (dk_at dksX3_both_0 16 rfl rfl)
theorem dX3_both_17 : decode cX3_both 17 = .ok (.aload_n 0, 1) := dk_42 (dk_at dksX3_both_0 17 rfl rfl)
theorem dX3_both_18 : decode cX3_both 18 = .ok (.getfield 25, 3) := dk_180 0 25 (dk_at dksX3_both_0 18 rfl rfl)
theorem dX3_both_21 : decode cX3_both 21 = .ok (.sipush 221, 3) := dk_17 0 221 (dk_at dksX3_both_0 21 rfl rfl)
theorem dX3_both_24 : decode cX3_both 24 = .ok (.if_icmp .ne 19, 3) := dk_160 0 19 (dk_at dksX3_both_1 0 rfl rfl)
theorem dX3_both_27 : decode cX3_both 27 = .ok (.aload_n 0, 1) := dk_42 (dk_at dksX3_both_1 3 rfl rfl)
theorem dX3_both_28 : decode cX3_both 28 = .ok (.invokevirtual 74, 3) := dk_182 0 74 (dk_at dksX3_both_1 4 rfl rfl)
theorem dX3_both_31 : decode cX3_both 31 = .ok (.aload_n 1, 1) := dk_43 (dk_at dksX3_both_1 7 rfl rfl)
theorem dX3_both_32 : decode cX3_both 32 = .ok (.aload_n 0, 1) := dk_42 (dk_at dksX3_both_1 8 rfl rfl)
theorem dX3_both_33 : decode cX3_both 33 = .ok (.invokevirtual 144, 3) := dk_182 0 144 (dk_at dksX3_both_1 9 rfl rfl)
theorem dX3_both_36 : decode cX3_both 36 = .ok (.invokevirtual 105, 3) := dk_182 0 105 (dk_at dksX3_both_1 12 rfl rfl)
theorem dX3_both_39 : decode cX3_both 39 = .ok (.pop, 1) := dk_87 (dk_at dksX3_both_1 15 rfl rfl)
theorem dX3_both_40 : decode cX3_both 40 = .ok (.goto (-23), 3) := dk_167 255 233 (dk_at dksX3_both_1 16 rfl rfl)
theorem dX3_both_43 : decode cX3_both 43 = .ok (.aload_n 1, 1) := dk_43 (dk_at dksX3_both_1 19 rfl rfl)
theorem dX3_both_44 : decode cX3_both 44 = .ok (.invokevirtual 131, 3) := dk_182 0 131 (dk_at dksX3_both_1 20 rfl rfl)
theorem dX3_both_47 : decode cX3_both 47 = .ok (.iconst 1, 1) := dk_4 (dk_at dksX3_both_1 23 rfl rfl)
theorem dX3_both_48 : decode cX3_both 48 = .ok (.if_icmp .ne 14, 3) := dk_160 0 14 (dk_at dksX3_both_2 0 rfl rfl)
theorem dX3_both_51 : decode cX3_both 51 = .ok (.aload_n 1, 1) := dk_43 (dk_at dksX3_both_2 3 rfl rfl)
theorem dX3_both_52 : decode cX3_both 52 = .ok (.iconst 0, 1) := dk_3 (dk_at dksX3_both_2 4 rfl rfl)
theorem dX3_both_53 : decode cX3_both 53 = .ok (.invokevirtual 133, 3) := dk_182 0 133 (dk_at dksX3_both_2 5 rfl rfl)
theorem dX3_both_56 : decode cX3_both 56 = .ok (.checkcast 137, 3) := dk_192 0 137 (dk_at dksX3_both_2 8 rfl rfl)
theorem dX3_both_59 : decode cX3_both 59 = .ok (.goto 12, 3) := dk_167 0 12 (dk_at dksX3_both_2 11 rfl rfl)
theorem dX3_both_62 : decode cX3_both 62 = .ok (.new 139, 3) := dk_187 0 139 (dk_at dksX3_both_2 14 rfl rfl)
theorem dX3_both_65 : decode cX3_both 65 = .ok (.dup, 1) := dk_89 (dk_at dksX3_both_2 17 rfl rfl)
theorem dX3_both_66 : decode cX3_both 66 = .ok (.iconst 1, 1) := dk_4 (dk_at dksX3_both_2 18 rfl rfl)
theorem dX3_both_67 : decode cX3_both 67 = .ok (.aload_n 1, 1) := dk_43 (dk_at dksX3_both_2 19 rfl rfl)
theorem dX3_both_68 : decode cX3_both 68 = .ok (.invokespecial 141, 3) := dk_183 0 141 (dk_at dksX3_both_2 20 rfl rfl)
theorem dX3_both_71 : decode cX3_both 71 = .ok (.areturn, 1) := dk_176 (dk_at dksX3_both_2 23 rfl rfl)
abbrev cX3_ask : ByteArray := prog_17_method_15_code
def yX3_ask : MethodName := ⟨RX3, "ask", "()LApologyUp$Asked;"⟩
def dkwX3_ask_4 : List UInt8 := [191, 42, 182, 0, 74, 187, 0, 155, 89, 28, 43, 42, 182, 0, 93, 183, 0, 157, 176]
abbrev dktX3_ask_4 : List UInt8 := dkwX3_ask_4 ++ []
def dkwX3_ask_3 : List UInt8 := [16, 35, 159, 0, 23, 28, 17, 1, 47, 159, 0, 16, 28, 17, 1, 48, 159, 0, 9, 42, 4, 182, 0, 70]
abbrev dktX3_ask_3 : List UInt8 := dkwX3_ask_3 ++ dktX3_ask_4
def dkwX3_ask_2 : List UInt8 := [180, 0, 25, 61, 28, 16, 60, 159, 0, 41, 28, 16, 62, 159, 0, 35, 28, 16, 61, 159, 0, 29, 28]
abbrev dktX3_ask_2 : List UInt8 := dkwX3_ask_2 ++ dktX3_ask_3
def dkwX3_ask_1 : List UInt8 := [183, 0, 152, 76, 42, 89, 180, 0, 77, 4, 100, 181, 0, 77, 43, 176, 42, 182, 0, 93, 76, 42]
abbrev dktX3_ask_1 : List UInt8 := dkwX3_ask_1 ++ dktX3_ask_2
def dkwX3_ask_0 : List UInt8 := [42, 180, 0, 25, 17, 0, 222, 160, 0, 31, 42, 182, 0, 147, 187, 0, 150, 89, 42, 182, 0, 144]
abbrev dktX3_ask_0 : List UInt8 := dkwX3_ask_0 ++ dktX3_ask_1
theorem dksX3_ask_0 : cX3_ask.data.toList.drop 0 = dktX3_ask_0 := by decide +kernel
theorem dksX3_ask_1 : cX3_ask.data.toList.drop 22 = dktX3_ask_1 := dk_seg dksX3_ask_0 22 rfl rfl
theorem dksX3_ask_2 : cX3_ask.data.toList.drop 44 = dktX3_ask_2 := dk_seg dksX3_ask_1 22 rfl rfl
theorem dksX3_ask_3 : cX3_ask.data.toList.drop 67 = dktX3_ask_3 := dk_seg dksX3_ask_2 23 rfl rfl
theorem dksX3_ask_4 : cX3_ask.data.toList.drop 91 = dktX3_ask_4 := dk_seg dksX3_ask_3 24 rfl rfl
theorem dX3_ask_0 : decode cX3_ask 0 = .ok (.aload_n 0, 1) := dk_42 (dk_at dksX3_ask_0 0 rfl rfl)
theorem dX3_ask_1 : decode cX3_ask 1 = .ok (.getfield 25, 3) := dk_180 0 25 (dk_at dksX3_ask_0 1 rfl rfl)
theorem dX3_ask_4 : decode cX3_ask 4 = .ok (.sipush 222, 3) := dk_17 0 222 (dk_at dksX3_ask_0 4 rfl rfl)
theorem dX3_ask_7 : decode cX3_ask 7 = .ok (.if_icmp .ne 31, 3) := dk_160 0 31 (dk_at dksX3_ask_0 7 rfl rfl)
theorem dX3_ask_10 : decode cX3_ask 10 = .ok (.aload_n 0, 1) := dk_42 (dk_at dksX3_ask_0 10 rfl rfl)
theorem dX3_ask_11 : decode cX3_ask 11 = .ok (.invokevirtual 147, 3) := dk_182 0 147 (dk_at dksX3_ask_0 11 rfl rfl)
theorem dX3_ask_14 : decode cX3_ask 14 = .ok (.new 150, 3) := dk_187 0 150 (dk_at dksX3_ask_0 14 rfl rfl)
theorem dX3_ask_17 : decode cX3_ask 17 = .ok (.dup, 1) := dk_89 (dk_at dksX3_ask_0 17 rfl rfl)
theorem dX3_ask_18 : decode cX3_ask 18 = .ok (.aload_n 0, 1) := dk_42 (dk_at dksX3_ask_0 18 rfl rfl)
theorem dX3_ask_19 : decode cX3_ask 19 = .ok (.invokevirtual 144, 3) := dk_182 0 144 (dk_at dksX3_ask_0 19 rfl rfl)
theorem dX3_ask_22 : decode cX3_ask 22 = .ok (.invokespecial 152, 3) := dk_183 0 152 (dk_at dksX3_ask_1 0 rfl rfl)
theorem dX3_ask_25 : decode cX3_ask 25 = .ok (.astore_n 1, 1) := dk_76 (dk_at dksX3_ask_1 3 rfl rfl)
theorem dX3_ask_26 : decode cX3_ask 26 = .ok (.aload_n 0, 1) := dk_42 (dk_at dksX3_ask_1 4 rfl rfl)
theorem dX3_ask_27 : decode cX3_ask 27 = .ok (.dup, 1) := dk_89 (dk_at dksX3_ask_1 5 rfl rfl)
theorem dX3_ask_28 : decode cX3_ask 28 = .ok (.getfield 77, 3) := dk_180 0 77 (dk_at dksX3_ask_1 6 rfl rfl)
theorem dX3_ask_31 : decode cX3_ask 31 = .ok (.iconst 1, 1) := dk_4 (dk_at dksX3_ask_1 9 rfl rfl)
theorem dX3_ask_32 : decode cX3_ask 32 = .ok (.isub, 1) := dk_100 (dk_at dksX3_ask_1 10 rfl rfl)
theorem dX3_ask_33 : decode cX3_ask 33 = .ok (.putfield 77, 3) := dk_181 0 77 (dk_at dksX3_ask_1 11 rfl rfl)
theorem dX3_ask_36 : decode cX3_ask 36 = .ok (.aload_n 1, 1) := dk_43 (dk_at dksX3_ask_1 14 rfl rfl)
theorem dX3_ask_37 : decode cX3_ask 37 = .ok (.areturn, 1) := dk_176 (dk_at dksX3_ask_1 15 rfl rfl)
theorem dX3_ask_38 : decode cX3_ask 38 = .ok (.aload_n 0, 1) := dk_42 (dk_at dksX3_ask_1 16 rfl rfl)
theorem dX3_ask_39 : decode cX3_ask 39 = .ok (.invokevirtual 93, 3) := dk_182 0 93 (dk_at dksX3_ask_1 17 rfl rfl)
theorem dX3_ask_42 : decode cX3_ask 42 = .ok (.astore_n 1, 1) := dk_76 (dk_at dksX3_ask_1 20 rfl rfl)
theorem dX3_ask_43 : decode cX3_ask 43 = .ok (.aload_n 0, 1) := dk_42 (dk_at dksX3_ask_1 21 rfl rfl)
theorem dX3_ask_44 : decode cX3_ask 44 = .ok (.getfield 25, 3) := dk_180 0 25 (dk_at dksX3_ask_2 0 rfl rfl)
theorem dX3_ask_47 : decode cX3_ask 47 = .ok (.istore_n 2, 1) := dk_61 (dk_at dksX3_ask_2 3 rfl rfl)
theorem dX3_ask_48 : decode cX3_ask 48 = .ok (.iload_n 2, 1) := dk_28 (dk_at dksX3_ask_2 4 rfl rfl)
theorem dX3_ask_49 : decode cX3_ask 49 = .ok (.bipush 60, 2) := dk_16 60 (dk_at dksX3_ask_2 5 rfl rfl)
theorem dX3_ask_51 : decode cX3_ask 51 = .ok (.if_icmp .eq 41, 3) := dk_159 0 41 (dk_at dksX3_ask_2 7 rfl rfl)
theorem dX3_ask_54 : decode cX3_ask 54 = .ok (.iload_n 2, 1) := dk_28 (dk_at dksX3_ask_2 10 rfl rfl)
theorem dX3_ask_55 : decode cX3_ask 55 = .ok (.bipush 62, 2) := dk_16 62 (dk_at dksX3_ask_2 11 rfl rfl)
theorem dX3_ask_57 : decode cX3_ask 57 = .ok (.if_icmp .eq 35, 3) := dk_159 0 35 (dk_at dksX3_ask_2 13 rfl rfl)
theorem dX3_ask_60 : decode cX3_ask 60 = .ok (.iload_n 2, 1) := dk_28 (dk_at dksX3_ask_2 16 rfl rfl)
theorem dX3_ask_61 : decode cX3_ask 61 = .ok (.bipush 61, 2) := dk_16 61 (dk_at dksX3_ask_2 17 rfl rfl)
theorem dX3_ask_63 : decode cX3_ask 63 = .ok (.if_icmp .eq 29, 3) := dk_159 0 29 (dk_at dksX3_ask_2 19 rfl rfl)
theorem dX3_ask_66 : decode cX3_ask 66 = .ok (.iload_n 2, 1) := dk_28 (dk_at dksX3_ask_2 22 rfl rfl)
theorem dX3_ask_67 : decode cX3_ask 67 = .ok (.bipush 35, 2) := dk_16 35 (dk_at dksX3_ask_3 0 rfl rfl)
theorem dX3_ask_69 : decode cX3_ask 69 = .ok (.if_icmp .eq 23, 3) := dk_159 0 23 (dk_at dksX3_ask_3 2 rfl rfl)
theorem dX3_ask_72 : decode cX3_ask 72 = .ok (.iload_n 2, 1) := dk_28 (dk_at dksX3_ask_3 5 rfl rfl)
theorem dX3_ask_73 : decode cX3_ask 73 = .ok (.sipush 303, 3) := dk_17 1 47 (dk_at dksX3_ask_3 6 rfl rfl)
theorem dX3_ask_76 : decode cX3_ask 76 = .ok (.if_icmp .eq 16, 3) := dk_159 0 16 (dk_at dksX3_ask_3 9 rfl rfl)
theorem dX3_ask_79 : decode cX3_ask 79 = .ok (.iload_n 2, 1) := dk_28 (dk_at dksX3_ask_3 12 rfl rfl)
theorem dX3_ask_80 : decode cX3_ask 80 = .ok (.sipush 304, 3) := dk_17 1 48 (dk_at dksX3_ask_3 13 rfl rfl)
theorem dX3_ask_83 : decode cX3_ask 83 = .ok (.if_icmp .eq 9, 3) := dk_159 0 9 (dk_at dksX3_ask_3 16 rfl rfl)
theorem dX3_ask_86 : decode cX3_ask 86 = .ok (.aload_n 0, 1) := dk_42 (dk_at dksX3_ask_3 19 rfl rfl)
theorem dX3_ask_87 : decode cX3_ask 87 = .ok (.iconst 1, 1) := dk_4 (dk_at dksX3_ask_3 20 rfl rfl)
theorem dX3_ask_88 : decode cX3_ask 88 = .ok (.invokevirtual 70, 3) := dk_182 0 70 (dk_at dksX3_ask_3 21 rfl rfl)
theorem dX3_ask_91 : decode cX3_ask 91 = .ok (.athrow, 1) := dk_191 (dk_at dksX3_ask_4 0 rfl rfl)
theorem dX3_ask_92 : decode cX3_ask 92 = .ok (.aload_n 0, 1) := dk_42 (dk_at dksX3_ask_4 1 rfl rfl)
theorem dX3_ask_93 : decode cX3_ask 93 = .ok (.invokevirtual 74, 3) := dk_182 0 74 (dk_at dksX3_ask_4 2 rfl rfl)
theorem dX3_ask_96 : decode cX3_ask 96 = .ok (.new 155, 3) := dk_187 0 155 (dk_at dksX3_ask_4 5 rfl rfl)
theorem dX3_ask_99 : decode cX3_ask 99 = .ok (.dup, 1) := dk_89 (dk_at dksX3_ask_4 8 rfl rfl)
theorem dX3_ask_100 : decode cX3_ask 100 = .ok (.iload_n 2, 1) := dk_28 (dk_at dksX3_ask_4 9 rfl rfl)
theorem dX3_ask_101 : decode cX3_ask 101 = .ok (.aload_n 1, 1) := dk_43 (dk_at dksX3_ask_4 10 rfl rfl)
theorem dX3_ask_102 : decode cX3_ask 102 = .ok (.aload_n 0, 1) := dk_42 (dk_at dksX3_ask_4 11 rfl rfl)
theorem dX3_ask_103 : decode cX3_ask 103 = .ok (.invokevirtual 93, 3) := dk_182 0 93 (dk_at dksX3_ask_4 12 rfl rfl)
theorem dX3_ask_106 : decode cX3_ask 106 = .ok (.invokespecial 157, 3) := dk_183 0 157 (dk_at dksX3_ask_4 15 rfl rfl)
theorem dX3_ask_109 : decode cX3_ask 109 = .ok (.areturn, 1) := dk_176 (dk_at dksX3_ask_4 18 rfl rfl)
abbrev cX3_want : ByteArray := prog_17_method_7_code
def yX3_want : MethodName := ⟨RX3, "want", "(I)V"⟩
def dkwX3_want_0 : List UInt8 := [42, 180, 0, 25, 27, 159, 0, 9, 42, 4, 182, 0, 70, 191, 42, 182, 0, 74, 177]
abbrev dktX3_want_0 : List UInt8 := dkwX3_want_0 ++ []
theorem dksX3_want_0 : cX3_want.data.toList.drop 0 = dktX3_want_0 := by decide +kernel
theorem dX3_want_0 : decode cX3_want 0 = .ok (.aload_n 0, 1) := dk_42 (dk_at dksX3_want_0 0 rfl rfl)
theorem dX3_want_1 : decode cX3_want 1 = .ok (.getfield 25, 3) := dk_180 0 25 (dk_at dksX3_want_0 1 rfl rfl)
theorem dX3_want_4 : decode cX3_want 4 = .ok (.iload_n 1, 1) := dk_27 (dk_at dksX3_want_0 4 rfl rfl)
theorem dX3_want_5 : decode cX3_want 5 = .ok (.if_icmp .eq 9, 3) := dk_159 0 9 (dk_at dksX3_want_0 5 rfl rfl)
theorem dX3_want_8 : decode cX3_want 8 = .ok (.aload_n 0, 1) := dk_42 (dk_at dksX3_want_0 8 rfl rfl)
theorem dX3_want_9 : decode cX3_want 9 = .ok (.iconst 1, 1) := dk_4 (dk_at dksX3_want_0 9 rfl rfl)
theorem dX3_want_10 : decode cX3_want 10 = .ok (.invokevirtual 70, 3) := dk_182 0 70 (dk_at dksX3_want_0 10 rfl rfl)
theorem dX3_want_13 : decode cX3_want 13 = .ok (.athrow, 1) := dk_191 (dk_at dksX3_want_0 13 rfl rfl)
theorem dX3_want_14 : decode cX3_want 14 = .ok (.aload_n 0, 1) := dk_42 (dk_at dksX3_want_0 14 rfl rfl)
theorem dX3_want_15 : decode cX3_want 15 = .ok (.invokevirtual 74, 3) := dk_182 0 74 (dk_at dksX3_want_0 15 rfl rfl)
theorem dX3_want_18 : decode cX3_want 18 = .ok (.return_, 1) := dk_177 (dk_at dksX3_want_0 18 rfl rfl)
abbrev cX3_halves : ByteArray := prog_17_method_20_code
def yX3_halves : MethodName := ⟨RX3, "halves", "()LApologyUp$Sum;"⟩
def dkwX3_halves_1 : List UInt8 := [180, 0, 77, 4, 100, 181, 0, 77, 187, 0, 181, 89, 43, 44, 183, 0, 183, 176]
abbrev dktX3_halves_1 : List UInt8 := dkwX3_halves_1 ++ []
def dkwX3_halves_0 : List UInt8 := [42, 182, 0, 147, 42, 182, 0, 174, 76, 42, 17, 0, 214, 182, 0, 111, 42, 182, 0, 174, 77, 42, 89]
abbrev dktX3_halves_0 : List UInt8 := dkwX3_halves_0 ++ dktX3_halves_1
theorem dksX3_halves_0 : cX3_halves.data.toList.drop 0 = dktX3_halves_0 := by decide +kernel
theorem dksX3_halves_1 : cX3_halves.data.toList.drop 23 = dktX3_halves_1 := dk_seg dksX3_halves_0 23 rfl rfl
theorem dX3_halves_0 : decode cX3_halves 0 = .ok (.aload_n 0, 1) := dk_42 (dk_at dksX3_halves_0 0 rfl rfl)
theorem dX3_halves_1 : decode cX3_halves 1 = .ok (.invokevirtual 147, 3) := dk_182 0 147 (dk_at dksX3_halves_0 1 rfl rfl)
theorem dX3_halves_4 : decode cX3_halves 4 = .ok (.aload_n 0, 1) := dk_42 (dk_at dksX3_halves_0 4 rfl rfl)
theorem dX3_halves_5 : decode cX3_halves 5 = .ok (.invokevirtual 174, 3) := dk_182 0 174 (dk_at dksX3_halves_0 5 rfl rfl)
theorem dX3_halves_8 : decode cX3_halves 8 = .ok (.astore_n 1, 1) := dk_76 (dk_at dksX3_halves_0 8 rfl rfl)
theorem dX3_halves_9 : decode cX3_halves 9 = .ok (.aload_n 0, 1) := dk_42 (dk_at dksX3_halves_0 9 rfl rfl)
theorem dX3_halves_10 : decode cX3_halves 10 = .ok (.sipush 214, 3) := dk_17 0 214 (dk_at dksX3_halves_0 10 rfl rfl)
theorem dX3_halves_13 : decode cX3_halves 13 = .ok (.invokevirtual 111, 3) := dk_182 0 111 (dk_at dksX3_halves_0 13 rfl rfl)
theorem dX3_halves_16 : decode cX3_halves 16 = .ok (.aload_n 0, 1) := dk_42 (dk_at dksX3_halves_0 16 rfl rfl)
theorem dX3_halves_17 : decode cX3_halves 17 = .ok (.invokevirtual 174, 3) := dk_182 0 174 (dk_at dksX3_halves_0 17 rfl rfl)
theorem dX3_halves_20 : decode cX3_halves 20 = .ok (.astore_n 2, 1) := dk_77 (dk_at dksX3_halves_0 20 rfl rfl)
theorem dX3_halves_21 : decode cX3_halves 21 = .ok (.aload_n 0, 1) := dk_42 (dk_at dksX3_halves_0 21 rfl rfl)
theorem dX3_halves_22 : decode cX3_halves 22 = .ok (.dup, 1) := dk_89 (dk_at dksX3_halves_0 22 rfl rfl)
theorem dX3_halves_23 : decode cX3_halves 23 = .ok (.getfield 77, 3) := dk_180 0 77 (dk_at dksX3_halves_1 0 rfl rfl)
theorem dX3_halves_26 : decode cX3_halves 26 = .ok (.iconst 1, 1) := dk_4 (dk_at dksX3_halves_1 3 rfl rfl)
theorem dX3_halves_27 : decode cX3_halves 27 = .ok (.isub, 1) := dk_100 (dk_at dksX3_halves_1 4 rfl rfl)
theorem dX3_halves_28 : decode cX3_halves 28 = .ok (.putfield 77, 3) := dk_181 0 77 (dk_at dksX3_halves_1 5 rfl rfl)
theorem dX3_halves_31 : decode cX3_halves 31 = .ok (.new 181, 3) := dk_187 0 181 (dk_at dksX3_halves_1 8 rfl rfl)
theorem dX3_halves_34 : decode cX3_halves 34 = .ok (.dup, 1) := dk_89 (dk_at dksX3_halves_1 11 rfl rfl)
theorem dX3_halves_35 : decode cX3_halves 35 = .ok (.aload_n 1, 1) := dk_43 (dk_at dksX3_halves_1 12 rfl rfl)
theorem dX3_halves_36 : decode cX3_halves 36 = .ok (.aload_n 2, 1) := dk_44 (dk_at dksX3_halves_1 13 rfl rfl)
theorem dX3_halves_37 : decode cX3_halves 37 = .ok (.invokespecial 183, 3) := dk_183 0 183 (dk_at dksX3_halves_1 14 rfl rfl)
theorem dX3_halves_40 : decode cX3_halves 40 = .ok (.areturn, 1) := dk_176 (dk_at dksX3_halves_1 17 rfl rfl)
abbrev cX3_nameNow : ByteArray := prog_17_method_18_code
def yX3_nameNow : MethodName := ⟨RX3, "nameNow", "()I"⟩
def dkwX3_nameNow_1 : List UInt8 := [132, 1, 1, 167, 255, 231, 2, 172]
abbrev dktX3_nameNow_1 : List UInt8 := dkwX3_nameNow_1 ++ []
def dkwX3_nameNow_0 : List UInt8 := [3, 60, 27, 178, 0, 177, 190, 162, 0, 23, 178, 0, 177, 27, 46, 42, 180, 0, 25, 160, 0, 5, 27, 172]
abbrev dktX3_nameNow_0 : List UInt8 := dkwX3_nameNow_0 ++ dktX3_nameNow_1
theorem dksX3_nameNow_0 : cX3_nameNow.data.toList.drop 0 = dktX3_nameNow_0 := by decide +kernel
theorem dksX3_nameNow_1 : cX3_nameNow.data.toList.drop 24 = dktX3_nameNow_1 := dk_seg dksX3_nameNow_0 24 rfl rfl
theorem dX3_nameNow_0 : decode cX3_nameNow 0 = .ok (.iconst 0, 1) := dk_3 (dk_at dksX3_nameNow_0 0 rfl rfl)
theorem dX3_nameNow_1 : decode cX3_nameNow 1 = .ok (.istore_n 1, 1) := dk_60 (dk_at dksX3_nameNow_0 1 rfl rfl)
theorem dX3_nameNow_2 : decode cX3_nameNow 2 = .ok (.iload_n 1, 1) := dk_27 (dk_at dksX3_nameNow_0 2 rfl rfl)
theorem dX3_nameNow_3 : decode cX3_nameNow 3 = .ok (.getstatic 177, 3) := dk_178 0 177 (dk_at dksX3_nameNow_0 3 rfl rfl)
theorem dX3_nameNow_6 : decode cX3_nameNow 6 = .ok (.arraylength, 1) := dk_190 (dk_at dksX3_nameNow_0 6 rfl rfl)
theorem dX3_nameNow_7 : decode cX3_nameNow 7 = .ok (.if_icmp .ge 23, 3) := dk_162 0 23 (dk_at dksX3_nameNow_0 7 rfl rfl)
theorem dX3_nameNow_10 : decode cX3_nameNow 10 = .ok (.getstatic 177, 3) := dk_178 0 177 (dk_at dksX3_nameNow_0 10 rfl rfl)
theorem dX3_nameNow_13 : decode cX3_nameNow 13 = .ok (.iload_n 1, 1) := dk_27 (dk_at dksX3_nameNow_0 13 rfl rfl)
theorem dX3_nameNow_14 : decode cX3_nameNow 14 = .ok (.iaload, 1) := dk_46 (dk_at dksX3_nameNow_0 14 rfl rfl)
theorem dX3_nameNow_15 : decode cX3_nameNow 15 = .ok (.aload_n 0, 1) := dk_42 (dk_at dksX3_nameNow_0 15 rfl rfl)
theorem dX3_nameNow_16 : decode cX3_nameNow 16 = .ok (.getfield 25, 3) := dk_180 0 25 (dk_at dksX3_nameNow_0 16 rfl rfl)
theorem dX3_nameNow_19 : decode cX3_nameNow 19 = .ok (.if_icmp .ne 5, 3) := dk_160 0 5 (dk_at dksX3_nameNow_0 19 rfl rfl)
theorem dX3_nameNow_22 : decode cX3_nameNow 22 = .ok (.iload_n 1, 1) := dk_27 (dk_at dksX3_nameNow_0 22 rfl rfl)
theorem dX3_nameNow_23 : decode cX3_nameNow 23 = .ok (.ireturn, 1) := dk_172 (dk_at dksX3_nameNow_0 23 rfl rfl)
theorem dX3_nameNow_24 : decode cX3_nameNow 24 = .ok (.iinc 1 1, 3) := dk_132 1 1 (dk_at dksX3_nameNow_1 0 rfl rfl)
theorem dX3_nameNow_27 : decode cX3_nameNow 27 = .ok (.goto (-25), 3) := dk_167 255 231 (dk_at dksX3_nameNow_1 3 rfl rfl)
theorem dX3_nameNow_30 : decode cX3_nameNow 30 = .ok (.iconst (-1), 1) := dk_2 (dk_at dksX3_nameNow_1 6 rfl rfl)
theorem dX3_nameNow_31 : decode cX3_nameNow 31 = .ok (.ireturn, 1) := dk_172 (dk_at dksX3_nameNow_1 7 rfl rfl)
abbrev cX3_mayName : ByteArray := prog_17_method_19_code
def yX3_mayName : MethodName := ⟨RX3, "mayName", "(I)Z"⟩
def dkwX3_mayName_1 : List UInt8 := [180, 0, 83, 17, 0, 201, 160, 0, 7, 4, 167, 0, 4, 3, 172]
abbrev dktX3_mayName_1 : List UInt8 := dkwX3_mayName_1 ++ []
def dkwX3_mayName_0 : List UInt8 := [27, 16, 7, 161, 0, 29, 42, 180, 0, 83, 17, 0, 200, 159, 0, 19, 27, 16, 7, 160, 0, 17, 42]
abbrev dktX3_mayName_0 : List UInt8 := dkwX3_mayName_0 ++ dktX3_mayName_1
theorem dksX3_mayName_0 : cX3_mayName.data.toList.drop 0 = dktX3_mayName_0 := by decide +kernel
theorem dksX3_mayName_1 : cX3_mayName.data.toList.drop 23 = dktX3_mayName_1 := dk_seg dksX3_mayName_0 23 rfl rfl
theorem dX3_mayName_0 : decode cX3_mayName 0 = .ok (.iload_n 1, 1) := dk_27 (dk_at dksX3_mayName_0 0 rfl rfl)
theorem dX3_mayName_1 : decode cX3_mayName 1 = .ok (.bipush 7, 2) := dk_16 7 (dk_at dksX3_mayName_0 1 rfl rfl)
theorem dX3_mayName_3 : decode cX3_mayName 3 = .ok (.if_icmp .lt 29, 3) := dk_161 0 29 (dk_at dksX3_mayName_0 3 rfl rfl)
theorem dX3_mayName_6 : decode cX3_mayName 6 = .ok (.aload_n 0, 1) := dk_42 (dk_at dksX3_mayName_0 6 rfl rfl)
theorem dX3_mayName_7 : decode cX3_mayName 7 = .ok (.getfield 83, 3) := dk_180 0 83 (dk_at dksX3_mayName_0 7 rfl rfl)
theorem dX3_mayName_10 : decode cX3_mayName 10 = .ok (.sipush 200, 3) := dk_17 0 200 (dk_at dksX3_mayName_0 10 rfl rfl)
theorem dX3_mayName_13 : decode cX3_mayName 13 = .ok (.if_icmp .eq 19, 3) := dk_159 0 19 (dk_at dksX3_mayName_0 13 rfl rfl)
theorem dX3_mayName_16 : decode cX3_mayName 16 = .ok (.iload_n 1, 1) := dk_27 (dk_at dksX3_mayName_0 16 rfl rfl)
theorem dX3_mayName_17 : decode cX3_mayName 17 = .ok (.bipush 7, 2) := dk_16 7 (dk_at dksX3_mayName_0 17 rfl rfl)
theorem dX3_mayName_19 : decode cX3_mayName 19 = .ok (.if_icmp .ne 17, 3) := dk_160 0 17 (dk_at dksX3_mayName_0 19 rfl rfl)
theorem dX3_mayName_22 : decode cX3_mayName 22 = .ok (.aload_n 0, 1) := dk_42 (dk_at dksX3_mayName_0 22 rfl rfl)
theorem dX3_mayName_23 : decode cX3_mayName 23 = .ok (.getfield 83, 3) := dk_180 0 83 (dk_at dksX3_mayName_1 0 rfl rfl)
theorem dX3_mayName_26 : decode cX3_mayName 26 = .ok (.sipush 201, 3) := dk_17 0 201 (dk_at dksX3_mayName_1 3 rfl rfl)
theorem dX3_mayName_29 : decode cX3_mayName 29 = .ok (.if_icmp .ne 7, 3) := dk_160 0 7 (dk_at dksX3_mayName_1 6 rfl rfl)
theorem dX3_mayName_32 : decode cX3_mayName 32 = .ok (.iconst 1, 1) := dk_4 (dk_at dksX3_mayName_1 9 rfl rfl)
theorem dX3_mayName_33 : decode cX3_mayName 33 = .ok (.goto 4, 3) := dk_167 0 4 (dk_at dksX3_mayName_1 10 rfl rfl)
theorem dX3_mayName_36 : decode cX3_mayName 36 = .ok (.iconst 0, 1) := dk_3 (dk_at dksX3_mayName_1 13 rfl rfl)
theorem dX3_mayName_37 : decode cX3_mayName 37 = .ok (.ireturn, 1) := dk_172 (dk_at dksX3_mayName_1 14 rfl rfl)
abbrev cX3_doing : ByteArray := prog_17_method_12_code
def yX3_doing : MethodName := ⟨RX3, "doing", "(I)LApologyUp$Doing;"⟩
def dkwX3_doing_8 : List UInt8 := [42, 180, 0, 83, 28, 2, 2, 27, 183, 0, 123, 176]
abbrev dktX3_doing_8 : List UInt8 := dkwX3_doing_8 ++ []
def dkwX3_doing_7 : List UInt8 := [180, 0, 83, 28, 42, 17, 0, 212, 3, 16, 99, 182, 0, 119, 2, 27, 183, 0, 123, 176, 187, 0, 117, 89]
abbrev dktX3_doing_7 : List UInt8 := dkwX3_doing_7 ++ dktX3_doing_8
def dkwX3_doing_6 : List UInt8 := [29, 42, 17, 0, 211, 4, 17, 39, 15, 182, 0, 119, 27, 183, 0, 123, 176, 187, 0, 117, 89, 42]
abbrev dktX3_doing_6 : List UInt8 := dkwX3_doing_6 ++ dktX3_doing_7
def dkwX3_doing_5 : List UInt8 := [183, 0, 123, 176, 42, 17, 0, 210, 3, 16, 9, 182, 0, 119, 62, 187, 0, 117, 89, 42, 180, 0, 83, 28]
abbrev dktX3_doing_5 : List UInt8 := dkwX3_doing_5 ++ dktX3_doing_6
def dkwX3_doing_4 : List UInt8 := [176, 187, 0, 117, 89, 42, 180, 0, 83, 28, 42, 17, 0, 210, 3, 16, 9, 182, 0, 119, 2, 27]
abbrev dktX3_doing_4 : List UInt8 := dkwX3_doing_4 ++ dktX3_doing_5
def dkwX3_doing_3 : List UInt8 := [187, 0, 117, 89, 42, 180, 0, 83, 28, 42, 17, 0, 209, 3, 16, 9, 182, 0, 119, 2, 27, 183, 0, 123]
abbrev dktX3_doing_3 : List UInt8 := dkwX3_doing_3 ++ dktX3_doing_4
def dkwX3_doing_2 : List UInt8 := [170, 0, 0, 0, 0, 0, 0, 148, 0, 0, 0, 203, 0, 0, 0, 207, 0, 0, 0, 36, 0, 0, 0, 61, 0, 0, 0, 86, 0, 0, 0, 123, 0, 0, 0, 61]
abbrev dktX3_doing_2 : List UInt8 := dkwX3_doing_2 ++ dktX3_doing_3
def dkwX3_doing_1 : List UInt8 := [182, 0, 115, 61, 42, 180, 0, 83]
abbrev dktX3_doing_1 : List UInt8 := dkwX3_doing_1 ++ dktX3_doing_2
def dkwX3_doing_0 : List UInt8 := [42, 180, 0, 83, 17, 0, 208, 160, 0, 13, 42, 4, 16, 60, 182, 0, 115, 167, 0, 10, 42, 3, 16, 9]
abbrev dktX3_doing_0 : List UInt8 := dkwX3_doing_0 ++ dktX3_doing_1
theorem dksX3_doing_0 : cX3_doing.data.toList.drop 0 = dktX3_doing_0 := by decide +kernel
theorem dksX3_doing_1 : cX3_doing.data.toList.drop 24 = dktX3_doing_1 := dk_seg dksX3_doing_0 24 rfl rfl
theorem dksX3_doing_2 : cX3_doing.data.toList.drop 32 = dktX3_doing_2 := dk_seg dksX3_doing_1 8 rfl rfl
theorem dksX3_doing_3 : cX3_doing.data.toList.drop 68 = dktX3_doing_3 := dk_seg dksX3_doing_2 36 rfl rfl
theorem dksX3_doing_4 : cX3_doing.data.toList.drop 92 = dktX3_doing_4 := dk_seg dksX3_doing_3 24 rfl rfl
theorem dksX3_doing_5 : cX3_doing.data.toList.drop 114 = dktX3_doing_5 := dk_seg dksX3_doing_4 22 rfl rfl
theorem dksX3_doing_6 : cX3_doing.data.toList.drop 138 = dktX3_doing_6 := dk_seg dksX3_doing_5 24 rfl rfl
theorem dksX3_doing_7 : cX3_doing.data.toList.drop 160 = dktX3_doing_7 := dk_seg dksX3_doing_6 22 rfl rfl
theorem dksX3_doing_8 : cX3_doing.data.toList.drop 184 = dktX3_doing_8 := dk_seg dksX3_doing_7 24 rfl rfl
theorem dX3_doing_0 : decode cX3_doing 0 = .ok (.aload_n 0, 1) := dk_42 (dk_at dksX3_doing_0 0 rfl rfl)
theorem dX3_doing_1 : decode cX3_doing 1 = .ok (.getfield 83, 3) := dk_180 0 83 (dk_at dksX3_doing_0 1 rfl rfl)
theorem dX3_doing_4 : decode cX3_doing 4 = .ok (.sipush 208, 3) := dk_17 0 208 (dk_at dksX3_doing_0 4 rfl rfl)
theorem dX3_doing_7 : decode cX3_doing 7 = .ok (.if_icmp .ne 13, 3) := dk_160 0 13 (dk_at dksX3_doing_0 7 rfl rfl)
theorem dX3_doing_10 : decode cX3_doing 10 = .ok (.aload_n 0, 1) := dk_42 (dk_at dksX3_doing_0 10 rfl rfl)
theorem dX3_doing_11 : decode cX3_doing 11 = .ok (.iconst 1, 1) := dk_4 (dk_at dksX3_doing_0 11 rfl rfl)
theorem dX3_doing_12 : decode cX3_doing 12 = .ok (.bipush 60, 2) := dk_16 60 (dk_at dksX3_doing_0 12 rfl rfl)
theorem dX3_doing_14 : decode cX3_doing 14 = .ok (.invokevirtual 115, 3) := dk_182 0 115 (dk_at dksX3_doing_0 14 rfl rfl)
theorem dX3_doing_17 : decode cX3_doing 17 = .ok (.goto 10, 3) := dk_167 0 10 (dk_at dksX3_doing_0 17 rfl rfl)
theorem dX3_doing_20 : decode cX3_doing 20 = .ok (.aload_n 0, 1) := dk_42 (dk_at dksX3_doing_0 20 rfl rfl)
theorem dX3_doing_21 : decode cX3_doing 21 = .ok (.iconst 0, 1) := dk_3 (dk_at dksX3_doing_0 21 rfl rfl)
theorem dX3_doing_22 : decode cX3_doing 22 = .ok (.bipush 9, 2) := dk_16 9 (dk_at dksX3_doing_0 22 rfl rfl)
theorem dX3_doing_24 : decode cX3_doing 24 = .ok (.invokevirtual 115, 3) := dk_182 0 115 (dk_at dksX3_doing_1 0 rfl rfl)
theorem dX3_doing_27 : decode cX3_doing 27 = .ok (.istore_n 2, 1) := dk_61 (dk_at dksX3_doing_1 3 rfl rfl)
theorem dX3_doing_28 : decode cX3_doing 28 = .ok (.aload_n 0, 1) := dk_42 (dk_at dksX3_doing_1 4 rfl rfl)
theorem dX3_doing_29 : decode cX3_doing 29 = .ok (.getfield 83, 3) := dk_180 0 83 (dk_at dksX3_doing_1 5 rfl rfl)
theorem dX3_doing_32 : decode cX3_doing 32 = .ok (.tableswitch 148 203 207 #[36, 61, 86, 123, 61], 36) := by decide +kernel
theorem dX3_doing_68 : decode cX3_doing 68 = .ok (.new 117, 3) := dk_187 0 117 (dk_at dksX3_doing_3 0 rfl rfl)
theorem dX3_doing_71 : decode cX3_doing 71 = .ok (.dup, 1) := dk_89 (dk_at dksX3_doing_3 3 rfl rfl)
theorem dX3_doing_72 : decode cX3_doing 72 = .ok (.aload_n 0, 1) := dk_42 (dk_at dksX3_doing_3 4 rfl rfl)
theorem dX3_doing_73 : decode cX3_doing 73 = .ok (.getfield 83, 3) := dk_180 0 83 (dk_at dksX3_doing_3 5 rfl rfl)
theorem dX3_doing_76 : decode cX3_doing 76 = .ok (.iload_n 2, 1) := dk_28 (dk_at dksX3_doing_3 8 rfl rfl)
theorem dX3_doing_77 : decode cX3_doing 77 = .ok (.aload_n 0, 1) := dk_42 (dk_at dksX3_doing_3 9 rfl rfl)
theorem dX3_doing_78 : decode cX3_doing 78 = .ok (.sipush 209, 3) := dk_17 0 209 (dk_at dksX3_doing_3 10 rfl rfl)
theorem dX3_doing_81 : decode cX3_doing 81 = .ok (.iconst 0, 1) := dk_3 (dk_at dksX3_doing_3 13 rfl rfl)
theorem dX3_doing_82 : decode cX3_doing 82 = .ok (.bipush 9, 2) := dk_16 9 (dk_at dksX3_doing_3 14 rfl rfl)
theorem dX3_doing_84 : decode cX3_doing 84 = .ok (.invokevirtual 119, 3) := dk_182 0 119 (dk_at dksX3_doing_3 16 rfl rfl)
theorem dX3_doing_87 : decode cX3_doing 87 = .ok (.iconst (-1), 1) := dk_2 (dk_at dksX3_doing_3 19 rfl rfl)
theorem dX3_doing_88 : decode cX3_doing 88 = .ok (.iload_n 1, 1) := dk_27 (dk_at dksX3_doing_3 20 rfl rfl)
theorem dX3_doing_89 : decode cX3_doing 89 = .ok (.invokespecial 123, 3) := dk_183 0 123 (dk_at dksX3_doing_3 21 rfl rfl)
theorem dX3_doing_92 : decode cX3_doing 92 = .ok (.areturn, 1) := dk_176 (dk_at dksX3_doing_4 0 rfl rfl)
theorem dX3_doing_93 : decode cX3_doing 93 = .ok (.new 117, 3) := dk_187 0 117 (dk_at dksX3_doing_4 1 rfl rfl)
theorem dX3_doing_96 : decode cX3_doing 96 = .ok (.dup, 1) := dk_89 (dk_at dksX3_doing_4 4 rfl rfl)
theorem dX3_doing_97 : decode cX3_doing 97 = .ok (.aload_n 0, 1) := dk_42 (dk_at dksX3_doing_4 5 rfl rfl)
theorem dX3_doing_98 : decode cX3_doing 98 = .ok (.getfield 83, 3) := dk_180 0 83 (dk_at dksX3_doing_4 6 rfl rfl)
theorem dX3_doing_101 : decode cX3_doing 101 = .ok (.iload_n 2, 1) := dk_28 (dk_at dksX3_doing_4 9 rfl rfl)
theorem dX3_doing_102 : decode cX3_doing 102 = .ok (.aload_n 0, 1) := dk_42 (dk_at dksX3_doing_4 10 rfl rfl)
theorem dX3_doing_103 : decode cX3_doing 103 = .ok (.sipush 210, 3) := dk_17 0 210 (dk_at dksX3_doing_4 11 rfl rfl)
theorem dX3_doing_106 : decode cX3_doing 106 = .ok (.iconst 0, 1) := dk_3 (dk_at dksX3_doing_4 14 rfl rfl)
theorem dX3_doing_107 : decode cX3_doing 107 = .ok (.bipush 9, 2) := dk_16 9 (dk_at dksX3_doing_4 15 rfl rfl)
theorem dX3_doing_109 : decode cX3_doing 109 = .ok (.invokevirtual 119, 3) := dk_182 0 119 (dk_at dksX3_doing_4 17 rfl rfl)
theorem dX3_doing_112 : decode cX3_doing 112 = .ok (.iconst (-1), 1) := dk_2 (dk_at dksX3_doing_4 20 rfl rfl)
theorem dX3_doing_113 : decode cX3_doing 113 = .ok (.iload_n 1, 1) := dk_27 (dk_at dksX3_doing_4 21 rfl rfl)
theorem dX3_doing_114 : decode cX3_doing 114 = .ok (.invokespecial 123, 3) := dk_183 0 123 (dk_at dksX3_doing_5 0 rfl rfl)
theorem dX3_doing_117 : decode cX3_doing 117 = .ok (.areturn, 1) := dk_176 (dk_at dksX3_doing_5 3 rfl rfl)
theorem dX3_doing_118 : decode cX3_doing 118 = .ok (.aload_n 0, 1) := dk_42 (dk_at dksX3_doing_5 4 rfl rfl)
theorem dX3_doing_119 : decode cX3_doing 119 = .ok (.sipush 210, 3) := dk_17 0 210 (dk_at dksX3_doing_5 5 rfl rfl)
theorem dX3_doing_122 : decode cX3_doing 122 = .ok (.iconst 0, 1) := dk_3 (dk_at dksX3_doing_5 8 rfl rfl)
theorem dX3_doing_123 : decode cX3_doing 123 = .ok (.bipush 9, 2) := dk_16 9 (dk_at dksX3_doing_5 9 rfl rfl)
theorem dX3_doing_125 : decode cX3_doing 125 = .ok (.invokevirtual 119, 3) := dk_182 0 119 (dk_at dksX3_doing_5 11 rfl rfl)
theorem dX3_doing_128 : decode cX3_doing 128 = .ok (.istore_n 3, 1) := dk_62 (dk_at dksX3_doing_5 14 rfl rfl)
theorem dX3_doing_129 : decode cX3_doing 129 = .ok (.new 117, 3) := dk_187 0 117 (dk_at dksX3_doing_5 15 rfl rfl)
theorem dX3_doing_132 : decode cX3_doing 132 = .ok (.dup, 1) := dk_89 (dk_at dksX3_doing_5 18 rfl rfl)
theorem dX3_doing_133 : decode cX3_doing 133 = .ok (.aload_n 0, 1) := dk_42 (dk_at dksX3_doing_5 19 rfl rfl)
theorem dX3_doing_134 : decode cX3_doing 134 = .ok (.getfield 83, 3) := dk_180 0 83 (dk_at dksX3_doing_5 20 rfl rfl)
theorem dX3_doing_137 : decode cX3_doing 137 = .ok (.iload_n 2, 1) := dk_28 (dk_at dksX3_doing_5 23 rfl rfl)
theorem dX3_doing_138 : decode cX3_doing 138 = .ok (.iload_n 3, 1) := dk_29 (dk_at dksX3_doing_6 0 rfl rfl)
theorem dX3_doing_139 : decode cX3_doing 139 = .ok (.aload_n 0, 1) := dk_42 (dk_at dksX3_doing_6 1 rfl rfl)
theorem dX3_doing_140 : decode cX3_doing 140 = .ok (.sipush 211, 3) := dk_17 0 211 (dk_at dksX3_doing_6 2 rfl rfl)
theorem dX3_doing_143 : decode cX3_doing 143 = .ok (.iconst 1, 1) := dk_4 (dk_at dksX3_doing_6 5 rfl rfl)
theorem dX3_doing_144 : decode cX3_doing 144 = .ok (.sipush 9999, 3) := dk_17 39 15 (dk_at dksX3_doing_6 6 rfl rfl)
theorem dX3_doing_147 : decode cX3_doing 147 = .ok (.invokevirtual 119, 3) := dk_182 0 119 (dk_at dksX3_doing_6 9 rfl rfl)
theorem dX3_doing_150 : decode cX3_doing 150 = .ok (.iload_n 1, 1) := dk_27 (dk_at dksX3_doing_6 12 rfl rfl)
theorem dX3_doing_151 : decode cX3_doing 151 = .ok (.invokespecial 123, 3) := dk_183 0 123 (dk_at dksX3_doing_6 13 rfl rfl)
theorem dX3_doing_154 : decode cX3_doing 154 = .ok (.areturn, 1) := dk_176 (dk_at dksX3_doing_6 16 rfl rfl)
theorem dX3_doing_155 : decode cX3_doing 155 = .ok (.new 117, 3) := dk_187 0 117 (dk_at dksX3_doing_6 17 rfl rfl)
theorem dX3_doing_158 : decode cX3_doing 158 = .ok (.dup, 1) := dk_89 (dk_at dksX3_doing_6 20 rfl rfl)
theorem dX3_doing_159 : decode cX3_doing 159 = .ok (.aload_n 0, 1) := dk_42 (dk_at dksX3_doing_6 21 rfl rfl)
theorem dX3_doing_160 : decode cX3_doing 160 = .ok (.getfield 83, 3) := dk_180 0 83 (dk_at dksX3_doing_7 0 rfl rfl)
theorem dX3_doing_163 : decode cX3_doing 163 = .ok (.iload_n 2, 1) := dk_28 (dk_at dksX3_doing_7 3 rfl rfl)
theorem dX3_doing_164 : decode cX3_doing 164 = .ok (.aload_n 0, 1) := dk_42 (dk_at dksX3_doing_7 4 rfl rfl)
theorem dX3_doing_165 : decode cX3_doing 165 = .ok (.sipush 212, 3) := dk_17 0 212 (dk_at dksX3_doing_7 5 rfl rfl)
theorem dX3_doing_168 : decode cX3_doing 168 = .ok (.iconst 0, 1) := dk_3 (dk_at dksX3_doing_7 8 rfl rfl)
theorem dX3_doing_169 : decode cX3_doing 169 = .ok (.bipush 99, 2) := dk_16 99 (dk_at dksX3_doing_7 9 rfl rfl)
theorem dX3_doing_171 : decode cX3_doing 171 = .ok (.invokevirtual 119, 3) := dk_182 0 119 (dk_at dksX3_doing_7 11 rfl rfl)
theorem dX3_doing_174 : decode cX3_doing 174 = .ok (.iconst (-1), 1) := dk_2 (dk_at dksX3_doing_7 14 rfl rfl)
theorem dX3_doing_175 : decode cX3_doing 175 = .ok (.iload_n 1, 1) := dk_27 (dk_at dksX3_doing_7 15 rfl rfl)
theorem dX3_doing_176 : decode cX3_doing 176 = .ok (.invokespecial 123, 3) := dk_183 0 123 (dk_at dksX3_doing_7 16 rfl rfl)
theorem dX3_doing_179 : decode cX3_doing 179 = .ok (.areturn, 1) := dk_176 (dk_at dksX3_doing_7 19 rfl rfl)
theorem dX3_doing_180 : decode cX3_doing 180 = .ok (.new 117, 3) := dk_187 0 117 (dk_at dksX3_doing_7 20 rfl rfl)
theorem dX3_doing_183 : decode cX3_doing 183 = .ok (.dup, 1) := dk_89 (dk_at dksX3_doing_7 23 rfl rfl)
theorem dX3_doing_184 : decode cX3_doing 184 = .ok (.aload_n 0, 1) := dk_42 (dk_at dksX3_doing_8 0 rfl rfl)
theorem dX3_doing_185 : decode cX3_doing 185 = .ok (.getfield 83, 3) := dk_180 0 83 (dk_at dksX3_doing_8 1 rfl rfl)
theorem dX3_doing_188 : decode cX3_doing 188 = .ok (.iload_n 2, 1) := dk_28 (dk_at dksX3_doing_8 4 rfl rfl)
theorem dX3_doing_189 : decode cX3_doing 189 = .ok (.iconst (-1), 1) := dk_2 (dk_at dksX3_doing_8 5 rfl rfl)
theorem dX3_doing_190 : decode cX3_doing 190 = .ok (.iconst (-1), 1) := dk_2 (dk_at dksX3_doing_8 6 rfl rfl)
theorem dX3_doing_191 : decode cX3_doing 191 = .ok (.iload_n 1, 1) := dk_27 (dk_at dksX3_doing_8 7 rfl rfl)
theorem dX3_doing_192 : decode cX3_doing 192 = .ok (.invokespecial 123, 3) := dk_183 0 123 (dk_at dksX3_doing_8 8 rfl rfl)
theorem dX3_doing_195 : decode cX3_doing 195 = .ok (.areturn, 1) := dk_176 (dk_at dksX3_doing_8 11 rfl rfl)
abbrev cX3_behind : ByteArray := prog_17_method_11_code
def yX3_behind : MethodName := ⟨RX3, "behind", "(III)I"⟩
def dkwX3_behind_0 : List UInt8 := [42, 27, 182, 0, 111, 42, 28, 29, 182, 0, 115, 172]
abbrev dktX3_behind_0 : List UInt8 := dkwX3_behind_0 ++ []
theorem dksX3_behind_0 : cX3_behind.data.toList.drop 0 = dktX3_behind_0 := by decide +kernel
theorem dX3_behind_0 : decode cX3_behind 0 = .ok (.aload_n 0, 1) := dk_42 (dk_at dksX3_behind_0 0 rfl rfl)
theorem dX3_behind_1 : decode cX3_behind 1 = .ok (.iload_n 1, 1) := dk_27 (dk_at dksX3_behind_0 1 rfl rfl)
theorem dX3_behind_2 : decode cX3_behind 2 = .ok (.invokevirtual 111, 3) := dk_182 0 111 (dk_at dksX3_behind_0 2 rfl rfl)
theorem dX3_behind_5 : decode cX3_behind 5 = .ok (.aload_n 0, 1) := dk_42 (dk_at dksX3_behind_0 5 rfl rfl)
theorem dX3_behind_6 : decode cX3_behind 6 = .ok (.iload_n 2, 1) := dk_28 (dk_at dksX3_behind_0 6 rfl rfl)
theorem dX3_behind_7 : decode cX3_behind 7 = .ok (.iload_n 3, 1) := dk_29 (dk_at dksX3_behind_0 7 rfl rfl)
theorem dX3_behind_8 : decode cX3_behind 8 = .ok (.invokevirtual 115, 3) := dk_182 0 115 (dk_at dksX3_behind_0 8 rfl rfl)
theorem dX3_behind_11 : decode cX3_behind 11 = .ok (.ireturn, 1) := dk_172 (dk_at dksX3_behind_0 11 rfl rfl)
theorem q135 : (Jvm.Cond.initialized "ApologyUp$Tokens") ∈ lw_all := lw_g (lw_at lw_m1 6 rfl) rfl
theorem q328 : (Jvm.Cond.instantiable "ApologyUp$Tokens" (8 : Nat)) ∈ lw_all := lw_g (lw_at lw_m1 199 rfl) rfl
theorem q330 : (Jvm.Cond.instanceMethod ({ cls := "ApologyUp$Tokens", name := "<init>", desc := "([BI)V" } : Jvm.MethodName)) ∈ lw_all := lw_g (lw_at lw_m1 201 rfl) rfl
theorem q331 : (Jvm.Cond.code ({ cls := "ApologyUp$Tokens", name := "<init>", desc := "([BI)V" } : Jvm.MethodName) prog_17_method_1_code (3 : Nat) (Option.none : Option Jvm.ClassFile.FieldType)) ∈ lw_all := lw_g (lw_at lw_m1 202 rfl) rfl
theorem q332 : (Jvm.Cond.methodLink "ApologyUp$Tokens" (3 : Nat) ({ cls := "java/lang/Object", name := "<init>", desc := "()V" } : Jvm.MethodName)) ∈ lw_all := lw_g (lw_at lw_m1 203 rfl) rfl
theorem q333 : (Jvm.Cond.fieldLink "ApologyUp$Tokens" (9 : Nat) "ApologyUp$Tokens" "text" "[B") ∈ lw_all := lw_g (lw_at lw_m1 204 rfl) rfl
theorem q334 : (Jvm.Cond.fieldLink "ApologyUp$Tokens" (15 : Nat) "ApologyUp$Tokens" "size" "I") ∈ lw_all := lw_g (lw_at lw_m1 205 rfl) rfl
theorem q335 : (Jvm.Cond.fieldLink "ApologyUp$Tokens" (19 : Nat) "ApologyUp$Tokens" "at" "I") ∈ lw_all := lw_g (lw_at lw_m1 206 rfl) rfl
theorem q336 : (Jvm.Cond.fieldLink "ApologyUp$Tokens" (22 : Nat) "ApologyUp$Tokens" "token" "I") ∈ lw_all := lw_g (lw_at lw_m1 207 rfl) rfl
theorem q337 : (Jvm.Cond.fieldLink "ApologyUp$Tokens" (25 : Nat) "ApologyUp$Tokens" "sort" "I") ∈ lw_all := lw_g (lw_at lw_m1 208 rfl) rfl
theorem q338 : (Jvm.Cond.fieldLink "ApologyUp$Tokens" (43 : Nat) "ApologyUp$Tokens" "number" "I") ∈ lw_all := lw_g (lw_at lw_m1 209 rfl) rfl
theorem q339 : (Jvm.Cond.fieldLink "ApologyUp$Tokens" (77 : Nat) "ApologyUp$Tokens" "open" "I") ∈ lw_all := lw_g (lw_at lw_m1 210 rfl) rfl
theorem q340 : (Jvm.Cond.fieldLink "ApologyUp$Tokens" (83 : Nat) "ApologyUp$Tokens" "kind" "I") ∈ lw_all := lw_g (lw_at lw_m1 211 rfl) rfl
theorem q341 : (Jvm.Cond.laysFinal "ApologyUp$Tokens" "ApologyUp$Tokens" "text" "[B") ∈ lw_all := lw_g (lw_at lw_m1 212 rfl) rfl
theorem q342 : (Jvm.Cond.soleField "ApologyUp$Tokens" "text") ∈ lw_all := lw_g (lw_at lw_m1 213 rfl) rfl
theorem q343 : (Jvm.Cond.laysFinal "ApologyUp$Tokens" "ApologyUp$Tokens" "size" "I") ∈ lw_all := lw_g (lw_at lw_m1 214 rfl) rfl
theorem q344 : (Jvm.Cond.soleField "ApologyUp$Tokens" "size") ∈ lw_all := lw_g (lw_at lw_m1 215 rfl) rfl
theorem q345 : (Jvm.Cond.lays "ApologyUp$Tokens" "ApologyUp$Tokens" "at" "I") ∈ lw_all := lw_g (lw_at lw_m1 216 rfl) rfl
theorem q346 : (Jvm.Cond.soleField "ApologyUp$Tokens" "at") ∈ lw_all := lw_g (lw_at lw_m1 217 rfl) rfl
theorem q347 : (Jvm.Cond.lays "ApologyUp$Tokens" "ApologyUp$Tokens" "token" "I") ∈ lw_all := lw_g (lw_at lw_m1 218 rfl) rfl
theorem q348 : (Jvm.Cond.soleField "ApologyUp$Tokens" "token") ∈ lw_all := lw_g (lw_at lw_m1 219 rfl) rfl
theorem q349 : (Jvm.Cond.lays "ApologyUp$Tokens" "ApologyUp$Tokens" "sort" "I") ∈ lw_all := lw_g (lw_at lw_m1 220 rfl) rfl
theorem q350 : (Jvm.Cond.soleField "ApologyUp$Tokens" "sort") ∈ lw_all := lw_g (lw_at lw_m1 221 rfl) rfl
theorem q351 : (Jvm.Cond.lays "ApologyUp$Tokens" "ApologyUp$Tokens" "number" "I") ∈ lw_all := lw_g (lw_at lw_m1 222 rfl) rfl
theorem q352 : (Jvm.Cond.soleField "ApologyUp$Tokens" "number") ∈ lw_all := lw_g (lw_at lw_m1 223 rfl) rfl
theorem q353 : (Jvm.Cond.lays "ApologyUp$Tokens" "ApologyUp$Tokens" "open" "I") ∈ lw_all := lw_g (lw_at lw_m1 224 rfl) rfl
theorem q354 : (Jvm.Cond.soleField "ApologyUp$Tokens" "open") ∈ lw_all := lw_g (lw_at lw_m1 225 rfl) rfl
theorem q355 : (Jvm.Cond.lays "ApologyUp$Tokens" "ApologyUp$Tokens" "kind" "I") ∈ lw_all := lw_g (lw_at lw_m1 226 rfl) rfl
theorem q356 : (Jvm.Cond.soleField "ApologyUp$Tokens" "kind") ∈ lw_all := lw_g (lw_at lw_m1 227 rfl) rfl
theorem q357 : (Jvm.Cond.superclass "ApologyUp$Tokens" "java/lang/Object") ∈ lw_all := lw_g (lw_at lw_m1 228 rfl) rfl
theorem q359 : (Jvm.Cond.instanceMethod ({ cls := "ApologyUp$Tokens", name := "read", desc := "()LApologyUp$Text;" } : Jvm.MethodName)) ∈ lw_all := lw_g (lw_at lw_m1 230 rfl) rfl
theorem q360 : (Jvm.Cond.selects "ApologyUp$Tokens" ({ cls := "ApologyUp$Tokens", name := "read", desc := "()LApologyUp$Text;" } : Jvm.MethodName) ({ cls := "ApologyUp$Tokens", name := "read", desc := "()LApologyUp$Text;" } : Jvm.MethodName)) ∈ lw_all := lw_g (lw_at lw_m1 231 rfl) rfl
theorem q361 : (Jvm.Cond.code ({ cls := "ApologyUp$Tokens", name := "read", desc := "()LApologyUp$Text;" } : Jvm.MethodName) prog_17_method_10_code (2 : Nat) (Option.some (Jvm.ClassFile.FieldType.object "ApologyUp$Text"))) ∈ lw_all := lw_g (lw_at lw_m1 232 rfl) rfl
theorem q362 : (Jvm.Cond.classLink "ApologyUp$Tokens" (80 : Nat) "ApologyUp$Text") ∈ lw_all := lw_g (lw_at lw_m1 233 rfl) rfl
theorem q364 : (Jvm.Cond.methodLinkNest "ApologyUp$Tokens" (82 : Nat) ({ cls := "ApologyUp$Text", name := "<init>", desc := "()V" } : Jvm.MethodName) "ApologyUp") ∈ lw_tbl := lw_at lw_m1 235 rfl
theorem q397 : (Jvm.Cond.fieldLinkNest "ApologyUp$Tokens" (86 : Nat) "ApologyUp$Text" "law" "[LApologyUp$Sum;" "ApologyUp") ∈ lw_tbl := lw_at lw_m2 28 rfl
theorem q399 : (Jvm.Cond.fieldLinkNest "ApologyUp$Tokens" (90 : Nat) "ApologyUp$Text" "clauses" "I" "ApologyUp") ∈ lw_tbl := lw_at lw_m2 30 rfl
theorem q401 : (Jvm.Cond.fieldLinkNest "ApologyUp$Tokens" (97 : Nat) "ApologyUp$Text" "doings" "Ljava/util/ArrayList;" "ApologyUp") ∈ lw_tbl := lw_at lw_m2 32 rfl
theorem q410 : (Jvm.Cond.methodLink "ApologyUp$Tokens" (74 : Nat) ({ cls := "ApologyUp$Tokens", name := "next", desc := "()V" } : Jvm.MethodName)) ∈ lw_all := lw_g (lw_at lw_m2 41 rfl) rfl
theorem q411 : (Jvm.Cond.privateMethod ({ cls := "ApologyUp$Tokens", name := "next", desc := "()V" } : Jvm.MethodName)) ∈ lw_tbl := lw_at lw_m2 42 rfl
theorem q412 : (Jvm.Cond.instanceMethod ({ cls := "ApologyUp$Tokens", name := "next", desc := "()V" } : Jvm.MethodName)) ∈ lw_all := lw_g (lw_at lw_m2 43 rfl) rfl
theorem q413 : (Jvm.Cond.code ({ cls := "ApologyUp$Tokens", name := "next", desc := "()V" } : Jvm.MethodName) prog_17_method_4_code (3 : Nat) (Option.none : Option Jvm.ClassFile.FieldType)) ∈ lw_all := lw_g (lw_at lw_m2 44 rfl) rfl
theorem q414 : (Jvm.Cond.methodLink "ApologyUp$Tokens" (28 : Nat) ({ cls := "ApologyUp$Tokens", name := "isLetter", desc := "(I)Z" } : Jvm.MethodName)) ∈ lw_all := lw_g (lw_at lw_m2 45 rfl) rfl
theorem q415 : (Jvm.Cond.static ({ cls := "ApologyUp$Tokens", name := "isLetter", desc := "(I)Z" } : Jvm.MethodName)) ∈ lw_all := lw_g (lw_at lw_m2 46 rfl) rfl
theorem q416 : (Jvm.Cond.code ({ cls := "ApologyUp$Tokens", name := "isLetter", desc := "(I)Z" } : Jvm.MethodName) prog_17_method_2_code (1 : Nat) (Option.some Jvm.ClassFile.FieldType.boolean)) ∈ lw_all := lw_g (lw_at lw_m2 47 rfl) rfl
theorem q417 : (Jvm.Cond.fieldLink "ApologyUp$Tokens" (32 : Nat) "ApologyUp$Tokens" "WORDS" "[Ljava/lang/String;") ∈ lw_all := lw_g (lw_at lw_m2 48 rfl) rfl
theorem q418 : (Jvm.Cond.laysStatic "ApologyUp$Tokens" "WORDS" "[Ljava/lang/String;") ∈ lw_tbl := lw_at lw_m2 49 rfl
theorem q419 : (Jvm.Cond.methodLink "ApologyUp$Tokens" (36 : Nat) ({ cls := "ApologyUp$Tokens", name := "isWord", desc := "(Ljava/lang/String;)Z" } : Jvm.MethodName)) ∈ lw_all := lw_g (lw_at lw_m2 50 rfl) rfl
theorem q420 : (Jvm.Cond.privateMethod ({ cls := "ApologyUp$Tokens", name := "isWord", desc := "(Ljava/lang/String;)Z" } : Jvm.MethodName)) ∈ lw_tbl := lw_at lw_m2 51 rfl
theorem q421 : (Jvm.Cond.instanceMethod ({ cls := "ApologyUp$Tokens", name := "isWord", desc := "(Ljava/lang/String;)Z" } : Jvm.MethodName)) ∈ lw_all := lw_g (lw_at lw_m2 52 rfl) rfl
theorem q422 : (Jvm.Cond.code ({ cls := "ApologyUp$Tokens", name := "isWord", desc := "(Ljava/lang/String;)Z" } : Jvm.MethodName) prog_17_method_5_code (3 : Nat) (Option.some Jvm.ClassFile.FieldType.boolean)) ∈ lw_all := lw_g (lw_at lw_m2 53 rfl) rfl
theorem q423 : (Jvm.Cond.methodLink "ApologyUp$Tokens" (55 : Nat) ({ cls := "java/lang/String", name := "length", desc := "()I" } : Jvm.MethodName)) ∈ lw_all := lw_g (lw_at lw_m2 54 rfl) rfl
theorem q433 : (Jvm.Cond.methodLink "ApologyUp$Tokens" (61 : Nat) ({ cls := "java/lang/String", name := "charAt", desc := "(I)C" } : Jvm.MethodName)) ∈ lw_all := lw_g (lw_at lw_m2 64 rfl) rfl
theorem q471 : (Jvm.Cond.methodLink "ApologyUp$Tokens" (40 : Nat) ({ cls := "ApologyUp$Tokens", name := "isDigit", desc := "(I)Z" } : Jvm.MethodName)) ∈ lw_all := lw_g (lw_at lw_m2 102 rfl) rfl
theorem q472 : (Jvm.Cond.static ({ cls := "ApologyUp$Tokens", name := "isDigit", desc := "(I)Z" } : Jvm.MethodName)) ∈ lw_all := lw_g (lw_at lw_m2 103 rfl) rfl
theorem q473 : (Jvm.Cond.code ({ cls := "ApologyUp$Tokens", name := "isDigit", desc := "(I)Z" } : Jvm.MethodName) prog_17_method_3_code (1 : Nat) (Option.some Jvm.ClassFile.FieldType.boolean)) ∈ lw_all := lw_g (lw_at lw_m2 104 rfl) rfl
theorem q474 : (Jvm.Cond.constant "ApologyUp$Tokens" (46 : Nat) (99999 : Int32)) ∈ lw_all := lw_g (lw_at lw_m2 105 rfl) rfl
theorem q475 : (Jvm.Cond.methodLink "ApologyUp$Tokens" (47 : Nat) ({ cls := "java/lang/Math", name := "min", desc := "(II)I" } : Jvm.MethodName)) ∈ lw_all := lw_g (lw_at lw_m2 106 rfl) rfl
theorem q478 : (Jvm.Cond.stringRef "ApologyUp$Tokens" (53 : Nat) "<>=#+-*/();") ∈ lw_tbl := lw_at lw_m2 109 rfl
theorem q479 : (Jvm.Cond.methodLink "ApologyUp$Tokens" (70 : Nat) ({ cls := "ApologyUp$Tokens", name := "wrong", desc := "(I)LApologyUp$Wrong;" } : Jvm.MethodName)) ∈ lw_all := lw_g (lw_at lw_m2 110 rfl) rfl
theorem q480 : (Jvm.Cond.privateMethod ({ cls := "ApologyUp$Tokens", name := "wrong", desc := "(I)LApologyUp$Wrong;" } : Jvm.MethodName)) ∈ lw_tbl := lw_at lw_m2 111 rfl
theorem q481 : (Jvm.Cond.instanceMethod ({ cls := "ApologyUp$Tokens", name := "wrong", desc := "(I)LApologyUp$Wrong;" } : Jvm.MethodName)) ∈ lw_all := lw_g (lw_at lw_m2 112 rfl) rfl
theorem q482 : (Jvm.Cond.code ({ cls := "ApologyUp$Tokens", name := "wrong", desc := "(I)LApologyUp$Wrong;" } : Jvm.MethodName) prog_17_method_6_code (2 : Nat) (Option.some (Jvm.ClassFile.FieldType.object "ApologyUp$Wrong"))) ∈ lw_all := lw_g (lw_at lw_m2 113 rfl) rfl
theorem q483 : (Jvm.Cond.classLink "ApologyUp$Tokens" (65 : Nat) "ApologyUp$Wrong") ∈ lw_all := lw_g (lw_at lw_m2 114 rfl) rfl
theorem q520 : (Jvm.Cond.methodLink "ApologyUp$Tokens" (67 : Nat) ({ cls := "ApologyUp$Wrong", name := "<init>", desc := "(II)V" } : Jvm.MethodName)) ∈ lw_all := lw_g (lw_at lw_m2 151 rfl) rfl
theorem q547 : (Jvm.Cond.methodLink "ApologyUp$Tokens" (93 : Nat) ({ cls := "ApologyUp$Tokens", name := "sum", desc := "()LApologyUp$Sum;" } : Jvm.MethodName)) ∈ lw_all := lw_g (lw_at lw_m2 178 rfl) rfl
theorem q548 : (Jvm.Cond.privateMethod ({ cls := "ApologyUp$Tokens", name := "sum", desc := "()LApologyUp$Sum;" } : Jvm.MethodName)) ∈ lw_tbl := lw_at lw_m2 179 rfl
theorem q549 : (Jvm.Cond.instanceMethod ({ cls := "ApologyUp$Tokens", name := "sum", desc := "()LApologyUp$Sum;" } : Jvm.MethodName)) ∈ lw_all := lw_g (lw_at lw_m2 180 rfl) rfl
theorem q550 : (Jvm.Cond.code ({ cls := "ApologyUp$Tokens", name := "sum", desc := "()LApologyUp$Sum;" } : Jvm.MethodName) prog_17_method_16_code (3 : Nat) (Option.some (Jvm.ClassFile.FieldType.object "ApologyUp$Sum"))) ∈ lw_all := lw_g (lw_at lw_m2 181 rfl) rfl
theorem q551 : (Jvm.Cond.classLink "ApologyUp$Tokens" (160 : Nat) "ApologyUp$Chain") ∈ lw_all := lw_g (lw_at lw_m2 182 rfl) rfl
theorem q553 : (Jvm.Cond.methodLink "ApologyUp$Tokens" (162 : Nat) ({ cls := "ApologyUp$Tokens", name := "product", desc := "()LApologyUp$Sum;" } : Jvm.MethodName)) ∈ lw_all := lw_g (lw_at lw_m2 184 rfl) rfl
theorem q554 : (Jvm.Cond.privateMethod ({ cls := "ApologyUp$Tokens", name := "product", desc := "()LApologyUp$Sum;" } : Jvm.MethodName)) ∈ lw_tbl := lw_at lw_m2 185 rfl
theorem q555 : (Jvm.Cond.instanceMethod ({ cls := "ApologyUp$Tokens", name := "product", desc := "()LApologyUp$Sum;" } : Jvm.MethodName)) ∈ lw_all := lw_g (lw_at lw_m2 186 rfl) rfl
theorem q556 : (Jvm.Cond.code ({ cls := "ApologyUp$Tokens", name := "product", desc := "()LApologyUp$Sum;" } : Jvm.MethodName) prog_17_method_17_code (3 : Nat) (Option.some (Jvm.ClassFile.FieldType.object "ApologyUp$Sum"))) ∈ lw_all := lw_g (lw_at lw_m2 187 rfl) rfl
theorem q557 : (Jvm.Cond.methodLink "ApologyUp$Tokens" (174 : Nat) ({ cls := "ApologyUp$Tokens", name := "one", desc := "()LApologyUp$Sum;" } : Jvm.MethodName)) ∈ lw_all := lw_g (lw_at lw_m2 188 rfl) rfl
theorem q558 : (Jvm.Cond.privateMethod ({ cls := "ApologyUp$Tokens", name := "one", desc := "()LApologyUp$Sum;" } : Jvm.MethodName)) ∈ lw_tbl := lw_at lw_m2 189 rfl
theorem q559 : (Jvm.Cond.instanceMethod ({ cls := "ApologyUp$Tokens", name := "one", desc := "()LApologyUp$Sum;" } : Jvm.MethodName)) ∈ lw_all := lw_g (lw_at lw_m2 190 rfl) rfl
theorem q560 : (Jvm.Cond.code ({ cls := "ApologyUp$Tokens", name := "one", desc := "()LApologyUp$Sum;" } : Jvm.MethodName) prog_17_method_22_code (5 : Nat) (Option.some (Jvm.ClassFile.FieldType.object "ApologyUp$Sum"))) ∈ lw_all := lw_g (lw_at lw_m2 191 rfl) rfl
theorem q561 : (Jvm.Cond.classLink "ApologyUp$Tokens" (194 : Nat) "ApologyUp$Plain") ∈ lw_all := lw_g (lw_at lw_m2 192 rfl) rfl
theorem q563 : (Jvm.Cond.methodLink "ApologyUp$Tokens" (115 : Nat) ({ cls := "ApologyUp$Tokens", name := "number", desc := "(II)I" } : Jvm.MethodName)) ∈ lw_all := lw_g (lw_at lw_m2 194 rfl) rfl
theorem q564 : (Jvm.Cond.privateMethod ({ cls := "ApologyUp$Tokens", name := "number", desc := "(II)I" } : Jvm.MethodName)) ∈ lw_tbl := lw_at lw_m2 195 rfl
theorem q565 : (Jvm.Cond.instanceMethod ({ cls := "ApologyUp$Tokens", name := "number", desc := "(II)I" } : Jvm.MethodName)) ∈ lw_all := lw_g (lw_at lw_m2 196 rfl) rfl
theorem q566 : (Jvm.Cond.code ({ cls := "ApologyUp$Tokens", name := "number", desc := "(II)I" } : Jvm.MethodName) prog_17_method_8_code (4 : Nat) (Option.some Jvm.ClassFile.FieldType.int)) ∈ lw_all := lw_g (lw_at lw_m2 197 rfl) rfl
theorem q567 : (Jvm.Cond.methodLinkNest "ApologyUp$Tokens" (196 : Nat) ({ cls := "ApologyUp$Plain", name := "<init>", desc := "(I)V" } : Jvm.MethodName) "ApologyUp") ∈ lw_tbl := lw_at lw_m2 198 rfl
theorem q578 : (Jvm.Cond.methodLink "ApologyUp$Tokens" (198 : Nat) ({ cls := "ApologyUp$Tokens", name := "choice", desc := "()LApologyUp$Sum;" } : Jvm.MethodName)) ∈ lw_all := lw_g (lw_at lw_m2 209 rfl) rfl
theorem q579 : (Jvm.Cond.privateMethod ({ cls := "ApologyUp$Tokens", name := "choice", desc := "()LApologyUp$Sum;" } : Jvm.MethodName)) ∈ lw_tbl := lw_at lw_m2 210 rfl
theorem q580 : (Jvm.Cond.instanceMethod ({ cls := "ApologyUp$Tokens", name := "choice", desc := "()LApologyUp$Sum;" } : Jvm.MethodName)) ∈ lw_all := lw_g (lw_at lw_m2 211 rfl) rfl
theorem q581 : (Jvm.Cond.code ({ cls := "ApologyUp$Tokens", name := "choice", desc := "()LApologyUp$Sum;" } : Jvm.MethodName) prog_17_method_21_code (4 : Nat) (Option.some (Jvm.ClassFile.FieldType.object "ApologyUp$Sum"))) ∈ lw_all := lw_g (lw_at lw_m2 212 rfl) rfl
theorem q582 : (Jvm.Cond.methodLink "ApologyUp$Tokens" (147 : Nat) ({ cls := "ApologyUp$Tokens", name := "opens", desc := "()V" } : Jvm.MethodName)) ∈ lw_all := lw_g (lw_at lw_m2 213 rfl) rfl
theorem q583 : (Jvm.Cond.privateMethod ({ cls := "ApologyUp$Tokens", name := "opens", desc := "()V" } : Jvm.MethodName)) ∈ lw_tbl := lw_at lw_m2 214 rfl
theorem q584 : (Jvm.Cond.instanceMethod ({ cls := "ApologyUp$Tokens", name := "opens", desc := "()V" } : Jvm.MethodName)) ∈ lw_all := lw_g (lw_at lw_m2 215 rfl) rfl
theorem q585 : (Jvm.Cond.code ({ cls := "ApologyUp$Tokens", name := "opens", desc := "()V" } : Jvm.MethodName) prog_17_method_9_code (1 : Nat) (Option.none : Option Jvm.ClassFile.FieldType)) ∈ lw_all := lw_g (lw_at lw_m2 216 rfl) rfl
theorem q586 : (Jvm.Cond.methodLink "ApologyUp$Tokens" (186 : Nat) ({ cls := "ApologyUp$Tokens", name := "either", desc := "()LApologyUp$Asked;" } : Jvm.MethodName)) ∈ lw_all := lw_g (lw_at lw_m2 217 rfl) rfl
theorem q587 : (Jvm.Cond.privateMethod ({ cls := "ApologyUp$Tokens", name := "either", desc := "()LApologyUp$Asked;" } : Jvm.MethodName)) ∈ lw_tbl := lw_at lw_m2 218 rfl
theorem q588 : (Jvm.Cond.instanceMethod ({ cls := "ApologyUp$Tokens", name := "either", desc := "()LApologyUp$Asked;" } : Jvm.MethodName)) ∈ lw_all := lw_g (lw_at lw_m2 219 rfl) rfl
theorem q589 : (Jvm.Cond.code ({ cls := "ApologyUp$Tokens", name := "either", desc := "()LApologyUp$Asked;" } : Jvm.MethodName) prog_17_method_13_code (2 : Nat) (Option.some (Jvm.ClassFile.FieldType.object "ApologyUp$Asked"))) ∈ lw_all := lw_g (lw_at lw_m2 220 rfl) rfl
theorem q590 : (Jvm.Cond.classLink "ApologyUp$Tokens" (106 : Nat) "java/util/ArrayList") ∈ lw_all := lw_g (lw_at lw_m2 221 rfl) rfl
theorem q591 : (Jvm.Cond.methodLink "ApologyUp$Tokens" (126 : Nat) ({ cls := "java/util/ArrayList", name := "<init>", desc := "()V" } : Jvm.MethodName)) ∈ lw_all := lw_g (lw_at lw_m2 222 rfl) rfl
theorem q592 : (Jvm.Cond.methodLink "ApologyUp$Tokens" (127 : Nat) ({ cls := "ApologyUp$Tokens", name := "both", desc := "()LApologyUp$Asked;" } : Jvm.MethodName)) ∈ lw_all := lw_g (lw_at lw_m2 223 rfl) rfl
theorem q593 : (Jvm.Cond.privateMethod ({ cls := "ApologyUp$Tokens", name := "both", desc := "()LApologyUp$Asked;" } : Jvm.MethodName)) ∈ lw_tbl := lw_at lw_m2 224 rfl
theorem q594 : (Jvm.Cond.instanceMethod ({ cls := "ApologyUp$Tokens", name := "both", desc := "()LApologyUp$Asked;" } : Jvm.MethodName)) ∈ lw_all := lw_g (lw_at lw_m2 225 rfl) rfl
theorem q595 : (Jvm.Cond.code ({ cls := "ApologyUp$Tokens", name := "both", desc := "()LApologyUp$Asked;" } : Jvm.MethodName) prog_17_method_14_code (2 : Nat) (Option.some (Jvm.ClassFile.FieldType.object "ApologyUp$Asked"))) ∈ lw_all := lw_g (lw_at lw_m2 226 rfl) rfl
theorem q596 : (Jvm.Cond.methodLink "ApologyUp$Tokens" (144 : Nat) ({ cls := "ApologyUp$Tokens", name := "ask", desc := "()LApologyUp$Asked;" } : Jvm.MethodName)) ∈ lw_all := lw_g (lw_at lw_m2 227 rfl) rfl
theorem q597 : (Jvm.Cond.privateMethod ({ cls := "ApologyUp$Tokens", name := "ask", desc := "()LApologyUp$Asked;" } : Jvm.MethodName)) ∈ lw_tbl := lw_at lw_m2 228 rfl
theorem q598 : (Jvm.Cond.instanceMethod ({ cls := "ApologyUp$Tokens", name := "ask", desc := "()LApologyUp$Asked;" } : Jvm.MethodName)) ∈ lw_all := lw_g (lw_at lw_m2 229 rfl) rfl
theorem q599 : (Jvm.Cond.code ({ cls := "ApologyUp$Tokens", name := "ask", desc := "()LApologyUp$Asked;" } : Jvm.MethodName) prog_17_method_15_code (3 : Nat) (Option.some (Jvm.ClassFile.FieldType.object "ApologyUp$Asked"))) ∈ lw_all := lw_g (lw_at lw_m2 230 rfl) rfl
theorem q600 : (Jvm.Cond.classLink "ApologyUp$Tokens" (150 : Nat) "ApologyUp$Not") ∈ lw_all := lw_g (lw_at lw_m2 231 rfl) rfl
theorem q602 : (Jvm.Cond.methodLinkNest "ApologyUp$Tokens" (152 : Nat) ({ cls := "ApologyUp$Not", name := "<init>", desc := "(LApologyUp$Asked;)V" } : Jvm.MethodName) "ApologyUp") ∈ lw_tbl := lw_at lw_m2 233 rfl
theorem q610 : (Jvm.Cond.classLink "ApologyUp$Tokens" (155 : Nat) "ApologyUp$Compared") ∈ lw_all := lw_g (lw_at lw_m3 1 rfl) rfl
theorem q612 : (Jvm.Cond.methodLinkNest "ApologyUp$Tokens" (157 : Nat) ({ cls := "ApologyUp$Compared", name := "<init>", desc := "(ILApologyUp$Sum;LApologyUp$Sum;)V" } : Jvm.MethodName) "ApologyUp") ∈ lw_tbl := lw_at lw_m3 3 rfl
theorem q626 : (Jvm.Cond.methodLink "ApologyUp$Tokens" (105 : Nat) ({ cls := "java/util/ArrayList", name := "add", desc := "(Ljava/lang/Object;)Z" } : Jvm.MethodName)) ∈ lw_all := lw_g (lw_at lw_m3 17 rfl) rfl
theorem q672 : (Jvm.Cond.selects "ApologyUp$Tokens" ({ cls := "java/lang/Object", name := "getClass", desc := "()Ljava/lang/Class;" } : Jvm.MethodName) ({ cls := "java/lang/Object", name := "getClass", desc := "()Ljava/lang/Class;" } : Jvm.MethodName)) ∈ lw_all := lw_g (lw_at lw_m3 63 rfl) rfl
theorem q688 : (Jvm.Cond.methodLink "ApologyUp$Tokens" (131 : Nat) ({ cls := "java/util/ArrayList", name := "size", desc := "()I" } : Jvm.MethodName)) ∈ lw_all := lw_g (lw_at lw_m3 79 rfl) rfl
theorem q692 : (Jvm.Cond.methodLink "ApologyUp$Tokens" (133 : Nat) ({ cls := "java/util/ArrayList", name := "get", desc := "(I)Ljava/lang/Object;" } : Jvm.MethodName)) ∈ lw_all := lw_g (lw_at lw_m3 83 rfl) rfl
theorem q704 : (Jvm.Cond.classLink "ApologyUp$Tokens" (137 : Nat) "ApologyUp$Asked") ∈ lw_all := lw_g (lw_at lw_m3 95 rfl) rfl
theorem q705 : (Jvm.Cond.classLink "ApologyUp$Tokens" (139 : Nat) "ApologyUp$All") ∈ lw_all := lw_g (lw_at lw_m3 96 rfl) rfl
theorem q707 : (Jvm.Cond.methodLinkNest "ApologyUp$Tokens" (141 : Nat) ({ cls := "ApologyUp$All", name := "<init>", desc := "(ZLjava/util/ArrayList;)V" } : Jvm.MethodName) "ApologyUp") ∈ lw_tbl := lw_at lw_m3 98 rfl
theorem q718 : (Jvm.Cond.methodLink "ApologyUp$Tokens" (111 : Nat) ({ cls := "ApologyUp$Tokens", name := "want", desc := "(I)V" } : Jvm.MethodName)) ∈ lw_all := lw_g (lw_at lw_m3 109 rfl) rfl
theorem q719 : (Jvm.Cond.privateMethod ({ cls := "ApologyUp$Tokens", name := "want", desc := "(I)V" } : Jvm.MethodName)) ∈ lw_tbl := lw_at lw_m3 110 rfl
theorem q720 : (Jvm.Cond.instanceMethod ({ cls := "ApologyUp$Tokens", name := "want", desc := "(I)V" } : Jvm.MethodName)) ∈ lw_all := lw_g (lw_at lw_m3 111 rfl) rfl
theorem q721 : (Jvm.Cond.code ({ cls := "ApologyUp$Tokens", name := "want", desc := "(I)V" } : Jvm.MethodName) prog_17_method_7_code (2 : Nat) (Option.none : Option Jvm.ClassFile.FieldType)) ∈ lw_all := lw_g (lw_at lw_m3 112 rfl) rfl
theorem q722 : (Jvm.Cond.classLink "ApologyUp$Tokens" (189 : Nat) "ApologyUp$If") ∈ lw_all := lw_g (lw_at lw_m3 113 rfl) rfl
theorem q724 : (Jvm.Cond.methodLinkNest "ApologyUp$Tokens" (191 : Nat) ({ cls := "ApologyUp$If", name := "<init>", desc := "(LApologyUp$Asked;LApologyUp$Sum;LApologyUp$Sum;)V" } : Jvm.MethodName) "ApologyUp") ∈ lw_tbl := lw_at lw_m3 115 rfl
theorem q738 : (Jvm.Cond.methodLink "ApologyUp$Tokens" (201 : Nat) ({ cls := "ApologyUp$Tokens", name := "halves", desc := "()LApologyUp$Sum;" } : Jvm.MethodName)) ∈ lw_all := lw_g (lw_at lw_m3 129 rfl) rfl
theorem q739 : (Jvm.Cond.privateMethod ({ cls := "ApologyUp$Tokens", name := "halves", desc := "()LApologyUp$Sum;" } : Jvm.MethodName)) ∈ lw_tbl := lw_at lw_m3 130 rfl
theorem q740 : (Jvm.Cond.instanceMethod ({ cls := "ApologyUp$Tokens", name := "halves", desc := "()LApologyUp$Sum;" } : Jvm.MethodName)) ∈ lw_all := lw_g (lw_at lw_m3 131 rfl) rfl
theorem q741 : (Jvm.Cond.code ({ cls := "ApologyUp$Tokens", name := "halves", desc := "()LApologyUp$Sum;" } : Jvm.MethodName) prog_17_method_20_code (3 : Nat) (Option.some (Jvm.ClassFile.FieldType.object "ApologyUp$Sum"))) ∈ lw_all := lw_g (lw_at lw_m3 132 rfl) rfl
theorem q742 : (Jvm.Cond.classLink "ApologyUp$Tokens" (181 : Nat) "ApologyUp$Halves") ∈ lw_all := lw_g (lw_at lw_m3 133 rfl) rfl
theorem q744 : (Jvm.Cond.methodLinkNest "ApologyUp$Tokens" (183 : Nat) ({ cls := "ApologyUp$Halves", name := "<init>", desc := "(LApologyUp$Sum;LApologyUp$Sum;)V" } : Jvm.MethodName) "ApologyUp") ∈ lw_tbl := lw_at lw_m3 135 rfl
theorem q755 : (Jvm.Cond.methodLink "ApologyUp$Tokens" (204 : Nat) ({ cls := "ApologyUp$Tokens", name := "nameNow", desc := "()I" } : Jvm.MethodName)) ∈ lw_all := lw_g (lw_at lw_m3 146 rfl) rfl
theorem q756 : (Jvm.Cond.privateMethod ({ cls := "ApologyUp$Tokens", name := "nameNow", desc := "()I" } : Jvm.MethodName)) ∈ lw_tbl := lw_at lw_m3 147 rfl
theorem q757 : (Jvm.Cond.instanceMethod ({ cls := "ApologyUp$Tokens", name := "nameNow", desc := "()I" } : Jvm.MethodName)) ∈ lw_all := lw_g (lw_at lw_m3 148 rfl) rfl
theorem q758 : (Jvm.Cond.code ({ cls := "ApologyUp$Tokens", name := "nameNow", desc := "()I" } : Jvm.MethodName) prog_17_method_18_code (2 : Nat) (Option.some Jvm.ClassFile.FieldType.int)) ∈ lw_all := lw_g (lw_at lw_m3 149 rfl) rfl
theorem q759 : (Jvm.Cond.fieldLink "ApologyUp$Tokens" (177 : Nat) "ApologyUp$Tokens" "NAMED" "[I") ∈ lw_all := lw_g (lw_at lw_m3 150 rfl) rfl
theorem q760 : (Jvm.Cond.laysStatic "ApologyUp$Tokens" "NAMED" "[I") ∈ lw_tbl := lw_at lw_m3 151 rfl
theorem q761 : (Jvm.Cond.methodLink "ApologyUp$Tokens" (207 : Nat) ({ cls := "ApologyUp$Tokens", name := "mayName", desc := "(I)Z" } : Jvm.MethodName)) ∈ lw_all := lw_g (lw_at lw_m3 152 rfl) rfl
theorem q762 : (Jvm.Cond.privateMethod ({ cls := "ApologyUp$Tokens", name := "mayName", desc := "(I)Z" } : Jvm.MethodName)) ∈ lw_tbl := lw_at lw_m3 153 rfl
theorem q763 : (Jvm.Cond.instanceMethod ({ cls := "ApologyUp$Tokens", name := "mayName", desc := "(I)Z" } : Jvm.MethodName)) ∈ lw_all := lw_g (lw_at lw_m3 154 rfl) rfl
theorem q764 : (Jvm.Cond.code ({ cls := "ApologyUp$Tokens", name := "mayName", desc := "(I)Z" } : Jvm.MethodName) prog_17_method_19_code (2 : Nat) (Option.some Jvm.ClassFile.FieldType.boolean)) ∈ lw_all := lw_g (lw_at lw_m3 155 rfl) rfl
theorem q765 : (Jvm.Cond.classLink "ApologyUp$Tokens" (210 : Nat) "ApologyUp$Name") ∈ lw_all := lw_g (lw_at lw_m3 156 rfl) rfl
theorem q767 : (Jvm.Cond.methodLinkNest "ApologyUp$Tokens" (212 : Nat) ({ cls := "ApologyUp$Name", name := "<init>", desc := "(I)V" } : Jvm.MethodName) "ApologyUp") ∈ lw_tbl := lw_at lw_m3 158 rfl
theorem q775 : (Jvm.Cond.classLink "ApologyUp$Tokens" (213 : Nat) "ApologyUp$Ranks") ∈ lw_all := lw_g (lw_at lw_m3 166 rfl) rfl
theorem q777 : (Jvm.Cond.methodLinkNest "ApologyUp$Tokens" (215 : Nat) ({ cls := "ApologyUp$Ranks", name := "<init>", desc := "(LApologyUp$Sum;)V" } : Jvm.MethodName) "ApologyUp") ∈ lw_tbl := lw_at lw_m3 168 rfl
theorem q785 : (Jvm.Cond.classLink "ApologyUp$Tokens" (216 : Nat) "ApologyUp$Minus") ∈ lw_all := lw_g (lw_at lw_m3 176 rfl) rfl
theorem q787 : (Jvm.Cond.methodLinkNest "ApologyUp$Tokens" (218 : Nat) ({ cls := "ApologyUp$Minus", name := "<init>", desc := "(LApologyUp$Sum;)V" } : Jvm.MethodName) "ApologyUp") ∈ lw_tbl := lw_at lw_m3 178 rfl
theorem q795 : (Jvm.Cond.methodLink "ApologyUp$Tokens" (165 : Nat) ({ cls := "ApologyUp$Chain", name := "<init>", desc := "(LApologyUp$Sum;)V" } : Jvm.MethodName)) ∈ lw_all := lw_g (lw_at lw_m3 186 rfl) rfl
theorem q811 : (Jvm.Cond.methodLink "ApologyUp$Tokens" (168 : Nat) ({ cls := "ApologyUp$Chain", name := "add", desc := "(ILApologyUp$Sum;)V" } : Jvm.MethodName)) ∈ lw_all := lw_g (lw_at lw_m3 202 rfl) rfl
theorem q836 : (Jvm.Cond.methodLink "ApologyUp$Tokens" (171 : Nat) ({ cls := "ApologyUp$Chain", name := "itself", desc := "()LApologyUp$Sum;" } : Jvm.MethodName)) ∈ lw_all := lw_g (lw_at lw_m3 227 rfl) rfl
theorem q844 : (Jvm.Cond.methodLink "ApologyUp$Tokens" (101 : Nat) ({ cls := "ApologyUp$Tokens", name := "doing", desc := "(I)LApologyUp$Doing;" } : Jvm.MethodName)) ∈ lw_all := lw_g (lw_at lw_m3 235 rfl) rfl
theorem q845 : (Jvm.Cond.privateMethod ({ cls := "ApologyUp$Tokens", name := "doing", desc := "(I)LApologyUp$Doing;" } : Jvm.MethodName)) ∈ lw_tbl := lw_at lw_m3 236 rfl
theorem q846 : (Jvm.Cond.instanceMethod ({ cls := "ApologyUp$Tokens", name := "doing", desc := "(I)LApologyUp$Doing;" } : Jvm.MethodName)) ∈ lw_all := lw_g (lw_at lw_m3 237 rfl) rfl
theorem q847 : (Jvm.Cond.code ({ cls := "ApologyUp$Tokens", name := "doing", desc := "(I)LApologyUp$Doing;" } : Jvm.MethodName) prog_17_method_12_code (4 : Nat) (Option.some (Jvm.ClassFile.FieldType.object "ApologyUp$Doing"))) ∈ lw_all := lw_g (lw_at lw_m3 238 rfl) rfl
theorem q848 : (Jvm.Cond.classLink "ApologyUp$Tokens" (117 : Nat) "ApologyUp$Doing") ∈ lw_all := lw_g (lw_at lw_m3 239 rfl) rfl
theorem q850 : (Jvm.Cond.methodLink "ApologyUp$Tokens" (119 : Nat) ({ cls := "ApologyUp$Tokens", name := "behind", desc := "(III)I" } : Jvm.MethodName)) ∈ lw_all := lw_g (lw_at lw_m4 1 rfl) rfl
theorem q851 : (Jvm.Cond.privateMethod ({ cls := "ApologyUp$Tokens", name := "behind", desc := "(III)I" } : Jvm.MethodName)) ∈ lw_tbl := lw_at lw_m4 2 rfl
theorem q852 : (Jvm.Cond.instanceMethod ({ cls := "ApologyUp$Tokens", name := "behind", desc := "(III)I" } : Jvm.MethodName)) ∈ lw_all := lw_g (lw_at lw_m4 3 rfl) rfl
theorem q853 : (Jvm.Cond.code ({ cls := "ApologyUp$Tokens", name := "behind", desc := "(III)I" } : Jvm.MethodName) prog_17_method_11_code (4 : Nat) (Option.some Jvm.ClassFile.FieldType.int)) ∈ lw_all := lw_g (lw_at lw_m4 4 rfl) rfl
theorem q854 : (Jvm.Cond.methodLinkNest "ApologyUp$Tokens" (123 : Nat) ({ cls := "ApologyUp$Doing", name := "<init>", desc := "(IIIII)V" } : Jvm.MethodName) "ApologyUp") ∈ lw_tbl := lw_at lw_m4 5 rfl
theorem q2021 : (Jvm.Cond.castable "ApologyUp$Tokens" "java/lang/Object") ∈ lw_tbl := lw_at lw_m8 212 rfl
theorem q2051 : (Jvm.Cond.stringRef "ApologyUp$Tokens" (219 : Nat) "adds") ∈ lw_tbl := lw_at lw_m9 2 rfl
theorem q2052 : (Jvm.Cond.stringRef "ApologyUp$Tokens" (221 : Nat) "pardons") ∈ lw_tbl := lw_at lw_m9 3 rfl
theorem q2053 : (Jvm.Cond.stringRef "ApologyUp$Tokens" (223 : Nat) "wears") ∈ lw_tbl := lw_at lw_m9 4 rfl
theorem q2054 : (Jvm.Cond.stringRef "ApologyUp$Tokens" (225 : Nat) "officer") ∈ lw_tbl := lw_at lw_m9 5 rfl
theorem q2055 : (Jvm.Cond.stringRef "ApologyUp$Tokens" (227 : Nat) "cousin") ∈ lw_tbl := lw_at lw_m9 6 rfl
theorem q2056 : (Jvm.Cond.stringRef "ApologyUp$Tokens" (229 : Nat) "wrong") ∈ lw_tbl := lw_at lw_m9 7 rfl
theorem q2057 : (Jvm.Cond.stringRef "ApologyUp$Tokens" (230 : Nat) "away") ∈ lw_tbl := lw_at lw_m9 8 rfl
theorem q2058 : (Jvm.Cond.stringRef "ApologyUp$Tokens" (232 : Nat) "send") ∈ lw_tbl := lw_at lw_m9 9 rfl
theorem q2059 : (Jvm.Cond.stringRef "ApologyUp$Tokens" (234 : Nat) "day") ∈ lw_tbl := lw_at lw_m9 10 rfl
theorem q2060 : (Jvm.Cond.stringRef "ApologyUp$Tokens" (236 : Nat) "under") ∈ lw_tbl := lw_at lw_m9 11 rfl
theorem q2061 : (Jvm.Cond.stringRef "ApologyUp$Tokens" (238 : Nat) "to") ∈ lw_tbl := lw_at lw_m9 12 rfl
theorem q2062 : (Jvm.Cond.stringRef "ApologyUp$Tokens" (240 : Nat) "size") ∈ lw_tbl := lw_at lw_m9 13 rfl
theorem q2063 : (Jvm.Cond.stringRef "ApologyUp$Tokens" (241 : Nat) "days") ∈ lw_tbl := lw_at lw_m9 14 rfl
theorem q2064 : (Jvm.Cond.stringRef "ApologyUp$Tokens" (243 : Nat) "halves") ∈ lw_tbl := lw_at lw_m9 15 rfl
theorem q2065 : (Jvm.Cond.stringRef "ApologyUp$Tokens" (244 : Nat) "by") ∈ lw_tbl := lw_at lw_m9 16 rfl
theorem q2066 : (Jvm.Cond.stringRef "ApologyUp$Tokens" (246 : Nat) "ranks") ∈ lw_tbl := lw_at lw_m9 17 rfl
theorem q2067 : (Jvm.Cond.stringRef "ApologyUp$Tokens" (248 : Nat) "if") ∈ lw_tbl := lw_at lw_m9 18 rfl
theorem q2068 : (Jvm.Cond.stringRef "ApologyUp$Tokens" (250 : Nat) "then") ∈ lw_tbl := lw_at lw_m9 19 rfl
theorem q2069 : (Jvm.Cond.stringRef "ApologyUp$Tokens" (252 : Nat) "else") ∈ lw_tbl := lw_at lw_m9 20 rfl
theorem q2070 : (Jvm.Cond.stringRef "ApologyUp$Tokens" (254 : Nat) "end") ∈ lw_tbl := lw_at lw_m9 21 rfl
theorem q2071 : (Jvm.Cond.stringRef "ApologyUp$Tokens" (256 : Nat) "or") ∈ lw_tbl := lw_at lw_m9 22 rfl
theorem q2072 : (Jvm.Cond.stringRef "ApologyUp$Tokens" (258 : Nat) "and") ∈ lw_tbl := lw_at lw_m9 23 rfl
theorem q2073 : (Jvm.Cond.stringRef "ApologyUp$Tokens" (260 : Nat) "not") ∈ lw_tbl := lw_at lw_m9 24 rfl
theorem q2074 : (Jvm.Cond.stringRef "ApologyUp$Tokens" (262 : Nat) "who") ∈ lw_tbl := lw_at lw_m9 25 rfl
theorem q2075 : (Jvm.Cond.stringRef "ApologyUp$Tokens" (264 : Nat) "pride") ∈ lw_tbl := lw_at lw_m9 26 rfl
theorem q2076 : (Jvm.Cond.stringRef "ApologyUp$Tokens" (266 : Nat) "rank") ∈ lw_tbl := lw_at lw_m9 27 rfl
theorem q2077 : (Jvm.Cond.stringRef "ApologyUp$Tokens" (268 : Nat) "from") ∈ lw_tbl := lw_at lw_m9 28 rfl
theorem q2078 : (Jvm.Cond.stringRef "ApologyUp$Tokens" (270 : Nat) "desk") ∈ lw_tbl := lw_at lw_m9 29 rfl
theorem in_X3 : ∀ w ∈ wsX30, w ∈ lw_all := lw_in wsX30 [341, 343, 345, 347, 349, 351, 353, 355] (by decide +kernel) (by decide +kernel)
