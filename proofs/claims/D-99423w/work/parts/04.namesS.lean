/-! ApologyUp$State -/
set_option maxRecDepth 100000
def RX1 : String := "ApologyUp$State"
def TX1 : u_T := fun k => match k with
  | 0 => ("ApologyUp$State", "n", "[I", true)
  | 1 => ("ApologyUp$State", "row", "[I", true)
  | 2 => ("ApologyUp$State", "boss", "[I", true)
  | 3 => ("ApologyUp$State", "pride", "[I", true)
  | 4 => ("ApologyUp$State", "cousin", "[I", true)
  | 5 => ("ApologyUp$State", "weight", "[I", true)
  | 6 => ("ApologyUp$State", "pile", "[I", true)
  | 7 => ("ApologyUp$State", "turn", "[[I", true)
  | 8 => ("ApologyUp$State", "added", "[[I", true)
  | 9 => ("ApologyUp$State", "step", "[[I", true)
  | _ => ("ApologyUp$State", "text", "[LApologyUp$Text;", true)
def tyX1 : Nat → FieldType := fun k => match k with
  | 0 => .array .int
  | 1 => .array .int
  | 2 => .array .int
  | 3 => .array .int
  | 4 => .array .int
  | 5 => .array .int
  | 6 => .array .int
  | 7 => .array (.array .int)
  | 8 => .array (.array .int)
  | 9 => .array (.array .int)
  | _ => .array (.object "ApologyUp$Text")
abbrev wsX10 : List Cond := u_ws RX1 TX1 11
theorem nmX1 : ∀ a, a < 11 → ∀ b, b < 11 → a ≠ b → (TX1 a).2.1 ≠ (TX1 b).2.1 := by decide +kernel
theorem tyX1_ok : ∀ k, k < 11 → parseFieldDescriptor (TX1 k).2.2.1 = some (tyX1 k) := by decide +kernel
abbrev cX1_init : ByteArray := prog_14_method_1_code
def yX1_init : MethodName := ⟨RX1, "<init>", "()V"⟩
def dkwX1_init_5 : List UInt8 := [180, 0, 27, 4, 184, 0, 50, 177]
abbrev dktX1_init_5 : List UInt8 := dkwX1_init_5 ++ []
def dkwX1_init_4 : List UInt8 := [7, 189, 0, 44, 181, 0, 46, 42, 180, 0, 9, 5, 2, 79, 42, 180, 0, 15, 4, 17, 0, 181, 79, 42]
abbrev dktX1_init_4 : List UInt8 := dkwX1_init_4 ++ dktX1_init_5
def dkwX1_init_3 : List UInt8 := [16, 8, 5, 197, 0, 33, 2, 181, 0, 38, 42, 16, 30, 17, 0, 204, 197, 0, 33, 2, 181, 0, 41, 42]
abbrev dktX1_init_3 : List UInt8 := dkwX1_init_3 ++ dktX1_init_4
def dkwX1_init_2 : List UInt8 := [188, 10, 181, 0, 27, 42, 16, 8, 188, 10, 181, 0, 30, 42, 5, 8, 197, 0, 33, 2, 181, 0, 35, 42]
abbrev dktX1_init_2 : List UInt8 := dkwX1_init_2 ++ dktX1_init_3
def dkwX1_init_1 : List UInt8 := [188, 10, 181, 0, 18, 42, 16, 10, 188, 10, 181, 0, 21, 42, 16, 10, 188, 10, 181, 0, 24, 42, 16, 10]
abbrev dktX1_init_1 : List UInt8 := dkwX1_init_1 ++ dktX1_init_2
def dkwX1_init_0 : List UInt8 := [42, 183, 0, 3, 42, 16, 6, 188, 10, 181, 0, 9, 42, 17, 0, 204, 188, 10, 181, 0, 15, 42, 16, 10]
abbrev dktX1_init_0 : List UInt8 := dkwX1_init_0 ++ dktX1_init_1
theorem dksX1_init_0 : cX1_init.data.toList.drop 0 = dktX1_init_0 := by decide +kernel
theorem dksX1_init_1 : cX1_init.data.toList.drop 24 = dktX1_init_1 := dk_seg dksX1_init_0 24 rfl rfl
theorem dksX1_init_2 : cX1_init.data.toList.drop 48 = dktX1_init_2 := dk_seg dksX1_init_1 24 rfl rfl
theorem dksX1_init_3 : cX1_init.data.toList.drop 72 = dktX1_init_3 := dk_seg dksX1_init_2 24 rfl rfl
theorem dksX1_init_4 : cX1_init.data.toList.drop 96 = dktX1_init_4 := dk_seg dksX1_init_3 24 rfl rfl
theorem dksX1_init_5 : cX1_init.data.toList.drop 120 = dktX1_init_5 := dk_seg dksX1_init_4 24 rfl rfl
theorem dX1_init_0 : decode cX1_init 0 = .ok (.aload_n 0, 1) := dk_42 (dk_at dksX1_init_0 0 rfl rfl)
theorem dX1_init_1 : decode cX1_init 1 = .ok (.invokespecial 3, 3) := dk_183 0 3 (dk_at dksX1_init_0 1 rfl rfl)
theorem dX1_init_4 : decode cX1_init 4 = .ok (.aload_n 0, 1) := dk_42 (dk_at dksX1_init_0 4 rfl rfl)
theorem dX1_init_5 : decode cX1_init 5 = .ok (.bipush 6, 2) := dk_16 6 (dk_at dksX1_init_0 5 rfl rfl)
theorem dX1_init_7 : decode cX1_init 7 = .ok (.newarray .int, 2) := dk_188_10 (dk_at dksX1_init_0 7 rfl rfl)
theorem dX1_init_9 : decode cX1_init 9 = .ok (.putfield 9, 3) := dk_181 0 9 (dk_at dksX1_init_0 9 rfl rfl)
theorem dX1_init_12 : decode cX1_init 12 = .ok (.aload_n 0, 1) := dk_42 (dk_at dksX1_init_0 12 rfl rfl)
theorem dX1_init_13 : decode cX1_init 13 = .ok (.sipush 204, 3) := dk_17 0 204 (dk_at dksX1_init_0 13 rfl rfl)
theorem dX1_init_16 : decode cX1_init 16 = .ok (.newarray .int, 2) := dk_188_10 (dk_at dksX1_init_0 16 rfl rfl)
theorem dX1_init_18 : decode cX1_init 18 = .ok (.putfield 15, 3) := dk_181 0 15 (dk_at dksX1_init_0 18 rfl rfl)
theorem dX1_init_21 : decode cX1_init 21 = .ok (.aload_n 0, 1) := dk_42 (dk_at dksX1_init_0 21 rfl rfl)
theorem dX1_init_22 : decode cX1_init 22 = .ok (.bipush 10, 2) := dk_16 10 (dk_at dksX1_init_0 22 rfl rfl)
theorem dX1_init_24 : decode cX1_init 24 = .ok (.newarray .int, 2) := dk_188_10 (dk_at dksX1_init_1 0 rfl rfl)
theorem dX1_init_26 : decode cX1_init 26 = .ok (.putfield 18, 3) := dk_181 0 18 (dk_at dksX1_init_1 2 rfl rfl)
theorem dX1_init_29 : decode cX1_init 29 = .ok (.aload_n 0, 1) := dk_42 (dk_at dksX1_init_1 5 rfl rfl)
theorem dX1_init_30 : decode cX1_init 30 = .ok (.bipush 10, 2) := dk_16 10 (dk_at dksX1_init_1 6 rfl rfl)
theorem dX1_init_32 : decode cX1_init 32 = .ok (.newarray .int, 2) := dk_188_10 (dk_at dksX1_init_1 8 rfl rfl)
theorem dX1_init_34 : decode cX1_init 34 = .ok (.putfield 21, 3) := dk_181 0 21 (dk_at dksX1_init_1 10 rfl rfl)
theorem dX1_init_37 : decode cX1_init 37 = .ok (.aload_n 0, 1) := dk_42 (dk_at dksX1_init_1 13 rfl rfl)
theorem dX1_init_38 : decode cX1_init 38 = .ok (.bipush 10, 2) := dk_16 10 (dk_at dksX1_init_1 14 rfl rfl)
theorem dX1_init_40 : decode cX1_init 40 = .ok (.newarray .int, 2) := dk_188_10 (dk_at dksX1_init_1 16 rfl rfl)
theorem dX1_init_42 : decode cX1_init 42 = .ok (.putfield 24, 3) := dk_181 0 24 (dk_at dksX1_init_1 18 rfl rfl)
theorem dX1_init_45 : decode cX1_init 45 = .ok (.aload_n 0, 1) := dk_42 (dk_at dksX1_init_1 21 rfl rfl)
theorem dX1_init_46 : decode cX1_init 46 = .ok (.bipush 10, 2) := dk_16 10 (dk_at dksX1_init_1 22 rfl rfl)
theorem dX1_init_48 : decode cX1_init 48 = .ok (.newarray .int, 2) := dk_188_10 (dk_at dksX1_init_2 0 rfl rfl)
theorem dX1_init_50 : decode cX1_init 50 = .ok (.putfield 27, 3) := dk_181 0 27 (dk_at dksX1_init_2 2 rfl rfl)
theorem dX1_init_53 : decode cX1_init 53 = .ok (.aload_n 0, 1) := dk_42 (dk_at dksX1_init_2 5 rfl rfl)
theorem dX1_init_54 : decode cX1_init 54 = .ok (.bipush 8, 2) := dk_16 8 (dk_at dksX1_init_2 6 rfl rfl)
theorem dX1_init_56 : decode cX1_init 56 = .ok (.newarray .int, 2) := dk_188_10 (dk_at dksX1_init_2 8 rfl rfl)
theorem dX1_init_58 : decode cX1_init 58 = .ok (.putfield 30, 3) := dk_181 0 30 (dk_at dksX1_init_2 10 rfl rfl)
theorem dX1_init_61 : decode cX1_init 61 = .ok (.aload_n 0, 1) := dk_42 (dk_at dksX1_init_2 13 rfl rfl)
theorem dX1_init_62 : decode cX1_init 62 = .ok (.iconst 2, 1) := dk_5 (dk_at dksX1_init_2 14 rfl rfl)
theorem dX1_init_63 : decode cX1_init 63 = .ok (.iconst 5, 1) := dk_8 (dk_at dksX1_init_2 15 rfl rfl)
theorem dX1_init_64 : decode cX1_init 64 = .ok (.multianewarray 33 2, 4) := by decide +kernel
theorem dX1_init_68 : decode cX1_init 68 = .ok (.putfield 35, 3) := dk_181 0 35 (dk_at dksX1_init_2 20 rfl rfl)
theorem dX1_init_71 : decode cX1_init 71 = .ok (.aload_n 0, 1) := dk_42 (dk_at dksX1_init_2 23 rfl rfl)
theorem dX1_init_72 : decode cX1_init 72 = .ok (.bipush 8, 2) := dk_16 8 (dk_at dksX1_init_3 0 rfl rfl)
theorem dX1_init_74 : decode cX1_init 74 = .ok (.iconst 2, 1) := dk_5 (dk_at dksX1_init_3 2 rfl rfl)
theorem dX1_init_75 : decode cX1_init 75 = .ok (.multianewarray 33 2, 4) := by decide +kernel
theorem dX1_init_79 : decode cX1_init 79 = .ok (.putfield 38, 3) := dk_181 0 38 (dk_at dksX1_init_3 7 rfl rfl)
theorem dX1_init_82 : decode cX1_init 82 = .ok (.aload_n 0, 1) := dk_42 (dk_at dksX1_init_3 10 rfl rfl)
theorem dX1_init_83 : decode cX1_init 83 = .ok (.bipush 30, 2) := dk_16 30 (dk_at dksX1_init_3 11 rfl rfl)
theorem dX1_init_85 : decode cX1_init 85 = .ok (.sipush 204, 3) := dk_17 0 204 (dk_at dksX1_init_3 13 rfl rfl)
theorem dX1_init_88 : decode cX1_init 88 = .ok (.multianewarray 33 2, 4) := by decide +kernel
theorem dX1_init_92 : decode cX1_init 92 = .ok (.putfield 41, 3) := dk_181 0 41 (dk_at dksX1_init_3 20 rfl rfl)
theorem dX1_init_95 : decode cX1_init 95 = .ok (.aload_n 0, 1) := dk_42 (dk_at dksX1_init_3 23 rfl rfl)
theorem dX1_init_96 : decode cX1_init 96 = .ok (.iconst 4, 1) := dk_7 (dk_at dksX1_init_4 0 rfl rfl)
theorem dX1_init_97 : decode cX1_init 97 = .ok (.anewarray 44, 3) := dk_189 0 44 (dk_at dksX1_init_4 1 rfl rfl)
theorem dX1_init_100 : decode cX1_init 100 = .ok (.putfield 46, 3) := dk_181 0 46 (dk_at dksX1_init_4 4 rfl rfl)
theorem dX1_init_103 : decode cX1_init 103 = .ok (.aload_n 0, 1) := dk_42 (dk_at dksX1_init_4 7 rfl rfl)
theorem dX1_init_104 : decode cX1_init 104 = .ok (.getfield 9, 3) := dk_180 0 9 (dk_at dksX1_init_4 8 rfl rfl)
theorem dX1_init_107 : decode cX1_init 107 = .ok (.iconst 2, 1) := dk_5 (dk_at dksX1_init_4 11 rfl rfl)
theorem dX1_init_108 : decode cX1_init 108 = .ok (.iconst (-1), 1) := dk_2 (dk_at dksX1_init_4 12 rfl rfl)
theorem dX1_init_109 : decode cX1_init 109 = .ok (.iastore, 1) := dk_79 (dk_at dksX1_init_4 13 rfl rfl)
theorem dX1_init_110 : decode cX1_init 110 = .ok (.aload_n 0, 1) := dk_42 (dk_at dksX1_init_4 14 rfl rfl)
theorem dX1_init_111 : decode cX1_init 111 = .ok (.getfield 15, 3) := dk_180 0 15 (dk_at dksX1_init_4 15 rfl rfl)
theorem dX1_init_114 : decode cX1_init 114 = .ok (.iconst 1, 1) := dk_4 (dk_at dksX1_init_4 18 rfl rfl)
theorem dX1_init_115 : decode cX1_init 115 = .ok (.sipush 181, 3) := dk_17 0 181 (dk_at dksX1_init_4 19 rfl rfl)
theorem dX1_init_118 : decode cX1_init 118 = .ok (.iastore, 1) := dk_79 (dk_at dksX1_init_4 22 rfl rfl)
theorem dX1_init_119 : decode cX1_init 119 = .ok (.aload_n 0, 1) := dk_42 (dk_at dksX1_init_4 23 rfl rfl)
theorem dX1_init_120 : decode cX1_init 120 = .ok (.getfield 27, 3) := dk_180 0 27 (dk_at dksX1_init_5 0 rfl rfl)
theorem dX1_init_123 : decode cX1_init 123 = .ok (.iconst 1, 1) := dk_4 (dk_at dksX1_init_5 3 rfl rfl)
theorem dX1_init_124 : decode cX1_init 124 = .ok (.invokestatic 50, 3) := dk_184 0 50 (dk_at dksX1_init_5 4 rfl rfl)
theorem dX1_init_127 : decode cX1_init 127 = .ok (.return_, 1) := dk_177 (dk_at dksX1_init_5 7 rfl rfl)
abbrev cX1_be : ByteArray := prog_14_method_4_code
def yX1_be : MethodName := ⟨RX1, "be", "(LApologyUp$State;)V"⟩
def dkwX1_be_5 : List UInt8 := [180, 0, 46, 3, 42, 180, 0, 46, 3, 7, 184, 0, 56, 177]
abbrev dktX1_be_5 : List UInt8 := dkwX1_be_5 ++ []
def dkwX1_be_4 : List UInt8 := [180, 0, 38, 42, 180, 0, 38, 184, 0, 66, 43, 180, 0, 41, 42, 180, 0, 41, 184, 0, 66, 43]
abbrev dktX1_be_4 : List UInt8 := dkwX1_be_4 ++ dktX1_be_5
def dkwX1_be_3 : List UInt8 := [180, 0, 30, 42, 180, 0, 30, 184, 0, 62, 43, 180, 0, 35, 42, 180, 0, 35, 184, 0, 66, 43]
abbrev dktX1_be_3 : List UInt8 := dkwX1_be_3 ++ dktX1_be_4
def dkwX1_be_2 : List UInt8 := [180, 0, 24, 42, 180, 0, 24, 184, 0, 62, 43, 180, 0, 27, 42, 180, 0, 27, 184, 0, 62, 43]
abbrev dktX1_be_2 : List UInt8 := dkwX1_be_2 ++ dktX1_be_3
def dkwX1_be_1 : List UInt8 := [180, 0, 18, 42, 180, 0, 18, 184, 0, 62, 43, 180, 0, 21, 42, 180, 0, 21, 184, 0, 62, 43]
abbrev dktX1_be_1 : List UInt8 := dkwX1_be_1 ++ dktX1_be_2
def dkwX1_be_0 : List UInt8 := [43, 180, 0, 9, 42, 180, 0, 9, 184, 0, 62, 43, 180, 0, 15, 42, 180, 0, 15, 184, 0, 62, 43]
abbrev dktX1_be_0 : List UInt8 := dkwX1_be_0 ++ dktX1_be_1
theorem dksX1_be_0 : cX1_be.data.toList.drop 0 = dktX1_be_0 := by decide +kernel
theorem dksX1_be_1 : cX1_be.data.toList.drop 23 = dktX1_be_1 := dk_seg dksX1_be_0 23 rfl rfl
theorem dksX1_be_2 : cX1_be.data.toList.drop 45 = dktX1_be_2 := dk_seg dksX1_be_1 22 rfl rfl
theorem dksX1_be_3 : cX1_be.data.toList.drop 67 = dktX1_be_3 := dk_seg dksX1_be_2 22 rfl rfl
theorem dksX1_be_4 : cX1_be.data.toList.drop 89 = dktX1_be_4 := dk_seg dksX1_be_3 22 rfl rfl
theorem dksX1_be_5 : cX1_be.data.toList.drop 111 = dktX1_be_5 := dk_seg dksX1_be_4 22 rfl rfl
theorem dX1_be_0 : decode cX1_be 0 = .ok (.aload_n 1, 1) := dk_43 (dk_at dksX1_be_0 0 rfl rfl)
theorem dX1_be_1 : decode cX1_be 1 = .ok (.getfield 9, 3) := dk_180 0 9 (dk_at dksX1_be_0 1 rfl rfl)
theorem dX1_be_4 : decode cX1_be 4 = .ok (.aload_n 0, 1) := dk_42 (dk_at dksX1_be_0 4 rfl rfl)
theorem dX1_be_5 : decode cX1_be 5 = .ok (.getfield 9, 3) := dk_180 0 9 (dk_at dksX1_be_0 5 rfl rfl)
theorem dX1_be_8 : decode cX1_be 8 = .ok (.invokestatic 62, 3) := dk_184 0 62 (dk_at dksX1_be_0 8 rfl rfl)
theorem dX1_be_11 : decode cX1_be 11 = .ok (.aload_n 1, 1) := dk_43 (dk_at dksX1_be_0 11 rfl rfl)
theorem dX1_be_12 : decode cX1_be 12 = .ok (.getfield 15, 3) := dk_180 0 15 (dk_at dksX1_be_0 12 rfl rfl)
theorem dX1_be_15 : decode cX1_be 15 = .ok (.aload_n 0, 1) := dk_42 (dk_at dksX1_be_0 15 rfl rfl)
theorem dX1_be_16 : decode cX1_be 16 = .ok (.getfield 15, 3) := dk_180 0 15 (dk_at dksX1_be_0 16 rfl rfl)
theorem dX1_be_19 : decode cX1_be 19 = .ok (.invokestatic 62, 3) := dk_184 0 62 (dk_at dksX1_be_0 19 rfl rfl)
theorem dX1_be_22 : decode cX1_be 22 = .ok (.aload_n 1, 1) := dk_43 (dk_at dksX1_be_0 22 rfl rfl)
theorem dX1_be_23 : decode cX1_be 23 = .ok (.getfield 18, 3) := dk_180 0 18 (dk_at dksX1_be_1 0 rfl rfl)
theorem dX1_be_26 : decode cX1_be 26 = .ok (.aload_n 0, 1) := dk_42 (dk_at dksX1_be_1 3 rfl rfl)
theorem dX1_be_27 : decode cX1_be 27 = .ok (.getfield 18, 3) := dk_180 0 18 (dk_at dksX1_be_1 4 rfl rfl)
theorem dX1_be_30 : decode cX1_be 30 = .ok (.invokestatic 62, 3) := dk_184 0 62 (dk_at dksX1_be_1 7 rfl rfl)
theorem dX1_be_33 : decode cX1_be 33 = .ok (.aload_n 1, 1) := dk_43 (dk_at dksX1_be_1 10 rfl rfl)
theorem dX1_be_34 : decode cX1_be 34 = .ok (.getfield 21, 3) := dk_180 0 21 (dk_at dksX1_be_1 11 rfl rfl)
theorem dX1_be_37 : decode cX1_be 37 = .ok (.aload_n 0, 1) := dk_42 (dk_at dksX1_be_1 14 rfl rfl)
theorem dX1_be_38 : decode cX1_be 38 = .ok (.getfield 21, 3) := dk_180 0 21 (dk_at dksX1_be_1 15 rfl rfl)
theorem dX1_be_41 : decode cX1_be 41 = .ok (.invokestatic 62, 3) := dk_184 0 62 (dk_at dksX1_be_1 18 rfl rfl)
theorem dX1_be_44 : decode cX1_be 44 = .ok (.aload_n 1, 1) := dk_43 (dk_at dksX1_be_1 21 rfl rfl)
theorem dX1_be_45 : decode cX1_be 45 = .ok (.getfield 24, 3) := dk_180 0 24 (dk_at dksX1_be_2 0 rfl rfl)
theorem dX1_be_48 : decode cX1_be 48 = .ok (.aload_n 0, 1) := dk_42 (dk_at dksX1_be_2 3 rfl rfl)
theorem dX1_be_49 : decode cX1_be 49 = .ok (.getfield 24, 3) := dk_180 0 24 (dk_at dksX1_be_2 4 rfl rfl)
theorem dX1_be_52 : decode cX1_be 52 = .ok (.invokestatic 62, 3) := dk_184 0 62 (dk_at dksX1_be_2 7 rfl rfl)
theorem dX1_be_55 : decode cX1_be 55 = .ok (.aload_n 1, 1) := dk_43 (dk_at dksX1_be_2 10 rfl rfl)
theorem dX1_be_56 : decode cX1_be 56 = .ok (.getfield 27, 3) := dk_180 0 27 (dk_at dksX1_be_2 11 rfl rfl)
theorem dX1_be_59 : decode cX1_be 59 = .ok (.aload_n 0, 1) := dk_42 (dk_at dksX1_be_2 14 rfl rfl)
theorem dX1_be_60 : decode cX1_be 60 = .ok (.getfield 27, 3) := dk_180 0 27 (dk_at dksX1_be_2 15 rfl rfl)
theorem dX1_be_63 : decode cX1_be 63 = .ok (.invokestatic 62, 3) := dk_184 0 62 (dk_at dksX1_be_2 18 rfl rfl)
theorem dX1_be_66 : decode cX1_be 66 = .ok (.aload_n 1, 1) := dk_43 (dk_at dksX1_be_2 21 rfl rfl)
theorem dX1_be_67 : decode cX1_be 67 = .ok (.getfield 30, 3) := dk_180 0 30 (dk_at dksX1_be_3 0 rfl rfl)
theorem dX1_be_70 : decode cX1_be 70 = .ok (.aload_n 0, 1) := dk_42 (dk_at dksX1_be_3 3 rfl rfl)
theorem dX1_be_71 : decode cX1_be 71 = .ok (.getfield 30, 3) := dk_180 0 30 (dk_at dksX1_be_3 4 rfl rfl)
theorem dX1_be_74 : decode cX1_be 74 = .ok (.invokestatic 62, 3) := dk_184 0 62 (dk_at dksX1_be_3 7 rfl rfl)
theorem dX1_be_77 : decode cX1_be 77 = .ok (.aload_n 1, 1) := dk_43 (dk_at dksX1_be_3 10 rfl rfl)
theorem dX1_be_78 : decode cX1_be 78 = .ok (.getfield 35, 3) := dk_180 0 35 (dk_at dksX1_be_3 11 rfl rfl)
theorem dX1_be_81 : decode cX1_be 81 = .ok (.aload_n 0, 1) := dk_42 (dk_at dksX1_be_3 14 rfl rfl)
theorem dX1_be_82 : decode cX1_be 82 = .ok (.getfield 35, 3) := dk_180 0 35 (dk_at dksX1_be_3 15 rfl rfl)
theorem dX1_be_85 : decode cX1_be 85 = .ok (.invokestatic 66, 3) := dk_184 0 66 (dk_at dksX1_be_3 18 rfl rfl)
theorem dX1_be_88 : decode cX1_be 88 = .ok (.aload_n 1, 1) := dk_43 (dk_at dksX1_be_3 21 rfl rfl)
theorem dX1_be_89 : decode cX1_be 89 = .ok (.getfield 38, 3) := dk_180 0 38 (dk_at dksX1_be_4 0 rfl rfl)
theorem dX1_be_92 : decode cX1_be 92 = .ok (.aload_n 0, 1) := dk_42 (dk_at dksX1_be_4 3 rfl rfl)
theorem dX1_be_93 : decode cX1_be 93 = .ok (.getfield 38, 3) := dk_180 0 38 (dk_at dksX1_be_4 4 rfl rfl)
theorem dX1_be_96 : decode cX1_be 96 = .ok (.invokestatic 66, 3) := dk_184 0 66 (dk_at dksX1_be_4 7 rfl rfl)
theorem dX1_be_99 : decode cX1_be 99 = .ok (.aload_n 1, 1) := dk_43 (dk_at dksX1_be_4 10 rfl rfl)
theorem dX1_be_100 : decode cX1_be 100 = .ok (.getfield 41, 3) := dk_180 0 41 (dk_at dksX1_be_4 11 rfl rfl)
theorem dX1_be_103 : decode cX1_be 103 = .ok (.aload_n 0, 1) := dk_42 (dk_at dksX1_be_4 14 rfl rfl)
theorem dX1_be_104 : decode cX1_be 104 = .ok (.getfield 41, 3) := dk_180 0 41 (dk_at dksX1_be_4 15 rfl rfl)
theorem dX1_be_107 : decode cX1_be 107 = .ok (.invokestatic 66, 3) := dk_184 0 66 (dk_at dksX1_be_4 18 rfl rfl)
theorem dX1_be_110 : decode cX1_be 110 = .ok (.aload_n 1, 1) := dk_43 (dk_at dksX1_be_4 21 rfl rfl)
theorem dX1_be_111 : decode cX1_be 111 = .ok (.getfield 46, 3) := dk_180 0 46 (dk_at dksX1_be_5 0 rfl rfl)
theorem dX1_be_114 : decode cX1_be 114 = .ok (.iconst 0, 1) := dk_3 (dk_at dksX1_be_5 3 rfl rfl)
theorem dX1_be_115 : decode cX1_be 115 = .ok (.aload_n 0, 1) := dk_42 (dk_at dksX1_be_5 4 rfl rfl)
theorem dX1_be_116 : decode cX1_be 116 = .ok (.getfield 46, 3) := dk_180 0 46 (dk_at dksX1_be_5 5 rfl rfl)
theorem dX1_be_119 : decode cX1_be 119 = .ok (.iconst 0, 1) := dk_3 (dk_at dksX1_be_5 8 rfl rfl)
theorem dX1_be_120 : decode cX1_be 120 = .ok (.iconst 4, 1) := dk_7 (dk_at dksX1_be_5 9 rfl rfl)
theorem dX1_be_121 : decode cX1_be 121 = .ok (.invokestatic 56, 3) := dk_184 0 56 (dk_at dksX1_be_5 10 rfl rfl)
theorem dX1_be_124 : decode cX1_be 124 = .ok (.return_, 1) := dk_177 (dk_at dksX1_be_5 13 rfl rfl)
abbrev cX1_copy : ByteArray := prog_14_method_2_code
def yX1_copy : MethodName := ⟨RX1, "copy", "([I[I)V"⟩
def dkwX1_copy_0 : List UInt8 := [42, 3, 43, 3, 42, 190, 184, 0, 56, 177]
abbrev dktX1_copy_0 : List UInt8 := dkwX1_copy_0 ++ []
theorem dksX1_copy_0 : cX1_copy.data.toList.drop 0 = dktX1_copy_0 := by decide +kernel
theorem dX1_copy_0 : decode cX1_copy 0 = .ok (.aload_n 0, 1) := dk_42 (dk_at dksX1_copy_0 0 rfl rfl)
theorem dX1_copy_1 : decode cX1_copy 1 = .ok (.iconst 0, 1) := dk_3 (dk_at dksX1_copy_0 1 rfl rfl)
theorem dX1_copy_2 : decode cX1_copy 2 = .ok (.aload_n 1, 1) := dk_43 (dk_at dksX1_copy_0 2 rfl rfl)
theorem dX1_copy_3 : decode cX1_copy 3 = .ok (.iconst 0, 1) := dk_3 (dk_at dksX1_copy_0 3 rfl rfl)
theorem dX1_copy_4 : decode cX1_copy 4 = .ok (.aload_n 0, 1) := dk_42 (dk_at dksX1_copy_0 4 rfl rfl)
theorem dX1_copy_5 : decode cX1_copy 5 = .ok (.arraylength, 1) := dk_190 (dk_at dksX1_copy_0 5 rfl rfl)
theorem dX1_copy_6 : decode cX1_copy 6 = .ok (.invokestatic 56, 3) := dk_184 0 56 (dk_at dksX1_copy_0 6 rfl rfl)
theorem dX1_copy_9 : decode cX1_copy 9 = .ok (.return_, 1) := dk_177 (dk_at dksX1_copy_0 9 rfl rfl)
abbrev cX1_copy_2 : ByteArray := prog_14_method_3_code
def yX1_copy_2 : MethodName := ⟨RX1, "copy", "([[I[[I)V"⟩
def dkwX1_copy_2_0 : List UInt8 := [3, 61, 28, 42, 190, 162, 0, 18, 42, 28, 50, 43, 28, 50, 184, 0, 62, 132, 2, 1, 167, 255, 238, 177]
abbrev dktX1_copy_2_0 : List UInt8 := dkwX1_copy_2_0 ++ []
theorem dksX1_copy_2_0 : cX1_copy_2.data.toList.drop 0 = dktX1_copy_2_0 := by decide +kernel
theorem dX1_copy_2_0 : decode cX1_copy_2 0 = .ok (.iconst 0, 1) := dk_3 (dk_at dksX1_copy_2_0 0 rfl rfl)
theorem dX1_copy_2_1 : decode cX1_copy_2 1 = .ok (.istore_n 2, 1) := dk_61 (dk_at dksX1_copy_2_0 1 rfl rfl)
theorem dX1_copy_2_2 : decode cX1_copy_2 2 = .ok (.iload_n 2, 1) := dk_28 (dk_at dksX1_copy_2_0 2 rfl rfl)
theorem dX1_copy_2_3 : decode cX1_copy_2 3 = .ok (.aload_n 0, 1) := dk_42 (dk_at dksX1_copy_2_0 3 rfl rfl)
theorem dX1_copy_2_4 : decode cX1_copy_2 4 = .ok (.arraylength, 1) := dk_190 (dk_at dksX1_copy_2_0 4 rfl rfl)
theorem dX1_copy_2_5 : decode cX1_copy_2 5 = .ok (.if_icmp .ge 18, 3) := dk_162 0 18 (dk_at dksX1_copy_2_0 5 rfl rfl)
theorem dX1_copy_2_8 : decode cX1_copy_2 8 = .ok (.aload_n 0, 1) := dk_42 (dk_at dksX1_copy_2_0 8 rfl rfl)
theorem dX1_copy_2_9 : decode cX1_copy_2 9 = .ok (.iload_n 2, 1) := dk_28 (dk_at dksX1_copy_2_0 9 rfl rfl)
theorem dX1_copy_2_10 : decode cX1_copy_2 10 = .ok (.aaload, 1) := dk_50 (dk_at dksX1_copy_2_0 10 rfl rfl)
theorem dX1_copy_2_11 : decode cX1_copy_2 11 = .ok (.aload_n 1, 1) := dk_43 (dk_at dksX1_copy_2_0 11 rfl rfl)
theorem dX1_copy_2_12 : decode cX1_copy_2 12 = .ok (.iload_n 2, 1) := dk_28 (dk_at dksX1_copy_2_0 12 rfl rfl)
theorem dX1_copy_2_13 : decode cX1_copy_2 13 = .ok (.aaload, 1) := dk_50 (dk_at dksX1_copy_2_0 13 rfl rfl)
theorem dX1_copy_2_14 : decode cX1_copy_2 14 = .ok (.invokestatic 62, 3) := dk_184 0 62 (dk_at dksX1_copy_2_0 14 rfl rfl)
theorem dX1_copy_2_17 : decode cX1_copy_2 17 = .ok (.iinc 2 1, 3) := dk_132 2 1 (dk_at dksX1_copy_2_0 17 rfl rfl)
theorem dX1_copy_2_20 : decode cX1_copy_2 20 = .ok (.goto (-18), 3) := dk_167 255 238 (dk_at dksX1_copy_2_0 20 rfl rfl)
theorem dX1_copy_2_23 : decode cX1_copy_2 23 = .ok (.return_, 1) := dk_177 (dk_at dksX1_copy_2_0 23 rfl rfl)
abbrev cX1_keeps : ByteArray := prog_14_method_5_code
def yX1_keeps : MethodName := ⟨RX1, "keeps", "()V"⟩
def dkwX1_keeps_3 : List UInt8 := [180, 0, 9, 6, 92, 46, 4, 96, 79, 177]
abbrev dktX1_keeps_3 : List UInt8 := dkwX1_keeps_3 ++ []
def dkwX1_keeps_2 : List UInt8 := [46, 4, 100, 79, 42, 180, 0, 15, 42, 180, 0, 41, 42, 180, 0, 9, 6, 46, 50, 184, 0, 62, 42]
abbrev dktX1_keeps_2 : List UInt8 := dkwX1_keeps_2 ++ dktX1_keeps_3
def dkwX1_keeps_1 : List UInt8 := [50, 42, 180, 0, 41, 27, 4, 100, 50, 184, 0, 62, 132, 1, 1, 167, 255, 230, 42, 180, 0, 9, 6, 92]
abbrev dktX1_keeps_1 : List UInt8 := dkwX1_keeps_1 ++ dktX1_keeps_2
def dkwX1_keeps_0 : List UInt8 := [42, 180, 0, 9, 6, 46, 16, 30, 160, 0, 44, 4, 60, 27, 16, 30, 162, 0, 26, 42, 180, 0, 41, 27]
abbrev dktX1_keeps_0 : List UInt8 := dkwX1_keeps_0 ++ dktX1_keeps_1
theorem dksX1_keeps_0 : cX1_keeps.data.toList.drop 0 = dktX1_keeps_0 := by decide +kernel
theorem dksX1_keeps_1 : cX1_keeps.data.toList.drop 24 = dktX1_keeps_1 := dk_seg dksX1_keeps_0 24 rfl rfl
theorem dksX1_keeps_2 : cX1_keeps.data.toList.drop 48 = dktX1_keeps_2 := dk_seg dksX1_keeps_1 24 rfl rfl
theorem dksX1_keeps_3 : cX1_keeps.data.toList.drop 71 = dktX1_keeps_3 := dk_seg dksX1_keeps_2 23 rfl rfl
theorem dX1_keeps_0 : decode cX1_keeps 0 = .ok (.aload_n 0, 1) := dk_42 (dk_at dksX1_keeps_0 0 rfl rfl)
theorem dX1_keeps_1 : decode cX1_keeps 1 = .ok (.getfield 9, 3) := dk_180 0 9 (dk_at dksX1_keeps_0 1 rfl rfl)
theorem dX1_keeps_4 : decode cX1_keeps 4 = .ok (.iconst 3, 1) := dk_6 (dk_at dksX1_keeps_0 4 rfl rfl)
theorem dX1_keeps_5 : decode cX1_keeps 5 = .ok (.iaload, 1) := dk_46 (dk_at dksX1_keeps_0 5 rfl rfl)
theorem dX1_keeps_6 : decode cX1_keeps 6 = .ok (.bipush 30, 2) := dk_16 30 (dk_at dksX1_keeps_0 6 rfl rfl)
theorem dX1_keeps_8 : decode cX1_keeps 8 = .ok (.if_icmp .ne 44, 3) := dk_160 0 44 (dk_at dksX1_keeps_0 8 rfl rfl)
theorem dX1_keeps_11 : decode cX1_keeps 11 = .ok (.iconst 1, 1) := dk_4 (dk_at dksX1_keeps_0 11 rfl rfl)
theorem dX1_keeps_12 : decode cX1_keeps 12 = .ok (.istore_n 1, 1) := dk_60 (dk_at dksX1_keeps_0 12 rfl rfl)
theorem dX1_keeps_13 : decode cX1_keeps 13 = .ok (.iload_n 1, 1) := dk_27 (dk_at dksX1_keeps_0 13 rfl rfl)
theorem dX1_keeps_14 : decode cX1_keeps 14 = .ok (.bipush 30, 2) := dk_16 30 (dk_at dksX1_keeps_0 14 rfl rfl)
theorem dX1_keeps_16 : decode cX1_keeps 16 = .ok (.if_icmp .ge 26, 3) := dk_162 0 26 (dk_at dksX1_keeps_0 16 rfl rfl)
theorem dX1_keeps_19 : decode cX1_keeps 19 = .ok (.aload_n 0, 1) := dk_42 (dk_at dksX1_keeps_0 19 rfl rfl)
theorem dX1_keeps_20 : decode cX1_keeps 20 = .ok (.getfield 41, 3) := dk_180 0 41 (dk_at dksX1_keeps_0 20 rfl rfl)
theorem dX1_keeps_23 : decode cX1_keeps 23 = .ok (.iload_n 1, 1) := dk_27 (dk_at dksX1_keeps_0 23 rfl rfl)
theorem dX1_keeps_24 : decode cX1_keeps 24 = .ok (.aaload, 1) := dk_50 (dk_at dksX1_keeps_1 0 rfl rfl)
theorem dX1_keeps_25 : decode cX1_keeps 25 = .ok (.aload_n 0, 1) := dk_42 (dk_at dksX1_keeps_1 1 rfl rfl)
theorem dX1_keeps_26 : decode cX1_keeps 26 = .ok (.getfield 41, 3) := dk_180 0 41 (dk_at dksX1_keeps_1 2 rfl rfl)
theorem dX1_keeps_29 : decode cX1_keeps 29 = .ok (.iload_n 1, 1) := dk_27 (dk_at dksX1_keeps_1 5 rfl rfl)
theorem dX1_keeps_30 : decode cX1_keeps 30 = .ok (.iconst 1, 1) := dk_4 (dk_at dksX1_keeps_1 6 rfl rfl)
theorem dX1_keeps_31 : decode cX1_keeps 31 = .ok (.isub, 1) := dk_100 (dk_at dksX1_keeps_1 7 rfl rfl)
theorem dX1_keeps_32 : decode cX1_keeps 32 = .ok (.aaload, 1) := dk_50 (dk_at dksX1_keeps_1 8 rfl rfl)
theorem dX1_keeps_33 : decode cX1_keeps 33 = .ok (.invokestatic 62, 3) := dk_184 0 62 (dk_at dksX1_keeps_1 9 rfl rfl)
theorem dX1_keeps_36 : decode cX1_keeps 36 = .ok (.iinc 1 1, 3) := dk_132 1 1 (dk_at dksX1_keeps_1 12 rfl rfl)
theorem dX1_keeps_39 : decode cX1_keeps 39 = .ok (.goto (-26), 3) := dk_167 255 230 (dk_at dksX1_keeps_1 15 rfl rfl)
theorem dX1_keeps_42 : decode cX1_keeps 42 = .ok (.aload_n 0, 1) := dk_42 (dk_at dksX1_keeps_1 18 rfl rfl)
theorem dX1_keeps_43 : decode cX1_keeps 43 = .ok (.getfield 9, 3) := dk_180 0 9 (dk_at dksX1_keeps_1 19 rfl rfl)
theorem dX1_keeps_46 : decode cX1_keeps 46 = .ok (.iconst 3, 1) := dk_6 (dk_at dksX1_keeps_1 22 rfl rfl)
theorem dX1_keeps_47 : decode cX1_keeps 47 = .ok (.dup2, 1) := dk_92 (dk_at dksX1_keeps_1 23 rfl rfl)
theorem dX1_keeps_48 : decode cX1_keeps 48 = .ok (.iaload, 1) := dk_46 (dk_at dksX1_keeps_2 0 rfl rfl)
theorem dX1_keeps_49 : decode cX1_keeps 49 = .ok (.iconst 1, 1) := dk_4 (dk_at dksX1_keeps_2 1 rfl rfl)
theorem dX1_keeps_50 : decode cX1_keeps 50 = .ok (.isub, 1) := dk_100 (dk_at dksX1_keeps_2 2 rfl rfl)
theorem dX1_keeps_51 : decode cX1_keeps 51 = .ok (.iastore, 1) := dk_79 (dk_at dksX1_keeps_2 3 rfl rfl)
theorem dX1_keeps_52 : decode cX1_keeps 52 = .ok (.aload_n 0, 1) := dk_42 (dk_at dksX1_keeps_2 4 rfl rfl)
theorem dX1_keeps_53 : decode cX1_keeps 53 = .ok (.getfield 15, 3) := dk_180 0 15 (dk_at dksX1_keeps_2 5 rfl rfl)
theorem dX1_keeps_56 : decode cX1_keeps 56 = .ok (.aload_n 0, 1) := dk_42 (dk_at dksX1_keeps_2 8 rfl rfl)
theorem dX1_keeps_57 : decode cX1_keeps 57 = .ok (.getfield 41, 3) := dk_180 0 41 (dk_at dksX1_keeps_2 9 rfl rfl)
theorem dX1_keeps_60 : decode cX1_keeps 60 = .ok (.aload_n 0, 1) := dk_42 (dk_at dksX1_keeps_2 12 rfl rfl)
theorem dX1_keeps_61 : decode cX1_keeps 61 = .ok (.getfield 9, 3) := dk_180 0 9 (dk_at dksX1_keeps_2 13 rfl rfl)
theorem dX1_keeps_64 : decode cX1_keeps 64 = .ok (.iconst 3, 1) := dk_6 (dk_at dksX1_keeps_2 16 rfl rfl)
theorem dX1_keeps_65 : decode cX1_keeps 65 = .ok (.iaload, 1) := dk_46 (dk_at dksX1_keeps_2 17 rfl rfl)
theorem dX1_keeps_66 : decode cX1_keeps 66 = .ok (.aaload, 1) := dk_50 (dk_at dksX1_keeps_2 18 rfl rfl)
theorem dX1_keeps_67 : decode cX1_keeps 67 = .ok (.invokestatic 62, 3) := dk_184 0 62 (dk_at dksX1_keeps_2 19 rfl rfl)
theorem dX1_keeps_70 : decode cX1_keeps 70 = .ok (.aload_n 0, 1) := dk_42 (dk_at dksX1_keeps_2 22 rfl rfl)
theorem dX1_keeps_71 : decode cX1_keeps 71 = .ok (.getfield 9, 3) := dk_180 0 9 (dk_at dksX1_keeps_3 0 rfl rfl)
theorem dX1_keeps_74 : decode cX1_keeps 74 = .ok (.iconst 3, 1) := dk_6 (dk_at dksX1_keeps_3 3 rfl rfl)
theorem dX1_keeps_75 : decode cX1_keeps 75 = .ok (.dup2, 1) := dk_92 (dk_at dksX1_keeps_3 4 rfl rfl)
theorem dX1_keeps_76 : decode cX1_keeps 76 = .ok (.iaload, 1) := dk_46 (dk_at dksX1_keeps_3 5 rfl rfl)
theorem dX1_keeps_77 : decode cX1_keeps 77 = .ok (.iconst 1, 1) := dk_4 (dk_at dksX1_keeps_3 6 rfl rfl)
theorem dX1_keeps_78 : decode cX1_keeps 78 = .ok (.iadd, 1) := dk_96 (dk_at dksX1_keeps_3 7 rfl rfl)
theorem dX1_keeps_79 : decode cX1_keeps 79 = .ok (.iastore, 1) := dk_79 (dk_at dksX1_keeps_3 8 rfl rfl)
theorem dX1_keeps_80 : decode cX1_keeps 80 = .ok (.return_, 1) := dk_177 (dk_at dksX1_keeps_3 9 rfl rfl)
abbrev cX1_clears : ByteArray := prog_14_method_6_code
def yX1_clears : MethodName := ⟨RX1, "clears", "(I)I"⟩
def dkwX1_clears_0 : List UInt8 := [42, 180, 0, 9, 27, 3, 79, 3, 172]
abbrev dktX1_clears_0 : List UInt8 := dkwX1_clears_0 ++ []
theorem dksX1_clears_0 : cX1_clears.data.toList.drop 0 = dktX1_clears_0 := by decide +kernel
theorem dX1_clears_0 : decode cX1_clears 0 = .ok (.aload_n 0, 1) := dk_42 (dk_at dksX1_clears_0 0 rfl rfl)
theorem dX1_clears_1 : decode cX1_clears 1 = .ok (.getfield 9, 3) := dk_180 0 9 (dk_at dksX1_clears_0 1 rfl rfl)
theorem dX1_clears_4 : decode cX1_clears 4 = .ok (.iload_n 1, 1) := dk_27 (dk_at dksX1_clears_0 4 rfl rfl)
theorem dX1_clears_5 : decode cX1_clears 5 = .ok (.iconst 0, 1) := dk_3 (dk_at dksX1_clears_0 5 rfl rfl)
theorem dX1_clears_6 : decode cX1_clears 6 = .ok (.iastore, 1) := dk_79 (dk_at dksX1_clears_0 6 rfl rfl)
theorem dX1_clears_7 : decode cX1_clears 7 = .ok (.iconst 0, 1) := dk_3 (dk_at dksX1_clears_0 7 rfl rfl)
theorem dX1_clears_8 : decode cX1_clears 8 = .ok (.ireturn, 1) := dk_172 (dk_at dksX1_clears_0 8 rfl rfl)
theorem q131 : (Jvm.Cond.initialized "ApologyUp$State") ∈ lw_all := lw_g (lw_at lw_m1 2 rfl) rfl
theorem q174 : (Jvm.Cond.instantiable "ApologyUp$State" (11 : Nat)) ∈ lw_all := lw_g (lw_at lw_m1 45 rfl) rfl
theorem q176 : (Jvm.Cond.instanceMethod ({ cls := "ApologyUp$State", name := "<init>", desc := "()V" } : Jvm.MethodName)) ∈ lw_all := lw_g (lw_at lw_m1 47 rfl) rfl
theorem q177 : (Jvm.Cond.code ({ cls := "ApologyUp$State", name := "<init>", desc := "()V" } : Jvm.MethodName) prog_14_method_1_code (1 : Nat) (Option.none : Option Jvm.ClassFile.FieldType)) ∈ lw_all := lw_g (lw_at lw_m1 48 rfl) rfl
theorem q178 : (Jvm.Cond.methodLink "ApologyUp$State" (3 : Nat) ({ cls := "java/lang/Object", name := "<init>", desc := "()V" } : Jvm.MethodName)) ∈ lw_all := lw_g (lw_at lw_m1 49 rfl) rfl
theorem q179 : (Jvm.Cond.classLink "ApologyUp$State" (33 : Nat) "[[I") ∈ lw_all := lw_g (lw_at lw_m1 50 rfl) rfl
theorem q181 : (Jvm.Cond.classLink "ApologyUp$State" (44 : Nat) "ApologyUp$Text") ∈ lw_all := lw_g (lw_at lw_m1 52 rfl) rfl
theorem q183 : (Jvm.Cond.methodLink "ApologyUp$State" (50 : Nat) ({ cls := "java/util/Arrays", name := "fill", desc := "([II)V" } : Jvm.MethodName)) ∈ lw_all := lw_g (lw_at lw_m1 54 rfl) rfl
theorem q186 : (Jvm.Cond.fieldLink "ApologyUp$State" (9 : Nat) "ApologyUp$State" "n" "[I") ∈ lw_all := lw_g (lw_at lw_m1 57 rfl) rfl
theorem q188 : (Jvm.Cond.fieldLink "ApologyUp$State" (15 : Nat) "ApologyUp$State" "row" "[I") ∈ lw_all := lw_g (lw_at lw_m1 59 rfl) rfl
theorem q190 : (Jvm.Cond.fieldLink "ApologyUp$State" (18 : Nat) "ApologyUp$State" "boss" "[I") ∈ lw_all := lw_g (lw_at lw_m1 61 rfl) rfl
theorem q192 : (Jvm.Cond.fieldLink "ApologyUp$State" (21 : Nat) "ApologyUp$State" "pride" "[I") ∈ lw_all := lw_g (lw_at lw_m1 63 rfl) rfl
theorem q194 : (Jvm.Cond.fieldLink "ApologyUp$State" (24 : Nat) "ApologyUp$State" "cousin" "[I") ∈ lw_all := lw_g (lw_at lw_m1 65 rfl) rfl
theorem q196 : (Jvm.Cond.fieldLink "ApologyUp$State" (27 : Nat) "ApologyUp$State" "weight" "[I") ∈ lw_all := lw_g (lw_at lw_m1 67 rfl) rfl
theorem q198 : (Jvm.Cond.fieldLink "ApologyUp$State" (30 : Nat) "ApologyUp$State" "pile" "[I") ∈ lw_all := lw_g (lw_at lw_m1 69 rfl) rfl
theorem q200 : (Jvm.Cond.fieldLink "ApologyUp$State" (35 : Nat) "ApologyUp$State" "turn" "[[I") ∈ lw_all := lw_g (lw_at lw_m1 71 rfl) rfl
theorem q202 : (Jvm.Cond.fieldLink "ApologyUp$State" (38 : Nat) "ApologyUp$State" "added" "[[I") ∈ lw_all := lw_g (lw_at lw_m1 73 rfl) rfl
theorem q204 : (Jvm.Cond.fieldLink "ApologyUp$State" (41 : Nat) "ApologyUp$State" "step" "[[I") ∈ lw_all := lw_g (lw_at lw_m1 75 rfl) rfl
theorem q206 : (Jvm.Cond.fieldLink "ApologyUp$State" (46 : Nat) "ApologyUp$State" "text" "[LApologyUp$Text;") ∈ lw_all := lw_g (lw_at lw_m1 77 rfl) rfl
theorem q208 : (Jvm.Cond.laysFinal "ApologyUp$State" "ApologyUp$State" "n" "[I") ∈ lw_all := lw_g (lw_at lw_m1 79 rfl) rfl
theorem q209 : (Jvm.Cond.soleField "ApologyUp$State" "n") ∈ lw_all := lw_g (lw_at lw_m1 80 rfl) rfl
theorem q210 : (Jvm.Cond.laysFinal "ApologyUp$State" "ApologyUp$State" "row" "[I") ∈ lw_all := lw_g (lw_at lw_m1 81 rfl) rfl
theorem q211 : (Jvm.Cond.soleField "ApologyUp$State" "row") ∈ lw_all := lw_g (lw_at lw_m1 82 rfl) rfl
theorem q212 : (Jvm.Cond.laysFinal "ApologyUp$State" "ApologyUp$State" "boss" "[I") ∈ lw_all := lw_g (lw_at lw_m1 83 rfl) rfl
theorem q213 : (Jvm.Cond.soleField "ApologyUp$State" "boss") ∈ lw_all := lw_g (lw_at lw_m1 84 rfl) rfl
theorem q214 : (Jvm.Cond.laysFinal "ApologyUp$State" "ApologyUp$State" "pride" "[I") ∈ lw_all := lw_g (lw_at lw_m1 85 rfl) rfl
theorem q215 : (Jvm.Cond.soleField "ApologyUp$State" "pride") ∈ lw_all := lw_g (lw_at lw_m1 86 rfl) rfl
theorem q216 : (Jvm.Cond.laysFinal "ApologyUp$State" "ApologyUp$State" "cousin" "[I") ∈ lw_all := lw_g (lw_at lw_m1 87 rfl) rfl
theorem q217 : (Jvm.Cond.soleField "ApologyUp$State" "cousin") ∈ lw_all := lw_g (lw_at lw_m1 88 rfl) rfl
theorem q218 : (Jvm.Cond.laysFinal "ApologyUp$State" "ApologyUp$State" "weight" "[I") ∈ lw_all := lw_g (lw_at lw_m1 89 rfl) rfl
theorem q219 : (Jvm.Cond.soleField "ApologyUp$State" "weight") ∈ lw_all := lw_g (lw_at lw_m1 90 rfl) rfl
theorem q220 : (Jvm.Cond.laysFinal "ApologyUp$State" "ApologyUp$State" "pile" "[I") ∈ lw_all := lw_g (lw_at lw_m1 91 rfl) rfl
theorem q221 : (Jvm.Cond.soleField "ApologyUp$State" "pile") ∈ lw_all := lw_g (lw_at lw_m1 92 rfl) rfl
theorem q222 : (Jvm.Cond.laysFinal "ApologyUp$State" "ApologyUp$State" "turn" "[[I") ∈ lw_all := lw_g (lw_at lw_m1 93 rfl) rfl
theorem q223 : (Jvm.Cond.soleField "ApologyUp$State" "turn") ∈ lw_all := lw_g (lw_at lw_m1 94 rfl) rfl
theorem q224 : (Jvm.Cond.laysFinal "ApologyUp$State" "ApologyUp$State" "added" "[[I") ∈ lw_all := lw_g (lw_at lw_m1 95 rfl) rfl
theorem q225 : (Jvm.Cond.soleField "ApologyUp$State" "added") ∈ lw_all := lw_g (lw_at lw_m1 96 rfl) rfl
theorem q226 : (Jvm.Cond.laysFinal "ApologyUp$State" "ApologyUp$State" "step" "[[I") ∈ lw_all := lw_g (lw_at lw_m1 97 rfl) rfl
theorem q227 : (Jvm.Cond.soleField "ApologyUp$State" "step") ∈ lw_all := lw_g (lw_at lw_m1 98 rfl) rfl
theorem q228 : (Jvm.Cond.laysFinal "ApologyUp$State" "ApologyUp$State" "text" "[LApologyUp$Text;") ∈ lw_all := lw_g (lw_at lw_m1 99 rfl) rfl
theorem q229 : (Jvm.Cond.soleField "ApologyUp$State" "text") ∈ lw_all := lw_g (lw_at lw_m1 100 rfl) rfl
theorem q230 : (Jvm.Cond.superclass "ApologyUp$State" "java/lang/Object") ∈ lw_all := lw_g (lw_at lw_m1 101 rfl) rfl
theorem q233 : (Jvm.Cond.instanceMethod ({ cls := "ApologyUp$State", name := "be", desc := "(LApologyUp$State;)V" } : Jvm.MethodName)) ∈ lw_all := lw_g (lw_at lw_m1 104 rfl) rfl
theorem q234 : (Jvm.Cond.selects "ApologyUp$State" ({ cls := "ApologyUp$State", name := "be", desc := "(LApologyUp$State;)V" } : Jvm.MethodName) ({ cls := "ApologyUp$State", name := "be", desc := "(LApologyUp$State;)V" } : Jvm.MethodName)) ∈ lw_all := lw_g (lw_at lw_m1 105 rfl) rfl
theorem q235 : (Jvm.Cond.code ({ cls := "ApologyUp$State", name := "be", desc := "(LApologyUp$State;)V" } : Jvm.MethodName) prog_14_method_4_code (2 : Nat) (Option.none : Option Jvm.ClassFile.FieldType)) ∈ lw_all := lw_g (lw_at lw_m1 106 rfl) rfl
theorem q236 : (Jvm.Cond.methodLink "ApologyUp$State" (62 : Nat) ({ cls := "ApologyUp$State", name := "copy", desc := "([I[I)V" } : Jvm.MethodName)) ∈ lw_all := lw_g (lw_at lw_m1 107 rfl) rfl
theorem q237 : (Jvm.Cond.static ({ cls := "ApologyUp$State", name := "copy", desc := "([I[I)V" } : Jvm.MethodName)) ∈ lw_all := lw_g (lw_at lw_m1 108 rfl) rfl
theorem q238 : (Jvm.Cond.code ({ cls := "ApologyUp$State", name := "copy", desc := "([I[I)V" } : Jvm.MethodName) prog_14_method_2_code (2 : Nat) (Option.none : Option Jvm.ClassFile.FieldType)) ∈ lw_all := lw_g (lw_at lw_m1 109 rfl) rfl
theorem q239 : (Jvm.Cond.methodLink "ApologyUp$State" (56 : Nat) ({ cls := "java/lang/System", name := "arraycopy", desc := "(Ljava/lang/Object;ILjava/lang/Object;II)V" } : Jvm.MethodName)) ∈ lw_all := lw_g (lw_at lw_m1 110 rfl) rfl
theorem q242 : (Jvm.Cond.methodLink "ApologyUp$State" (66 : Nat) ({ cls := "ApologyUp$State", name := "copy", desc := "([[I[[I)V" } : Jvm.MethodName)) ∈ lw_all := lw_g (lw_at lw_m1 113 rfl) rfl
theorem q243 : (Jvm.Cond.static ({ cls := "ApologyUp$State", name := "copy", desc := "([[I[[I)V" } : Jvm.MethodName)) ∈ lw_all := lw_g (lw_at lw_m1 114 rfl) rfl
theorem q244 : (Jvm.Cond.code ({ cls := "ApologyUp$State", name := "copy", desc := "([[I[[I)V" } : Jvm.MethodName) prog_14_method_3_code (3 : Nat) (Option.none : Option Jvm.ClassFile.FieldType)) ∈ lw_all := lw_g (lw_at lw_m1 115 rfl) rfl
theorem q670 : (Jvm.Cond.selects "ApologyUp$State" ({ cls := "java/lang/Object", name := "getClass", desc := "()Ljava/lang/Class;" } : Jvm.MethodName) ({ cls := "java/lang/Object", name := "getClass", desc := "()Ljava/lang/Class;" } : Jvm.MethodName)) ∈ lw_all := lw_g (lw_at lw_m3 61 rfl) rfl
theorem q891 : (Jvm.Cond.instanceMethod ({ cls := "ApologyUp$State", name := "keeps", desc := "()V" } : Jvm.MethodName)) ∈ lw_all := lw_g (lw_at lw_m4 42 rfl) rfl
theorem q892 : (Jvm.Cond.selects "ApologyUp$State" ({ cls := "ApologyUp$State", name := "keeps", desc := "()V" } : Jvm.MethodName) ({ cls := "ApologyUp$State", name := "keeps", desc := "()V" } : Jvm.MethodName)) ∈ lw_all := lw_g (lw_at lw_m4 43 rfl) rfl
theorem q893 : (Jvm.Cond.code ({ cls := "ApologyUp$State", name := "keeps", desc := "()V" } : Jvm.MethodName) prog_14_method_5_code (2 : Nat) (Option.none : Option Jvm.ClassFile.FieldType)) ∈ lw_all := lw_g (lw_at lw_m4 44 rfl) rfl
theorem q1221 : (Jvm.Cond.instanceMethod ({ cls := "ApologyUp$State", name := "clears", desc := "(I)I" } : Jvm.MethodName)) ∈ lw_all := lw_g (lw_at lw_m5 132 rfl) rfl
theorem q1222 : (Jvm.Cond.selects "ApologyUp$State" ({ cls := "ApologyUp$State", name := "clears", desc := "(I)I" } : Jvm.MethodName) ({ cls := "ApologyUp$State", name := "clears", desc := "(I)I" } : Jvm.MethodName)) ∈ lw_all := lw_g (lw_at lw_m5 133 rfl) rfl
theorem q1223 : (Jvm.Cond.code ({ cls := "ApologyUp$State", name := "clears", desc := "(I)I" } : Jvm.MethodName) prog_14_method_6_code (2 : Nat) (Option.some Jvm.ClassFile.FieldType.int)) ∈ lw_all := lw_g (lw_at lw_m5 134 rfl) rfl
theorem q2019 : (Jvm.Cond.castable "ApologyUp$State" "java/lang/Object") ∈ lw_tbl := lw_at lw_m8 210 rfl
theorem in_X1 : ∀ w ∈ wsX10, w ∈ lw_all := lw_in wsX10 [208, 210, 212, 214, 216, 218, 220, 222, 224, 226, 228] (by decide +kernel) (by decide +kernel)
/-! ApologyUp$Text -/
set_option maxRecDepth 100000
def RX4 : String := "ApologyUp$Text"
def TX4 : u_T := fun k => match k with
  | 0 => ("ApologyUp$Text", "law", "[LApologyUp$Sum;", true)
  | 1 => ("ApologyUp$Text", "clauses", "I", false)
  | _ => ("ApologyUp$Text", "doings", "Ljava/util/ArrayList;", true)
def tyX4 : Nat → FieldType := fun k => match k with
  | 0 => .array (.object "ApologyUp$Sum")
  | 1 => .int
  | _ => .object "java/util/ArrayList"
abbrev wsX40 : List Cond := u_ws RX4 TX4 3
theorem nmX4 : ∀ a, a < 3 → ∀ b, b < 3 → a ≠ b → (TX4 a).2.1 ≠ (TX4 b).2.1 := by decide +kernel
theorem tyX4_ok : ∀ k, k < 3 → parseFieldDescriptor (TX4 k).2.2.1 = some (tyX4 k) := by decide +kernel
abbrev cX4_init : ByteArray := prog_16_method_1_code
def yX4_init : MethodName := ⟨RX4, "<init>", "()V"⟩
def dkwX4_init_0 : List UInt8 := [42, 183, 0, 1, 42, 6, 189, 0, 7, 181, 0, 9, 42, 187, 0, 15, 89, 183, 0, 17, 181, 0, 18, 177]
abbrev dktX4_init_0 : List UInt8 := dkwX4_init_0 ++ []
theorem dksX4_init_0 : cX4_init.data.toList.drop 0 = dktX4_init_0 := by decide +kernel
theorem dX4_init_0 : decode cX4_init 0 = .ok (.aload_n 0, 1) := dk_42 (dk_at dksX4_init_0 0 rfl rfl)
theorem dX4_init_1 : decode cX4_init 1 = .ok (.invokespecial 1, 3) := dk_183 0 1 (dk_at dksX4_init_0 1 rfl rfl)
theorem dX4_init_4 : decode cX4_init 4 = .ok (.aload_n 0, 1) := dk_42 (dk_at dksX4_init_0 4 rfl rfl)
theorem dX4_init_5 : decode cX4_init 5 = .ok (.iconst 3, 1) := dk_6 (dk_at dksX4_init_0 5 rfl rfl)
theorem dX4_init_6 : decode cX4_init 6 = .ok (.anewarray 7, 3) := dk_189 0 7 (dk_at dksX4_init_0 6 rfl rfl)
theorem dX4_init_9 : decode cX4_init 9 = .ok (.putfield 9, 3) := dk_181 0 9 (dk_at dksX4_init_0 9 rfl rfl)
theorem dX4_init_12 : decode cX4_init 12 = .ok (.aload_n 0, 1) := dk_42 (dk_at dksX4_init_0 12 rfl rfl)
theorem dX4_init_13 : decode cX4_init 13 = .ok (.new 15, 3) := dk_187 0 15 (dk_at dksX4_init_0 13 rfl rfl)
theorem dX4_init_16 : decode cX4_init 16 = .ok (.dup, 1) := dk_89 (dk_at dksX4_init_0 16 rfl rfl)
theorem dX4_init_17 : decode cX4_init 17 = .ok (.invokespecial 17, 3) := dk_183 0 17 (dk_at dksX4_init_0 17 rfl rfl)
theorem dX4_init_20 : decode cX4_init 20 = .ok (.putfield 18, 3) := dk_181 0 18 (dk_at dksX4_init_0 20 rfl rfl)
theorem dX4_init_23 : decode cX4_init 23 = .ok (.return_, 1) := dk_177 (dk_at dksX4_init_0 23 rfl rfl)
theorem q136 : (Jvm.Cond.initialized "ApologyUp$Text") ∈ lw_all := lw_g (lw_at lw_m1 7 rfl) rfl
theorem q363 : (Jvm.Cond.instantiable "ApologyUp$Text" (3 : Nat)) ∈ lw_all := lw_g (lw_at lw_m1 234 rfl) rfl
theorem q365 : (Jvm.Cond.instanceMethod ({ cls := "ApologyUp$Text", name := "<init>", desc := "()V" } : Jvm.MethodName)) ∈ lw_all := lw_g (lw_at lw_m1 236 rfl) rfl
theorem q366 : (Jvm.Cond.code ({ cls := "ApologyUp$Text", name := "<init>", desc := "()V" } : Jvm.MethodName) prog_16_method_1_code (1 : Nat) (Option.none : Option Jvm.ClassFile.FieldType)) ∈ lw_all := lw_g (lw_at lw_m1 237 rfl) rfl
theorem q367 : (Jvm.Cond.methodLink "ApologyUp$Text" (1 : Nat) ({ cls := "java/lang/Object", name := "<init>", desc := "()V" } : Jvm.MethodName)) ∈ lw_all := lw_g (lw_at lw_m1 238 rfl) rfl
theorem q368 : (Jvm.Cond.classLink "ApologyUp$Text" (7 : Nat) "ApologyUp$Sum") ∈ lw_all := lw_g (lw_at lw_m1 239 rfl) rfl
theorem q370 : (Jvm.Cond.classLink "ApologyUp$Text" (15 : Nat) "java/util/ArrayList") ∈ lw_all := lw_g (lw_at lw_m2 1 rfl) rfl
theorem q372 : (Jvm.Cond.methodLink "ApologyUp$Text" (17 : Nat) ({ cls := "java/util/ArrayList", name := "<init>", desc := "()V" } : Jvm.MethodName)) ∈ lw_all := lw_g (lw_at lw_m2 3 rfl) rfl
theorem q396 : (Jvm.Cond.fieldLink "ApologyUp$Text" (9 : Nat) "ApologyUp$Text" "law" "[LApologyUp$Sum;") ∈ lw_all := lw_g (lw_at lw_m2 27 rfl) rfl
theorem q400 : (Jvm.Cond.fieldLink "ApologyUp$Text" (18 : Nat) "ApologyUp$Text" "doings" "Ljava/util/ArrayList;") ∈ lw_all := lw_g (lw_at lw_m2 31 rfl) rfl
theorem q403 : (Jvm.Cond.laysFinal "ApologyUp$Text" "ApologyUp$Text" "law" "[LApologyUp$Sum;") ∈ lw_all := lw_g (lw_at lw_m2 34 rfl) rfl
theorem q404 : (Jvm.Cond.soleField "ApologyUp$Text" "law") ∈ lw_all := lw_g (lw_at lw_m2 35 rfl) rfl
theorem q405 : (Jvm.Cond.lays "ApologyUp$Text" "ApologyUp$Text" "clauses" "I") ∈ lw_all := lw_g (lw_at lw_m2 36 rfl) rfl
theorem q406 : (Jvm.Cond.soleField "ApologyUp$Text" "clauses") ∈ lw_all := lw_g (lw_at lw_m2 37 rfl) rfl
theorem q407 : (Jvm.Cond.laysFinal "ApologyUp$Text" "ApologyUp$Text" "doings" "Ljava/util/ArrayList;") ∈ lw_all := lw_g (lw_at lw_m2 38 rfl) rfl
theorem q408 : (Jvm.Cond.soleField "ApologyUp$Text" "doings") ∈ lw_all := lw_g (lw_at lw_m2 39 rfl) rfl
theorem q409 : (Jvm.Cond.superclass "ApologyUp$Text" "java/lang/Object") ∈ lw_all := lw_g (lw_at lw_m2 40 rfl) rfl
theorem q671 : (Jvm.Cond.selects "ApologyUp$Text" ({ cls := "java/lang/Object", name := "getClass", desc := "()Ljava/lang/Class;" } : Jvm.MethodName) ({ cls := "java/lang/Object", name := "getClass", desc := "()Ljava/lang/Class;" } : Jvm.MethodName)) ∈ lw_all := lw_g (lw_at lw_m3 62 rfl) rfl
theorem q2015 : (Jvm.Cond.castable "ApologyUp$Text" "java/lang/Object") ∈ lw_tbl := lw_at lw_m8 206 rfl
theorem in_X4 : ∀ w ∈ wsX40, w ∈ lw_all := lw_in wsX40 [403, 405, 407] (by decide +kernel) (by decide +kernel)
/-! ApologyUp$Wrong -/
set_option maxRecDepth 100000
def RX5 : String := "ApologyUp$Wrong"
def TX5 : u_T := fun k => match k with
  | 0 => ("java/lang/Throwable", "cause", "Ljava/lang/Throwable;", false)
  | 1 => ("java/lang/Throwable", "stackTrace", "[Ljava/lang/StackTraceElement;", false)
  | 2 => ("java/lang/Throwable", "suppressedExceptions", "Ljava/util/List;", false)
  | 3 => ("java/lang/Throwable", "detailMessage", "Ljava/lang/String;", false)
  | 4 => ("java/lang/Throwable", "backtrace", "Ljava/lang/Object;", false)
  | 5 => ("java/lang/Throwable", "depth", "I", false)
  | 6 => ("ApologyUp$Wrong", "fault", "I", true)
  | _ => ("ApologyUp$Wrong", "place", "I", true)
def tyX5 : Nat → FieldType := fun k => match k with
  | 0 => .object "java/lang/Throwable"
  | 1 => .array (.object "java/lang/StackTraceElement")
  | 2 => .object "java/util/List"
  | 3 => .object "java/lang/String"
  | 4 => .object "java/lang/Object"
  | 5 => .int
  | 6 => .int
  | _ => .int
abbrev wsX50 : List Cond := u_ws RX5 TX5 8
theorem nmX5 : ∀ a, a < 8 → ∀ b, b < 8 → a ≠ b → (TX5 a).2.1 ≠ (TX5 b).2.1 := by decide +kernel
theorem tyX5_ok : ∀ k, k < 8 → parseFieldDescriptor (TX5 k).2.2.1 = some (tyX5 k) := by decide +kernel
abbrev cX5_init : ByteArray := prog_18_method_1_code
def yX5_init : MethodName := ⟨RX5, "<init>", "(II)V"⟩
def dkwX5_init_0 : List UInt8 := [42, 183, 0, 1, 42, 27, 181, 0, 7, 42, 28, 181, 0, 13, 177]
abbrev dktX5_init_0 : List UInt8 := dkwX5_init_0 ++ []
theorem dksX5_init_0 : cX5_init.data.toList.drop 0 = dktX5_init_0 := by decide +kernel
theorem dX5_init_0 : decode cX5_init 0 = .ok (.aload_n 0, 1) := dk_42 (dk_at dksX5_init_0 0 rfl rfl)
theorem dX5_init_1 : decode cX5_init 1 = .ok (.invokespecial 1, 3) := dk_183 0 1 (dk_at dksX5_init_0 1 rfl rfl)
theorem dX5_init_4 : decode cX5_init 4 = .ok (.aload_n 0, 1) := dk_42 (dk_at dksX5_init_0 4 rfl rfl)
theorem dX5_init_5 : decode cX5_init 5 = .ok (.iload_n 1, 1) := dk_27 (dk_at dksX5_init_0 5 rfl rfl)
theorem dX5_init_6 : decode cX5_init 6 = .ok (.putfield 7, 3) := dk_181 0 7 (dk_at dksX5_init_0 6 rfl rfl)
theorem dX5_init_9 : decode cX5_init 9 = .ok (.aload_n 0, 1) := dk_42 (dk_at dksX5_init_0 9 rfl rfl)
theorem dX5_init_10 : decode cX5_init 10 = .ok (.iload_n 2, 1) := dk_28 (dk_at dksX5_init_0 10 rfl rfl)
theorem dX5_init_11 : decode cX5_init 11 = .ok (.putfield 13, 3) := dk_181 0 13 (dk_at dksX5_init_0 11 rfl rfl)
theorem dX5_init_14 : decode cX5_init 14 = .ok (.return_, 1) := dk_177 (dk_at dksX5_init_0 14 rfl rfl)
theorem q147 : (Jvm.Cond.initialized "ApologyUp$Wrong") ∈ lw_all := lw_g (lw_at lw_m1 18 rfl) rfl
theorem q484 : (Jvm.Cond.instantiable "ApologyUp$Wrong" (8 : Nat)) ∈ lw_all := lw_g (lw_at lw_m2 115 rfl) rfl
theorem q485 : (Jvm.Cond.castable "ApologyUp$Wrong" "ApologyUp$Wrong") ∈ lw_tbl := lw_at lw_m2 116 rfl
theorem q490 : (Jvm.Cond.selects "ApologyUp$Wrong" ({ cls := "java/lang/Throwable", name := "fillInStackTrace", desc := "(I)Ljava/lang/Throwable;" } : Jvm.MethodName) ({ cls := "java/lang/Throwable", name := "fillInStackTrace", desc := "(I)Ljava/lang/Throwable;" } : Jvm.MethodName)) ∈ lw_all := lw_g (lw_at lw_m2 121 rfl) rfl
theorem q491 : (Jvm.Cond.selects "ApologyUp$Wrong" ({ cls := "java/lang/Throwable", name := "fillInStackTrace", desc := "()Ljava/lang/Throwable;" } : Jvm.MethodName) ({ cls := "java/lang/Throwable", name := "fillInStackTrace", desc := "()Ljava/lang/Throwable;" } : Jvm.MethodName)) ∈ lw_all := lw_g (lw_at lw_m2 122 rfl) rfl
theorem q492 : (Jvm.Cond.lays "ApologyUp$Wrong" "java/lang/Throwable" "cause" "Ljava/lang/Throwable;") ∈ lw_all := lw_g (lw_at lw_m2 123 rfl) rfl
theorem q494 : (Jvm.Cond.lays "ApologyUp$Wrong" "java/lang/Throwable" "stackTrace" "[Ljava/lang/StackTraceElement;") ∈ lw_all := lw_g (lw_at lw_m2 125 rfl) rfl
theorem q496 : (Jvm.Cond.lays "ApologyUp$Wrong" "java/lang/Throwable" "suppressedExceptions" "Ljava/util/List;") ∈ lw_all := lw_g (lw_at lw_m2 127 rfl) rfl
theorem q498 : (Jvm.Cond.lays "ApologyUp$Wrong" "java/lang/Throwable" "detailMessage" "Ljava/lang/String;") ∈ lw_all := lw_g (lw_at lw_m2 129 rfl) rfl
theorem q500 : (Jvm.Cond.lays "ApologyUp$Wrong" "java/lang/Throwable" "backtrace" "Ljava/lang/Object;") ∈ lw_all := lw_g (lw_at lw_m2 131 rfl) rfl
theorem q521 : (Jvm.Cond.instanceMethod ({ cls := "ApologyUp$Wrong", name := "<init>", desc := "(II)V" } : Jvm.MethodName)) ∈ lw_all := lw_g (lw_at lw_m2 152 rfl) rfl
theorem q522 : (Jvm.Cond.code ({ cls := "ApologyUp$Wrong", name := "<init>", desc := "(II)V" } : Jvm.MethodName) prog_18_method_1_code (3 : Nat) (Option.none : Option Jvm.ClassFile.FieldType)) ∈ lw_all := lw_g (lw_at lw_m2 153 rfl) rfl
theorem q523 : (Jvm.Cond.methodLink "ApologyUp$Wrong" (1 : Nat) ({ cls := "java/lang/Exception", name := "<init>", desc := "()V" } : Jvm.MethodName)) ∈ lw_all := lw_g (lw_at lw_m2 154 rfl) rfl
theorem q527 : (Jvm.Cond.fieldLink "ApologyUp$Wrong" (7 : Nat) "ApologyUp$Wrong" "fault" "I") ∈ lw_all := lw_g (lw_at lw_m2 158 rfl) rfl
theorem q529 : (Jvm.Cond.fieldLink "ApologyUp$Wrong" (13 : Nat) "ApologyUp$Wrong" "place" "I") ∈ lw_all := lw_g (lw_at lw_m2 160 rfl) rfl
theorem q535 : (Jvm.Cond.laysFinal "ApologyUp$Wrong" "ApologyUp$Wrong" "fault" "I") ∈ lw_all := lw_g (lw_at lw_m2 166 rfl) rfl
theorem q536 : (Jvm.Cond.soleField "ApologyUp$Wrong" "fault") ∈ lw_all := lw_g (lw_at lw_m2 167 rfl) rfl
theorem q537 : (Jvm.Cond.laysFinal "ApologyUp$Wrong" "ApologyUp$Wrong" "place" "I") ∈ lw_all := lw_g (lw_at lw_m2 168 rfl) rfl
theorem q538 : (Jvm.Cond.soleField "ApologyUp$Wrong" "place") ∈ lw_all := lw_g (lw_at lw_m2 169 rfl) rfl
theorem q543 : (Jvm.Cond.lays "ApologyUp$Wrong" "java/lang/Throwable" "depth" "I") ∈ lw_all := lw_g (lw_at lw_m2 174 rfl) rfl
theorem q546 : (Jvm.Cond.superclass "ApologyUp$Wrong" "java/lang/Exception") ∈ lw_all := lw_g (lw_at lw_m2 177 rfl) rfl
theorem q673 : (Jvm.Cond.selects "ApologyUp$Wrong" ({ cls := "java/lang/Object", name := "getClass", desc := "()Ljava/lang/Class;" } : Jvm.MethodName) ({ cls := "java/lang/Object", name := "getClass", desc := "()Ljava/lang/Class;" } : Jvm.MethodName)) ∈ lw_all := lw_g (lw_at lw_m3 64 rfl) rfl
theorem q2023 : (Jvm.Cond.castable "ApologyUp$Wrong" "java/lang/Object") ∈ lw_tbl := lw_at lw_m8 214 rfl
theorem in_X5 : ∀ w ∈ wsX50, w ∈ lw_all := lw_in wsX50 [492, 494, 496, 498, 500, 543, 535, 537] (by decide +kernel) (by decide +kernel)
/-! ApologyUp$Chain -/
set_option maxRecDepth 100000
def RX6 : String := "ApologyUp$Chain"
def TX6 : u_T := fun k => match k with
  | 0 => ("ApologyUp$Chain", "first", "LApologyUp$Sum;", true)
  | 1 => ("ApologyUp$Chain", "more", "Ljava/util/ArrayList;", true)
  | _ => ("ApologyUp$Chain", "signs", "Ljava/util/ArrayList;", true)
def tyX6 : Nat → FieldType := fun k => match k with
  | 0 => .object "ApologyUp$Sum"
  | 1 => .object "java/util/ArrayList"
  | _ => .object "java/util/ArrayList"
abbrev wsX60 : List Cond := u_ws RX6 TX6 3
theorem nmX6 : ∀ a, a < 3 → ∀ b, b < 3 → a ≠ b → (TX6 a).2.1 ≠ (TX6 b).2.1 := by decide +kernel
theorem tyX6_ok : ∀ k, k < 3 → parseFieldDescriptor (TX6 k).2.2.1 = some (tyX6 k) := by decide +kernel
abbrev cX6_init : ByteArray := prog_4_method_1_code
def yX6_init : MethodName := ⟨RX6, "<init>", "(LApologyUp$Sum;)V"⟩
def dkwX6_init_1 : List UInt8 := [181, 0, 18, 42, 43, 181, 0, 21, 177]
abbrev dktX6_init_1 : List UInt8 := dkwX6_init_1 ++ []
def dkwX6_init_0 : List UInt8 := [42, 183, 0, 3, 42, 187, 0, 9, 89, 183, 0, 11, 181, 0, 12, 42, 187, 0, 9, 89, 183, 0, 11]
abbrev dktX6_init_0 : List UInt8 := dkwX6_init_0 ++ dktX6_init_1
theorem dksX6_init_0 : cX6_init.data.toList.drop 0 = dktX6_init_0 := by decide +kernel
theorem dksX6_init_1 : cX6_init.data.toList.drop 23 = dktX6_init_1 := dk_seg dksX6_init_0 23 rfl rfl
theorem dX6_init_0 : decode cX6_init 0 = .ok (.aload_n 0, 1) := dk_42 (dk_at dksX6_init_0 0 rfl rfl)
theorem dX6_init_1 : decode cX6_init 1 = .ok (.invokespecial 3, 3) := dk_183 0 3 (dk_at dksX6_init_0 1 rfl rfl)
theorem dX6_init_4 : decode cX6_init 4 = .ok (.aload_n 0, 1) := dk_42 (dk_at dksX6_init_0 4 rfl rfl)
theorem dX6_init_5 : decode cX6_init 5 = .ok (.new 9, 3) := dk_187 0 9 (dk_at dksX6_init_0 5 rfl rfl)
theorem dX6_init_8 : decode cX6_init 8 = .ok (.dup, 1) := dk_89 (dk_at dksX6_init_0 8 rfl rfl)
theorem dX6_init_9 : decode cX6_init 9 = .ok (.invokespecial 11, 3) := dk_183 0 11 (dk_at dksX6_init_0 9 rfl rfl)
theorem dX6_init_12 : decode cX6_init 12 = .ok (.putfield 12, 3) := dk_181 0 12 (dk_at dksX6_init_0 12 rfl rfl)
theorem dX6_init_15 : decode cX6_init 15 = .ok (.aload_n 0, 1) := dk_42 (dk_at dksX6_init_0 15 rfl rfl)
theorem dX6_init_16 : decode cX6_init 16 = .ok (.new 9, 3) := dk_187 0 9 (dk_at dksX6_init_0 16 rfl rfl)
theorem dX6_init_19 : decode cX6_init 19 = .ok (.dup, 1) := dk_89 (dk_at dksX6_init_0 19 rfl rfl)
theorem dX6_init_20 : decode cX6_init 20 = .ok (.invokespecial 11, 3) := dk_183 0 11 (dk_at dksX6_init_0 20 rfl rfl)
theorem dX6_init_23 : decode cX6_init 23 = .ok (.putfield 18, 3) := dk_181 0 18 (dk_at dksX6_init_1 0 rfl rfl)
theorem dX6_init_26 : decode cX6_init 26 = .ok (.aload_n 0, 1) := dk_42 (dk_at dksX6_init_1 3 rfl rfl)
theorem dX6_init_27 : decode cX6_init 27 = .ok (.aload_n 1, 1) := dk_43 (dk_at dksX6_init_1 4 rfl rfl)
theorem dX6_init_28 : decode cX6_init 28 = .ok (.putfield 21, 3) := dk_181 0 21 (dk_at dksX6_init_1 5 rfl rfl)
theorem dX6_init_31 : decode cX6_init 31 = .ok (.return_, 1) := dk_177 (dk_at dksX6_init_1 8 rfl rfl)
abbrev cX6_add : ByteArray := prog_4_method_2_code
def yX6_add : MethodName := ⟨RX6, "add", "(ILApologyUp$Sum;)V"⟩
def dkwX6_add_0 : List UInt8 := [42, 180, 0, 18, 27, 184, 0, 25, 182, 0, 31, 87, 42, 180, 0, 12, 44, 182, 0, 31, 87, 177]
abbrev dktX6_add_0 : List UInt8 := dkwX6_add_0 ++ []
theorem dksX6_add_0 : cX6_add.data.toList.drop 0 = dktX6_add_0 := by decide +kernel
theorem dX6_add_0 : decode cX6_add 0 = .ok (.aload_n 0, 1) := dk_42 (dk_at dksX6_add_0 0 rfl rfl)
theorem dX6_add_1 : decode cX6_add 1 = .ok (.getfield 18, 3) := dk_180 0 18 (dk_at dksX6_add_0 1 rfl rfl)
theorem dX6_add_4 : decode cX6_add 4 = .ok (.iload_n 1, 1) := dk_27 (dk_at dksX6_add_0 4 rfl rfl)
theorem dX6_add_5 : decode cX6_add 5 = .ok (.invokestatic 25, 3) := dk_184 0 25 (dk_at dksX6_add_0 5 rfl rfl)
theorem dX6_add_8 : decode cX6_add 8 = .ok (.invokevirtual 31, 3) := dk_182 0 31 (dk_at dksX6_add_0 8 rfl rfl)
theorem dX6_add_11 : decode cX6_add 11 = .ok (.pop, 1) := dk_87 (dk_at dksX6_add_0 11 rfl rfl)
theorem dX6_add_12 : decode cX6_add 12 = .ok (.aload_n 0, 1) := dk_42 (dk_at dksX6_add_0 12 rfl rfl)
theorem dX6_add_13 : decode cX6_add 13 = .ok (.getfield 12, 3) := dk_180 0 12 (dk_at dksX6_add_0 13 rfl rfl)
theorem dX6_add_16 : decode cX6_add 16 = .ok (.aload_n 2, 1) := dk_44 (dk_at dksX6_add_0 16 rfl rfl)
theorem dX6_add_17 : decode cX6_add 17 = .ok (.invokevirtual 31, 3) := dk_182 0 31 (dk_at dksX6_add_0 17 rfl rfl)
theorem dX6_add_20 : decode cX6_add 20 = .ok (.pop, 1) := dk_87 (dk_at dksX6_add_0 20 rfl rfl)
theorem dX6_add_21 : decode cX6_add 21 = .ok (.return_, 1) := dk_177 (dk_at dksX6_add_0 21 rfl rfl)
abbrev cX6_itself : ByteArray := prog_4_method_3_code
def yX6_itself : MethodName := ⟨RX6, "itself", "()LApologyUp$Sum;"⟩
def dkwX6_itself_0 : List UInt8 := [42, 180, 0, 12, 182, 0, 35, 153, 0, 10, 42, 180, 0, 21, 167, 0, 4, 42, 176]
abbrev dktX6_itself_0 : List UInt8 := dkwX6_itself_0 ++ []
theorem dksX6_itself_0 : cX6_itself.data.toList.drop 0 = dktX6_itself_0 := by decide +kernel
theorem dX6_itself_0 : decode cX6_itself 0 = .ok (.aload_n 0, 1) := dk_42 (dk_at dksX6_itself_0 0 rfl rfl)
theorem dX6_itself_1 : decode cX6_itself 1 = .ok (.getfield 12, 3) := dk_180 0 12 (dk_at dksX6_itself_0 1 rfl rfl)
theorem dX6_itself_4 : decode cX6_itself 4 = .ok (.invokevirtual 35, 3) := dk_182 0 35 (dk_at dksX6_itself_0 4 rfl rfl)
theorem dX6_itself_7 : decode cX6_itself 7 = .ok (.ifCond .eq 10, 3) := dk_153 0 10 (dk_at dksX6_itself_0 7 rfl rfl)
theorem dX6_itself_10 : decode cX6_itself 10 = .ok (.aload_n 0, 1) := dk_42 (dk_at dksX6_itself_0 10 rfl rfl)
theorem dX6_itself_11 : decode cX6_itself 11 = .ok (.getfield 21, 3) := dk_180 0 21 (dk_at dksX6_itself_0 11 rfl rfl)
theorem dX6_itself_14 : decode cX6_itself 14 = .ok (.goto 4, 3) := dk_167 0 4 (dk_at dksX6_itself_0 14 rfl rfl)
theorem dX6_itself_17 : decode cX6_itself 17 = .ok (.aload_n 0, 1) := dk_42 (dk_at dksX6_itself_0 17 rfl rfl)
theorem dX6_itself_18 : decode cX6_itself 18 = .ok (.areturn, 1) := dk_176 (dk_at dksX6_itself_0 18 rfl rfl)
abbrev cX6_of : ByteArray := prog_4_method_4_code
def yX6_of : MethodName := ⟨RX6, "of", "([I)J"⟩
def dkwX6_of_6 : List UInt8 := [32, 173]
abbrev dktX6_of_6 : List UInt8 := dkwX6_of_6 ++ []
def dkwX6_of_5 : List UInt8 := [109, 55, 8, 20, 0, 56, 20, 0, 58, 22, 8, 184, 0, 60, 184, 0, 66, 65, 132, 4, 1, 167, 255, 130]
abbrev dktX6_of_5 : List UInt8 := dkwX6_of_5 ++ dktX6_of_6
def dkwX6_of_4 : List UInt8 := [160, 0, 10, 32, 22, 5, 105, 167, 0, 18, 22, 5, 9, 148, 154, 0, 7, 9, 167, 0, 7, 32, 22, 5]
abbrev dktX6_of_4 : List UInt8 := dkwX6_of_4 ++ dktX6_of_5
def dkwX6_of_3 : List UInt8 := [22, 5, 97, 167, 0, 46, 21, 7, 16, 45, 160, 0, 10, 32, 22, 5, 101, 167, 0, 32, 21, 7, 16, 42]
abbrev dktX6_of_3 : List UInt8 := dkwX6_of_3 ++ dktX6_of_4
def dkwX6_of_2 : List UInt8 := [180, 0, 18, 21, 4, 182, 0, 49, 192, 0, 26, 182, 0, 53, 54, 7, 21, 7, 16, 43, 160, 0, 10, 32]
abbrev dktX6_of_2 : List UInt8 := dkwX6_of_2 ++ dktX6_of_3
def dkwX6_of_1 : List UInt8 := [162, 0, 120, 42, 180, 0, 12, 21, 4, 182, 0, 49, 192, 0, 40, 43, 185, 0, 39, 2, 0, 55, 5, 42]
abbrev dktX6_of_1 : List UInt8 := dkwX6_of_1 ++ dktX6_of_2
def dkwX6_of_0 : List UInt8 := [42, 180, 0, 21, 43, 185, 0, 39, 2, 0, 65, 3, 54, 4, 21, 4, 42, 180, 0, 12, 182, 0, 45]
abbrev dktX6_of_0 : List UInt8 := dkwX6_of_0 ++ dktX6_of_1
theorem dksX6_of_0 : cX6_of.data.toList.drop 0 = dktX6_of_0 := by decide +kernel
theorem dksX6_of_1 : cX6_of.data.toList.drop 23 = dktX6_of_1 := dk_seg dksX6_of_0 23 rfl rfl
theorem dksX6_of_2 : cX6_of.data.toList.drop 47 = dktX6_of_2 := dk_seg dksX6_of_1 24 rfl rfl
theorem dksX6_of_3 : cX6_of.data.toList.drop 71 = dktX6_of_3 := dk_seg dksX6_of_2 24 rfl rfl
theorem dksX6_of_4 : cX6_of.data.toList.drop 95 = dktX6_of_4 := dk_seg dksX6_of_3 24 rfl rfl
theorem dksX6_of_5 : cX6_of.data.toList.drop 119 = dktX6_of_5 := dk_seg dksX6_of_4 24 rfl rfl
theorem dksX6_of_6 : cX6_of.data.toList.drop 143 = dktX6_of_6 := dk_seg dksX6_of_5 24 rfl rfl
theorem dX6_of_0 : decode cX6_of 0 = .ok (.aload_n 0, 1) := dk_42 (dk_at dksX6_of_0 0 rfl rfl)
theorem dX6_of_1 : decode cX6_of 1 = .ok (.getfield 21, 3) := dk_180 0 21 (dk_at dksX6_of_0 1 rfl rfl)
theorem dX6_of_4 : decode cX6_of 4 = .ok (.aload_n 1, 1) := dk_43 (dk_at dksX6_of_0 4 rfl rfl)
theorem dX6_of_5 : decode cX6_of 5 = .ok (.invokeinterface 39 2, 5) := by decide +kernel
theorem dX6_of_10 : decode cX6_of 10 = .ok (.lstore_n 2, 1) := dk_65 (dk_at dksX6_of_0 10 rfl rfl)
theorem dX6_of_11 : decode cX6_of 11 = .ok (.iconst 0, 1) := dk_3 (dk_at dksX6_of_0 11 rfl rfl)
theorem dX6_of_12 : decode cX6_of 12 = .ok (.istore 4, 2) := dk_54 4 (dk_at dksX6_of_0 12 rfl rfl)
theorem dX6_of_14 : decode cX6_of 14 = .ok (.iload 4, 2) := dk_21 4 (dk_at dksX6_of_0 14 rfl rfl)
theorem dX6_of_16 : decode cX6_of 16 = .ok (.aload_n 0, 1) := dk_42 (dk_at dksX6_of_0 16 rfl rfl)
theorem dX6_of_17 : decode cX6_of 17 = .ok (.getfield 12, 3) := dk_180 0 12 (dk_at dksX6_of_0 17 rfl rfl)
theorem dX6_of_20 : decode cX6_of 20 = .ok (.invokevirtual 45, 3) := dk_182 0 45 (dk_at dksX6_of_0 20 rfl rfl)
theorem dX6_of_23 : decode cX6_of 23 = .ok (.if_icmp .ge 120, 3) := dk_162 0 120 (dk_at dksX6_of_1 0 rfl rfl)
theorem dX6_of_26 : decode cX6_of 26 = .ok (.aload_n 0, 1) := dk_42 (dk_at dksX6_of_1 3 rfl rfl)
theorem dX6_of_27 : decode cX6_of 27 = .ok (.getfield 12, 3) := dk_180 0 12 (dk_at dksX6_of_1 4 rfl rfl)
theorem dX6_of_30 : decode cX6_of 30 = .ok (.iload 4, 2) := dk_21 4 (dk_at dksX6_of_1 7 rfl rfl)
theorem dX6_of_32 : decode cX6_of 32 = .ok (.invokevirtual 49, 3) := dk_182 0 49 (dk_at dksX6_of_1 9 rfl rfl)
theorem dX6_of_35 : decode cX6_of 35 = .ok (.checkcast 40, 3) := dk_192 0 40 (dk_at dksX6_of_1 12 rfl rfl)
theorem dX6_of_38 : decode cX6_of 38 = .ok (.aload_n 1, 1) := dk_43 (dk_at dksX6_of_1 15 rfl rfl)
theorem dX6_of_39 : decode cX6_of 39 = .ok (.invokeinterface 39 2, 5) := by decide +kernel
theorem dX6_of_44 : decode cX6_of 44 = .ok (.lstore 5, 2) := dk_55 5 (dk_at dksX6_of_1 21 rfl rfl)
theorem dX6_of_46 : decode cX6_of 46 = .ok (.aload_n 0, 1) := dk_42 (dk_at dksX6_of_1 23 rfl rfl)
theorem dX6_of_47 : decode cX6_of 47 = .ok (.getfield 18, 3) := dk_180 0 18 (dk_at dksX6_of_2 0 rfl rfl)
theorem dX6_of_50 : decode cX6_of 50 = .ok (.iload 4, 2) := dk_21 4 (dk_at dksX6_of_2 3 rfl rfl)
theorem dX6_of_52 : decode cX6_of 52 = .ok (.invokevirtual 49, 3) := dk_182 0 49 (dk_at dksX6_of_2 5 rfl rfl)
theorem dX6_of_55 : decode cX6_of 55 = .ok (.checkcast 26, 3) := dk_192 0 26 (dk_at dksX6_of_2 8 rfl rfl)
theorem dX6_of_58 : decode cX6_of 58 = .ok (.invokevirtual 53, 3) := dk_182 0 53 (dk_at dksX6_of_2 11 rfl rfl)
theorem dX6_of_61 : decode cX6_of 61 = .ok (.istore 7, 2) := dk_54 7 (dk_at dksX6_of_2 14 rfl rfl)
theorem dX6_of_63 : decode cX6_of 63 = .ok (.iload 7, 2) := dk_21 7 (dk_at dksX6_of_2 16 rfl rfl)
theorem dX6_of_65 : decode cX6_of 65 = .ok (.bipush 43, 2) := dk_16 43 (dk_at dksX6_of_2 18 rfl rfl)
theorem dX6_of_67 : decode cX6_of 67 = .ok (.if_icmp .ne 10, 3) := dk_160 0 10 (dk_at dksX6_of_2 20 rfl rfl)
theorem dX6_of_70 : decode cX6_of 70 = .ok (.lload_n 2, 1) := dk_32 (dk_at dksX6_of_2 23 rfl rfl)
theorem dX6_of_71 : decode cX6_of 71 = .ok (.lload 5, 2) := dk_22 5 (dk_at dksX6_of_3 0 rfl rfl)
theorem dX6_of_73 : decode cX6_of 73 = .ok (.ladd, 1) := dk_97 (dk_at dksX6_of_3 2 rfl rfl)
theorem dX6_of_74 : decode cX6_of 74 = .ok (.goto 46, 3) := dk_167 0 46 (dk_at dksX6_of_3 3 rfl rfl)
theorem dX6_of_77 : decode cX6_of 77 = .ok (.iload 7, 2) := dk_21 7 (dk_at dksX6_of_3 6 rfl rfl)
theorem dX6_of_79 : decode cX6_of 79 = .ok (.bipush 45, 2) := dk_16 45 (dk_at dksX6_of_3 8 rfl rfl)
theorem dX6_of_81 : decode cX6_of 81 = .ok (.if_icmp .ne 10, 3) := dk_160 0 10 (dk_at dksX6_of_3 10 rfl rfl)
theorem dX6_of_84 : decode cX6_of 84 = .ok (.lload_n 2, 1) := dk_32 (dk_at dksX6_of_3 13 rfl rfl)
theorem dX6_of_85 : decode cX6_of 85 = .ok (.lload 5, 2) := dk_22 5 (dk_at dksX6_of_3 14 rfl rfl)
theorem dX6_of_87 : decode cX6_of 87 = .ok (.lsub, 1) := dk_101 (dk_at dksX6_of_3 16 rfl rfl)
theorem dX6_of_88 : decode cX6_of 88 = .ok (.goto 32, 3) := dk_167 0 32 (dk_at dksX6_of_3 17 rfl rfl)
theorem dX6_of_91 : decode cX6_of 91 = .ok (.iload 7, 2) := dk_21 7 (dk_at dksX6_of_3 20 rfl rfl)
theorem dX6_of_93 : decode cX6_of 93 = .ok (.bipush 42, 2) := dk_16 42 (dk_at dksX6_of_3 22 rfl rfl)
theorem dX6_of_95 : decode cX6_of 95 = .ok (.if_icmp .ne 10, 3) := dk_160 0 10 (dk_at dksX6_of_4 0 rfl rfl)
theorem dX6_of_98 : decode cX6_of 98 = .ok (.lload_n 2, 1) := dk_32 (dk_at dksX6_of_4 3 rfl rfl)
theorem dX6_of_99 : decode cX6_of 99 = .ok (.lload 5, 2) := dk_22 5 (dk_at dksX6_of_4 4 rfl rfl)
theorem dX6_of_101 : decode cX6_of 101 = .ok (.lmul, 1) := dk_105 (dk_at dksX6_of_4 6 rfl rfl)
theorem dX6_of_102 : decode cX6_of 102 = .ok (.goto 18, 3) := dk_167 0 18 (dk_at dksX6_of_4 7 rfl rfl)
theorem dX6_of_105 : decode cX6_of 105 = .ok (.lload 5, 2) := dk_22 5 (dk_at dksX6_of_4 10 rfl rfl)
theorem dX6_of_107 : decode cX6_of 107 = .ok (.lconst 0, 1) := dk_9 (dk_at dksX6_of_4 12 rfl rfl)
theorem dX6_of_108 : decode cX6_of 108 = .ok (.lcmp, 1) := dk_148 (dk_at dksX6_of_4 13 rfl rfl)
theorem dX6_of_109 : decode cX6_of 109 = .ok (.ifCond .ne 7, 3) := dk_154 0 7 (dk_at dksX6_of_4 14 rfl rfl)
theorem dX6_of_112 : decode cX6_of 112 = .ok (.lconst 0, 1) := dk_9 (dk_at dksX6_of_4 17 rfl rfl)
theorem dX6_of_113 : decode cX6_of 113 = .ok (.goto 7, 3) := dk_167 0 7 (dk_at dksX6_of_4 18 rfl rfl)
theorem dX6_of_116 : decode cX6_of 116 = .ok (.lload_n 2, 1) := dk_32 (dk_at dksX6_of_4 21 rfl rfl)
theorem dX6_of_117 : decode cX6_of 117 = .ok (.lload 5, 2) := dk_22 5 (dk_at dksX6_of_4 22 rfl rfl)
theorem dX6_of_119 : decode cX6_of 119 = .ok (.ldiv, 1) := dk_109 (dk_at dksX6_of_5 0 rfl rfl)
theorem dX6_of_120 : decode cX6_of 120 = .ok (.lstore 8, 2) := dk_55 8 (dk_at dksX6_of_5 1 rfl rfl)
theorem dX6_of_122 : decode cX6_of 122 = .ok (.ldc2_w 56, 3) := dk_20 0 56 (dk_at dksX6_of_5 3 rfl rfl)
theorem dX6_of_125 : decode cX6_of 125 = .ok (.ldc2_w 58, 3) := dk_20 0 58 (dk_at dksX6_of_5 6 rfl rfl)
theorem dX6_of_128 : decode cX6_of 128 = .ok (.lload 8, 2) := dk_22 8 (dk_at dksX6_of_5 9 rfl rfl)
theorem dX6_of_130 : decode cX6_of 130 = .ok (.invokestatic 60, 3) := dk_184 0 60 (dk_at dksX6_of_5 11 rfl rfl)
theorem dX6_of_133 : decode cX6_of 133 = .ok (.invokestatic 66, 3) := dk_184 0 66 (dk_at dksX6_of_5 14 rfl rfl)
theorem dX6_of_136 : decode cX6_of 136 = .ok (.lstore_n 2, 1) := dk_65 (dk_at dksX6_of_5 17 rfl rfl)
theorem dX6_of_137 : decode cX6_of 137 = .ok (.iinc 4 1, 3) := dk_132 4 1 (dk_at dksX6_of_5 18 rfl rfl)
theorem dX6_of_140 : decode cX6_of 140 = .ok (.goto (-126), 3) := dk_167 255 130 (dk_at dksX6_of_5 21 rfl rfl)
theorem dX6_of_143 : decode cX6_of 143 = .ok (.lload_n 2, 1) := dk_32 (dk_at dksX6_of_6 0 rfl rfl)
theorem dX6_of_144 : decode cX6_of 144 = .ok (.lreturn, 1) := dk_173 (dk_at dksX6_of_6 1 rfl rfl)
theorem q148 : (Jvm.Cond.initialized "ApologyUp$Chain") ∈ lw_all := lw_g (lw_at lw_m1 19 rfl) rfl
theorem q552 : (Jvm.Cond.instantiable "ApologyUp$Chain" (3 : Nat)) ∈ lw_all := lw_g (lw_at lw_m2 183 rfl) rfl
theorem q660 : (Jvm.Cond.selects "ApologyUp$Chain" ({ cls := "java/lang/Object", name := "getClass", desc := "()Ljava/lang/Class;" } : Jvm.MethodName) ({ cls := "java/lang/Object", name := "getClass", desc := "()Ljava/lang/Class;" } : Jvm.MethodName)) ∈ lw_all := lw_g (lw_at lw_m3 51 rfl) rfl
theorem q796 : (Jvm.Cond.instanceMethod ({ cls := "ApologyUp$Chain", name := "<init>", desc := "(LApologyUp$Sum;)V" } : Jvm.MethodName)) ∈ lw_all := lw_g (lw_at lw_m3 187 rfl) rfl
theorem q797 : (Jvm.Cond.code ({ cls := "ApologyUp$Chain", name := "<init>", desc := "(LApologyUp$Sum;)V" } : Jvm.MethodName) prog_4_method_1_code (2 : Nat) (Option.none : Option Jvm.ClassFile.FieldType)) ∈ lw_all := lw_g (lw_at lw_m3 188 rfl) rfl
theorem q798 : (Jvm.Cond.methodLink "ApologyUp$Chain" (3 : Nat) ({ cls := "java/lang/Object", name := "<init>", desc := "()V" } : Jvm.MethodName)) ∈ lw_all := lw_g (lw_at lw_m3 189 rfl) rfl
theorem q799 : (Jvm.Cond.classLink "ApologyUp$Chain" (9 : Nat) "java/util/ArrayList") ∈ lw_all := lw_g (lw_at lw_m3 190 rfl) rfl
theorem q800 : (Jvm.Cond.methodLink "ApologyUp$Chain" (11 : Nat) ({ cls := "java/util/ArrayList", name := "<init>", desc := "()V" } : Jvm.MethodName)) ∈ lw_all := lw_g (lw_at lw_m3 191 rfl) rfl
theorem q801 : (Jvm.Cond.fieldLink "ApologyUp$Chain" (21 : Nat) "ApologyUp$Chain" "first" "LApologyUp$Sum;") ∈ lw_all := lw_g (lw_at lw_m3 192 rfl) rfl
theorem q802 : (Jvm.Cond.fieldLink "ApologyUp$Chain" (12 : Nat) "ApologyUp$Chain" "more" "Ljava/util/ArrayList;") ∈ lw_all := lw_g (lw_at lw_m3 193 rfl) rfl
theorem q803 : (Jvm.Cond.fieldLink "ApologyUp$Chain" (18 : Nat) "ApologyUp$Chain" "signs" "Ljava/util/ArrayList;") ∈ lw_all := lw_g (lw_at lw_m3 194 rfl) rfl
theorem q804 : (Jvm.Cond.laysFinal "ApologyUp$Chain" "ApologyUp$Chain" "first" "LApologyUp$Sum;") ∈ lw_all := lw_g (lw_at lw_m3 195 rfl) rfl
theorem q805 : (Jvm.Cond.soleField "ApologyUp$Chain" "first") ∈ lw_all := lw_g (lw_at lw_m3 196 rfl) rfl
theorem q806 : (Jvm.Cond.laysFinal "ApologyUp$Chain" "ApologyUp$Chain" "more" "Ljava/util/ArrayList;") ∈ lw_all := lw_g (lw_at lw_m3 197 rfl) rfl
theorem q807 : (Jvm.Cond.soleField "ApologyUp$Chain" "more") ∈ lw_all := lw_g (lw_at lw_m3 198 rfl) rfl
theorem q808 : (Jvm.Cond.laysFinal "ApologyUp$Chain" "ApologyUp$Chain" "signs" "Ljava/util/ArrayList;") ∈ lw_all := lw_g (lw_at lw_m3 199 rfl) rfl
theorem q809 : (Jvm.Cond.soleField "ApologyUp$Chain" "signs") ∈ lw_all := lw_g (lw_at lw_m3 200 rfl) rfl
theorem q810 : (Jvm.Cond.superclass "ApologyUp$Chain" "java/lang/Object") ∈ lw_all := lw_g (lw_at lw_m3 201 rfl) rfl
theorem q812 : (Jvm.Cond.instanceMethod ({ cls := "ApologyUp$Chain", name := "add", desc := "(ILApologyUp$Sum;)V" } : Jvm.MethodName)) ∈ lw_all := lw_g (lw_at lw_m3 203 rfl) rfl
theorem q813 : (Jvm.Cond.selects "ApologyUp$Chain" ({ cls := "ApologyUp$Chain", name := "add", desc := "(ILApologyUp$Sum;)V" } : Jvm.MethodName) ({ cls := "ApologyUp$Chain", name := "add", desc := "(ILApologyUp$Sum;)V" } : Jvm.MethodName)) ∈ lw_all := lw_g (lw_at lw_m3 204 rfl) rfl
theorem q814 : (Jvm.Cond.code ({ cls := "ApologyUp$Chain", name := "add", desc := "(ILApologyUp$Sum;)V" } : Jvm.MethodName) prog_4_method_2_code (3 : Nat) (Option.none : Option Jvm.ClassFile.FieldType)) ∈ lw_all := lw_g (lw_at lw_m3 205 rfl) rfl
theorem q815 : (Jvm.Cond.methodLink "ApologyUp$Chain" (25 : Nat) ({ cls := "java/lang/Integer", name := "valueOf", desc := "(I)Ljava/lang/Integer;" } : Jvm.MethodName)) ∈ lw_all := lw_g (lw_at lw_m3 206 rfl) rfl
theorem q835 : (Jvm.Cond.methodLink "ApologyUp$Chain" (31 : Nat) ({ cls := "java/util/ArrayList", name := "add", desc := "(Ljava/lang/Object;)Z" } : Jvm.MethodName)) ∈ lw_all := lw_g (lw_at lw_m3 226 rfl) rfl
theorem q837 : (Jvm.Cond.instanceMethod ({ cls := "ApologyUp$Chain", name := "itself", desc := "()LApologyUp$Sum;" } : Jvm.MethodName)) ∈ lw_all := lw_g (lw_at lw_m3 228 rfl) rfl
theorem q838 : (Jvm.Cond.selects "ApologyUp$Chain" ({ cls := "ApologyUp$Chain", name := "itself", desc := "()LApologyUp$Sum;" } : Jvm.MethodName) ({ cls := "ApologyUp$Chain", name := "itself", desc := "()LApologyUp$Sum;" } : Jvm.MethodName)) ∈ lw_all := lw_g (lw_at lw_m3 229 rfl) rfl
theorem q839 : (Jvm.Cond.code ({ cls := "ApologyUp$Chain", name := "itself", desc := "()LApologyUp$Sum;" } : Jvm.MethodName) prog_4_method_3_code (1 : Nat) (Option.some (Jvm.ClassFile.FieldType.object "ApologyUp$Sum"))) ∈ lw_all := lw_g (lw_at lw_m3 230 rfl) rfl
theorem q840 : (Jvm.Cond.methodLink "ApologyUp$Chain" (35 : Nat) ({ cls := "java/util/ArrayList", name := "isEmpty", desc := "()Z" } : Jvm.MethodName)) ∈ lw_all := lw_g (lw_at lw_m3 231 rfl) rfl
theorem q934 : (Jvm.Cond.castable "ApologyUp$Chain" "ApologyUp$Sum") ∈ lw_tbl := lw_at lw_m4 85 rfl
theorem q935 : (Jvm.Cond.selects "ApologyUp$Chain" ({ cls := "ApologyUp$Sum", name := "of", desc := "([I)J" } : Jvm.MethodName) ({ cls := "ApologyUp$Chain", name := "of", desc := "([I)J" } : Jvm.MethodName)) ∈ lw_all := lw_g (lw_at lw_m4 86 rfl) rfl
theorem q936 : (Jvm.Cond.unhidden "ApologyUp$Chain" "of" "([I)J") ∈ lw_tbl := lw_at lw_m4 87 rfl
theorem q937 : (Jvm.Cond.instanceMethod ({ cls := "ApologyUp$Chain", name := "of", desc := "([I)J" } : Jvm.MethodName)) ∈ lw_all := lw_g (lw_at lw_m4 88 rfl) rfl
theorem q938 : (Jvm.Cond.publicMethod ({ cls := "ApologyUp$Chain", name := "of", desc := "([I)J" } : Jvm.MethodName)) ∈ lw_tbl := lw_at lw_m4 89 rfl
theorem q939 : (Jvm.Cond.code ({ cls := "ApologyUp$Chain", name := "of", desc := "([I)J" } : Jvm.MethodName) prog_4_method_4_code (10 : Nat) (Option.some Jvm.ClassFile.FieldType.long)) ∈ lw_all := lw_g (lw_at lw_m4 90 rfl) rfl
theorem q940 : (Jvm.Cond.interfaceEntry "ApologyUp$Chain" (39 : Nat)) ∈ lw_tbl := lw_at lw_m4 91 rfl
theorem q941 : (Jvm.Cond.methodLink "ApologyUp$Chain" (39 : Nat) ({ cls := "ApologyUp$Sum", name := "of", desc := "([I)J" } : Jvm.MethodName)) ∈ lw_all := lw_g (lw_at lw_m4 92 rfl) rfl
theorem q1019 : (Jvm.Cond.methodLink "ApologyUp$Chain" (45 : Nat) ({ cls := "java/util/ArrayList", name := "size", desc := "()I" } : Jvm.MethodName)) ∈ lw_all := lw_g (lw_at lw_m4 170 rfl) rfl
theorem q1020 : (Jvm.Cond.methodLink "ApologyUp$Chain" (49 : Nat) ({ cls := "java/util/ArrayList", name := "get", desc := "(I)Ljava/lang/Object;" } : Jvm.MethodName)) ∈ lw_all := lw_g (lw_at lw_m4 171 rfl) rfl
theorem q1021 : (Jvm.Cond.classLink "ApologyUp$Chain" (40 : Nat) "ApologyUp$Sum") ∈ lw_all := lw_g (lw_at lw_m4 172 rfl) rfl
theorem q1022 : (Jvm.Cond.classLink "ApologyUp$Chain" (26 : Nat) "java/lang/Integer") ∈ lw_all := lw_g (lw_at lw_m4 173 rfl) rfl
theorem q1023 : (Jvm.Cond.methodLink "ApologyUp$Chain" (53 : Nat) ({ cls := "java/lang/Integer", name := "intValue", desc := "()I" } : Jvm.MethodName)) ∈ lw_all := lw_g (lw_at lw_m4 174 rfl) rfl
theorem q1027 : (Jvm.Cond.constantLong "ApologyUp$Chain" (56 : Nat) (-1000000 : Int64)) ∈ lw_all := lw_g (lw_at lw_m4 178 rfl) rfl
theorem q1028 : (Jvm.Cond.constantLong "ApologyUp$Chain" (58 : Nat) (1000000 : Int64)) ∈ lw_all := lw_g (lw_at lw_m4 179 rfl) rfl
theorem q1029 : (Jvm.Cond.methodLink "ApologyUp$Chain" (60 : Nat) ({ cls := "java/lang/Math", name := "min", desc := "(JJ)J" } : Jvm.MethodName)) ∈ lw_all := lw_g (lw_at lw_m4 180 rfl) rfl
theorem q1032 : (Jvm.Cond.methodLink "ApologyUp$Chain" (66 : Nat) ({ cls := "java/lang/Math", name := "max", desc := "(JJ)J" } : Jvm.MethodName)) ∈ lw_all := lw_g (lw_at lw_m4 183 rfl) rfl
theorem q2024 : (Jvm.Cond.castable "ApologyUp$Chain" "java/lang/Object") ∈ lw_tbl := lw_at lw_m8 215 rfl
theorem in_X6 : ∀ w ∈ wsX60, w ∈ lw_all := lw_in wsX60 [804, 806, 808] (by decide +kernel) (by decide +kernel)
/-! ApologyUp$Plain -/
set_option maxRecDepth 100000
def RX7 : String := "ApologyUp$Plain"
def TX7 : u_T := fun k => match k with
  | _ => ("ApologyUp$Plain", "n", "I", true)
def tyX7 : Nat → FieldType := fun k => match k with
  | _ => .int
abbrev wsX70 : List Cond := u_ws RX7 TX7 1
theorem nmX7 : ∀ a, a < 1 → ∀ b, b < 1 → a ≠ b → (TX7 a).2.1 ≠ (TX7 b).2.1 := by decide +kernel
theorem tyX7_ok : ∀ k, k < 1 → parseFieldDescriptor (TX7 k).2.2.1 = some (tyX7 k) := by decide +kernel
abbrev cX7_init : ByteArray := prog_12_method_1_code
def yX7_init : MethodName := ⟨RX7, "<init>", "(I)V"⟩
def dkwX7_init_0 : List UInt8 := [42, 183, 0, 1, 42, 27, 181, 0, 7, 177]
abbrev dktX7_init_0 : List UInt8 := dkwX7_init_0 ++ []
theorem dksX7_init_0 : cX7_init.data.toList.drop 0 = dktX7_init_0 := by decide +kernel
theorem dX7_init_0 : decode cX7_init 0 = .ok (.aload_n 0, 1) := dk_42 (dk_at dksX7_init_0 0 rfl rfl)
theorem dX7_init_1 : decode cX7_init 1 = .ok (.invokespecial 1, 3) := dk_183 0 1 (dk_at dksX7_init_0 1 rfl rfl)
theorem dX7_init_4 : decode cX7_init 4 = .ok (.aload_n 0, 1) := dk_42 (dk_at dksX7_init_0 4 rfl rfl)
theorem dX7_init_5 : decode cX7_init 5 = .ok (.iload_n 1, 1) := dk_27 (dk_at dksX7_init_0 5 rfl rfl)
theorem dX7_init_6 : decode cX7_init 6 = .ok (.putfield 7, 3) := dk_181 0 7 (dk_at dksX7_init_0 6 rfl rfl)
theorem dX7_init_9 : decode cX7_init 9 = .ok (.return_, 1) := dk_177 (dk_at dksX7_init_0 9 rfl rfl)
abbrev cX7_of : ByteArray := prog_12_method_2_code
def yX7_of : MethodName := ⟨RX7, "of", "([I)J"⟩
def dkwX7_of_0 : List UInt8 := [42, 180, 0, 7, 133, 173]
abbrev dktX7_of_0 : List UInt8 := dkwX7_of_0 ++ []
theorem dksX7_of_0 : cX7_of.data.toList.drop 0 = dktX7_of_0 := by decide +kernel
theorem dX7_of_0 : decode cX7_of 0 = .ok (.aload_n 0, 1) := dk_42 (dk_at dksX7_of_0 0 rfl rfl)
theorem dX7_of_1 : decode cX7_of 1 = .ok (.getfield 7, 3) := dk_180 0 7 (dk_at dksX7_of_0 1 rfl rfl)
theorem dX7_of_4 : decode cX7_of 4 = .ok (.i2l, 1) := dk_133 (dk_at dksX7_of_0 4 rfl rfl)
theorem dX7_of_5 : decode cX7_of 5 = .ok (.lreturn, 1) := dk_173 (dk_at dksX7_of_0 5 rfl rfl)
theorem q150 : (Jvm.Cond.initialized "ApologyUp$Plain") ∈ lw_all := lw_g (lw_at lw_m1 21 rfl) rfl
theorem q562 : (Jvm.Cond.instantiable "ApologyUp$Plain" (1 : Nat)) ∈ lw_all := lw_g (lw_at lw_m2 193 rfl) rfl
theorem q568 : (Jvm.Cond.instanceMethod ({ cls := "ApologyUp$Plain", name := "<init>", desc := "(I)V" } : Jvm.MethodName)) ∈ lw_all := lw_g (lw_at lw_m2 199 rfl) rfl
theorem q569 : (Jvm.Cond.code ({ cls := "ApologyUp$Plain", name := "<init>", desc := "(I)V" } : Jvm.MethodName) prog_12_method_1_code (2 : Nat) (Option.none : Option Jvm.ClassFile.FieldType)) ∈ lw_all := lw_g (lw_at lw_m2 200 rfl) rfl
theorem q570 : (Jvm.Cond.methodLink "ApologyUp$Plain" (1 : Nat) ({ cls := "java/lang/Record", name := "<init>", desc := "()V" } : Jvm.MethodName)) ∈ lw_all := lw_g (lw_at lw_m2 201 rfl) rfl
theorem q574 : (Jvm.Cond.fieldLink "ApologyUp$Plain" (7 : Nat) "ApologyUp$Plain" "n" "I") ∈ lw_all := lw_g (lw_at lw_m2 205 rfl) rfl
theorem q575 : (Jvm.Cond.laysFinal "ApologyUp$Plain" "ApologyUp$Plain" "n" "I") ∈ lw_all := lw_g (lw_at lw_m2 206 rfl) rfl
theorem q576 : (Jvm.Cond.soleField "ApologyUp$Plain" "n") ∈ lw_all := lw_g (lw_at lw_m2 207 rfl) rfl
theorem q577 : (Jvm.Cond.superclass "ApologyUp$Plain" "java/lang/Record") ∈ lw_all := lw_g (lw_at lw_m2 208 rfl) rfl
theorem q668 : (Jvm.Cond.selects "ApologyUp$Plain" ({ cls := "java/lang/Object", name := "getClass", desc := "()Ljava/lang/Class;" } : Jvm.MethodName) ({ cls := "java/lang/Object", name := "getClass", desc := "()Ljava/lang/Class;" } : Jvm.MethodName)) ∈ lw_all := lw_g (lw_at lw_m3 59 rfl) rfl
theorem q993 : (Jvm.Cond.castable "ApologyUp$Plain" "ApologyUp$Sum") ∈ lw_tbl := lw_at lw_m4 144 rfl
theorem q994 : (Jvm.Cond.selects "ApologyUp$Plain" ({ cls := "ApologyUp$Sum", name := "of", desc := "([I)J" } : Jvm.MethodName) ({ cls := "ApologyUp$Plain", name := "of", desc := "([I)J" } : Jvm.MethodName)) ∈ lw_all := lw_g (lw_at lw_m4 145 rfl) rfl
theorem q995 : (Jvm.Cond.unhidden "ApologyUp$Plain" "of" "([I)J") ∈ lw_tbl := lw_at lw_m4 146 rfl
theorem q996 : (Jvm.Cond.instanceMethod ({ cls := "ApologyUp$Plain", name := "of", desc := "([I)J" } : Jvm.MethodName)) ∈ lw_all := lw_g (lw_at lw_m4 147 rfl) rfl
theorem q997 : (Jvm.Cond.publicMethod ({ cls := "ApologyUp$Plain", name := "of", desc := "([I)J" } : Jvm.MethodName)) ∈ lw_tbl := lw_at lw_m4 148 rfl
theorem q998 : (Jvm.Cond.code ({ cls := "ApologyUp$Plain", name := "of", desc := "([I)J" } : Jvm.MethodName) prog_12_method_2_code (2 : Nat) (Option.some Jvm.ClassFile.FieldType.long)) ∈ lw_all := lw_g (lw_at lw_m4 149 rfl) rfl
theorem q2025 : (Jvm.Cond.castable "ApologyUp$Plain" "java/lang/Object") ∈ lw_tbl := lw_at lw_m8 216 rfl
theorem in_X7 : ∀ w ∈ wsX70, w ∈ lw_all := lw_in wsX70 [575] (by decide +kernel) (by decide +kernel)
/-! ApologyUp$Not -/
set_option maxRecDepth 100000
def RX8 : String := "ApologyUp$Not"
def TX8 : u_T := fun k => match k with
  | _ => ("ApologyUp$Not", "x", "LApologyUp$Asked;", true)
def tyX8 : Nat → FieldType := fun k => match k with
  | _ => .object "ApologyUp$Asked"
abbrev wsX80 : List Cond := u_ws RX8 TX8 1
theorem nmX8 : ∀ a, a < 1 → ∀ b, b < 1 → a ≠ b → (TX8 a).2.1 ≠ (TX8 b).2.1 := by decide +kernel
theorem tyX8_ok : ∀ k, k < 1 → parseFieldDescriptor (TX8 k).2.2.1 = some (tyX8 k) := by decide +kernel
abbrev cX8_init : ByteArray := prog_11_method_1_code
def yX8_init : MethodName := ⟨RX8, "<init>", "(LApologyUp$Asked;)V"⟩
def dkwX8_init_0 : List UInt8 := [42, 183, 0, 1, 42, 43, 181, 0, 7, 177]
abbrev dktX8_init_0 : List UInt8 := dkwX8_init_0 ++ []
theorem dksX8_init_0 : cX8_init.data.toList.drop 0 = dktX8_init_0 := by decide +kernel
theorem dX8_init_0 : decode cX8_init 0 = .ok (.aload_n 0, 1) := dk_42 (dk_at dksX8_init_0 0 rfl rfl)
theorem dX8_init_1 : decode cX8_init 1 = .ok (.invokespecial 1, 3) := dk_183 0 1 (dk_at dksX8_init_0 1 rfl rfl)
theorem dX8_init_4 : decode cX8_init 4 = .ok (.aload_n 0, 1) := dk_42 (dk_at dksX8_init_0 4 rfl rfl)
theorem dX8_init_5 : decode cX8_init 5 = .ok (.aload_n 1, 1) := dk_43 (dk_at dksX8_init_0 5 rfl rfl)
theorem dX8_init_6 : decode cX8_init 6 = .ok (.putfield 7, 3) := dk_181 0 7 (dk_at dksX8_init_0 6 rfl rfl)
theorem dX8_init_9 : decode cX8_init 9 = .ok (.return_, 1) := dk_177 (dk_at dksX8_init_0 9 rfl rfl)
abbrev cX8_is : ByteArray := prog_11_method_2_code
def yX8_is : MethodName := ⟨RX8, "is", "([I)Z"⟩
def dkwX8_is_0 : List UInt8 := [42, 180, 0, 7, 43, 185, 0, 13, 2, 0, 154, 0, 7, 4, 167, 0, 4, 3, 172]
abbrev dktX8_is_0 : List UInt8 := dkwX8_is_0 ++ []
theorem dksX8_is_0 : cX8_is.data.toList.drop 0 = dktX8_is_0 := by decide +kernel
theorem dX8_is_0 : decode cX8_is 0 = .ok (.aload_n 0, 1) := dk_42 (dk_at dksX8_is_0 0 rfl rfl)
theorem dX8_is_1 : decode cX8_is 1 = .ok (.getfield 7, 3) := dk_180 0 7 (dk_at dksX8_is_0 1 rfl rfl)
theorem dX8_is_4 : decode cX8_is 4 = .ok (.aload_n 1, 1) := dk_43 (dk_at dksX8_is_0 4 rfl rfl)
theorem dX8_is_5 : decode cX8_is 5 = .ok (.invokeinterface 13 2, 5) := by decide +kernel
theorem dX8_is_10 : decode cX8_is 10 = .ok (.ifCond .ne 7, 3) := dk_154 0 7 (dk_at dksX8_is_0 10 rfl rfl)
theorem dX8_is_13 : decode cX8_is 13 = .ok (.iconst 1, 1) := dk_4 (dk_at dksX8_is_0 13 rfl rfl)
theorem dX8_is_14 : decode cX8_is 14 = .ok (.goto 4, 3) := dk_167 0 4 (dk_at dksX8_is_0 14 rfl rfl)
theorem dX8_is_17 : decode cX8_is 17 = .ok (.iconst 0, 1) := dk_3 (dk_at dksX8_is_0 17 rfl rfl)
theorem dX8_is_18 : decode cX8_is 18 = .ok (.ireturn, 1) := dk_172 (dk_at dksX8_is_0 18 rfl rfl)
theorem q151 : (Jvm.Cond.initialized "ApologyUp$Not") ∈ lw_all := lw_g (lw_at lw_m1 22 rfl) rfl
theorem q601 : (Jvm.Cond.instantiable "ApologyUp$Not" (1 : Nat)) ∈ lw_all := lw_g (lw_at lw_m2 232 rfl) rfl
theorem q603 : (Jvm.Cond.instanceMethod ({ cls := "ApologyUp$Not", name := "<init>", desc := "(LApologyUp$Asked;)V" } : Jvm.MethodName)) ∈ lw_all := lw_g (lw_at lw_m2 234 rfl) rfl
theorem q604 : (Jvm.Cond.code ({ cls := "ApologyUp$Not", name := "<init>", desc := "(LApologyUp$Asked;)V" } : Jvm.MethodName) prog_11_method_1_code (2 : Nat) (Option.none : Option Jvm.ClassFile.FieldType)) ∈ lw_all := lw_g (lw_at lw_m2 235 rfl) rfl
theorem q605 : (Jvm.Cond.methodLink "ApologyUp$Not" (1 : Nat) ({ cls := "java/lang/Record", name := "<init>", desc := "()V" } : Jvm.MethodName)) ∈ lw_all := lw_g (lw_at lw_m2 236 rfl) rfl
theorem q606 : (Jvm.Cond.fieldLink "ApologyUp$Not" (7 : Nat) "ApologyUp$Not" "x" "LApologyUp$Asked;") ∈ lw_all := lw_g (lw_at lw_m2 237 rfl) rfl
theorem q607 : (Jvm.Cond.laysFinal "ApologyUp$Not" "ApologyUp$Not" "x" "LApologyUp$Asked;") ∈ lw_all := lw_g (lw_at lw_m2 238 rfl) rfl
theorem q608 : (Jvm.Cond.soleField "ApologyUp$Not" "x") ∈ lw_all := lw_g (lw_at lw_m2 239 rfl) rfl
theorem q609 : (Jvm.Cond.superclass "ApologyUp$Not" "java/lang/Record") ∈ lw_all := lw_g (lw_at lw_m3 0 rfl) rfl
theorem q667 : (Jvm.Cond.selects "ApologyUp$Not" ({ cls := "java/lang/Object", name := "getClass", desc := "()Ljava/lang/Class;" } : Jvm.MethodName) ({ cls := "java/lang/Object", name := "getClass", desc := "()Ljava/lang/Class;" } : Jvm.MethodName)) ∈ lw_all := lw_g (lw_at lw_m3 58 rfl) rfl
theorem q1008 : (Jvm.Cond.castable "ApologyUp$Not" "ApologyUp$Asked") ∈ lw_tbl := lw_at lw_m4 159 rfl
theorem q1009 : (Jvm.Cond.selects "ApologyUp$Not" ({ cls := "ApologyUp$Asked", name := "is", desc := "([I)Z" } : Jvm.MethodName) ({ cls := "ApologyUp$Not", name := "is", desc := "([I)Z" } : Jvm.MethodName)) ∈ lw_all := lw_g (lw_at lw_m4 160 rfl) rfl
theorem q1010 : (Jvm.Cond.unhidden "ApologyUp$Not" "is" "([I)Z") ∈ lw_tbl := lw_at lw_m4 161 rfl
theorem q1011 : (Jvm.Cond.instanceMethod ({ cls := "ApologyUp$Not", name := "is", desc := "([I)Z" } : Jvm.MethodName)) ∈ lw_all := lw_g (lw_at lw_m4 162 rfl) rfl
theorem q1012 : (Jvm.Cond.publicMethod ({ cls := "ApologyUp$Not", name := "is", desc := "([I)Z" } : Jvm.MethodName)) ∈ lw_tbl := lw_at lw_m4 163 rfl
theorem q1013 : (Jvm.Cond.code ({ cls := "ApologyUp$Not", name := "is", desc := "([I)Z" } : Jvm.MethodName) prog_11_method_2_code (2 : Nat) (Option.some Jvm.ClassFile.FieldType.boolean)) ∈ lw_all := lw_g (lw_at lw_m4 164 rfl) rfl
theorem q1014 : (Jvm.Cond.interfaceEntry "ApologyUp$Not" (13 : Nat)) ∈ lw_tbl := lw_at lw_m4 165 rfl
theorem q1015 : (Jvm.Cond.methodLink "ApologyUp$Not" (13 : Nat) ({ cls := "ApologyUp$Asked", name := "is", desc := "([I)Z" } : Jvm.MethodName)) ∈ lw_all := lw_g (lw_at lw_m4 166 rfl) rfl
theorem q2026 : (Jvm.Cond.castable "ApologyUp$Not" "java/lang/Object") ∈ lw_tbl := lw_at lw_m8 217 rfl
theorem in_X8 : ∀ w ∈ wsX80, w ∈ lw_all := lw_in wsX80 [607] (by decide +kernel) (by decide +kernel)
/-! ApologyUp$Compared -/
set_option maxRecDepth 100000
def RX9 : String := "ApologyUp$Compared"
def TX9 : u_T := fun k => match k with
  | 0 => ("ApologyUp$Compared", "sign", "I", true)
  | 1 => ("ApologyUp$Compared", "a", "LApologyUp$Sum;", true)
  | _ => ("ApologyUp$Compared", "b", "LApologyUp$Sum;", true)
def tyX9 : Nat → FieldType := fun k => match k with
  | 0 => .int
  | 1 => .object "ApologyUp$Sum"
  | _ => .object "ApologyUp$Sum"
abbrev wsX90 : List Cond := u_ws RX9 TX9 3
theorem nmX9 : ∀ a, a < 3 → ∀ b, b < 3 → a ≠ b → (TX9 a).2.1 ≠ (TX9 b).2.1 := by decide +kernel
theorem tyX9_ok : ∀ k, k < 3 → parseFieldDescriptor (TX9 k).2.2.1 = some (tyX9 k) := by decide +kernel
abbrev cX9_init : ByteArray := prog_5_method_1_code
def yX9_init : MethodName := ⟨RX9, "<init>", "(ILApologyUp$Sum;LApologyUp$Sum;)V"⟩
def dkwX9_init_0 : List UInt8 := [42, 183, 0, 1, 42, 27, 181, 0, 7, 42, 44, 181, 0, 13, 42, 45, 181, 0, 17, 177]
abbrev dktX9_init_0 : List UInt8 := dkwX9_init_0 ++ []
theorem dksX9_init_0 : cX9_init.data.toList.drop 0 = dktX9_init_0 := by decide +kernel
theorem dX9_init_0 : decode cX9_init 0 = .ok (.aload_n 0, 1) := dk_42 (dk_at dksX9_init_0 0 rfl rfl)
theorem dX9_init_1 : decode cX9_init 1 = .ok (.invokespecial 1, 3) := dk_183 0 1 (dk_at dksX9_init_0 1 rfl rfl)
theorem dX9_init_4 : decode cX9_init 4 = .ok (.aload_n 0, 1) := dk_42 (dk_at dksX9_init_0 4 rfl rfl)
theorem dX9_init_5 : decode cX9_init 5 = .ok (.iload_n 1, 1) := dk_27 (dk_at dksX9_init_0 5 rfl rfl)
theorem dX9_init_6 : decode cX9_init 6 = .ok (.putfield 7, 3) := dk_181 0 7 (dk_at dksX9_init_0 6 rfl rfl)
theorem dX9_init_9 : decode cX9_init 9 = .ok (.aload_n 0, 1) := dk_42 (dk_at dksX9_init_0 9 rfl rfl)
theorem dX9_init_10 : decode cX9_init 10 = .ok (.aload_n 2, 1) := dk_44 (dk_at dksX9_init_0 10 rfl rfl)
theorem dX9_init_11 : decode cX9_init 11 = .ok (.putfield 13, 3) := dk_181 0 13 (dk_at dksX9_init_0 11 rfl rfl)
theorem dX9_init_14 : decode cX9_init 14 = .ok (.aload_n 0, 1) := dk_42 (dk_at dksX9_init_0 14 rfl rfl)
theorem dX9_init_15 : decode cX9_init 15 = .ok (.aload_n 3, 1) := dk_45 (dk_at dksX9_init_0 15 rfl rfl)
theorem dX9_init_16 : decode cX9_init 16 = .ok (.putfield 17, 3) := dk_181 0 17 (dk_at dksX9_init_0 16 rfl rfl)
theorem dX9_init_19 : decode cX9_init 19 = .ok (.return_, 1) := dk_177 (dk_at dksX9_init_0 19 rfl rfl)
abbrev cX9_is : ByteArray := prog_5_method_2_code
def yX9_is : MethodName := ⟨RX9, "is", "([I)Z"⟩
def dkwX9_is_5 : List UInt8 := [32, 9, 148, 157, 0, 7, 4, 167, 0, 4, 3, 172, 32, 9, 148, 155, 0, 7, 4, 167, 0, 4, 3, 172]
abbrev dktX9_is_5 : List UInt8 := dkwX9_is_5 ++ []
def dkwX9_is_4 : List UInt8 := [32, 9, 148, 154, 0, 7, 4, 167, 0, 4, 3, 172, 32, 9, 148, 153, 0, 7, 4, 167, 0, 4, 3, 172]
abbrev dktX9_is_4 : List UInt8 := dkwX9_is_4 ++ dktX9_is_5
def dkwX9_is_3 : List UInt8 := [32, 9, 148, 156, 0, 7, 4, 167, 0, 4, 3, 172, 32, 9, 148, 158, 0, 7, 4, 167, 0, 4, 3, 172]
abbrev dktX9_is_3 : List UInt8 := dkwX9_is_3 ++ dktX9_is_4
def dkwX9_is_2 : List UInt8 := [171, 0, 0, 0, 0, 110, 0, 0, 0, 5, 0, 0, 0, 35, 0, 0, 0, 86, 0, 0, 0, 60, 0, 0, 0, 50, 0, 0, 0, 61, 0, 0, 0, 74, 0, 0, 0, 62, 0, 0, 0, 62, 0, 0, 1, 47, 0, 0, 0, 98]
abbrev dktX9_is_2 : List UInt8 := dkwX9_is_2 ++ dktX9_is_3
def dkwX9_is_1 : List UInt8 := [180, 0, 7]
abbrev dktX9_is_1 : List UInt8 := dkwX9_is_1 ++ dktX9_is_2
def dkwX9_is_0 : List UInt8 := [42, 180, 0, 13, 43, 185, 0, 20, 2, 0, 42, 180, 0, 17, 43, 185, 0, 20, 2, 0, 101, 65, 42]
abbrev dktX9_is_0 : List UInt8 := dkwX9_is_0 ++ dktX9_is_1
theorem dksX9_is_0 : cX9_is.data.toList.drop 0 = dktX9_is_0 := by decide +kernel
theorem dksX9_is_1 : cX9_is.data.toList.drop 23 = dktX9_is_1 := dk_seg dksX9_is_0 23 rfl rfl
theorem dksX9_is_2 : cX9_is.data.toList.drop 26 = dktX9_is_2 := dk_seg dksX9_is_1 3 rfl rfl
theorem dksX9_is_3 : cX9_is.data.toList.drop 76 = dktX9_is_3 := dk_seg dksX9_is_2 50 rfl rfl
theorem dksX9_is_4 : cX9_is.data.toList.drop 100 = dktX9_is_4 := dk_seg dksX9_is_3 24 rfl rfl
theorem dksX9_is_5 : cX9_is.data.toList.drop 124 = dktX9_is_5 := dk_seg dksX9_is_4 24 rfl rfl
theorem dX9_is_0 : decode cX9_is 0 = .ok (.aload_n 0, 1) := dk_42 (dk_at dksX9_is_0 0 rfl rfl)
theorem dX9_is_1 : decode cX9_is 1 = .ok (.getfield 13, 3) := dk_180 0 13 (dk_at dksX9_is_0 1 rfl rfl)
theorem dX9_is_4 : decode cX9_is 4 = .ok (.aload_n 1, 1) := dk_43 (dk_at dksX9_is_0 4 rfl rfl)
theorem dX9_is_5 : decode cX9_is 5 = .ok (.invokeinterface 20 2, 5) := by decide +kernel
theorem dX9_is_10 : decode cX9_is 10 = .ok (.aload_n 0, 1) := dk_42 (dk_at dksX9_is_0 10 rfl rfl)
theorem dX9_is_11 : decode cX9_is 11 = .ok (.getfield 17, 3) := dk_180 0 17 (dk_at dksX9_is_0 11 rfl rfl)
theorem dX9_is_14 : decode cX9_is 14 = .ok (.aload_n 1, 1) := dk_43 (dk_at dksX9_is_0 14 rfl rfl)
theorem dX9_is_15 : decode cX9_is 15 = .ok (.invokeinterface 20 2, 5) := by decide +kernel
theorem dX9_is_20 : decode cX9_is 20 = .ok (.lsub, 1) := dk_101 (dk_at dksX9_is_0 20 rfl rfl)
theorem dX9_is_21 : decode cX9_is 21 = .ok (.lstore_n 2, 1) := dk_65 (dk_at dksX9_is_0 21 rfl rfl)
theorem dX9_is_22 : decode cX9_is 22 = .ok (.aload_n 0, 1) := dk_42 (dk_at dksX9_is_0 22 rfl rfl)
theorem dX9_is_23 : decode cX9_is 23 = .ok (.getfield 7, 3) := dk_180 0 7 (dk_at dksX9_is_1 0 rfl rfl)
theorem dX9_is_26 : decode cX9_is 26 = .ok (.lookupswitch 110 #[(35, 86), (60, 50), (61, 74), (62, 62), (303, 98)], 50) := by decide +kernel
theorem dX9_is_76 : decode cX9_is 76 = .ok (.lload_n 2, 1) := dk_32 (dk_at dksX9_is_3 0 rfl rfl)
theorem dX9_is_77 : decode cX9_is 77 = .ok (.lconst 0, 1) := dk_9 (dk_at dksX9_is_3 1 rfl rfl)
theorem dX9_is_78 : decode cX9_is 78 = .ok (.lcmp, 1) := dk_148 (dk_at dksX9_is_3 2 rfl rfl)
theorem dX9_is_79 : decode cX9_is 79 = .ok (.ifCond .ge 7, 3) := dk_156 0 7 (dk_at dksX9_is_3 3 rfl rfl)
theorem dX9_is_82 : decode cX9_is 82 = .ok (.iconst 1, 1) := dk_4 (dk_at dksX9_is_3 6 rfl rfl)
theorem dX9_is_83 : decode cX9_is 83 = .ok (.goto 4, 3) := dk_167 0 4 (dk_at dksX9_is_3 7 rfl rfl)
theorem dX9_is_86 : decode cX9_is 86 = .ok (.iconst 0, 1) := dk_3 (dk_at dksX9_is_3 10 rfl rfl)
theorem dX9_is_87 : decode cX9_is 87 = .ok (.ireturn, 1) := dk_172 (dk_at dksX9_is_3 11 rfl rfl)
theorem dX9_is_88 : decode cX9_is 88 = .ok (.lload_n 2, 1) := dk_32 (dk_at dksX9_is_3 12 rfl rfl)
theorem dX9_is_89 : decode cX9_is 89 = .ok (.lconst 0, 1) := dk_9 (dk_at dksX9_is_3 13 rfl rfl)
theorem dX9_is_90 : decode cX9_is 90 = .ok (.lcmp, 1) := dk_148 (dk_at dksX9_is_3 14 rfl rfl)
theorem dX9_is_91 : decode cX9_is 91 = .ok (.ifCond .le 7, 3) := dk_158 0 7 (dk_at dksX9_is_3 15 rfl rfl)
theorem dX9_is_94 : decode cX9_is 94 = .ok (.iconst 1, 1) := dk_4 (dk_at dksX9_is_3 18 rfl rfl)
theorem dX9_is_95 : decode cX9_is 95 = .ok (.goto 4, 3) := dk_167 0 4 (dk_at dksX9_is_3 19 rfl rfl)
theorem dX9_is_98 : decode cX9_is 98 = .ok (.iconst 0, 1) := dk_3 (dk_at dksX9_is_3 22 rfl rfl)
theorem dX9_is_99 : decode cX9_is 99 = .ok (.ireturn, 1) := dk_172 (dk_at dksX9_is_3 23 rfl rfl)
theorem dX9_is_100 : decode cX9_is 100 = .ok (.lload_n 2, 1) := dk_32 (dk_at dksX9_is_4 0 rfl rfl)
theorem dX9_is_101 : decode cX9_is 101 = .ok (.lconst 0, 1) := dk_9 (dk_at dksX9_is_4 1 rfl rfl)
theorem dX9_is_102 : decode cX9_is 102 = .ok (.lcmp, 1) := dk_148 (dk_at dksX9_is_4 2 rfl rfl)
theorem dX9_is_103 : decode cX9_is 103 = .ok (.ifCond .ne 7, 3) := dk_154 0 7 (dk_at dksX9_is_4 3 rfl rfl)
theorem dX9_is_106 : decode cX9_is 106 = .ok (.iconst 1, 1) := dk_4 (dk_at dksX9_is_4 6 rfl rfl)
theorem dX9_is_107 : decode cX9_is 107 = .ok (.goto 4, 3) := dk_167 0 4 (dk_at dksX9_is_4 7 rfl rfl)
theorem dX9_is_110 : decode cX9_is 110 = .ok (.iconst 0, 1) := dk_3 (dk_at dksX9_is_4 10 rfl rfl)
theorem dX9_is_111 : decode cX9_is 111 = .ok (.ireturn, 1) := dk_172 (dk_at dksX9_is_4 11 rfl rfl)
theorem dX9_is_112 : decode cX9_is 112 = .ok (.lload_n 2, 1) := dk_32 (dk_at dksX9_is_4 12 rfl rfl)
theorem dX9_is_113 : decode cX9_is 113 = .ok (.lconst 0, 1) := dk_9 (dk_at dksX9_is_4 13 rfl rfl)
theorem dX9_is_114 : decode cX9_is 114 = .ok (.lcmp, 1) := dk_148 (dk_at dksX9_is_4 14 rfl rfl)
theorem dX9_is_115 : decode cX9_is 115 = .ok (.ifCond .eq 7, 3) := dk_153 0 7 (dk_at dksX9_is_4 15 rfl rfl)
theorem dX9_is_118 : decode cX9_is 118 = .ok (.iconst 1, 1) := dk_4 (dk_at dksX9_is_4 18 rfl rfl)
theorem dX9_is_119 : decode cX9_is 119 = .ok (.goto 4, 3) := dk_167 0 4 (dk_at dksX9_is_4 19 rfl rfl)
theorem dX9_is_122 : decode cX9_is 122 = .ok (.iconst 0, 1) := dk_3 (dk_at dksX9_is_4 22 rfl rfl)
theorem dX9_is_123 : decode cX9_is 123 = .ok (.ireturn, 1) := dk_172 (dk_at dksX9_is_4 23 rfl rfl)
theorem dX9_is_124 : decode cX9_is 124 = .ok (.lload_n 2, 1) := dk_32 (dk_at dksX9_is_5 0 rfl rfl)
theorem dX9_is_125 : decode cX9_is 125 = .ok (.lconst 0, 1) := dk_9 (dk_at dksX9_is_5 1 rfl rfl)
theorem dX9_is_126 : decode cX9_is 126 = .ok (.lcmp, 1) := dk_148 (dk_at dksX9_is_5 2 rfl rfl)
theorem dX9_is_127 : decode cX9_is 127 = .ok (.ifCond .gt 7, 3) := dk_157 0 7 (dk_at dksX9_is_5 3 rfl rfl)
theorem dX9_is_130 : decode cX9_is 130 = .ok (.iconst 1, 1) := dk_4 (dk_at dksX9_is_5 6 rfl rfl)
theorem dX9_is_131 : decode cX9_is 131 = .ok (.goto 4, 3) := dk_167 0 4 (dk_at dksX9_is_5 7 rfl rfl)
theorem dX9_is_134 : decode cX9_is 134 = .ok (.iconst 0, 1) := dk_3 (dk_at dksX9_is_5 10 rfl rfl)
theorem dX9_is_135 : decode cX9_is 135 = .ok (.ireturn, 1) := dk_172 (dk_at dksX9_is_5 11 rfl rfl)
theorem dX9_is_136 : decode cX9_is 136 = .ok (.lload_n 2, 1) := dk_32 (dk_at dksX9_is_5 12 rfl rfl)
theorem dX9_is_137 : decode cX9_is 137 = .ok (.lconst 0, 1) := dk_9 (dk_at dksX9_is_5 13 rfl rfl)
theorem dX9_is_138 : decode cX9_is 138 = .ok (.lcmp, 1) := dk_148 (dk_at dksX9_is_5 14 rfl rfl)
theorem dX9_is_139 : decode cX9_is 139 = .ok (.ifCond .lt 7, 3) := dk_155 0 7 (dk_at dksX9_is_5 15 rfl rfl)
theorem dX9_is_142 : decode cX9_is 142 = .ok (.iconst 1, 1) := dk_4 (dk_at dksX9_is_5 18 rfl rfl)
theorem dX9_is_143 : decode cX9_is 143 = .ok (.goto 4, 3) := dk_167 0 4 (dk_at dksX9_is_5 19 rfl rfl)
theorem dX9_is_146 : decode cX9_is 146 = .ok (.iconst 0, 1) := dk_3 (dk_at dksX9_is_5 22 rfl rfl)
theorem dX9_is_147 : decode cX9_is 147 = .ok (.ireturn, 1) := dk_172 (dk_at dksX9_is_5 23 rfl rfl)
theorem q152 : (Jvm.Cond.initialized "ApologyUp$Compared") ∈ lw_all := lw_g (lw_at lw_m1 23 rfl) rfl
theorem q611 : (Jvm.Cond.instantiable "ApologyUp$Compared" (3 : Nat)) ∈ lw_all := lw_g (lw_at lw_m3 2 rfl) rfl
theorem q613 : (Jvm.Cond.instanceMethod ({ cls := "ApologyUp$Compared", name := "<init>", desc := "(ILApologyUp$Sum;LApologyUp$Sum;)V" } : Jvm.MethodName)) ∈ lw_all := lw_g (lw_at lw_m3 4 rfl) rfl
theorem q614 : (Jvm.Cond.code ({ cls := "ApologyUp$Compared", name := "<init>", desc := "(ILApologyUp$Sum;LApologyUp$Sum;)V" } : Jvm.MethodName) prog_5_method_1_code (4 : Nat) (Option.none : Option Jvm.ClassFile.FieldType)) ∈ lw_all := lw_g (lw_at lw_m3 5 rfl) rfl
theorem q615 : (Jvm.Cond.methodLink "ApologyUp$Compared" (1 : Nat) ({ cls := "java/lang/Record", name := "<init>", desc := "()V" } : Jvm.MethodName)) ∈ lw_all := lw_g (lw_at lw_m3 6 rfl) rfl
theorem q616 : (Jvm.Cond.fieldLink "ApologyUp$Compared" (7 : Nat) "ApologyUp$Compared" "sign" "I") ∈ lw_all := lw_g (lw_at lw_m3 7 rfl) rfl
theorem q617 : (Jvm.Cond.fieldLink "ApologyUp$Compared" (13 : Nat) "ApologyUp$Compared" "a" "LApologyUp$Sum;") ∈ lw_all := lw_g (lw_at lw_m3 8 rfl) rfl
theorem q618 : (Jvm.Cond.fieldLink "ApologyUp$Compared" (17 : Nat) "ApologyUp$Compared" "b" "LApologyUp$Sum;") ∈ lw_all := lw_g (lw_at lw_m3 9 rfl) rfl
theorem q619 : (Jvm.Cond.laysFinal "ApologyUp$Compared" "ApologyUp$Compared" "sign" "I") ∈ lw_all := lw_g (lw_at lw_m3 10 rfl) rfl
theorem q620 : (Jvm.Cond.soleField "ApologyUp$Compared" "sign") ∈ lw_all := lw_g (lw_at lw_m3 11 rfl) rfl
theorem q621 : (Jvm.Cond.laysFinal "ApologyUp$Compared" "ApologyUp$Compared" "a" "LApologyUp$Sum;") ∈ lw_all := lw_g (lw_at lw_m3 12 rfl) rfl
theorem q622 : (Jvm.Cond.soleField "ApologyUp$Compared" "a") ∈ lw_all := lw_g (lw_at lw_m3 13 rfl) rfl
theorem q623 : (Jvm.Cond.laysFinal "ApologyUp$Compared" "ApologyUp$Compared" "b" "LApologyUp$Sum;") ∈ lw_all := lw_g (lw_at lw_m3 14 rfl) rfl
theorem q624 : (Jvm.Cond.soleField "ApologyUp$Compared" "b") ∈ lw_all := lw_g (lw_at lw_m3 15 rfl) rfl
theorem q625 : (Jvm.Cond.superclass "ApologyUp$Compared" "java/lang/Record") ∈ lw_all := lw_g (lw_at lw_m3 16 rfl) rfl
theorem q661 : (Jvm.Cond.selects "ApologyUp$Compared" ({ cls := "java/lang/Object", name := "getClass", desc := "()Ljava/lang/Class;" } : Jvm.MethodName) ({ cls := "java/lang/Object", name := "getClass", desc := "()Ljava/lang/Class;" } : Jvm.MethodName)) ∈ lw_all := lw_g (lw_at lw_m3 52 rfl) rfl
theorem q971 : (Jvm.Cond.castable "ApologyUp$Compared" "ApologyUp$Asked") ∈ lw_tbl := lw_at lw_m4 122 rfl
theorem q972 : (Jvm.Cond.selects "ApologyUp$Compared" ({ cls := "ApologyUp$Asked", name := "is", desc := "([I)Z" } : Jvm.MethodName) ({ cls := "ApologyUp$Compared", name := "is", desc := "([I)Z" } : Jvm.MethodName)) ∈ lw_all := lw_g (lw_at lw_m4 123 rfl) rfl
theorem q973 : (Jvm.Cond.unhidden "ApologyUp$Compared" "is" "([I)Z") ∈ lw_tbl := lw_at lw_m4 124 rfl
theorem q974 : (Jvm.Cond.instanceMethod ({ cls := "ApologyUp$Compared", name := "is", desc := "([I)Z" } : Jvm.MethodName)) ∈ lw_all := lw_g (lw_at lw_m4 125 rfl) rfl
theorem q975 : (Jvm.Cond.publicMethod ({ cls := "ApologyUp$Compared", name := "is", desc := "([I)Z" } : Jvm.MethodName)) ∈ lw_tbl := lw_at lw_m4 126 rfl
theorem q976 : (Jvm.Cond.code ({ cls := "ApologyUp$Compared", name := "is", desc := "([I)Z" } : Jvm.MethodName) prog_5_method_2_code (4 : Nat) (Option.some Jvm.ClassFile.FieldType.boolean)) ∈ lw_all := lw_g (lw_at lw_m4 127 rfl) rfl
theorem q977 : (Jvm.Cond.interfaceEntry "ApologyUp$Compared" (20 : Nat)) ∈ lw_tbl := lw_at lw_m4 128 rfl
theorem q978 : (Jvm.Cond.methodLink "ApologyUp$Compared" (20 : Nat) ({ cls := "ApologyUp$Sum", name := "of", desc := "([I)J" } : Jvm.MethodName)) ∈ lw_all := lw_g (lw_at lw_m4 129 rfl) rfl
theorem q2027 : (Jvm.Cond.castable "ApologyUp$Compared" "java/lang/Object") ∈ lw_tbl := lw_at lw_m8 218 rfl
theorem in_X9 : ∀ w ∈ wsX90, w ∈ lw_all := lw_in wsX90 [619, 621, 623] (by decide +kernel) (by decide +kernel)
/-! ApologyUp$All -/
set_option maxRecDepth 100000
def RX10 : String := "ApologyUp$All"
def TX10 : u_T := fun k => match k with
  | 0 => ("ApologyUp$All", "and", "Z", true)
  | _ => ("ApologyUp$All", "of", "Ljava/util/ArrayList;", true)
def tyX10 : Nat → FieldType := fun k => match k with
  | 0 => .boolean
  | _ => .object "java/util/ArrayList"
abbrev wsX100 : List Cond := u_ws RX10 TX10 2
theorem nmX10 : ∀ a, a < 2 → ∀ b, b < 2 → a ≠ b → (TX10 a).2.1 ≠ (TX10 b).2.1 := by decide +kernel
theorem tyX10_ok : ∀ k, k < 2 → parseFieldDescriptor (TX10 k).2.2.1 = some (tyX10 k) := by decide +kernel
abbrev cX10_init : ByteArray := prog_2_method_1_code
def yX10_init : MethodName := ⟨RX10, "<init>", "(ZLjava/util/ArrayList;)V"⟩
def dkwX10_init_0 : List UInt8 := [42, 183, 0, 1, 42, 27, 181, 0, 7, 42, 44, 181, 0, 13, 177]
abbrev dktX10_init_0 : List UInt8 := dkwX10_init_0 ++ []
theorem dksX10_init_0 : cX10_init.data.toList.drop 0 = dktX10_init_0 := by decide +kernel
theorem dX10_init_0 : decode cX10_init 0 = .ok (.aload_n 0, 1) := dk_42 (dk_at dksX10_init_0 0 rfl rfl)
theorem dX10_init_1 : decode cX10_init 1 = .ok (.invokespecial 1, 3) := dk_183 0 1 (dk_at dksX10_init_0 1 rfl rfl)
theorem dX10_init_4 : decode cX10_init 4 = .ok (.aload_n 0, 1) := dk_42 (dk_at dksX10_init_0 4 rfl rfl)
theorem dX10_init_5 : decode cX10_init 5 = .ok (.iload_n 1, 1) := dk_27 (dk_at dksX10_init_0 5 rfl rfl)
theorem dX10_init_6 : decode cX10_init 6 = .ok (.putfield 7, 3) := dk_181 0 7 (dk_at dksX10_init_0 6 rfl rfl)
theorem dX10_init_9 : decode cX10_init 9 = .ok (.aload_n 0, 1) := dk_42 (dk_at dksX10_init_0 9 rfl rfl)
theorem dX10_init_10 : decode cX10_init 10 = .ok (.aload_n 2, 1) := dk_44 (dk_at dksX10_init_0 10 rfl rfl)
theorem dX10_init_11 : decode cX10_init 11 = .ok (.putfield 13, 3) := dk_181 0 13 (dk_at dksX10_init_0 11 rfl rfl)
theorem dX10_init_14 : decode cX10_init 14 = .ok (.return_, 1) := dk_177 (dk_at dksX10_init_0 14 rfl rfl)
abbrev cX10_is : ByteArray := prog_2_method_2_code
def yX10_is : MethodName := ⟨RX10, "is", "([I)Z"⟩
def dkwX10_is_3 : List UInt8 := [167, 0, 16, 3, 167, 0, 12, 28, 158, 0, 7, 4, 167, 0, 4, 3, 172]
abbrev dktX10_is_3 : List UInt8 := dkwX10_is_3 ++ []
def dkwX10_is_2 : List UInt8 := [167, 255, 214, 42, 180, 0, 7, 153, 0, 22, 28, 42, 180, 0, 13, 182, 0, 17, 160, 0, 7, 4]
abbrev dktX10_is_2 : List UInt8 := dkwX10_is_2 ++ dktX10_is_3
def dkwX10_is_1 : List UInt8 := [192, 0, 27, 43, 185, 0, 29, 2, 0, 153, 0, 7, 4, 167, 0, 4, 3, 96, 61, 132, 3, 1]
abbrev dktX10_is_1 : List UInt8 := dkwX10_is_1 ++ dktX10_is_2
def dkwX10_is_0 : List UInt8 := [3, 61, 3, 62, 29, 42, 180, 0, 13, 182, 0, 17, 162, 0, 37, 28, 42, 180, 0, 13, 29, 182, 0, 23]
abbrev dktX10_is_0 : List UInt8 := dkwX10_is_0 ++ dktX10_is_1
theorem dksX10_is_0 : cX10_is.data.toList.drop 0 = dktX10_is_0 := by decide +kernel
theorem dksX10_is_1 : cX10_is.data.toList.drop 24 = dktX10_is_1 := dk_seg dksX10_is_0 24 rfl rfl
theorem dksX10_is_2 : cX10_is.data.toList.drop 46 = dktX10_is_2 := dk_seg dksX10_is_1 22 rfl rfl
theorem dksX10_is_3 : cX10_is.data.toList.drop 68 = dktX10_is_3 := dk_seg dksX10_is_2 22 rfl rfl
theorem dX10_is_0 : decode cX10_is 0 = .ok (.iconst 0, 1) := dk_3 (dk_at dksX10_is_0 0 rfl rfl)
theorem dX10_is_1 : decode cX10_is 1 = .ok (.istore_n 2, 1) := dk_61 (dk_at dksX10_is_0 1 rfl rfl)
theorem dX10_is_2 : decode cX10_is 2 = .ok (.iconst 0, 1) := dk_3 (dk_at dksX10_is_0 2 rfl rfl)
theorem dX10_is_3 : decode cX10_is 3 = .ok (.istore_n 3, 1) := dk_62 (dk_at dksX10_is_0 3 rfl rfl)
theorem dX10_is_4 : decode cX10_is 4 = .ok (.iload_n 3, 1) := dk_29 (dk_at dksX10_is_0 4 rfl rfl)
theorem dX10_is_5 : decode cX10_is 5 = .ok (.aload_n 0, 1) := dk_42 (dk_at dksX10_is_0 5 rfl rfl)
theorem dX10_is_6 : decode cX10_is 6 = .ok (.getfield 13, 3) := dk_180 0 13 (dk_at dksX10_is_0 6 rfl rfl)
theorem dX10_is_9 : decode cX10_is 9 = .ok (.invokevirtual 17, 3) := dk_182 0 17 (dk_at dksX10_is_0 9 rfl rfl)
theorem dX10_is_12 : decode cX10_is 12 = .ok (.if_icmp .ge 37, 3) := dk_162 0 37 (dk_at dksX10_is_0 12 rfl rfl)
theorem dX10_is_15 : decode cX10_is 15 = .ok (.iload_n 2, 1) := dk_28 (dk_at dksX10_is_0 15 rfl rfl)
theorem dX10_is_16 : decode cX10_is 16 = .ok (.aload_n 0, 1) := dk_42 (dk_at dksX10_is_0 16 rfl rfl)
theorem dX10_is_17 : decode cX10_is 17 = .ok (.getfield 13, 3) := dk_180 0 13 (dk_at dksX10_is_0 17 rfl rfl)
theorem dX10_is_20 : decode cX10_is 20 = .ok (.iload_n 3, 1) := dk_29 (dk_at dksX10_is_0 20 rfl rfl)
theorem dX10_is_21 : decode cX10_is 21 = .ok (.invokevirtual 23, 3) := dk_182 0 23 (dk_at dksX10_is_0 21 rfl rfl)
theorem dX10_is_24 : decode cX10_is 24 = .ok (.checkcast 27, 3) := dk_192 0 27 (dk_at dksX10_is_1 0 rfl rfl)
theorem dX10_is_27 : decode cX10_is 27 = .ok (.aload_n 1, 1) := dk_43 (dk_at dksX10_is_1 3 rfl rfl)
theorem dX10_is_28 : decode cX10_is 28 = .ok (.invokeinterface 29 2, 5) := by decide +kernel
theorem dX10_is_33 : decode cX10_is 33 = .ok (.ifCond .eq 7, 3) := dk_153 0 7 (dk_at dksX10_is_1 9 rfl rfl)
theorem dX10_is_36 : decode cX10_is 36 = .ok (.iconst 1, 1) := dk_4 (dk_at dksX10_is_1 12 rfl rfl)
theorem dX10_is_37 : decode cX10_is 37 = .ok (.goto 4, 3) := dk_167 0 4 (dk_at dksX10_is_1 13 rfl rfl)
theorem dX10_is_40 : decode cX10_is 40 = .ok (.iconst 0, 1) := dk_3 (dk_at dksX10_is_1 16 rfl rfl)
theorem dX10_is_41 : decode cX10_is 41 = .ok (.iadd, 1) := dk_96 (dk_at dksX10_is_1 17 rfl rfl)
theorem dX10_is_42 : decode cX10_is 42 = .ok (.istore_n 2, 1) := dk_61 (dk_at dksX10_is_1 18 rfl rfl)
theorem dX10_is_43 : decode cX10_is 43 = .ok (.iinc 3 1, 3) := dk_132 3 1 (dk_at dksX10_is_1 19 rfl rfl)
theorem dX10_is_46 : decode cX10_is 46 = .ok (.goto (-42), 3) := dk_167 255 214 (dk_at dksX10_is_2 0 rfl rfl)
theorem dX10_is_49 : decode cX10_is 49 = .ok (.aload_n 0, 1) := dk_42 (dk_at dksX10_is_2 3 rfl rfl)
theorem dX10_is_50 : decode cX10_is 50 = .ok (.getfield 7, 3) := dk_180 0 7 (dk_at dksX10_is_2 4 rfl rfl)
theorem dX10_is_53 : decode cX10_is 53 = .ok (.ifCond .eq 22, 3) := dk_153 0 22 (dk_at dksX10_is_2 7 rfl rfl)
theorem dX10_is_56 : decode cX10_is 56 = .ok (.iload_n 2, 1) := dk_28 (dk_at dksX10_is_2 10 rfl rfl)
theorem dX10_is_57 : decode cX10_is 57 = .ok (.aload_n 0, 1) := dk_42 (dk_at dksX10_is_2 11 rfl rfl)
theorem dX10_is_58 : decode cX10_is 58 = .ok (.getfield 13, 3) := dk_180 0 13 (dk_at dksX10_is_2 12 rfl rfl)
theorem dX10_is_61 : decode cX10_is 61 = .ok (.invokevirtual 17, 3) := dk_182 0 17 (dk_at dksX10_is_2 15 rfl rfl)
theorem dX10_is_64 : decode cX10_is 64 = .ok (.if_icmp .ne 7, 3) := dk_160 0 7 (dk_at dksX10_is_2 18 rfl rfl)
theorem dX10_is_67 : decode cX10_is 67 = .ok (.iconst 1, 1) := dk_4 (dk_at dksX10_is_2 21 rfl rfl)
theorem dX10_is_68 : decode cX10_is 68 = .ok (.goto 16, 3) := dk_167 0 16 (dk_at dksX10_is_3 0 rfl rfl)
theorem dX10_is_71 : decode cX10_is 71 = .ok (.iconst 0, 1) := dk_3 (dk_at dksX10_is_3 3 rfl rfl)
theorem dX10_is_72 : decode cX10_is 72 = .ok (.goto 12, 3) := dk_167 0 12 (dk_at dksX10_is_3 4 rfl rfl)
theorem dX10_is_75 : decode cX10_is 75 = .ok (.iload_n 2, 1) := dk_28 (dk_at dksX10_is_3 7 rfl rfl)
theorem dX10_is_76 : decode cX10_is 76 = .ok (.ifCond .le 7, 3) := dk_158 0 7 (dk_at dksX10_is_3 8 rfl rfl)
theorem dX10_is_79 : decode cX10_is 79 = .ok (.iconst 1, 1) := dk_4 (dk_at dksX10_is_3 11 rfl rfl)
theorem dX10_is_80 : decode cX10_is 80 = .ok (.goto 4, 3) := dk_167 0 4 (dk_at dksX10_is_3 12 rfl rfl)
theorem dX10_is_83 : decode cX10_is 83 = .ok (.iconst 0, 1) := dk_3 (dk_at dksX10_is_3 15 rfl rfl)
theorem dX10_is_84 : decode cX10_is 84 = .ok (.ireturn, 1) := dk_172 (dk_at dksX10_is_3 16 rfl rfl)
theorem q155 : (Jvm.Cond.initialized "ApologyUp$All") ∈ lw_all := lw_g (lw_at lw_m1 26 rfl) rfl
theorem q659 : (Jvm.Cond.selects "ApologyUp$All" ({ cls := "java/lang/Object", name := "getClass", desc := "()Ljava/lang/Class;" } : Jvm.MethodName) ({ cls := "java/lang/Object", name := "getClass", desc := "()Ljava/lang/Class;" } : Jvm.MethodName)) ∈ lw_all := lw_g (lw_at lw_m3 50 rfl) rfl
theorem q706 : (Jvm.Cond.instantiable "ApologyUp$All" (2 : Nat)) ∈ lw_all := lw_g (lw_at lw_m3 97 rfl) rfl
theorem q708 : (Jvm.Cond.instanceMethod ({ cls := "ApologyUp$All", name := "<init>", desc := "(ZLjava/util/ArrayList;)V" } : Jvm.MethodName)) ∈ lw_all := lw_g (lw_at lw_m3 99 rfl) rfl
theorem q709 : (Jvm.Cond.code ({ cls := "ApologyUp$All", name := "<init>", desc := "(ZLjava/util/ArrayList;)V" } : Jvm.MethodName) prog_2_method_1_code (3 : Nat) (Option.none : Option Jvm.ClassFile.FieldType)) ∈ lw_all := lw_g (lw_at lw_m3 100 rfl) rfl
theorem q710 : (Jvm.Cond.methodLink "ApologyUp$All" (1 : Nat) ({ cls := "java/lang/Record", name := "<init>", desc := "()V" } : Jvm.MethodName)) ∈ lw_all := lw_g (lw_at lw_m3 101 rfl) rfl
theorem q711 : (Jvm.Cond.fieldLink "ApologyUp$All" (7 : Nat) "ApologyUp$All" "and" "Z") ∈ lw_all := lw_g (lw_at lw_m3 102 rfl) rfl
theorem q712 : (Jvm.Cond.fieldLink "ApologyUp$All" (13 : Nat) "ApologyUp$All" "of" "Ljava/util/ArrayList;") ∈ lw_all := lw_g (lw_at lw_m3 103 rfl) rfl
theorem q713 : (Jvm.Cond.laysFinal "ApologyUp$All" "ApologyUp$All" "and" "Z") ∈ lw_all := lw_g (lw_at lw_m3 104 rfl) rfl
theorem q714 : (Jvm.Cond.soleField "ApologyUp$All" "and") ∈ lw_all := lw_g (lw_at lw_m3 105 rfl) rfl
theorem q715 : (Jvm.Cond.laysFinal "ApologyUp$All" "ApologyUp$All" "of" "Ljava/util/ArrayList;") ∈ lw_all := lw_g (lw_at lw_m3 106 rfl) rfl
theorem q716 : (Jvm.Cond.soleField "ApologyUp$All" "of") ∈ lw_all := lw_g (lw_at lw_m3 107 rfl) rfl
theorem q717 : (Jvm.Cond.superclass "ApologyUp$All" "java/lang/Record") ∈ lw_all := lw_g (lw_at lw_m3 108 rfl) rfl
theorem q960 : (Jvm.Cond.castable "ApologyUp$All" "ApologyUp$Asked") ∈ lw_tbl := lw_at lw_m4 111 rfl
theorem q961 : (Jvm.Cond.selects "ApologyUp$All" ({ cls := "ApologyUp$Asked", name := "is", desc := "([I)Z" } : Jvm.MethodName) ({ cls := "ApologyUp$All", name := "is", desc := "([I)Z" } : Jvm.MethodName)) ∈ lw_all := lw_g (lw_at lw_m4 112 rfl) rfl
theorem q962 : (Jvm.Cond.unhidden "ApologyUp$All" "is" "([I)Z") ∈ lw_tbl := lw_at lw_m4 113 rfl
theorem q963 : (Jvm.Cond.instanceMethod ({ cls := "ApologyUp$All", name := "is", desc := "([I)Z" } : Jvm.MethodName)) ∈ lw_all := lw_g (lw_at lw_m4 114 rfl) rfl
theorem q964 : (Jvm.Cond.publicMethod ({ cls := "ApologyUp$All", name := "is", desc := "([I)Z" } : Jvm.MethodName)) ∈ lw_tbl := lw_at lw_m4 115 rfl
theorem q965 : (Jvm.Cond.code ({ cls := "ApologyUp$All", name := "is", desc := "([I)Z" } : Jvm.MethodName) prog_2_method_2_code (4 : Nat) (Option.some Jvm.ClassFile.FieldType.boolean)) ∈ lw_all := lw_g (lw_at lw_m4 116 rfl) rfl
theorem q966 : (Jvm.Cond.methodLink "ApologyUp$All" (17 : Nat) ({ cls := "java/util/ArrayList", name := "size", desc := "()I" } : Jvm.MethodName)) ∈ lw_all := lw_g (lw_at lw_m4 117 rfl) rfl
theorem q967 : (Jvm.Cond.methodLink "ApologyUp$All" (23 : Nat) ({ cls := "java/util/ArrayList", name := "get", desc := "(I)Ljava/lang/Object;" } : Jvm.MethodName)) ∈ lw_all := lw_g (lw_at lw_m4 118 rfl) rfl
theorem q968 : (Jvm.Cond.classLink "ApologyUp$All" (27 : Nat) "ApologyUp$Asked") ∈ lw_all := lw_g (lw_at lw_m4 119 rfl) rfl
theorem q969 : (Jvm.Cond.interfaceEntry "ApologyUp$All" (29 : Nat)) ∈ lw_tbl := lw_at lw_m4 120 rfl
theorem q970 : (Jvm.Cond.methodLink "ApologyUp$All" (29 : Nat) ({ cls := "ApologyUp$Asked", name := "is", desc := "([I)Z" } : Jvm.MethodName)) ∈ lw_all := lw_g (lw_at lw_m4 121 rfl) rfl
theorem q2028 : (Jvm.Cond.castable "ApologyUp$All" "java/lang/Object") ∈ lw_tbl := lw_at lw_m8 219 rfl
theorem in_X10 : ∀ w ∈ wsX100, w ∈ lw_all := lw_in wsX100 [713, 715] (by decide +kernel) (by decide +kernel)
/-! ApologyUp$If -/
set_option maxRecDepth 100000
def RX11 : String := "ApologyUp$If"
def TX11 : u_T := fun k => match k with
  | 0 => ("ApologyUp$If", "asked", "LApologyUp$Asked;", true)
  | 1 => ("ApologyUp$If", "yes", "LApologyUp$Sum;", true)
  | _ => ("ApologyUp$If", "no", "LApologyUp$Sum;", true)
def tyX11 : Nat → FieldType := fun k => match k with
  | 0 => .object "ApologyUp$Asked"
  | 1 => .object "ApologyUp$Sum"
  | _ => .object "ApologyUp$Sum"
abbrev wsX110 : List Cond := u_ws RX11 TX11 3
theorem nmX11 : ∀ a, a < 3 → ∀ b, b < 3 → a ≠ b → (TX11 a).2.1 ≠ (TX11 b).2.1 := by decide +kernel
theorem tyX11_ok : ∀ k, k < 3 → parseFieldDescriptor (TX11 k).2.2.1 = some (tyX11 k) := by decide +kernel
abbrev cX11_init : ByteArray := prog_8_method_1_code
def yX11_init : MethodName := ⟨RX11, "<init>", "(LApologyUp$Asked;LApologyUp$Sum;LApologyUp$Sum;)V"⟩
def dkwX11_init_0 : List UInt8 := [42, 183, 0, 1, 42, 43, 181, 0, 7, 42, 44, 181, 0, 13, 42, 45, 181, 0, 17, 177]
abbrev dktX11_init_0 : List UInt8 := dkwX11_init_0 ++ []
theorem dksX11_init_0 : cX11_init.data.toList.drop 0 = dktX11_init_0 := by decide +kernel
theorem dX11_init_0 : decode cX11_init 0 = .ok (.aload_n 0, 1) := dk_42 (dk_at dksX11_init_0 0 rfl rfl)
theorem dX11_init_1 : decode cX11_init 1 = .ok (.invokespecial 1, 3) := dk_183 0 1 (dk_at dksX11_init_0 1 rfl rfl)
theorem dX11_init_4 : decode cX11_init 4 = .ok (.aload_n 0, 1) := dk_42 (dk_at dksX11_init_0 4 rfl rfl)
theorem dX11_init_5 : decode cX11_init 5 = .ok (.aload_n 1, 1) := dk_43 (dk_at dksX11_init_0 5 rfl rfl)
theorem dX11_init_6 : decode cX11_init 6 = .ok (.putfield 7, 3) := dk_181 0 7 (dk_at dksX11_init_0 6 rfl rfl)
theorem dX11_init_9 : decode cX11_init 9 = .ok (.aload_n 0, 1) := dk_42 (dk_at dksX11_init_0 9 rfl rfl)
theorem dX11_init_10 : decode cX11_init 10 = .ok (.aload_n 2, 1) := dk_44 (dk_at dksX11_init_0 10 rfl rfl)
theorem dX11_init_11 : decode cX11_init 11 = .ok (.putfield 13, 3) := dk_181 0 13 (dk_at dksX11_init_0 11 rfl rfl)
theorem dX11_init_14 : decode cX11_init 14 = .ok (.aload_n 0, 1) := dk_42 (dk_at dksX11_init_0 14 rfl rfl)
theorem dX11_init_15 : decode cX11_init 15 = .ok (.aload_n 3, 1) := dk_45 (dk_at dksX11_init_0 15 rfl rfl)
theorem dX11_init_16 : decode cX11_init 16 = .ok (.putfield 17, 3) := dk_181 0 17 (dk_at dksX11_init_0 16 rfl rfl)
theorem dX11_init_19 : decode cX11_init 19 = .ok (.return_, 1) := dk_177 (dk_at dksX11_init_0 19 rfl rfl)
abbrev cX11_of : ByteArray := prog_8_method_2_code
def yX11_of : MethodName := ⟨RX11, "of", "([I)J"⟩
def dkwX11_of_1 : List UInt8 := [167, 0, 13, 42, 180, 0, 17, 43, 185, 0, 26, 2, 0, 173]
abbrev dktX11_of_1 : List UInt8 := dkwX11_of_1 ++ []
def dkwX11_of_0 : List UInt8 := [42, 180, 0, 7, 43, 185, 0, 20, 2, 0, 153, 0, 16, 42, 180, 0, 13, 43, 185, 0, 26, 2, 0]
abbrev dktX11_of_0 : List UInt8 := dkwX11_of_0 ++ dktX11_of_1
theorem dksX11_of_0 : cX11_of.data.toList.drop 0 = dktX11_of_0 := by decide +kernel
theorem dksX11_of_1 : cX11_of.data.toList.drop 23 = dktX11_of_1 := dk_seg dksX11_of_0 23 rfl rfl
theorem dX11_of_0 : decode cX11_of 0 = .ok (.aload_n 0, 1) := dk_42 (dk_at dksX11_of_0 0 rfl rfl)
theorem dX11_of_1 : decode cX11_of 1 = .ok (.getfield 7, 3) := dk_180 0 7 (dk_at dksX11_of_0 1 rfl rfl)
theorem dX11_of_4 : decode cX11_of 4 = .ok (.aload_n 1, 1) := dk_43 (dk_at dksX11_of_0 4 rfl rfl)
theorem dX11_of_5 : decode cX11_of 5 = .ok (.invokeinterface 20 2, 5) := by decide +kernel
theorem dX11_of_10 : decode cX11_of 10 = .ok (.ifCond .eq 16, 3) := dk_153 0 16 (dk_at dksX11_of_0 10 rfl rfl)
theorem dX11_of_13 : decode cX11_of 13 = .ok (.aload_n 0, 1) := dk_42 (dk_at dksX11_of_0 13 rfl rfl)
theorem dX11_of_14 : decode cX11_of 14 = .ok (.getfield 13, 3) := dk_180 0 13 (dk_at dksX11_of_0 14 rfl rfl)
theorem dX11_of_17 : decode cX11_of 17 = .ok (.aload_n 1, 1) := dk_43 (dk_at dksX11_of_0 17 rfl rfl)
theorem dX11_of_18 : decode cX11_of 18 = .ok (.invokeinterface 26 2, 5) := by decide +kernel
theorem dX11_of_23 : decode cX11_of 23 = .ok (.goto 13, 3) := dk_167 0 13 (dk_at dksX11_of_1 0 rfl rfl)
theorem dX11_of_26 : decode cX11_of 26 = .ok (.aload_n 0, 1) := dk_42 (dk_at dksX11_of_1 3 rfl rfl)
theorem dX11_of_27 : decode cX11_of 27 = .ok (.getfield 17, 3) := dk_180 0 17 (dk_at dksX11_of_1 4 rfl rfl)
theorem dX11_of_30 : decode cX11_of 30 = .ok (.aload_n 1, 1) := dk_43 (dk_at dksX11_of_1 7 rfl rfl)
theorem dX11_of_31 : decode cX11_of 31 = .ok (.invokeinterface 26 2, 5) := by decide +kernel
theorem dX11_of_36 : decode cX11_of 36 = .ok (.lreturn, 1) := dk_173 (dk_at dksX11_of_1 13 rfl rfl)
theorem q156 : (Jvm.Cond.initialized "ApologyUp$If") ∈ lw_all := lw_g (lw_at lw_m1 27 rfl) rfl
theorem q664 : (Jvm.Cond.selects "ApologyUp$If" ({ cls := "java/lang/Object", name := "getClass", desc := "()Ljava/lang/Class;" } : Jvm.MethodName) ({ cls := "java/lang/Object", name := "getClass", desc := "()Ljava/lang/Class;" } : Jvm.MethodName)) ∈ lw_all := lw_g (lw_at lw_m3 55 rfl) rfl
theorem q723 : (Jvm.Cond.instantiable "ApologyUp$If" (3 : Nat)) ∈ lw_all := lw_g (lw_at lw_m3 114 rfl) rfl
theorem q725 : (Jvm.Cond.instanceMethod ({ cls := "ApologyUp$If", name := "<init>", desc := "(LApologyUp$Asked;LApologyUp$Sum;LApologyUp$Sum;)V" } : Jvm.MethodName)) ∈ lw_all := lw_g (lw_at lw_m3 116 rfl) rfl
theorem q726 : (Jvm.Cond.code ({ cls := "ApologyUp$If", name := "<init>", desc := "(LApologyUp$Asked;LApologyUp$Sum;LApologyUp$Sum;)V" } : Jvm.MethodName) prog_8_method_1_code (4 : Nat) (Option.none : Option Jvm.ClassFile.FieldType)) ∈ lw_all := lw_g (lw_at lw_m3 117 rfl) rfl
theorem q727 : (Jvm.Cond.methodLink "ApologyUp$If" (1 : Nat) ({ cls := "java/lang/Record", name := "<init>", desc := "()V" } : Jvm.MethodName)) ∈ lw_all := lw_g (lw_at lw_m3 118 rfl) rfl
theorem q728 : (Jvm.Cond.fieldLink "ApologyUp$If" (7 : Nat) "ApologyUp$If" "asked" "LApologyUp$Asked;") ∈ lw_all := lw_g (lw_at lw_m3 119 rfl) rfl
theorem q729 : (Jvm.Cond.fieldLink "ApologyUp$If" (13 : Nat) "ApologyUp$If" "yes" "LApologyUp$Sum;") ∈ lw_all := lw_g (lw_at lw_m3 120 rfl) rfl
theorem q730 : (Jvm.Cond.fieldLink "ApologyUp$If" (17 : Nat) "ApologyUp$If" "no" "LApologyUp$Sum;") ∈ lw_all := lw_g (lw_at lw_m3 121 rfl) rfl
theorem q731 : (Jvm.Cond.laysFinal "ApologyUp$If" "ApologyUp$If" "asked" "LApologyUp$Asked;") ∈ lw_all := lw_g (lw_at lw_m3 122 rfl) rfl
theorem q732 : (Jvm.Cond.soleField "ApologyUp$If" "asked") ∈ lw_all := lw_g (lw_at lw_m3 123 rfl) rfl
theorem q733 : (Jvm.Cond.laysFinal "ApologyUp$If" "ApologyUp$If" "yes" "LApologyUp$Sum;") ∈ lw_all := lw_g (lw_at lw_m3 124 rfl) rfl
theorem q734 : (Jvm.Cond.soleField "ApologyUp$If" "yes") ∈ lw_all := lw_g (lw_at lw_m3 125 rfl) rfl
theorem q735 : (Jvm.Cond.laysFinal "ApologyUp$If" "ApologyUp$If" "no" "LApologyUp$Sum;") ∈ lw_all := lw_g (lw_at lw_m3 126 rfl) rfl
theorem q736 : (Jvm.Cond.soleField "ApologyUp$If" "no") ∈ lw_all := lw_g (lw_at lw_m3 127 rfl) rfl
theorem q737 : (Jvm.Cond.superclass "ApologyUp$If" "java/lang/Record") ∈ lw_all := lw_g (lw_at lw_m3 128 rfl) rfl
theorem q950 : (Jvm.Cond.castable "ApologyUp$If" "ApologyUp$Sum") ∈ lw_tbl := lw_at lw_m4 101 rfl
theorem q951 : (Jvm.Cond.selects "ApologyUp$If" ({ cls := "ApologyUp$Sum", name := "of", desc := "([I)J" } : Jvm.MethodName) ({ cls := "ApologyUp$If", name := "of", desc := "([I)J" } : Jvm.MethodName)) ∈ lw_all := lw_g (lw_at lw_m4 102 rfl) rfl
theorem q952 : (Jvm.Cond.unhidden "ApologyUp$If" "of" "([I)J") ∈ lw_tbl := lw_at lw_m4 103 rfl
theorem q953 : (Jvm.Cond.instanceMethod ({ cls := "ApologyUp$If", name := "of", desc := "([I)J" } : Jvm.MethodName)) ∈ lw_all := lw_g (lw_at lw_m4 104 rfl) rfl
theorem q954 : (Jvm.Cond.publicMethod ({ cls := "ApologyUp$If", name := "of", desc := "([I)J" } : Jvm.MethodName)) ∈ lw_tbl := lw_at lw_m4 105 rfl
theorem q955 : (Jvm.Cond.code ({ cls := "ApologyUp$If", name := "of", desc := "([I)J" } : Jvm.MethodName) prog_8_method_2_code (2 : Nat) (Option.some Jvm.ClassFile.FieldType.long)) ∈ lw_all := lw_g (lw_at lw_m4 106 rfl) rfl
theorem q956 : (Jvm.Cond.interfaceEntry "ApologyUp$If" (20 : Nat)) ∈ lw_tbl := lw_at lw_m4 107 rfl
theorem q957 : (Jvm.Cond.methodLink "ApologyUp$If" (20 : Nat) ({ cls := "ApologyUp$Asked", name := "is", desc := "([I)Z" } : Jvm.MethodName)) ∈ lw_all := lw_g (lw_at lw_m4 108 rfl) rfl
theorem q1016 : (Jvm.Cond.interfaceEntry "ApologyUp$If" (26 : Nat)) ∈ lw_tbl := lw_at lw_m4 167 rfl
theorem q1017 : (Jvm.Cond.methodLink "ApologyUp$If" (26 : Nat) ({ cls := "ApologyUp$Sum", name := "of", desc := "([I)J" } : Jvm.MethodName)) ∈ lw_all := lw_g (lw_at lw_m4 168 rfl) rfl
theorem q2029 : (Jvm.Cond.castable "ApologyUp$If" "java/lang/Object") ∈ lw_tbl := lw_at lw_m8 220 rfl
theorem in_X11 : ∀ w ∈ wsX110, w ∈ lw_all := lw_in wsX110 [731, 733, 735] (by decide +kernel) (by decide +kernel)
/-! ApologyUp$Halves -/
set_option maxRecDepth 100000
def RX12 : String := "ApologyUp$Halves"
def TX12 : u_T := fun k => match k with
  | 0 => ("ApologyUp$Halves", "of", "LApologyUp$Sum;", true)
  | _ => ("ApologyUp$Halves", "times", "LApologyUp$Sum;", true)
def tyX12 : Nat → FieldType := fun k => match k with
  | 0 => .object "ApologyUp$Sum"
  | _ => .object "ApologyUp$Sum"
abbrev wsX120 : List Cond := u_ws RX12 TX12 2
theorem nmX12 : ∀ a, a < 2 → ∀ b, b < 2 → a ≠ b → (TX12 a).2.1 ≠ (TX12 b).2.1 := by decide +kernel
theorem tyX12_ok : ∀ k, k < 2 → parseFieldDescriptor (TX12 k).2.2.1 = some (tyX12 k) := by decide +kernel
abbrev cX12_init : ByteArray := prog_7_method_1_code
def yX12_init : MethodName := ⟨RX12, "<init>", "(LApologyUp$Sum;LApologyUp$Sum;)V"⟩
def dkwX12_init_0 : List UInt8 := [42, 183, 0, 1, 42, 43, 181, 0, 7, 42, 44, 181, 0, 13, 177]
abbrev dktX12_init_0 : List UInt8 := dkwX12_init_0 ++ []
theorem dksX12_init_0 : cX12_init.data.toList.drop 0 = dktX12_init_0 := by decide +kernel
theorem dX12_init_0 : decode cX12_init 0 = .ok (.aload_n 0, 1) := dk_42 (dk_at dksX12_init_0 0 rfl rfl)
theorem dX12_init_1 : decode cX12_init 1 = .ok (.invokespecial 1, 3) := dk_183 0 1 (dk_at dksX12_init_0 1 rfl rfl)
theorem dX12_init_4 : decode cX12_init 4 = .ok (.aload_n 0, 1) := dk_42 (dk_at dksX12_init_0 4 rfl rfl)
theorem dX12_init_5 : decode cX12_init 5 = .ok (.aload_n 1, 1) := dk_43 (dk_at dksX12_init_0 5 rfl rfl)
theorem dX12_init_6 : decode cX12_init 6 = .ok (.putfield 7, 3) := dk_181 0 7 (dk_at dksX12_init_0 6 rfl rfl)
theorem dX12_init_9 : decode cX12_init 9 = .ok (.aload_n 0, 1) := dk_42 (dk_at dksX12_init_0 9 rfl rfl)
theorem dX12_init_10 : decode cX12_init 10 = .ok (.aload_n 2, 1) := dk_44 (dk_at dksX12_init_0 10 rfl rfl)
theorem dX12_init_11 : decode cX12_init 11 = .ok (.putfield 13, 3) := dk_181 0 13 (dk_at dksX12_init_0 11 rfl rfl)
theorem dX12_init_14 : decode cX12_init 14 = .ok (.return_, 1) := dk_177 (dk_at dksX12_init_0 14 rfl rfl)
abbrev cX12_of : ByteArray := prog_7_method_2_code
def yX12_of : MethodName := ⟨RX12, "of", "([I)J"⟩
def dkwX12_of_2 : List UInt8 := [55, 4, 167, 255, 231, 32, 173]
abbrev dktX12_of_2 : List UInt8 := dkwX12_of_2 ++ []
def dkwX12_of_1 : List UInt8 := [22, 4, 9, 148, 158, 0, 24, 32, 9, 148, 153, 0, 18, 32, 20, 0, 21, 109, 65, 22, 4, 10, 101]
abbrev dktX12_of_1 : List UInt8 := dkwX12_of_1 ++ dktX12_of_2
def dkwX12_of_0 : List UInt8 := [42, 180, 0, 7, 43, 185, 0, 16, 2, 0, 65, 42, 180, 0, 13, 43, 185, 0, 16, 2, 0, 55, 4]
abbrev dktX12_of_0 : List UInt8 := dkwX12_of_0 ++ dktX12_of_1
theorem dksX12_of_0 : cX12_of.data.toList.drop 0 = dktX12_of_0 := by decide +kernel
theorem dksX12_of_1 : cX12_of.data.toList.drop 23 = dktX12_of_1 := dk_seg dksX12_of_0 23 rfl rfl
theorem dksX12_of_2 : cX12_of.data.toList.drop 46 = dktX12_of_2 := dk_seg dksX12_of_1 23 rfl rfl
theorem dX12_of_0 : decode cX12_of 0 = .ok (.aload_n 0, 1) := dk_42 (dk_at dksX12_of_0 0 rfl rfl)
theorem dX12_of_1 : decode cX12_of 1 = .ok (.getfield 7, 3) := dk_180 0 7 (dk_at dksX12_of_0 1 rfl rfl)
theorem dX12_of_4 : decode cX12_of 4 = .ok (.aload_n 1, 1) := dk_43 (dk_at dksX12_of_0 4 rfl rfl)
theorem dX12_of_5 : decode cX12_of 5 = .ok (.invokeinterface 16 2, 5) := by decide +kernel
theorem dX12_of_10 : decode cX12_of 10 = .ok (.lstore_n 2, 1) := dk_65 (dk_at dksX12_of_0 10 rfl rfl)
theorem dX12_of_11 : decode cX12_of 11 = .ok (.aload_n 0, 1) := dk_42 (dk_at dksX12_of_0 11 rfl rfl)
theorem dX12_of_12 : decode cX12_of 12 = .ok (.getfield 13, 3) := dk_180 0 13 (dk_at dksX12_of_0 12 rfl rfl)
theorem dX12_of_15 : decode cX12_of 15 = .ok (.aload_n 1, 1) := dk_43 (dk_at dksX12_of_0 15 rfl rfl)
theorem dX12_of_16 : decode cX12_of 16 = .ok (.invokeinterface 16 2, 5) := by decide +kernel
theorem dX12_of_21 : decode cX12_of 21 = .ok (.lstore 4, 2) := dk_55 4 (dk_at dksX12_of_0 21 rfl rfl)
theorem dX12_of_23 : decode cX12_of 23 = .ok (.lload 4, 2) := dk_22 4 (dk_at dksX12_of_1 0 rfl rfl)
theorem dX12_of_25 : decode cX12_of 25 = .ok (.lconst 0, 1) := dk_9 (dk_at dksX12_of_1 2 rfl rfl)
theorem dX12_of_26 : decode cX12_of 26 = .ok (.lcmp, 1) := dk_148 (dk_at dksX12_of_1 3 rfl rfl)
theorem dX12_of_27 : decode cX12_of 27 = .ok (.ifCond .le 24, 3) := dk_158 0 24 (dk_at dksX12_of_1 4 rfl rfl)
theorem dX12_of_30 : decode cX12_of 30 = .ok (.lload_n 2, 1) := dk_32 (dk_at dksX12_of_1 7 rfl rfl)
theorem dX12_of_31 : decode cX12_of 31 = .ok (.lconst 0, 1) := dk_9 (dk_at dksX12_of_1 8 rfl rfl)
theorem dX12_of_32 : decode cX12_of 32 = .ok (.lcmp, 1) := dk_148 (dk_at dksX12_of_1 9 rfl rfl)
theorem dX12_of_33 : decode cX12_of 33 = .ok (.ifCond .eq 18, 3) := dk_153 0 18 (dk_at dksX12_of_1 10 rfl rfl)
theorem dX12_of_36 : decode cX12_of 36 = .ok (.lload_n 2, 1) := dk_32 (dk_at dksX12_of_1 13 rfl rfl)
theorem dX12_of_37 : decode cX12_of 37 = .ok (.ldc2_w 21, 3) := dk_20 0 21 (dk_at dksX12_of_1 14 rfl rfl)
theorem dX12_of_40 : decode cX12_of 40 = .ok (.ldiv, 1) := dk_109 (dk_at dksX12_of_1 17 rfl rfl)
theorem dX12_of_41 : decode cX12_of 41 = .ok (.lstore_n 2, 1) := dk_65 (dk_at dksX12_of_1 18 rfl rfl)
theorem dX12_of_42 : decode cX12_of 42 = .ok (.lload 4, 2) := dk_22 4 (dk_at dksX12_of_1 19 rfl rfl)
theorem dX12_of_44 : decode cX12_of 44 = .ok (.lconst 1, 1) := dk_10 (dk_at dksX12_of_1 21 rfl rfl)
theorem dX12_of_45 : decode cX12_of 45 = .ok (.lsub, 1) := dk_101 (dk_at dksX12_of_1 22 rfl rfl)
theorem dX12_of_46 : decode cX12_of 46 = .ok (.lstore 4, 2) := dk_55 4 (dk_at dksX12_of_2 0 rfl rfl)
theorem dX12_of_48 : decode cX12_of 48 = .ok (.goto (-25), 3) := dk_167 255 231 (dk_at dksX12_of_2 2 rfl rfl)
theorem dX12_of_51 : decode cX12_of 51 = .ok (.lload_n 2, 1) := dk_32 (dk_at dksX12_of_2 5 rfl rfl)
theorem dX12_of_52 : decode cX12_of 52 = .ok (.lreturn, 1) := dk_173 (dk_at dksX12_of_2 6 rfl rfl)
theorem q157 : (Jvm.Cond.initialized "ApologyUp$Halves") ∈ lw_all := lw_g (lw_at lw_m1 28 rfl) rfl
theorem q663 : (Jvm.Cond.selects "ApologyUp$Halves" ({ cls := "java/lang/Object", name := "getClass", desc := "()Ljava/lang/Class;" } : Jvm.MethodName) ({ cls := "java/lang/Object", name := "getClass", desc := "()Ljava/lang/Class;" } : Jvm.MethodName)) ∈ lw_all := lw_g (lw_at lw_m3 54 rfl) rfl
theorem q743 : (Jvm.Cond.instantiable "ApologyUp$Halves" (2 : Nat)) ∈ lw_all := lw_g (lw_at lw_m3 134 rfl) rfl
theorem q745 : (Jvm.Cond.instanceMethod ({ cls := "ApologyUp$Halves", name := "<init>", desc := "(LApologyUp$Sum;LApologyUp$Sum;)V" } : Jvm.MethodName)) ∈ lw_all := lw_g (lw_at lw_m3 136 rfl) rfl
theorem q746 : (Jvm.Cond.code ({ cls := "ApologyUp$Halves", name := "<init>", desc := "(LApologyUp$Sum;LApologyUp$Sum;)V" } : Jvm.MethodName) prog_7_method_1_code (3 : Nat) (Option.none : Option Jvm.ClassFile.FieldType)) ∈ lw_all := lw_g (lw_at lw_m3 137 rfl) rfl
theorem q747 : (Jvm.Cond.methodLink "ApologyUp$Halves" (1 : Nat) ({ cls := "java/lang/Record", name := "<init>", desc := "()V" } : Jvm.MethodName)) ∈ lw_all := lw_g (lw_at lw_m3 138 rfl) rfl
theorem q748 : (Jvm.Cond.fieldLink "ApologyUp$Halves" (7 : Nat) "ApologyUp$Halves" "of" "LApologyUp$Sum;") ∈ lw_all := lw_g (lw_at lw_m3 139 rfl) rfl
theorem q749 : (Jvm.Cond.fieldLink "ApologyUp$Halves" (13 : Nat) "ApologyUp$Halves" "times" "LApologyUp$Sum;") ∈ lw_all := lw_g (lw_at lw_m3 140 rfl) rfl
theorem q750 : (Jvm.Cond.laysFinal "ApologyUp$Halves" "ApologyUp$Halves" "of" "LApologyUp$Sum;") ∈ lw_all := lw_g (lw_at lw_m3 141 rfl) rfl
theorem q751 : (Jvm.Cond.soleField "ApologyUp$Halves" "of") ∈ lw_all := lw_g (lw_at lw_m3 142 rfl) rfl
theorem q752 : (Jvm.Cond.laysFinal "ApologyUp$Halves" "ApologyUp$Halves" "times" "LApologyUp$Sum;") ∈ lw_all := lw_g (lw_at lw_m3 143 rfl) rfl
theorem q753 : (Jvm.Cond.soleField "ApologyUp$Halves" "times") ∈ lw_all := lw_g (lw_at lw_m3 144 rfl) rfl
theorem q754 : (Jvm.Cond.superclass "ApologyUp$Halves" "java/lang/Record") ∈ lw_all := lw_g (lw_at lw_m3 145 rfl) rfl
theorem q942 : (Jvm.Cond.castable "ApologyUp$Halves" "ApologyUp$Sum") ∈ lw_tbl := lw_at lw_m4 93 rfl
theorem q943 : (Jvm.Cond.selects "ApologyUp$Halves" ({ cls := "ApologyUp$Sum", name := "of", desc := "([I)J" } : Jvm.MethodName) ({ cls := "ApologyUp$Halves", name := "of", desc := "([I)J" } : Jvm.MethodName)) ∈ lw_all := lw_g (lw_at lw_m4 94 rfl) rfl
theorem q944 : (Jvm.Cond.unhidden "ApologyUp$Halves" "of" "([I)J") ∈ lw_tbl := lw_at lw_m4 95 rfl
theorem q945 : (Jvm.Cond.instanceMethod ({ cls := "ApologyUp$Halves", name := "of", desc := "([I)J" } : Jvm.MethodName)) ∈ lw_all := lw_g (lw_at lw_m4 96 rfl) rfl
theorem q946 : (Jvm.Cond.publicMethod ({ cls := "ApologyUp$Halves", name := "of", desc := "([I)J" } : Jvm.MethodName)) ∈ lw_tbl := lw_at lw_m4 97 rfl
theorem q947 : (Jvm.Cond.code ({ cls := "ApologyUp$Halves", name := "of", desc := "([I)J" } : Jvm.MethodName) prog_7_method_2_code (6 : Nat) (Option.some Jvm.ClassFile.FieldType.long)) ∈ lw_all := lw_g (lw_at lw_m4 98 rfl) rfl
theorem q948 : (Jvm.Cond.interfaceEntry "ApologyUp$Halves" (16 : Nat)) ∈ lw_tbl := lw_at lw_m4 99 rfl
theorem q949 : (Jvm.Cond.methodLink "ApologyUp$Halves" (16 : Nat) ({ cls := "ApologyUp$Sum", name := "of", desc := "([I)J" } : Jvm.MethodName)) ∈ lw_all := lw_g (lw_at lw_m4 100 rfl) rfl
theorem q1018 : (Jvm.Cond.constantLong "ApologyUp$Halves" (21 : Nat) (2 : Int64)) ∈ lw_all := lw_g (lw_at lw_m4 169 rfl) rfl
theorem q2030 : (Jvm.Cond.castable "ApologyUp$Halves" "java/lang/Object") ∈ lw_tbl := lw_at lw_m8 221 rfl
theorem in_X12 : ∀ w ∈ wsX120, w ∈ lw_all := lw_in wsX120 [750, 752] (by decide +kernel) (by decide +kernel)
/-! ApologyUp$Name -/
set_option maxRecDepth 100000
def RX13 : String := "ApologyUp$Name"
def TX13 : u_T := fun k => match k with
  | _ => ("ApologyUp$Name", "which", "I", true)
def tyX13 : Nat → FieldType := fun k => match k with
  | _ => .int
abbrev wsX130 : List Cond := u_ws RX13 TX13 1
theorem nmX13 : ∀ a, a < 1 → ∀ b, b < 1 → a ≠ b → (TX13 a).2.1 ≠ (TX13 b).2.1 := by decide +kernel
theorem tyX13_ok : ∀ k, k < 1 → parseFieldDescriptor (TX13 k).2.2.1 = some (tyX13 k) := by decide +kernel
abbrev cX13_init : ByteArray := prog_10_method_1_code
def yX13_init : MethodName := ⟨RX13, "<init>", "(I)V"⟩
def dkwX13_init_0 : List UInt8 := [42, 183, 0, 1, 42, 27, 181, 0, 7, 177]
abbrev dktX13_init_0 : List UInt8 := dkwX13_init_0 ++ []
theorem dksX13_init_0 : cX13_init.data.toList.drop 0 = dktX13_init_0 := by decide +kernel
theorem dX13_init_0 : decode cX13_init 0 = .ok (.aload_n 0, 1) := dk_42 (dk_at dksX13_init_0 0 rfl rfl)
theorem dX13_init_1 : decode cX13_init 1 = .ok (.invokespecial 1, 3) := dk_183 0 1 (dk_at dksX13_init_0 1 rfl rfl)
theorem dX13_init_4 : decode cX13_init 4 = .ok (.aload_n 0, 1) := dk_42 (dk_at dksX13_init_0 4 rfl rfl)
theorem dX13_init_5 : decode cX13_init 5 = .ok (.iload_n 1, 1) := dk_27 (dk_at dksX13_init_0 5 rfl rfl)
theorem dX13_init_6 : decode cX13_init 6 = .ok (.putfield 7, 3) := dk_181 0 7 (dk_at dksX13_init_0 6 rfl rfl)
theorem dX13_init_9 : decode cX13_init 9 = .ok (.return_, 1) := dk_177 (dk_at dksX13_init_0 9 rfl rfl)
abbrev cX13_of : ByteArray := prog_10_method_2_code
def yX13_of : MethodName := ⟨RX13, "of", "([I)J"⟩
def dkwX13_of_0 : List UInt8 := [43, 42, 180, 0, 7, 46, 133, 173]
abbrev dktX13_of_0 : List UInt8 := dkwX13_of_0 ++ []
theorem dksX13_of_0 : cX13_of.data.toList.drop 0 = dktX13_of_0 := by decide +kernel
theorem dX13_of_0 : decode cX13_of 0 = .ok (.aload_n 1, 1) := dk_43 (dk_at dksX13_of_0 0 rfl rfl)
theorem dX13_of_1 : decode cX13_of 1 = .ok (.aload_n 0, 1) := dk_42 (dk_at dksX13_of_0 1 rfl rfl)
theorem dX13_of_2 : decode cX13_of 2 = .ok (.getfield 7, 3) := dk_180 0 7 (dk_at dksX13_of_0 2 rfl rfl)
theorem dX13_of_5 : decode cX13_of 5 = .ok (.iaload, 1) := dk_46 (dk_at dksX13_of_0 5 rfl rfl)
theorem dX13_of_6 : decode cX13_of 6 = .ok (.i2l, 1) := dk_133 (dk_at dksX13_of_0 6 rfl rfl)
theorem dX13_of_7 : decode cX13_of 7 = .ok (.lreturn, 1) := dk_173 (dk_at dksX13_of_0 7 rfl rfl)
theorem q158 : (Jvm.Cond.initialized "ApologyUp$Name") ∈ lw_all := lw_g (lw_at lw_m1 29 rfl) rfl
theorem q666 : (Jvm.Cond.selects "ApologyUp$Name" ({ cls := "java/lang/Object", name := "getClass", desc := "()Ljava/lang/Class;" } : Jvm.MethodName) ({ cls := "java/lang/Object", name := "getClass", desc := "()Ljava/lang/Class;" } : Jvm.MethodName)) ∈ lw_all := lw_g (lw_at lw_m3 57 rfl) rfl
theorem q766 : (Jvm.Cond.instantiable "ApologyUp$Name" (1 : Nat)) ∈ lw_all := lw_g (lw_at lw_m3 157 rfl) rfl
theorem q768 : (Jvm.Cond.instanceMethod ({ cls := "ApologyUp$Name", name := "<init>", desc := "(I)V" } : Jvm.MethodName)) ∈ lw_all := lw_g (lw_at lw_m3 159 rfl) rfl
theorem q769 : (Jvm.Cond.code ({ cls := "ApologyUp$Name", name := "<init>", desc := "(I)V" } : Jvm.MethodName) prog_10_method_1_code (2 : Nat) (Option.none : Option Jvm.ClassFile.FieldType)) ∈ lw_all := lw_g (lw_at lw_m3 160 rfl) rfl
theorem q770 : (Jvm.Cond.methodLink "ApologyUp$Name" (1 : Nat) ({ cls := "java/lang/Record", name := "<init>", desc := "()V" } : Jvm.MethodName)) ∈ lw_all := lw_g (lw_at lw_m3 161 rfl) rfl
theorem q771 : (Jvm.Cond.fieldLink "ApologyUp$Name" (7 : Nat) "ApologyUp$Name" "which" "I") ∈ lw_all := lw_g (lw_at lw_m3 162 rfl) rfl
theorem q772 : (Jvm.Cond.laysFinal "ApologyUp$Name" "ApologyUp$Name" "which" "I") ∈ lw_all := lw_g (lw_at lw_m3 163 rfl) rfl
theorem q773 : (Jvm.Cond.soleField "ApologyUp$Name" "which") ∈ lw_all := lw_g (lw_at lw_m3 164 rfl) rfl
theorem q774 : (Jvm.Cond.superclass "ApologyUp$Name" "java/lang/Record") ∈ lw_all := lw_g (lw_at lw_m3 165 rfl) rfl
theorem q987 : (Jvm.Cond.castable "ApologyUp$Name" "ApologyUp$Sum") ∈ lw_tbl := lw_at lw_m4 138 rfl
theorem q988 : (Jvm.Cond.selects "ApologyUp$Name" ({ cls := "ApologyUp$Sum", name := "of", desc := "([I)J" } : Jvm.MethodName) ({ cls := "ApologyUp$Name", name := "of", desc := "([I)J" } : Jvm.MethodName)) ∈ lw_all := lw_g (lw_at lw_m4 139 rfl) rfl
theorem q989 : (Jvm.Cond.unhidden "ApologyUp$Name" "of" "([I)J") ∈ lw_tbl := lw_at lw_m4 140 rfl
theorem q990 : (Jvm.Cond.instanceMethod ({ cls := "ApologyUp$Name", name := "of", desc := "([I)J" } : Jvm.MethodName)) ∈ lw_all := lw_g (lw_at lw_m4 141 rfl) rfl
theorem q991 : (Jvm.Cond.publicMethod ({ cls := "ApologyUp$Name", name := "of", desc := "([I)J" } : Jvm.MethodName)) ∈ lw_tbl := lw_at lw_m4 142 rfl
theorem q992 : (Jvm.Cond.code ({ cls := "ApologyUp$Name", name := "of", desc := "([I)J" } : Jvm.MethodName) prog_10_method_2_code (2 : Nat) (Option.some Jvm.ClassFile.FieldType.long)) ∈ lw_all := lw_g (lw_at lw_m4 143 rfl) rfl
theorem q2031 : (Jvm.Cond.castable "ApologyUp$Name" "java/lang/Object") ∈ lw_tbl := lw_at lw_m8 222 rfl
theorem in_X13 : ∀ w ∈ wsX130, w ∈ lw_all := lw_in wsX130 [772] (by decide +kernel) (by decide +kernel)
/-! ApologyUp$Ranks -/
set_option maxRecDepth 100000
def RX14 : String := "ApologyUp$Ranks"
def TX14 : u_T := fun k => match k with
  | _ => ("ApologyUp$Ranks", "officer", "LApologyUp$Sum;", true)
def tyX14 : Nat → FieldType := fun k => match k with
  | _ => .object "ApologyUp$Sum"
abbrev wsX140 : List Cond := u_ws RX14 TX14 1
theorem nmX14 : ∀ a, a < 1 → ∀ b, b < 1 → a ≠ b → (TX14 a).2.1 ≠ (TX14 b).2.1 := by decide +kernel
theorem tyX14_ok : ∀ k, k < 1 → parseFieldDescriptor (TX14 k).2.2.1 = some (tyX14 k) := by decide +kernel
abbrev cX14_init : ByteArray := prog_13_method_1_code
def yX14_init : MethodName := ⟨RX14, "<init>", "(LApologyUp$Sum;)V"⟩
def dkwX14_init_0 : List UInt8 := [42, 183, 0, 3, 42, 43, 181, 0, 9, 177]
abbrev dktX14_init_0 : List UInt8 := dkwX14_init_0 ++ []
theorem dksX14_init_0 : cX14_init.data.toList.drop 0 = dktX14_init_0 := by decide +kernel
theorem dX14_init_0 : decode cX14_init 0 = .ok (.aload_n 0, 1) := dk_42 (dk_at dksX14_init_0 0 rfl rfl)
theorem dX14_init_1 : decode cX14_init 1 = .ok (.invokespecial 3, 3) := dk_183 0 3 (dk_at dksX14_init_0 1 rfl rfl)
theorem dX14_init_4 : decode cX14_init 4 = .ok (.aload_n 0, 1) := dk_42 (dk_at dksX14_init_0 4 rfl rfl)
theorem dX14_init_5 : decode cX14_init 5 = .ok (.aload_n 1, 1) := dk_43 (dk_at dksX14_init_0 5 rfl rfl)
theorem dX14_init_6 : decode cX14_init 6 = .ok (.putfield 9, 3) := dk_181 0 9 (dk_at dksX14_init_0 6 rfl rfl)
theorem dX14_init_9 : decode cX14_init 9 = .ok (.return_, 1) := dk_177 (dk_at dksX14_init_0 9 rfl rfl)
abbrev cX14_of : ByteArray := prog_13_method_2_code
def yX14_of : MethodName := ⟨RX14, "of", "([I)J"⟩
def dkwX14_of_1 : List UInt8 := [155, 0, 7, 9, 167, 0, 11, 43, 16, 9, 32, 136, 96, 46, 133, 173]
abbrev dktX14_of_1 : List UInt8 := dkwX14_of_1 ++ []
def dkwX14_of_0 : List UInt8 := [42, 180, 0, 9, 43, 185, 0, 15, 2, 0, 65, 32, 9, 148, 155, 0, 11, 32, 20, 0, 21, 148]
abbrev dktX14_of_0 : List UInt8 := dkwX14_of_0 ++ dktX14_of_1
theorem dksX14_of_0 : cX14_of.data.toList.drop 0 = dktX14_of_0 := by decide +kernel
theorem dksX14_of_1 : cX14_of.data.toList.drop 22 = dktX14_of_1 := dk_seg dksX14_of_0 22 rfl rfl
theorem dX14_of_0 : decode cX14_of 0 = .ok (.aload_n 0, 1) := dk_42 (dk_at dksX14_of_0 0 rfl rfl)
theorem dX14_of_1 : decode cX14_of 1 = .ok (.getfield 9, 3) := dk_180 0 9 (dk_at dksX14_of_0 1 rfl rfl)
theorem dX14_of_4 : decode cX14_of 4 = .ok (.aload_n 1, 1) := dk_43 (dk_at dksX14_of_0 4 rfl rfl)
theorem dX14_of_5 : decode cX14_of 5 = .ok (.invokeinterface 15 2, 5) := by decide +kernel
theorem dX14_of_10 : decode cX14_of 10 = .ok (.lstore_n 2, 1) := dk_65 (dk_at dksX14_of_0 10 rfl rfl)
theorem dX14_of_11 : decode cX14_of 11 = .ok (.lload_n 2, 1) := dk_32 (dk_at dksX14_of_0 11 rfl rfl)
theorem dX14_of_12 : decode cX14_of 12 = .ok (.lconst 0, 1) := dk_9 (dk_at dksX14_of_0 12 rfl rfl)
theorem dX14_of_13 : decode cX14_of 13 = .ok (.lcmp, 1) := dk_148 (dk_at dksX14_of_0 13 rfl rfl)
theorem dX14_of_14 : decode cX14_of 14 = .ok (.ifCond .lt 11, 3) := dk_155 0 11 (dk_at dksX14_of_0 14 rfl rfl)
theorem dX14_of_17 : decode cX14_of 17 = .ok (.lload_n 2, 1) := dk_32 (dk_at dksX14_of_0 17 rfl rfl)
theorem dX14_of_18 : decode cX14_of 18 = .ok (.ldc2_w 21, 3) := dk_20 0 21 (dk_at dksX14_of_0 18 rfl rfl)
theorem dX14_of_21 : decode cX14_of 21 = .ok (.lcmp, 1) := dk_148 (dk_at dksX14_of_0 21 rfl rfl)
theorem dX14_of_22 : decode cX14_of 22 = .ok (.ifCond .lt 7, 3) := dk_155 0 7 (dk_at dksX14_of_1 0 rfl rfl)
theorem dX14_of_25 : decode cX14_of 25 = .ok (.lconst 0, 1) := dk_9 (dk_at dksX14_of_1 3 rfl rfl)
theorem dX14_of_26 : decode cX14_of 26 = .ok (.goto 11, 3) := dk_167 0 11 (dk_at dksX14_of_1 4 rfl rfl)
theorem dX14_of_29 : decode cX14_of 29 = .ok (.aload_n 1, 1) := dk_43 (dk_at dksX14_of_1 7 rfl rfl)
theorem dX14_of_30 : decode cX14_of 30 = .ok (.bipush 9, 2) := dk_16 9 (dk_at dksX14_of_1 8 rfl rfl)
theorem dX14_of_32 : decode cX14_of 32 = .ok (.lload_n 2, 1) := dk_32 (dk_at dksX14_of_1 10 rfl rfl)
theorem dX14_of_33 : decode cX14_of 33 = .ok (.l2i, 1) := dk_136 (dk_at dksX14_of_1 11 rfl rfl)
theorem dX14_of_34 : decode cX14_of 34 = .ok (.iadd, 1) := dk_96 (dk_at dksX14_of_1 12 rfl rfl)
theorem dX14_of_35 : decode cX14_of 35 = .ok (.iaload, 1) := dk_46 (dk_at dksX14_of_1 13 rfl rfl)
theorem dX14_of_36 : decode cX14_of 36 = .ok (.i2l, 1) := dk_133 (dk_at dksX14_of_1 14 rfl rfl)
theorem dX14_of_37 : decode cX14_of 37 = .ok (.lreturn, 1) := dk_173 (dk_at dksX14_of_1 15 rfl rfl)
theorem q159 : (Jvm.Cond.initialized "ApologyUp$Ranks") ∈ lw_all := lw_g (lw_at lw_m1 30 rfl) rfl
theorem q669 : (Jvm.Cond.selects "ApologyUp$Ranks" ({ cls := "java/lang/Object", name := "getClass", desc := "()Ljava/lang/Class;" } : Jvm.MethodName) ({ cls := "java/lang/Object", name := "getClass", desc := "()Ljava/lang/Class;" } : Jvm.MethodName)) ∈ lw_all := lw_g (lw_at lw_m3 60 rfl) rfl
theorem q776 : (Jvm.Cond.instantiable "ApologyUp$Ranks" (1 : Nat)) ∈ lw_all := lw_g (lw_at lw_m3 167 rfl) rfl
theorem q778 : (Jvm.Cond.instanceMethod ({ cls := "ApologyUp$Ranks", name := "<init>", desc := "(LApologyUp$Sum;)V" } : Jvm.MethodName)) ∈ lw_all := lw_g (lw_at lw_m3 169 rfl) rfl
theorem q779 : (Jvm.Cond.code ({ cls := "ApologyUp$Ranks", name := "<init>", desc := "(LApologyUp$Sum;)V" } : Jvm.MethodName) prog_13_method_1_code (2 : Nat) (Option.none : Option Jvm.ClassFile.FieldType)) ∈ lw_all := lw_g (lw_at lw_m3 170 rfl) rfl
theorem q780 : (Jvm.Cond.methodLink "ApologyUp$Ranks" (3 : Nat) ({ cls := "java/lang/Record", name := "<init>", desc := "()V" } : Jvm.MethodName)) ∈ lw_all := lw_g (lw_at lw_m3 171 rfl) rfl
theorem q781 : (Jvm.Cond.fieldLink "ApologyUp$Ranks" (9 : Nat) "ApologyUp$Ranks" "officer" "LApologyUp$Sum;") ∈ lw_all := lw_g (lw_at lw_m3 172 rfl) rfl
theorem q782 : (Jvm.Cond.laysFinal "ApologyUp$Ranks" "ApologyUp$Ranks" "officer" "LApologyUp$Sum;") ∈ lw_all := lw_g (lw_at lw_m3 173 rfl) rfl
theorem q783 : (Jvm.Cond.soleField "ApologyUp$Ranks" "officer") ∈ lw_all := lw_g (lw_at lw_m3 174 rfl) rfl
theorem q784 : (Jvm.Cond.superclass "ApologyUp$Ranks" "java/lang/Record") ∈ lw_all := lw_g (lw_at lw_m3 175 rfl) rfl
theorem q999 : (Jvm.Cond.castable "ApologyUp$Ranks" "ApologyUp$Sum") ∈ lw_tbl := lw_at lw_m4 150 rfl
theorem q1000 : (Jvm.Cond.selects "ApologyUp$Ranks" ({ cls := "ApologyUp$Sum", name := "of", desc := "([I)J" } : Jvm.MethodName) ({ cls := "ApologyUp$Ranks", name := "of", desc := "([I)J" } : Jvm.MethodName)) ∈ lw_all := lw_g (lw_at lw_m4 151 rfl) rfl
theorem q1001 : (Jvm.Cond.unhidden "ApologyUp$Ranks" "of" "([I)J") ∈ lw_tbl := lw_at lw_m4 152 rfl
theorem q1002 : (Jvm.Cond.instanceMethod ({ cls := "ApologyUp$Ranks", name := "of", desc := "([I)J" } : Jvm.MethodName)) ∈ lw_all := lw_g (lw_at lw_m4 153 rfl) rfl
theorem q1003 : (Jvm.Cond.publicMethod ({ cls := "ApologyUp$Ranks", name := "of", desc := "([I)J" } : Jvm.MethodName)) ∈ lw_tbl := lw_at lw_m4 154 rfl
theorem q1004 : (Jvm.Cond.code ({ cls := "ApologyUp$Ranks", name := "of", desc := "([I)J" } : Jvm.MethodName) prog_13_method_2_code (4 : Nat) (Option.some Jvm.ClassFile.FieldType.long)) ∈ lw_all := lw_g (lw_at lw_m4 155 rfl) rfl
theorem q1005 : (Jvm.Cond.interfaceEntry "ApologyUp$Ranks" (15 : Nat)) ∈ lw_tbl := lw_at lw_m4 156 rfl
theorem q1006 : (Jvm.Cond.methodLink "ApologyUp$Ranks" (15 : Nat) ({ cls := "ApologyUp$Sum", name := "of", desc := "([I)J" } : Jvm.MethodName)) ∈ lw_all := lw_g (lw_at lw_m4 157 rfl) rfl
theorem q1007 : (Jvm.Cond.constantLong "ApologyUp$Ranks" (21 : Nat) (10 : Int64)) ∈ lw_all := lw_g (lw_at lw_m4 158 rfl) rfl
theorem q2032 : (Jvm.Cond.castable "ApologyUp$Ranks" "java/lang/Object") ∈ lw_tbl := lw_at lw_m8 223 rfl
theorem in_X14 : ∀ w ∈ wsX140, w ∈ lw_all := lw_in wsX140 [782] (by decide +kernel) (by decide +kernel)
/-! ApologyUp$Minus -/
set_option maxRecDepth 100000
def RX15 : String := "ApologyUp$Minus"
def TX15 : u_T := fun k => match k with
  | _ => ("ApologyUp$Minus", "x", "LApologyUp$Sum;", true)
def tyX15 : Nat → FieldType := fun k => match k with
  | _ => .object "ApologyUp$Sum"
abbrev wsX150 : List Cond := u_ws RX15 TX15 1
theorem nmX15 : ∀ a, a < 1 → ∀ b, b < 1 → a ≠ b → (TX15 a).2.1 ≠ (TX15 b).2.1 := by decide +kernel
theorem tyX15_ok : ∀ k, k < 1 → parseFieldDescriptor (TX15 k).2.2.1 = some (tyX15 k) := by decide +kernel
abbrev cX15_init : ByteArray := prog_9_method_1_code
def yX15_init : MethodName := ⟨RX15, "<init>", "(LApologyUp$Sum;)V"⟩
def dkwX15_init_0 : List UInt8 := [42, 183, 0, 1, 42, 43, 181, 0, 7, 177]
abbrev dktX15_init_0 : List UInt8 := dkwX15_init_0 ++ []
theorem dksX15_init_0 : cX15_init.data.toList.drop 0 = dktX15_init_0 := by decide +kernel
theorem dX15_init_0 : decode cX15_init 0 = .ok (.aload_n 0, 1) := dk_42 (dk_at dksX15_init_0 0 rfl rfl)
theorem dX15_init_1 : decode cX15_init 1 = .ok (.invokespecial 1, 3) := dk_183 0 1 (dk_at dksX15_init_0 1 rfl rfl)
theorem dX15_init_4 : decode cX15_init 4 = .ok (.aload_n 0, 1) := dk_42 (dk_at dksX15_init_0 4 rfl rfl)
theorem dX15_init_5 : decode cX15_init 5 = .ok (.aload_n 1, 1) := dk_43 (dk_at dksX15_init_0 5 rfl rfl)
theorem dX15_init_6 : decode cX15_init 6 = .ok (.putfield 7, 3) := dk_181 0 7 (dk_at dksX15_init_0 6 rfl rfl)
theorem dX15_init_9 : decode cX15_init 9 = .ok (.return_, 1) := dk_177 (dk_at dksX15_init_0 9 rfl rfl)
abbrev cX15_of : ByteArray := prog_9_method_2_code
def yX15_of : MethodName := ⟨RX15, "of", "([I)J"⟩
def dkwX15_of_0 : List UInt8 := [42, 180, 0, 7, 43, 185, 0, 13, 2, 0, 117, 173]
abbrev dktX15_of_0 : List UInt8 := dkwX15_of_0 ++ []
theorem dksX15_of_0 : cX15_of.data.toList.drop 0 = dktX15_of_0 := by decide +kernel
theorem dX15_of_0 : decode cX15_of 0 = .ok (.aload_n 0, 1) := dk_42 (dk_at dksX15_of_0 0 rfl rfl)
theorem dX15_of_1 : decode cX15_of 1 = .ok (.getfield 7, 3) := dk_180 0 7 (dk_at dksX15_of_0 1 rfl rfl)
theorem dX15_of_4 : decode cX15_of 4 = .ok (.aload_n 1, 1) := dk_43 (dk_at dksX15_of_0 4 rfl rfl)
theorem dX15_of_5 : decode cX15_of 5 = .ok (.invokeinterface 13 2, 5) := by decide +kernel
theorem dX15_of_10 : decode cX15_of 10 = .ok (.lneg, 1) := dk_117 (dk_at dksX15_of_0 10 rfl rfl)
theorem dX15_of_11 : decode cX15_of 11 = .ok (.lreturn, 1) := dk_173 (dk_at dksX15_of_0 11 rfl rfl)
theorem q160 : (Jvm.Cond.initialized "ApologyUp$Minus") ∈ lw_all := lw_g (lw_at lw_m1 31 rfl) rfl
theorem q665 : (Jvm.Cond.selects "ApologyUp$Minus" ({ cls := "java/lang/Object", name := "getClass", desc := "()Ljava/lang/Class;" } : Jvm.MethodName) ({ cls := "java/lang/Object", name := "getClass", desc := "()Ljava/lang/Class;" } : Jvm.MethodName)) ∈ lw_all := lw_g (lw_at lw_m3 56 rfl) rfl
theorem q786 : (Jvm.Cond.instantiable "ApologyUp$Minus" (1 : Nat)) ∈ lw_all := lw_g (lw_at lw_m3 177 rfl) rfl
theorem q788 : (Jvm.Cond.instanceMethod ({ cls := "ApologyUp$Minus", name := "<init>", desc := "(LApologyUp$Sum;)V" } : Jvm.MethodName)) ∈ lw_all := lw_g (lw_at lw_m3 179 rfl) rfl
theorem q789 : (Jvm.Cond.code ({ cls := "ApologyUp$Minus", name := "<init>", desc := "(LApologyUp$Sum;)V" } : Jvm.MethodName) prog_9_method_1_code (2 : Nat) (Option.none : Option Jvm.ClassFile.FieldType)) ∈ lw_all := lw_g (lw_at lw_m3 180 rfl) rfl
theorem q790 : (Jvm.Cond.methodLink "ApologyUp$Minus" (1 : Nat) ({ cls := "java/lang/Record", name := "<init>", desc := "()V" } : Jvm.MethodName)) ∈ lw_all := lw_g (lw_at lw_m3 181 rfl) rfl
theorem q791 : (Jvm.Cond.fieldLink "ApologyUp$Minus" (7 : Nat) "ApologyUp$Minus" "x" "LApologyUp$Sum;") ∈ lw_all := lw_g (lw_at lw_m3 182 rfl) rfl
theorem q792 : (Jvm.Cond.laysFinal "ApologyUp$Minus" "ApologyUp$Minus" "x" "LApologyUp$Sum;") ∈ lw_all := lw_g (lw_at lw_m3 183 rfl) rfl
theorem q793 : (Jvm.Cond.soleField "ApologyUp$Minus" "x") ∈ lw_all := lw_g (lw_at lw_m3 184 rfl) rfl
theorem q794 : (Jvm.Cond.superclass "ApologyUp$Minus" "java/lang/Record") ∈ lw_all := lw_g (lw_at lw_m3 185 rfl) rfl
theorem q979 : (Jvm.Cond.castable "ApologyUp$Minus" "ApologyUp$Sum") ∈ lw_tbl := lw_at lw_m4 130 rfl
theorem q980 : (Jvm.Cond.selects "ApologyUp$Minus" ({ cls := "ApologyUp$Sum", name := "of", desc := "([I)J" } : Jvm.MethodName) ({ cls := "ApologyUp$Minus", name := "of", desc := "([I)J" } : Jvm.MethodName)) ∈ lw_all := lw_g (lw_at lw_m4 131 rfl) rfl
theorem q981 : (Jvm.Cond.unhidden "ApologyUp$Minus" "of" "([I)J") ∈ lw_tbl := lw_at lw_m4 132 rfl
theorem q982 : (Jvm.Cond.instanceMethod ({ cls := "ApologyUp$Minus", name := "of", desc := "([I)J" } : Jvm.MethodName)) ∈ lw_all := lw_g (lw_at lw_m4 133 rfl) rfl
theorem q983 : (Jvm.Cond.publicMethod ({ cls := "ApologyUp$Minus", name := "of", desc := "([I)J" } : Jvm.MethodName)) ∈ lw_tbl := lw_at lw_m4 134 rfl
theorem q984 : (Jvm.Cond.code ({ cls := "ApologyUp$Minus", name := "of", desc := "([I)J" } : Jvm.MethodName) prog_9_method_2_code (2 : Nat) (Option.some Jvm.ClassFile.FieldType.long)) ∈ lw_all := lw_g (lw_at lw_m4 135 rfl) rfl
theorem q985 : (Jvm.Cond.interfaceEntry "ApologyUp$Minus" (13 : Nat)) ∈ lw_tbl := lw_at lw_m4 136 rfl
theorem q986 : (Jvm.Cond.methodLink "ApologyUp$Minus" (13 : Nat) ({ cls := "ApologyUp$Sum", name := "of", desc := "([I)J" } : Jvm.MethodName)) ∈ lw_all := lw_g (lw_at lw_m4 137 rfl) rfl
theorem q2033 : (Jvm.Cond.castable "ApologyUp$Minus" "java/lang/Object") ∈ lw_tbl := lw_at lw_m8 224 rfl
theorem in_X15 : ∀ w ∈ wsX150, w ∈ lw_all := lw_in wsX150 [792] (by decide +kernel) (by decide +kernel)
/-! ApologyUp$Doing -/
set_option maxRecDepth 100000
def RX16 : String := "ApologyUp$Doing"
def TX16 : u_T := fun k => match k with
  | 0 => ("ApologyUp$Doing", "sort", "I", true)
  | 1 => ("ApologyUp$Doing", "a", "I", true)
  | 2 => ("ApologyUp$Doing", "b", "I", true)
  | 3 => ("ApologyUp$Doing", "c", "I", true)
  | _ => ("ApologyUp$Doing", "number", "I", true)
def tyX16 : Nat → FieldType := fun k => match k with
  | 0 => .int
  | 1 => .int
  | 2 => .int
  | 3 => .int
  | _ => .int
abbrev wsX160 : List Cond := u_ws RX16 TX16 5
theorem nmX16 : ∀ a, a < 5 → ∀ b, b < 5 → a ≠ b → (TX16 a).2.1 ≠ (TX16 b).2.1 := by decide +kernel
theorem tyX16_ok : ∀ k, k < 5 → parseFieldDescriptor (TX16 k).2.2.1 = some (tyX16 k) := by decide +kernel
abbrev cX16_init : ByteArray := prog_6_method_1_code
def yX16_init : MethodName := ⟨RX16, "<init>", "(IIIII)V"⟩
def dkwX16_init_1 : List UInt8 := [181, 0, 19, 42, 21, 5, 181, 0, 22, 177]
abbrev dktX16_init_1 : List UInt8 := dkwX16_init_1 ++ []
def dkwX16_init_0 : List UInt8 := [42, 183, 0, 1, 42, 27, 181, 0, 7, 42, 28, 181, 0, 13, 42, 29, 181, 0, 16, 42, 21, 4]
abbrev dktX16_init_0 : List UInt8 := dkwX16_init_0 ++ dktX16_init_1
theorem dksX16_init_0 : cX16_init.data.toList.drop 0 = dktX16_init_0 := by decide +kernel
theorem dksX16_init_1 : cX16_init.data.toList.drop 22 = dktX16_init_1 := dk_seg dksX16_init_0 22 rfl rfl
theorem dX16_init_0 : decode cX16_init 0 = .ok (.aload_n 0, 1) := dk_42 (dk_at dksX16_init_0 0 rfl rfl)
theorem dX16_init_1 : decode cX16_init 1 = .ok (.invokespecial 1, 3) := dk_183 0 1 (dk_at dksX16_init_0 1 rfl rfl)
theorem dX16_init_4 : decode cX16_init 4 = .ok (.aload_n 0, 1) := dk_42 (dk_at dksX16_init_0 4 rfl rfl)
theorem dX16_init_5 : decode cX16_init 5 = .ok (.iload_n 1, 1) := dk_27 (dk_at dksX16_init_0 5 rfl rfl)
theorem dX16_init_6 : decode cX16_init 6 = .ok (.putfield 7, 3) := dk_181 0 7 (dk_at dksX16_init_0 6 rfl rfl)
theorem dX16_init_9 : decode cX16_init 9 = .ok (.aload_n 0, 1) := dk_42 (dk_at dksX16_init_0 9 rfl rfl)
theorem dX16_init_10 : decode cX16_init 10 = .ok (.iload_n 2, 1) := dk_28 (dk_at dksX16_init_0 10 rfl rfl)
theorem dX16_init_11 : decode cX16_init 11 = .ok (.putfield 13, 3) := dk_181 0 13 (dk_at dksX16_init_0 11 rfl rfl)
theorem dX16_init_14 : decode cX16_init 14 = .ok (.aload_n 0, 1) := dk_42 (dk_at dksX16_init_0 14 rfl rfl)
theorem dX16_init_15 : decode cX16_init 15 = .ok (.iload_n 3, 1) := dk_29 (dk_at dksX16_init_0 15 rfl rfl)
theorem dX16_init_16 : decode cX16_init 16 = .ok (.putfield 16, 3) := dk_181 0 16 (dk_at dksX16_init_0 16 rfl rfl)
theorem dX16_init_19 : decode cX16_init 19 = .ok (.aload_n 0, 1) := dk_42 (dk_at dksX16_init_0 19 rfl rfl)
theorem dX16_init_20 : decode cX16_init 20 = .ok (.iload 4, 2) := dk_21 4 (dk_at dksX16_init_0 20 rfl rfl)
theorem dX16_init_22 : decode cX16_init 22 = .ok (.putfield 19, 3) := dk_181 0 19 (dk_at dksX16_init_1 0 rfl rfl)
theorem dX16_init_25 : decode cX16_init 25 = .ok (.aload_n 0, 1) := dk_42 (dk_at dksX16_init_1 3 rfl rfl)
theorem dX16_init_26 : decode cX16_init 26 = .ok (.iload 5, 2) := dk_21 5 (dk_at dksX16_init_1 4 rfl rfl)
theorem dX16_init_28 : decode cX16_init 28 = .ok (.putfield 22, 3) := dk_181 0 22 (dk_at dksX16_init_1 6 rfl rfl)
theorem dX16_init_31 : decode cX16_init 31 = .ok (.return_, 1) := dk_177 (dk_at dksX16_init_1 9 rfl rfl)
abbrev cX16_sort : ByteArray := prog_6_method_5_code
def yX16_sort : MethodName := ⟨RX16, "sort", "()I"⟩
theorem dX16_sort_0 : decode cX16_sort 0 = .ok (.aload_n 0, 1) := by decide +kernel
theorem dX16_sort_1 : decode cX16_sort 1 = .ok (.getfield 7, 3) := by decide +kernel
theorem dX16_sort_4 : decode cX16_sort 4 = .ok (.ireturn, 1) := by decide +kernel
abbrev cX16_b : ByteArray := prog_6_method_7_code
def yX16_b : MethodName := ⟨RX16, "b", "()I"⟩
theorem dX16_b_0 : decode cX16_b 0 = .ok (.aload_n 0, 1) := by decide +kernel
theorem dX16_b_1 : decode cX16_b 1 = .ok (.getfield 16, 3) := by decide +kernel
theorem dX16_b_4 : decode cX16_b 4 = .ok (.ireturn, 1) := by decide +kernel
abbrev cX16_a : ByteArray := prog_6_method_6_code
def yX16_a : MethodName := ⟨RX16, "a", "()I"⟩
theorem dX16_a_0 : decode cX16_a 0 = .ok (.aload_n 0, 1) := by decide +kernel
theorem dX16_a_1 : decode cX16_a 1 = .ok (.getfield 13, 3) := by decide +kernel
theorem dX16_a_4 : decode cX16_a 4 = .ok (.ireturn, 1) := by decide +kernel
abbrev cX16_c : ByteArray := prog_6_method_8_code
def yX16_c : MethodName := ⟨RX16, "c", "()I"⟩
theorem dX16_c_0 : decode cX16_c 0 = .ok (.aload_n 0, 1) := by decide +kernel
theorem dX16_c_1 : decode cX16_c 1 = .ok (.getfield 19, 3) := by decide +kernel
theorem dX16_c_4 : decode cX16_c 4 = .ok (.ireturn, 1) := by decide +kernel
abbrev cX16_number : ByteArray := prog_6_method_9_code
def yX16_number : MethodName := ⟨RX16, "number", "()I"⟩
theorem dX16_number_0 : decode cX16_number 0 = .ok (.aload_n 0, 1) := by decide +kernel
theorem dX16_number_1 : decode cX16_number 1 = .ok (.getfield 22, 3) := by decide +kernel
theorem dX16_number_4 : decode cX16_number 4 = .ok (.ireturn, 1) := by decide +kernel
theorem q164 : (Jvm.Cond.initialized "ApologyUp$Doing") ∈ lw_all := lw_g (lw_at lw_m1 35 rfl) rfl
theorem q662 : (Jvm.Cond.selects "ApologyUp$Doing" ({ cls := "java/lang/Object", name := "getClass", desc := "()Ljava/lang/Class;" } : Jvm.MethodName) ({ cls := "java/lang/Object", name := "getClass", desc := "()Ljava/lang/Class;" } : Jvm.MethodName)) ∈ lw_all := lw_g (lw_at lw_m3 53 rfl) rfl
theorem q849 : (Jvm.Cond.instantiable "ApologyUp$Doing" (5 : Nat)) ∈ lw_all := lw_g (lw_at lw_m4 0 rfl) rfl
theorem q855 : (Jvm.Cond.instanceMethod ({ cls := "ApologyUp$Doing", name := "<init>", desc := "(IIIII)V" } : Jvm.MethodName)) ∈ lw_all := lw_g (lw_at lw_m4 6 rfl) rfl
theorem q856 : (Jvm.Cond.code ({ cls := "ApologyUp$Doing", name := "<init>", desc := "(IIIII)V" } : Jvm.MethodName) prog_6_method_1_code (6 : Nat) (Option.none : Option Jvm.ClassFile.FieldType)) ∈ lw_all := lw_g (lw_at lw_m4 7 rfl) rfl
theorem q857 : (Jvm.Cond.methodLink "ApologyUp$Doing" (1 : Nat) ({ cls := "java/lang/Record", name := "<init>", desc := "()V" } : Jvm.MethodName)) ∈ lw_all := lw_g (lw_at lw_m4 8 rfl) rfl
theorem q858 : (Jvm.Cond.fieldLink "ApologyUp$Doing" (7 : Nat) "ApologyUp$Doing" "sort" "I") ∈ lw_all := lw_g (lw_at lw_m4 9 rfl) rfl
theorem q859 : (Jvm.Cond.fieldLink "ApologyUp$Doing" (13 : Nat) "ApologyUp$Doing" "a" "I") ∈ lw_all := lw_g (lw_at lw_m4 10 rfl) rfl
theorem q860 : (Jvm.Cond.fieldLink "ApologyUp$Doing" (16 : Nat) "ApologyUp$Doing" "b" "I") ∈ lw_all := lw_g (lw_at lw_m4 11 rfl) rfl
theorem q861 : (Jvm.Cond.fieldLink "ApologyUp$Doing" (19 : Nat) "ApologyUp$Doing" "c" "I") ∈ lw_all := lw_g (lw_at lw_m4 12 rfl) rfl
theorem q862 : (Jvm.Cond.fieldLink "ApologyUp$Doing" (22 : Nat) "ApologyUp$Doing" "number" "I") ∈ lw_all := lw_g (lw_at lw_m4 13 rfl) rfl
theorem q863 : (Jvm.Cond.laysFinal "ApologyUp$Doing" "ApologyUp$Doing" "sort" "I") ∈ lw_all := lw_g (lw_at lw_m4 14 rfl) rfl
theorem q864 : (Jvm.Cond.soleField "ApologyUp$Doing" "sort") ∈ lw_all := lw_g (lw_at lw_m4 15 rfl) rfl
theorem q865 : (Jvm.Cond.laysFinal "ApologyUp$Doing" "ApologyUp$Doing" "a" "I") ∈ lw_all := lw_g (lw_at lw_m4 16 rfl) rfl
theorem q866 : (Jvm.Cond.soleField "ApologyUp$Doing" "a") ∈ lw_all := lw_g (lw_at lw_m4 17 rfl) rfl
theorem q867 : (Jvm.Cond.laysFinal "ApologyUp$Doing" "ApologyUp$Doing" "b" "I") ∈ lw_all := lw_g (lw_at lw_m4 18 rfl) rfl
theorem q868 : (Jvm.Cond.soleField "ApologyUp$Doing" "b") ∈ lw_all := lw_g (lw_at lw_m4 19 rfl) rfl
theorem q869 : (Jvm.Cond.laysFinal "ApologyUp$Doing" "ApologyUp$Doing" "c" "I") ∈ lw_all := lw_g (lw_at lw_m4 20 rfl) rfl
theorem q870 : (Jvm.Cond.soleField "ApologyUp$Doing" "c") ∈ lw_all := lw_g (lw_at lw_m4 21 rfl) rfl
theorem q871 : (Jvm.Cond.laysFinal "ApologyUp$Doing" "ApologyUp$Doing" "number" "I") ∈ lw_all := lw_g (lw_at lw_m4 22 rfl) rfl
theorem q872 : (Jvm.Cond.soleField "ApologyUp$Doing" "number") ∈ lw_all := lw_g (lw_at lw_m4 23 rfl) rfl
theorem q873 : (Jvm.Cond.superclass "ApologyUp$Doing" "java/lang/Record") ∈ lw_all := lw_g (lw_at lw_m4 24 rfl) rfl
theorem q1114 : (Jvm.Cond.instanceMethod ({ cls := "ApologyUp$Doing", name := "sort", desc := "()I" } : Jvm.MethodName)) ∈ lw_all := lw_g (lw_at lw_m5 25 rfl) rfl
theorem q1115 : (Jvm.Cond.selects "ApologyUp$Doing" ({ cls := "ApologyUp$Doing", name := "sort", desc := "()I" } : Jvm.MethodName) ({ cls := "ApologyUp$Doing", name := "sort", desc := "()I" } : Jvm.MethodName)) ∈ lw_all := lw_g (lw_at lw_m5 26 rfl) rfl
theorem q1116 : (Jvm.Cond.code ({ cls := "ApologyUp$Doing", name := "sort", desc := "()I" } : Jvm.MethodName) prog_6_method_5_code (1 : Nat) (Option.some Jvm.ClassFile.FieldType.int)) ∈ lw_all := lw_g (lw_at lw_m5 27 rfl) rfl
theorem q1118 : (Jvm.Cond.instanceMethod ({ cls := "ApologyUp$Doing", name := "b", desc := "()I" } : Jvm.MethodName)) ∈ lw_all := lw_g (lw_at lw_m5 29 rfl) rfl
theorem q1119 : (Jvm.Cond.selects "ApologyUp$Doing" ({ cls := "ApologyUp$Doing", name := "b", desc := "()I" } : Jvm.MethodName) ({ cls := "ApologyUp$Doing", name := "b", desc := "()I" } : Jvm.MethodName)) ∈ lw_all := lw_g (lw_at lw_m5 30 rfl) rfl
theorem q1120 : (Jvm.Cond.code ({ cls := "ApologyUp$Doing", name := "b", desc := "()I" } : Jvm.MethodName) prog_6_method_7_code (1 : Nat) (Option.some Jvm.ClassFile.FieldType.int)) ∈ lw_all := lw_g (lw_at lw_m5 31 rfl) rfl
theorem q1122 : (Jvm.Cond.instanceMethod ({ cls := "ApologyUp$Doing", name := "a", desc := "()I" } : Jvm.MethodName)) ∈ lw_all := lw_g (lw_at lw_m5 33 rfl) rfl
theorem q1123 : (Jvm.Cond.selects "ApologyUp$Doing" ({ cls := "ApologyUp$Doing", name := "a", desc := "()I" } : Jvm.MethodName) ({ cls := "ApologyUp$Doing", name := "a", desc := "()I" } : Jvm.MethodName)) ∈ lw_all := lw_g (lw_at lw_m5 34 rfl) rfl
theorem q1124 : (Jvm.Cond.code ({ cls := "ApologyUp$Doing", name := "a", desc := "()I" } : Jvm.MethodName) prog_6_method_6_code (1 : Nat) (Option.some Jvm.ClassFile.FieldType.int)) ∈ lw_all := lw_g (lw_at lw_m5 35 rfl) rfl
theorem q1128 : (Jvm.Cond.instanceMethod ({ cls := "ApologyUp$Doing", name := "c", desc := "()I" } : Jvm.MethodName)) ∈ lw_all := lw_g (lw_at lw_m5 39 rfl) rfl
theorem q1129 : (Jvm.Cond.selects "ApologyUp$Doing" ({ cls := "ApologyUp$Doing", name := "c", desc := "()I" } : Jvm.MethodName) ({ cls := "ApologyUp$Doing", name := "c", desc := "()I" } : Jvm.MethodName)) ∈ lw_all := lw_g (lw_at lw_m5 40 rfl) rfl
theorem q1130 : (Jvm.Cond.code ({ cls := "ApologyUp$Doing", name := "c", desc := "()I" } : Jvm.MethodName) prog_6_method_8_code (1 : Nat) (Option.some Jvm.ClassFile.FieldType.int)) ∈ lw_all := lw_g (lw_at lw_m5 41 rfl) rfl
theorem q1140 : (Jvm.Cond.instanceMethod ({ cls := "ApologyUp$Doing", name := "number", desc := "()I" } : Jvm.MethodName)) ∈ lw_all := lw_g (lw_at lw_m5 51 rfl) rfl
theorem q1141 : (Jvm.Cond.selects "ApologyUp$Doing" ({ cls := "ApologyUp$Doing", name := "number", desc := "()I" } : Jvm.MethodName) ({ cls := "ApologyUp$Doing", name := "number", desc := "()I" } : Jvm.MethodName)) ∈ lw_all := lw_g (lw_at lw_m5 52 rfl) rfl
theorem q1142 : (Jvm.Cond.code ({ cls := "ApologyUp$Doing", name := "number", desc := "()I" } : Jvm.MethodName) prog_6_method_9_code (1 : Nat) (Option.some Jvm.ClassFile.FieldType.int)) ∈ lw_all := lw_g (lw_at lw_m5 53 rfl) rfl
theorem q2035 : (Jvm.Cond.castable "ApologyUp$Doing" "java/lang/Object") ∈ lw_tbl := lw_at lw_m8 226 rfl
theorem in_X16 : ∀ w ∈ wsX160, w ∈ lw_all := lw_in wsX160 [863, 865, 867, 869, 871] (by decide +kernel) (by decide +kernel)
