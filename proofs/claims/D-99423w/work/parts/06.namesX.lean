/-! ApologyUp -/
set_option maxRecDepth 100000
def RX0 : String := "ApologyUp"
def TX0 : u_T := fun k => match k with
  | 0 => ("ApologyUp", "now", "LApologyUp$State;", true)
  | 1 => ("ApologyUp", "image", "LApologyUp$State;", true)
  | 2 => ("ApologyUp", "tape", "[B", true)
  | 3 => ("ApologyUp", "taped", "I", false)
  | 4 => ("ApologyUp", "fault", "I", false)
  | 5 => ("ApologyUp", "faultAt", "I", false)
  | 6 => ("ApologyUp", "names", "[I", true)
  | 7 => ("ApologyUp", "tried", "[I", true)
  | 8 => ("ApologyUp", "way", "[I", true)
  | 9 => ("ApologyUp", "bestWay", "[I", true)
  | 10 => ("ApologyUp", "bestDays", "I", false)
  | 11 => ("ApologyUp", "bestSize", "I", false)
  | 12 => ("ApologyUp", "bestLong", "I", false)
  | 13 => ("ApologyUp", "with", "[I", true)
  | _ => ("ApologyUp", "all", "I", false)
def tyX0 : Nat → FieldType := fun k => match k with
  | 0 => .object "ApologyUp$State"
  | 1 => .object "ApologyUp$State"
  | 2 => .array .byte
  | 3 => .int
  | 4 => .int
  | 5 => .int
  | 6 => .array .int
  | 7 => .array .int
  | 8 => .array .int
  | 9 => .array .int
  | 10 => .int
  | 11 => .int
  | 12 => .int
  | 13 => .array .int
  | _ => .int
abbrev wsX00 : List Cond := u_ws RX0 TX0 15
set_option maxRecDepth 100000 in
theorem nmX0 : ∀ a, a < 15 → ∀ b, b < 15 → a ≠ b → (TX0 a).2.1 ≠ (TX0 b).2.1 := by decide +kernel
set_option maxRecDepth 100000 in
theorem tyX0_ok : ∀ k, k < 15 → parseFieldDescriptor (TX0 k).2.2.1 = some (tyX0 k) := by decide +kernel
abbrev cX0_init : ByteArray := prog_1_method_4_code
def yX0_init : MethodName := ⟨RX0, "<init>", "()V"⟩
def dkwX0_init_4 : List UInt8 := [182, 0, 55, 177]
abbrev dktX0_init_4 : List UInt8 := dkwX0_init_4 ++ []
def dkwX0_init_3 : List UInt8 := [42, 16, 10, 188, 10, 181, 0, 49, 42, 16, 8, 188, 10, 181, 0, 52, 42, 180, 0, 25, 42, 180, 0, 21]
abbrev dktX0_init_3 : List UInt8 := dkwX0_init_3 ++ dktX0_init_4
def dkwX0_init_2 : List UInt8 := [16, 19, 188, 10, 181, 0, 39, 42, 17, 0, 204, 188, 10, 181, 0, 43, 42, 16, 10, 188, 10, 181, 0, 46]
abbrev dktX0_init_2 : List UInt8 := dkwX0_init_2 ++ dktX0_init_3
def dkwX0_init_1 : List UInt8 := [181, 0, 25, 42, 17, 1, 44, 188, 8, 181, 0, 28, 42, 2, 181, 0, 32, 42, 2, 181, 0, 36, 42]
abbrev dktX0_init_1 : List UInt8 := dkwX0_init_1 ++ dktX0_init_2
def dkwX0_init_0 : List UInt8 := [42, 183, 0, 12, 42, 187, 0, 18, 89, 183, 0, 20, 181, 0, 21, 42, 187, 0, 18, 89, 183, 0, 20]
abbrev dktX0_init_0 : List UInt8 := dkwX0_init_0 ++ dktX0_init_1
theorem dksX0_init_0 : cX0_init.data.toList.drop 0 = dktX0_init_0 := by decide +kernel
theorem dksX0_init_1 : cX0_init.data.toList.drop 23 = dktX0_init_1 := dk_seg dksX0_init_0 23 rfl rfl
theorem dksX0_init_2 : cX0_init.data.toList.drop 46 = dktX0_init_2 := dk_seg dksX0_init_1 23 rfl rfl
theorem dksX0_init_3 : cX0_init.data.toList.drop 70 = dktX0_init_3 := dk_seg dksX0_init_2 24 rfl rfl
theorem dksX0_init_4 : cX0_init.data.toList.drop 94 = dktX0_init_4 := dk_seg dksX0_init_3 24 rfl rfl
theorem dX0_init_0 : decode cX0_init 0 = .ok (.aload_n 0, 1) := dk_42 (dk_at dksX0_init_0 0 rfl rfl)
theorem dX0_init_1 : decode cX0_init 1 = .ok (.invokespecial 12, 3) := dk_183 0 12 (dk_at dksX0_init_0 1 rfl rfl)
theorem dX0_init_4 : decode cX0_init 4 = .ok (.aload_n 0, 1) := dk_42 (dk_at dksX0_init_0 4 rfl rfl)
theorem dX0_init_5 : decode cX0_init 5 = .ok (.new 18, 3) := dk_187 0 18 (dk_at dksX0_init_0 5 rfl rfl)
theorem dX0_init_8 : decode cX0_init 8 = .ok (.dup, 1) := dk_89 (dk_at dksX0_init_0 8 rfl rfl)
theorem dX0_init_9 : decode cX0_init 9 = .ok (.invokespecial 20, 3) := dk_183 0 20 (dk_at dksX0_init_0 9 rfl rfl)
theorem dX0_init_12 : decode cX0_init 12 = .ok (.putfield 21, 3) := dk_181 0 21 (dk_at dksX0_init_0 12 rfl rfl)
theorem dX0_init_15 : decode cX0_init 15 = .ok (.aload_n 0, 1) := dk_42 (dk_at dksX0_init_0 15 rfl rfl)
theorem dX0_init_16 : decode cX0_init 16 = .ok (.new 18, 3) := dk_187 0 18 (dk_at dksX0_init_0 16 rfl rfl)
theorem dX0_init_19 : decode cX0_init 19 = .ok (.dup, 1) := dk_89 (dk_at dksX0_init_0 19 rfl rfl)
theorem dX0_init_20 : decode cX0_init 20 = .ok (.invokespecial 20, 3) := dk_183 0 20 (dk_at dksX0_init_0 20 rfl rfl)
theorem dX0_init_23 : decode cX0_init 23 = .ok (.putfield 25, 3) := dk_181 0 25 (dk_at dksX0_init_1 0 rfl rfl)
theorem dX0_init_26 : decode cX0_init 26 = .ok (.aload_n 0, 1) := dk_42 (dk_at dksX0_init_1 3 rfl rfl)
theorem dX0_init_27 : decode cX0_init 27 = .ok (.sipush 300, 3) := dk_17 1 44 (dk_at dksX0_init_1 4 rfl rfl)
theorem dX0_init_30 : decode cX0_init 30 = .ok (.newarray .byte, 2) := dk_188_8 (dk_at dksX0_init_1 7 rfl rfl)
theorem dX0_init_32 : decode cX0_init 32 = .ok (.putfield 28, 3) := dk_181 0 28 (dk_at dksX0_init_1 9 rfl rfl)
theorem dX0_init_35 : decode cX0_init 35 = .ok (.aload_n 0, 1) := dk_42 (dk_at dksX0_init_1 12 rfl rfl)
theorem dX0_init_36 : decode cX0_init 36 = .ok (.iconst (-1), 1) := dk_2 (dk_at dksX0_init_1 13 rfl rfl)
theorem dX0_init_37 : decode cX0_init 37 = .ok (.putfield 32, 3) := dk_181 0 32 (dk_at dksX0_init_1 14 rfl rfl)
theorem dX0_init_40 : decode cX0_init 40 = .ok (.aload_n 0, 1) := dk_42 (dk_at dksX0_init_1 17 rfl rfl)
theorem dX0_init_41 : decode cX0_init 41 = .ok (.iconst (-1), 1) := dk_2 (dk_at dksX0_init_1 18 rfl rfl)
theorem dX0_init_42 : decode cX0_init 42 = .ok (.putfield 36, 3) := dk_181 0 36 (dk_at dksX0_init_1 19 rfl rfl)
theorem dX0_init_45 : decode cX0_init 45 = .ok (.aload_n 0, 1) := dk_42 (dk_at dksX0_init_1 22 rfl rfl)
theorem dX0_init_46 : decode cX0_init 46 = .ok (.bipush 19, 2) := dk_16 19 (dk_at dksX0_init_2 0 rfl rfl)
theorem dX0_init_48 : decode cX0_init 48 = .ok (.newarray .int, 2) := dk_188_10 (dk_at dksX0_init_2 2 rfl rfl)
theorem dX0_init_50 : decode cX0_init 50 = .ok (.putfield 39, 3) := dk_181 0 39 (dk_at dksX0_init_2 4 rfl rfl)
theorem dX0_init_53 : decode cX0_init 53 = .ok (.aload_n 0, 1) := dk_42 (dk_at dksX0_init_2 7 rfl rfl)
theorem dX0_init_54 : decode cX0_init 54 = .ok (.sipush 204, 3) := dk_17 0 204 (dk_at dksX0_init_2 8 rfl rfl)
theorem dX0_init_57 : decode cX0_init 57 = .ok (.newarray .int, 2) := dk_188_10 (dk_at dksX0_init_2 11 rfl rfl)
theorem dX0_init_59 : decode cX0_init 59 = .ok (.putfield 43, 3) := dk_181 0 43 (dk_at dksX0_init_2 13 rfl rfl)
theorem dX0_init_62 : decode cX0_init 62 = .ok (.aload_n 0, 1) := dk_42 (dk_at dksX0_init_2 16 rfl rfl)
theorem dX0_init_63 : decode cX0_init 63 = .ok (.bipush 10, 2) := dk_16 10 (dk_at dksX0_init_2 17 rfl rfl)
theorem dX0_init_65 : decode cX0_init 65 = .ok (.newarray .int, 2) := dk_188_10 (dk_at dksX0_init_2 19 rfl rfl)
theorem dX0_init_67 : decode cX0_init 67 = .ok (.putfield 46, 3) := dk_181 0 46 (dk_at dksX0_init_2 21 rfl rfl)
theorem dX0_init_70 : decode cX0_init 70 = .ok (.aload_n 0, 1) := dk_42 (dk_at dksX0_init_3 0 rfl rfl)
theorem dX0_init_71 : decode cX0_init 71 = .ok (.bipush 10, 2) := dk_16 10 (dk_at dksX0_init_3 1 rfl rfl)
theorem dX0_init_73 : decode cX0_init 73 = .ok (.newarray .int, 2) := dk_188_10 (dk_at dksX0_init_3 3 rfl rfl)
theorem dX0_init_75 : decode cX0_init 75 = .ok (.putfield 49, 3) := dk_181 0 49 (dk_at dksX0_init_3 5 rfl rfl)
theorem dX0_init_78 : decode cX0_init 78 = .ok (.aload_n 0, 1) := dk_42 (dk_at dksX0_init_3 8 rfl rfl)
theorem dX0_init_79 : decode cX0_init 79 = .ok (.bipush 8, 2) := dk_16 8 (dk_at dksX0_init_3 9 rfl rfl)
theorem dX0_init_81 : decode cX0_init 81 = .ok (.newarray .int, 2) := dk_188_10 (dk_at dksX0_init_3 11 rfl rfl)
theorem dX0_init_83 : decode cX0_init 83 = .ok (.putfield 52, 3) := dk_181 0 52 (dk_at dksX0_init_3 13 rfl rfl)
theorem dX0_init_86 : decode cX0_init 86 = .ok (.aload_n 0, 1) := dk_42 (dk_at dksX0_init_3 16 rfl rfl)
theorem dX0_init_87 : decode cX0_init 87 = .ok (.getfield 25, 3) := dk_180 0 25 (dk_at dksX0_init_3 17 rfl rfl)
theorem dX0_init_90 : decode cX0_init 90 = .ok (.aload_n 0, 1) := dk_42 (dk_at dksX0_init_3 20 rfl rfl)
theorem dX0_init_91 : decode cX0_init 91 = .ok (.getfield 21, 3) := dk_180 0 21 (dk_at dksX0_init_3 21 rfl rfl)
theorem dX0_init_94 : decode cX0_init 94 = .ok (.invokevirtual 55, 3) := dk_182 0 55 (dk_at dksX0_init_4 0 rfl rfl)
theorem dX0_init_97 : decode cX0_init 97 = .ok (.return_, 1) := dk_177 (dk_at dksX0_init_4 3 rfl rfl)
abbrev cX0_officer : ByteArray := prog_1_method_8_code
def yX0_officer : MethodName := ⟨RX0, "officer", "(II)I"⟩
def dkwX0_officer_3 : List UInt8 := [180, 0, 59, 3, 92, 46, 4, 96, 79, 29, 172]
abbrev dktX0_officer_3 : List UInt8 := dkwX0_officer_3 ++ []
def dkwX0_officer_2 : List UInt8 := [42, 180, 0, 21, 180, 0, 73, 29, 27, 79, 42, 180, 0, 21, 180, 0, 76, 29, 28, 79, 42, 180, 0, 21]
abbrev dktX0_officer_2 : List UInt8 := dkwX0_officer_2 ++ dktX0_officer_3
def dkwX0_officer_1 : List UInt8 := [182, 0, 69, 153, 0, 19, 28, 3, 16, 9, 184, 0, 62, 153, 0, 9, 29, 16, 10, 160, 0, 5, 2, 172]
abbrev dktX0_officer_1 : List UInt8 := dkwX0_officer_1 ++ dktX0_officer_2
def dkwX0_officer_0 : List UInt8 := [42, 180, 0, 21, 180, 0, 59, 3, 46, 62, 29, 154, 0, 11, 27, 2, 159, 0, 14, 167, 0, 27, 42, 27]
abbrev dktX0_officer_0 : List UInt8 := dkwX0_officer_0 ++ dktX0_officer_1
theorem dksX0_officer_0 : cX0_officer.data.toList.drop 0 = dktX0_officer_0 := by decide +kernel
theorem dksX0_officer_1 : cX0_officer.data.toList.drop 24 = dktX0_officer_1 := dk_seg dksX0_officer_0 24 rfl rfl
theorem dksX0_officer_2 : cX0_officer.data.toList.drop 48 = dktX0_officer_2 := dk_seg dksX0_officer_1 24 rfl rfl
theorem dksX0_officer_3 : cX0_officer.data.toList.drop 72 = dktX0_officer_3 := dk_seg dksX0_officer_2 24 rfl rfl
theorem dX0_officer_0 : decode cX0_officer 0 = .ok (.aload_n 0, 1) := dk_42 (dk_at dksX0_officer_0 0 rfl rfl)
theorem dX0_officer_1 : decode cX0_officer 1 = .ok (.getfield 21, 3) := dk_180 0 21 (dk_at dksX0_officer_0 1 rfl rfl)
theorem dX0_officer_4 : decode cX0_officer 4 = .ok (.getfield 59, 3) := dk_180 0 59 (dk_at dksX0_officer_0 4 rfl rfl)
theorem dX0_officer_7 : decode cX0_officer 7 = .ok (.iconst 0, 1) := dk_3 (dk_at dksX0_officer_0 7 rfl rfl)
theorem dX0_officer_8 : decode cX0_officer 8 = .ok (.iaload, 1) := dk_46 (dk_at dksX0_officer_0 8 rfl rfl)
theorem dX0_officer_9 : decode cX0_officer 9 = .ok (.istore_n 3, 1) := dk_62 (dk_at dksX0_officer_0 9 rfl rfl)
theorem dX0_officer_10 : decode cX0_officer 10 = .ok (.iload_n 3, 1) := dk_29 (dk_at dksX0_officer_0 10 rfl rfl)
theorem dX0_officer_11 : decode cX0_officer 11 = .ok (.ifCond .ne 11, 3) := dk_154 0 11 (dk_at dksX0_officer_0 11 rfl rfl)
theorem dX0_officer_14 : decode cX0_officer 14 = .ok (.iload_n 1, 1) := dk_27 (dk_at dksX0_officer_0 14 rfl rfl)
theorem dX0_officer_15 : decode cX0_officer 15 = .ok (.iconst (-1), 1) := dk_2 (dk_at dksX0_officer_0 15 rfl rfl)
theorem dX0_officer_16 : decode cX0_officer 16 = .ok (.if_icmp .eq 14, 3) := dk_159 0 14 (dk_at dksX0_officer_0 16 rfl rfl)
theorem dX0_officer_19 : decode cX0_officer 19 = .ok (.goto 27, 3) := dk_167 0 27 (dk_at dksX0_officer_0 19 rfl rfl)
theorem dX0_officer_22 : decode cX0_officer 22 = .ok (.aload_n 0, 1) := dk_42 (dk_at dksX0_officer_0 22 rfl rfl)
theorem dX0_officer_23 : decode cX0_officer 23 = .ok (.iload_n 1, 1) := dk_27 (dk_at dksX0_officer_0 23 rfl rfl)
theorem dX0_officer_24 : decode cX0_officer 24 = .ok (.invokevirtual 69, 3) := dk_182 0 69 (dk_at dksX0_officer_1 0 rfl rfl)
theorem dX0_officer_27 : decode cX0_officer 27 = .ok (.ifCond .eq 19, 3) := dk_153 0 19 (dk_at dksX0_officer_1 3 rfl rfl)
theorem dX0_officer_30 : decode cX0_officer 30 = .ok (.iload_n 2, 1) := dk_28 (dk_at dksX0_officer_1 6 rfl rfl)
theorem dX0_officer_31 : decode cX0_officer 31 = .ok (.iconst 0, 1) := dk_3 (dk_at dksX0_officer_1 7 rfl rfl)
theorem dX0_officer_32 : decode cX0_officer 32 = .ok (.bipush 9, 2) := dk_16 9 (dk_at dksX0_officer_1 8 rfl rfl)
theorem dX0_officer_34 : decode cX0_officer 34 = .ok (.invokestatic 62, 3) := dk_184 0 62 (dk_at dksX0_officer_1 10 rfl rfl)
theorem dX0_officer_37 : decode cX0_officer 37 = .ok (.ifCond .eq 9, 3) := dk_153 0 9 (dk_at dksX0_officer_1 13 rfl rfl)
theorem dX0_officer_40 : decode cX0_officer 40 = .ok (.iload_n 3, 1) := dk_29 (dk_at dksX0_officer_1 16 rfl rfl)
theorem dX0_officer_41 : decode cX0_officer 41 = .ok (.bipush 10, 2) := dk_16 10 (dk_at dksX0_officer_1 17 rfl rfl)
theorem dX0_officer_43 : decode cX0_officer 43 = .ok (.if_icmp .ne 5, 3) := dk_160 0 5 (dk_at dksX0_officer_1 19 rfl rfl)
theorem dX0_officer_46 : decode cX0_officer 46 = .ok (.iconst (-1), 1) := dk_2 (dk_at dksX0_officer_1 22 rfl rfl)
theorem dX0_officer_47 : decode cX0_officer 47 = .ok (.ireturn, 1) := dk_172 (dk_at dksX0_officer_1 23 rfl rfl)
theorem dX0_officer_48 : decode cX0_officer 48 = .ok (.aload_n 0, 1) := dk_42 (dk_at dksX0_officer_2 0 rfl rfl)
theorem dX0_officer_49 : decode cX0_officer 49 = .ok (.getfield 21, 3) := dk_180 0 21 (dk_at dksX0_officer_2 1 rfl rfl)
theorem dX0_officer_52 : decode cX0_officer 52 = .ok (.getfield 73, 3) := dk_180 0 73 (dk_at dksX0_officer_2 4 rfl rfl)
theorem dX0_officer_55 : decode cX0_officer 55 = .ok (.iload_n 3, 1) := dk_29 (dk_at dksX0_officer_2 7 rfl rfl)
theorem dX0_officer_56 : decode cX0_officer 56 = .ok (.iload_n 1, 1) := dk_27 (dk_at dksX0_officer_2 8 rfl rfl)
theorem dX0_officer_57 : decode cX0_officer 57 = .ok (.iastore, 1) := dk_79 (dk_at dksX0_officer_2 9 rfl rfl)
theorem dX0_officer_58 : decode cX0_officer 58 = .ok (.aload_n 0, 1) := dk_42 (dk_at dksX0_officer_2 10 rfl rfl)
theorem dX0_officer_59 : decode cX0_officer 59 = .ok (.getfield 21, 3) := dk_180 0 21 (dk_at dksX0_officer_2 11 rfl rfl)
theorem dX0_officer_62 : decode cX0_officer 62 = .ok (.getfield 76, 3) := dk_180 0 76 (dk_at dksX0_officer_2 14 rfl rfl)
theorem dX0_officer_65 : decode cX0_officer 65 = .ok (.iload_n 3, 1) := dk_29 (dk_at dksX0_officer_2 17 rfl rfl)
theorem dX0_officer_66 : decode cX0_officer 66 = .ok (.iload_n 2, 1) := dk_28 (dk_at dksX0_officer_2 18 rfl rfl)
theorem dX0_officer_67 : decode cX0_officer 67 = .ok (.iastore, 1) := dk_79 (dk_at dksX0_officer_2 19 rfl rfl)
theorem dX0_officer_68 : decode cX0_officer 68 = .ok (.aload_n 0, 1) := dk_42 (dk_at dksX0_officer_2 20 rfl rfl)
theorem dX0_officer_69 : decode cX0_officer 69 = .ok (.getfield 21, 3) := dk_180 0 21 (dk_at dksX0_officer_2 21 rfl rfl)
theorem dX0_officer_72 : decode cX0_officer 72 = .ok (.getfield 59, 3) := dk_180 0 59 (dk_at dksX0_officer_3 0 rfl rfl)
theorem dX0_officer_75 : decode cX0_officer 75 = .ok (.iconst 0, 1) := dk_3 (dk_at dksX0_officer_3 3 rfl rfl)
theorem dX0_officer_76 : decode cX0_officer 76 = .ok (.dup2, 1) := dk_92 (dk_at dksX0_officer_3 4 rfl rfl)
theorem dX0_officer_77 : decode cX0_officer 77 = .ok (.iaload, 1) := dk_46 (dk_at dksX0_officer_3 5 rfl rfl)
theorem dX0_officer_78 : decode cX0_officer 78 = .ok (.iconst 1, 1) := dk_4 (dk_at dksX0_officer_3 6 rfl rfl)
theorem dX0_officer_79 : decode cX0_officer 79 = .ok (.iadd, 1) := dk_96 (dk_at dksX0_officer_3 7 rfl rfl)
theorem dX0_officer_80 : decode cX0_officer 80 = .ok (.iastore, 1) := dk_79 (dk_at dksX0_officer_3 8 rfl rfl)
theorem dX0_officer_81 : decode cX0_officer 81 = .ok (.iload_n 3, 1) := dk_29 (dk_at dksX0_officer_3 9 rfl rfl)
theorem dX0_officer_82 : decode cX0_officer 82 = .ok (.ireturn, 1) := dk_172 (dk_at dksX0_officer_3 10 rfl rfl)
abbrev cX0_isOfficer : ByteArray := prog_1_method_5_code
def yX0_isOfficer : MethodName := ⟨RX0, "isOfficer", "(I)Z"⟩
def dkwX0_isOfficer_0 : List UInt8 := [27, 3, 42, 180, 0, 21, 180, 0, 59, 3, 46, 4, 100, 184, 0, 62, 172]
abbrev dktX0_isOfficer_0 : List UInt8 := dkwX0_isOfficer_0 ++ []
theorem dksX0_isOfficer_0 : cX0_isOfficer.data.toList.drop 0 = dktX0_isOfficer_0 := by decide +kernel
theorem dX0_isOfficer_0 : decode cX0_isOfficer 0 = .ok (.iload_n 1, 1) := dk_27 (dk_at dksX0_isOfficer_0 0 rfl rfl)
theorem dX0_isOfficer_1 : decode cX0_isOfficer 1 = .ok (.iconst 0, 1) := dk_3 (dk_at dksX0_isOfficer_0 1 rfl rfl)
theorem dX0_isOfficer_2 : decode cX0_isOfficer 2 = .ok (.aload_n 0, 1) := dk_42 (dk_at dksX0_isOfficer_0 2 rfl rfl)
theorem dX0_isOfficer_3 : decode cX0_isOfficer 3 = .ok (.getfield 21, 3) := dk_180 0 21 (dk_at dksX0_isOfficer_0 3 rfl rfl)
theorem dX0_isOfficer_6 : decode cX0_isOfficer 6 = .ok (.getfield 59, 3) := dk_180 0 59 (dk_at dksX0_isOfficer_0 6 rfl rfl)
theorem dX0_isOfficer_9 : decode cX0_isOfficer 9 = .ok (.iconst 0, 1) := dk_3 (dk_at dksX0_isOfficer_0 9 rfl rfl)
theorem dX0_isOfficer_10 : decode cX0_isOfficer 10 = .ok (.iaload, 1) := dk_46 (dk_at dksX0_isOfficer_0 10 rfl rfl)
theorem dX0_isOfficer_11 : decode cX0_isOfficer 11 = .ok (.iconst 1, 1) := dk_4 (dk_at dksX0_isOfficer_0 11 rfl rfl)
theorem dX0_isOfficer_12 : decode cX0_isOfficer 12 = .ok (.isub, 1) := dk_100 (dk_at dksX0_isOfficer_0 12 rfl rfl)
theorem dX0_isOfficer_13 : decode cX0_isOfficer 13 = .ok (.invokestatic 62, 3) := dk_184 0 62 (dk_at dksX0_isOfficer_0 13 rfl rfl)
theorem dX0_isOfficer_16 : decode cX0_isOfficer 16 = .ok (.ireturn, 1) := dk_172 (dk_at dksX0_isOfficer_0 16 rfl rfl)
abbrev cX0_in : ByteArray := prog_1_method_1_code
def yX0_in : MethodName := ⟨RX0, "in", "(III)Z"⟩
def dkwX0_in_0 : List UInt8 := [26, 27, 161, 0, 12, 26, 28, 163, 0, 7, 4, 167, 0, 4, 3, 172]
abbrev dktX0_in_0 : List UInt8 := dkwX0_in_0 ++ []
theorem dksX0_in_0 : cX0_in.data.toList.drop 0 = dktX0_in_0 := by decide +kernel
theorem dX0_in_0 : decode cX0_in 0 = .ok (.iload_n 0, 1) := dk_26 (dk_at dksX0_in_0 0 rfl rfl)
theorem dX0_in_1 : decode cX0_in 1 = .ok (.iload_n 1, 1) := dk_27 (dk_at dksX0_in_0 1 rfl rfl)
theorem dX0_in_2 : decode cX0_in 2 = .ok (.if_icmp .lt 12, 3) := dk_161 0 12 (dk_at dksX0_in_0 2 rfl rfl)
theorem dX0_in_5 : decode cX0_in 5 = .ok (.iload_n 0, 1) := dk_26 (dk_at dksX0_in_0 5 rfl rfl)
theorem dX0_in_6 : decode cX0_in 6 = .ok (.iload_n 2, 1) := dk_28 (dk_at dksX0_in_0 6 rfl rfl)
theorem dX0_in_7 : decode cX0_in 7 = .ok (.if_icmp .gt 7, 3) := dk_163 0 7 (dk_at dksX0_in_0 7 rfl rfl)
theorem dX0_in_10 : decode cX0_in 10 = .ok (.iconst 1, 1) := dk_4 (dk_at dksX0_in_0 10 rfl rfl)
theorem dX0_in_11 : decode cX0_in 11 = .ok (.goto 4, 3) := dk_167 0 4 (dk_at dksX0_in_0 11 rfl rfl)
theorem dX0_in_14 : decode cX0_in 14 = .ok (.iconst 0, 1) := dk_3 (dk_at dksX0_in_0 14 rfl rfl)
theorem dX0_in_15 : decode cX0_in 15 = .ok (.ireturn, 1) := dk_172 (dk_at dksX0_in_0 15 rfl rfl)
abbrev cX0_cousin : ByteArray := prog_1_method_9_code
def yX0_cousin : MethodName := ⟨RX0, "cousin", "(II)Z"⟩
def dkwX0_cousin_3 : List UInt8 := [172]
abbrev dktX0_cousin_3 : List UInt8 := dkwX0_cousin_3 ++ []
def dkwX0_cousin_2 : List UInt8 := [27, 92, 46, 4, 28, 120, 128, 79, 42, 180, 0, 21, 180, 0, 79, 28, 92, 46, 4, 27, 120, 128, 79, 4]
abbrev dktX0_cousin_2 : List UInt8 := dkwX0_cousin_2 ++ dktX0_cousin_3
def dkwX0_cousin_1 : List UInt8 := [180, 0, 21, 180, 0, 79, 27, 46, 28, 184, 0, 82, 153, 0, 5, 3, 172, 42, 180, 0, 21, 180, 0, 79]
abbrev dktX0_cousin_1 : List UInt8 := dkwX0_cousin_1 ++ dktX0_cousin_2
def dkwX0_cousin_0 : List UInt8 := [42, 27, 182, 0, 69, 153, 0, 32, 42, 28, 182, 0, 69, 153, 0, 24, 27, 28, 159, 0, 19, 42]
abbrev dktX0_cousin_0 : List UInt8 := dkwX0_cousin_0 ++ dktX0_cousin_1
theorem dksX0_cousin_0 : cX0_cousin.data.toList.drop 0 = dktX0_cousin_0 := by decide +kernel
theorem dksX0_cousin_1 : cX0_cousin.data.toList.drop 22 = dktX0_cousin_1 := dk_seg dksX0_cousin_0 22 rfl rfl
theorem dksX0_cousin_2 : cX0_cousin.data.toList.drop 46 = dktX0_cousin_2 := dk_seg dksX0_cousin_1 24 rfl rfl
theorem dksX0_cousin_3 : cX0_cousin.data.toList.drop 70 = dktX0_cousin_3 := dk_seg dksX0_cousin_2 24 rfl rfl
theorem dX0_cousin_0 : decode cX0_cousin 0 = .ok (.aload_n 0, 1) := dk_42 (dk_at dksX0_cousin_0 0 rfl rfl)
theorem dX0_cousin_1 : decode cX0_cousin 1 = .ok (.iload_n 1, 1) := dk_27 (dk_at dksX0_cousin_0 1 rfl rfl)
theorem dX0_cousin_2 : decode cX0_cousin 2 = .ok (.invokevirtual 69, 3) := dk_182 0 69 (dk_at dksX0_cousin_0 2 rfl rfl)
theorem dX0_cousin_5 : decode cX0_cousin 5 = .ok (.ifCond .eq 32, 3) := dk_153 0 32 (dk_at dksX0_cousin_0 5 rfl rfl)
theorem dX0_cousin_8 : decode cX0_cousin 8 = .ok (.aload_n 0, 1) := dk_42 (dk_at dksX0_cousin_0 8 rfl rfl)
theorem dX0_cousin_9 : decode cX0_cousin 9 = .ok (.iload_n 2, 1) := dk_28 (dk_at dksX0_cousin_0 9 rfl rfl)
theorem dX0_cousin_10 : decode cX0_cousin 10 = .ok (.invokevirtual 69, 3) := dk_182 0 69 (dk_at dksX0_cousin_0 10 rfl rfl)
theorem dX0_cousin_13 : decode cX0_cousin 13 = .ok (.ifCond .eq 24, 3) := dk_153 0 24 (dk_at dksX0_cousin_0 13 rfl rfl)
theorem dX0_cousin_16 : decode cX0_cousin 16 = .ok (.iload_n 1, 1) := dk_27 (dk_at dksX0_cousin_0 16 rfl rfl)
theorem dX0_cousin_17 : decode cX0_cousin 17 = .ok (.iload_n 2, 1) := dk_28 (dk_at dksX0_cousin_0 17 rfl rfl)
theorem dX0_cousin_18 : decode cX0_cousin 18 = .ok (.if_icmp .eq 19, 3) := dk_159 0 19 (dk_at dksX0_cousin_0 18 rfl rfl)
theorem dX0_cousin_21 : decode cX0_cousin 21 = .ok (.aload_n 0, 1) := dk_42 (dk_at dksX0_cousin_0 21 rfl rfl)
theorem dX0_cousin_22 : decode cX0_cousin 22 = .ok (.getfield 21, 3) := dk_180 0 21 (dk_at dksX0_cousin_1 0 rfl rfl)
theorem dX0_cousin_25 : decode cX0_cousin 25 = .ok (.getfield 79, 3) := dk_180 0 79 (dk_at dksX0_cousin_1 3 rfl rfl)
theorem dX0_cousin_28 : decode cX0_cousin 28 = .ok (.iload_n 1, 1) := dk_27 (dk_at dksX0_cousin_1 6 rfl rfl)
theorem dX0_cousin_29 : decode cX0_cousin 29 = .ok (.iaload, 1) := dk_46 (dk_at dksX0_cousin_1 7 rfl rfl)
theorem dX0_cousin_30 : decode cX0_cousin 30 = .ok (.iload_n 2, 1) := dk_28 (dk_at dksX0_cousin_1 8 rfl rfl)
theorem dX0_cousin_31 : decode cX0_cousin 31 = .ok (.invokestatic 82, 3) := dk_184 0 82 (dk_at dksX0_cousin_1 9 rfl rfl)
theorem dX0_cousin_34 : decode cX0_cousin 34 = .ok (.ifCond .eq 5, 3) := dk_153 0 5 (dk_at dksX0_cousin_1 12 rfl rfl)
theorem dX0_cousin_37 : decode cX0_cousin 37 = .ok (.iconst 0, 1) := dk_3 (dk_at dksX0_cousin_1 15 rfl rfl)
theorem dX0_cousin_38 : decode cX0_cousin 38 = .ok (.ireturn, 1) := dk_172 (dk_at dksX0_cousin_1 16 rfl rfl)
theorem dX0_cousin_39 : decode cX0_cousin 39 = .ok (.aload_n 0, 1) := dk_42 (dk_at dksX0_cousin_1 17 rfl rfl)
theorem dX0_cousin_40 : decode cX0_cousin 40 = .ok (.getfield 21, 3) := dk_180 0 21 (dk_at dksX0_cousin_1 18 rfl rfl)
theorem dX0_cousin_43 : decode cX0_cousin 43 = .ok (.getfield 79, 3) := dk_180 0 79 (dk_at dksX0_cousin_1 21 rfl rfl)
theorem dX0_cousin_46 : decode cX0_cousin 46 = .ok (.iload_n 1, 1) := dk_27 (dk_at dksX0_cousin_2 0 rfl rfl)
theorem dX0_cousin_47 : decode cX0_cousin 47 = .ok (.dup2, 1) := dk_92 (dk_at dksX0_cousin_2 1 rfl rfl)
theorem dX0_cousin_48 : decode cX0_cousin 48 = .ok (.iaload, 1) := dk_46 (dk_at dksX0_cousin_2 2 rfl rfl)
theorem dX0_cousin_49 : decode cX0_cousin 49 = .ok (.iconst 1, 1) := dk_4 (dk_at dksX0_cousin_2 3 rfl rfl)
theorem dX0_cousin_50 : decode cX0_cousin 50 = .ok (.iload_n 2, 1) := dk_28 (dk_at dksX0_cousin_2 4 rfl rfl)
theorem dX0_cousin_51 : decode cX0_cousin 51 = .ok (.ishl, 1) := dk_120 (dk_at dksX0_cousin_2 5 rfl rfl)
theorem dX0_cousin_52 : decode cX0_cousin 52 = .ok (.ior, 1) := dk_128 (dk_at dksX0_cousin_2 6 rfl rfl)
theorem dX0_cousin_53 : decode cX0_cousin 53 = .ok (.iastore, 1) := dk_79 (dk_at dksX0_cousin_2 7 rfl rfl)
theorem dX0_cousin_54 : decode cX0_cousin 54 = .ok (.aload_n 0, 1) := dk_42 (dk_at dksX0_cousin_2 8 rfl rfl)
theorem dX0_cousin_55 : decode cX0_cousin 55 = .ok (.getfield 21, 3) := dk_180 0 21 (dk_at dksX0_cousin_2 9 rfl rfl)
theorem dX0_cousin_58 : decode cX0_cousin 58 = .ok (.getfield 79, 3) := dk_180 0 79 (dk_at dksX0_cousin_2 12 rfl rfl)
theorem dX0_cousin_61 : decode cX0_cousin 61 = .ok (.iload_n 2, 1) := dk_28 (dk_at dksX0_cousin_2 15 rfl rfl)
theorem dX0_cousin_62 : decode cX0_cousin 62 = .ok (.dup2, 1) := dk_92 (dk_at dksX0_cousin_2 16 rfl rfl)
theorem dX0_cousin_63 : decode cX0_cousin 63 = .ok (.iaload, 1) := dk_46 (dk_at dksX0_cousin_2 17 rfl rfl)
theorem dX0_cousin_64 : decode cX0_cousin 64 = .ok (.iconst 1, 1) := dk_4 (dk_at dksX0_cousin_2 18 rfl rfl)
theorem dX0_cousin_65 : decode cX0_cousin 65 = .ok (.iload_n 1, 1) := dk_27 (dk_at dksX0_cousin_2 19 rfl rfl)
theorem dX0_cousin_66 : decode cX0_cousin 66 = .ok (.ishl, 1) := dk_120 (dk_at dksX0_cousin_2 20 rfl rfl)
theorem dX0_cousin_67 : decode cX0_cousin 67 = .ok (.ior, 1) := dk_128 (dk_at dksX0_cousin_2 21 rfl rfl)
theorem dX0_cousin_68 : decode cX0_cousin 68 = .ok (.iastore, 1) := dk_79 (dk_at dksX0_cousin_2 22 rfl rfl)
theorem dX0_cousin_69 : decode cX0_cousin 69 = .ok (.iconst 1, 1) := dk_4 (dk_at dksX0_cousin_2 23 rfl rfl)
theorem dX0_cousin_70 : decode cX0_cousin 70 = .ok (.ireturn, 1) := dk_172 (dk_at dksX0_cousin_3 0 rfl rfl)
abbrev cX0_has : ByteArray := prog_1_method_2_code
def yX0_has : MethodName := ⟨RX0, "has", "(II)Z"⟩
def dkwX0_has_0 : List UInt8 := [26, 27, 122, 4, 126, 4, 160, 0, 7, 4, 167, 0, 4, 3, 172]
abbrev dktX0_has_0 : List UInt8 := dkwX0_has_0 ++ []
theorem dksX0_has_0 : cX0_has.data.toList.drop 0 = dktX0_has_0 := by decide +kernel
theorem dX0_has_0 : decode cX0_has 0 = .ok (.iload_n 0, 1) := dk_26 (dk_at dksX0_has_0 0 rfl rfl)
theorem dX0_has_1 : decode cX0_has 1 = .ok (.iload_n 1, 1) := dk_27 (dk_at dksX0_has_0 1 rfl rfl)
theorem dX0_has_2 : decode cX0_has 2 = .ok (.ishr, 1) := dk_122 (dk_at dksX0_has_0 2 rfl rfl)
theorem dX0_has_3 : decode cX0_has 3 = .ok (.iconst 1, 1) := dk_4 (dk_at dksX0_has_0 3 rfl rfl)
theorem dX0_has_4 : decode cX0_has 4 = .ok (.iand, 1) := dk_126 (dk_at dksX0_has_0 4 rfl rfl)
theorem dX0_has_5 : decode cX0_has 5 = .ok (.iconst 1, 1) := dk_4 (dk_at dksX0_has_0 5 rfl rfl)
theorem dX0_has_6 : decode cX0_has 6 = .ok (.if_icmp .ne 7, 3) := dk_160 0 7 (dk_at dksX0_has_0 6 rfl rfl)
theorem dX0_has_9 : decode cX0_has 9 = .ok (.iconst 1, 1) := dk_4 (dk_at dksX0_has_0 9 rfl rfl)
theorem dX0_has_10 : decode cX0_has 10 = .ok (.goto 4, 3) := dk_167 0 4 (dk_at dksX0_has_0 10 rfl rfl)
theorem dX0_has_13 : decode cX0_has 13 = .ok (.iconst 0, 1) := dk_3 (dk_at dksX0_has_0 13 rfl rfl)
theorem dX0_has_14 : decode cX0_has 14 = .ok (.ireturn, 1) := dk_172 (dk_at dksX0_has_0 14 rfl rfl)
abbrev cX0_feed : ByteArray := prog_1_method_15_code
def yX0_feed : MethodName := ⟨RX0, "feed", "(IIIII)I"⟩
def dkwX0_feed_2 : List UInt8 := [172]
abbrev dktX0_feed_2 : List UInt8 := dkwX0_feed_2 ++ []
def dkwX0_feed_1 : List UInt8 := [182, 0, 92, 42, 29, 182, 0, 92, 42, 21, 4, 182, 0, 92, 42, 21, 5, 182, 0, 92, 42, 180, 0, 89]
abbrev dktX0_feed_1 : List UInt8 := dkwX0_feed_1 ++ dktX0_feed_2
def dkwX0_feed_0 : List UInt8 := [42, 180, 0, 89, 16, 20, 96, 17, 1, 44, 164, 0, 5, 2, 172, 42, 27, 182, 0, 92, 42, 28]
abbrev dktX0_feed_0 : List UInt8 := dkwX0_feed_0 ++ dktX0_feed_1
theorem dksX0_feed_0 : cX0_feed.data.toList.drop 0 = dktX0_feed_0 := by decide +kernel
theorem dksX0_feed_1 : cX0_feed.data.toList.drop 22 = dktX0_feed_1 := dk_seg dksX0_feed_0 22 rfl rfl
theorem dksX0_feed_2 : cX0_feed.data.toList.drop 46 = dktX0_feed_2 := dk_seg dksX0_feed_1 24 rfl rfl
theorem dX0_feed_0 : decode cX0_feed 0 = .ok (.aload_n 0, 1) := dk_42 (dk_at dksX0_feed_0 0 rfl rfl)
theorem dX0_feed_1 : decode cX0_feed 1 = .ok (.getfield 89, 3) := dk_180 0 89 (dk_at dksX0_feed_0 1 rfl rfl)
theorem dX0_feed_4 : decode cX0_feed 4 = .ok (.bipush 20, 2) := dk_16 20 (dk_at dksX0_feed_0 4 rfl rfl)
theorem dX0_feed_6 : decode cX0_feed 6 = .ok (.iadd, 1) := dk_96 (dk_at dksX0_feed_0 6 rfl rfl)
theorem dX0_feed_7 : decode cX0_feed 7 = .ok (.sipush 300, 3) := dk_17 1 44 (dk_at dksX0_feed_0 7 rfl rfl)
theorem dX0_feed_10 : decode cX0_feed 10 = .ok (.if_icmp .le 5, 3) := dk_164 0 5 (dk_at dksX0_feed_0 10 rfl rfl)
theorem dX0_feed_13 : decode cX0_feed 13 = .ok (.iconst (-1), 1) := dk_2 (dk_at dksX0_feed_0 13 rfl rfl)
theorem dX0_feed_14 : decode cX0_feed 14 = .ok (.ireturn, 1) := dk_172 (dk_at dksX0_feed_0 14 rfl rfl)
theorem dX0_feed_15 : decode cX0_feed 15 = .ok (.aload_n 0, 1) := dk_42 (dk_at dksX0_feed_0 15 rfl rfl)
theorem dX0_feed_16 : decode cX0_feed 16 = .ok (.iload_n 1, 1) := dk_27 (dk_at dksX0_feed_0 16 rfl rfl)
theorem dX0_feed_17 : decode cX0_feed 17 = .ok (.invokevirtual 92, 3) := dk_182 0 92 (dk_at dksX0_feed_0 17 rfl rfl)
theorem dX0_feed_20 : decode cX0_feed 20 = .ok (.aload_n 0, 1) := dk_42 (dk_at dksX0_feed_0 20 rfl rfl)
theorem dX0_feed_21 : decode cX0_feed 21 = .ok (.iload_n 2, 1) := dk_28 (dk_at dksX0_feed_0 21 rfl rfl)
theorem dX0_feed_22 : decode cX0_feed 22 = .ok (.invokevirtual 92, 3) := dk_182 0 92 (dk_at dksX0_feed_1 0 rfl rfl)
theorem dX0_feed_25 : decode cX0_feed 25 = .ok (.aload_n 0, 1) := dk_42 (dk_at dksX0_feed_1 3 rfl rfl)
theorem dX0_feed_26 : decode cX0_feed 26 = .ok (.iload_n 3, 1) := dk_29 (dk_at dksX0_feed_1 4 rfl rfl)
theorem dX0_feed_27 : decode cX0_feed 27 = .ok (.invokevirtual 92, 3) := dk_182 0 92 (dk_at dksX0_feed_1 5 rfl rfl)
theorem dX0_feed_30 : decode cX0_feed 30 = .ok (.aload_n 0, 1) := dk_42 (dk_at dksX0_feed_1 8 rfl rfl)
theorem dX0_feed_31 : decode cX0_feed 31 = .ok (.iload 4, 2) := dk_21 4 (dk_at dksX0_feed_1 9 rfl rfl)
theorem dX0_feed_33 : decode cX0_feed 33 = .ok (.invokevirtual 92, 3) := dk_182 0 92 (dk_at dksX0_feed_1 11 rfl rfl)
theorem dX0_feed_36 : decode cX0_feed 36 = .ok (.aload_n 0, 1) := dk_42 (dk_at dksX0_feed_1 14 rfl rfl)
theorem dX0_feed_37 : decode cX0_feed 37 = .ok (.iload 5, 2) := dk_21 5 (dk_at dksX0_feed_1 15 rfl rfl)
theorem dX0_feed_39 : decode cX0_feed 39 = .ok (.invokevirtual 92, 3) := dk_182 0 92 (dk_at dksX0_feed_1 17 rfl rfl)
theorem dX0_feed_42 : decode cX0_feed 42 = .ok (.aload_n 0, 1) := dk_42 (dk_at dksX0_feed_1 20 rfl rfl)
theorem dX0_feed_43 : decode cX0_feed 43 = .ok (.getfield 89, 3) := dk_180 0 89 (dk_at dksX0_feed_1 21 rfl rfl)
theorem dX0_feed_46 : decode cX0_feed 46 = .ok (.ireturn, 1) := dk_172 (dk_at dksX0_feed_2 0 rfl rfl)
abbrev cX0_put : ByteArray := prog_1_method_14_code
def yX0_put : MethodName := ⟨RX0, "put", "(I)V"⟩
def dkwX0_put_1 : List UInt8 := [180, 0, 89, 4, 96, 181, 0, 89, 132, 2, 248, 167, 255, 226, 177]
abbrev dktX0_put_1 : List UInt8 := dkwX0_put_1 ++ []
def dkwX0_put_0 : List UInt8 := [16, 24, 61, 28, 155, 0, 32, 42, 180, 0, 28, 42, 180, 0, 89, 27, 28, 122, 145, 84, 42, 89]
abbrev dktX0_put_0 : List UInt8 := dkwX0_put_0 ++ dktX0_put_1
theorem dksX0_put_0 : cX0_put.data.toList.drop 0 = dktX0_put_0 := by decide +kernel
theorem dksX0_put_1 : cX0_put.data.toList.drop 22 = dktX0_put_1 := dk_seg dksX0_put_0 22 rfl rfl
theorem dX0_put_0 : decode cX0_put 0 = .ok (.bipush 24, 2) := dk_16 24 (dk_at dksX0_put_0 0 rfl rfl)
theorem dX0_put_2 : decode cX0_put 2 = .ok (.istore_n 2, 1) := dk_61 (dk_at dksX0_put_0 2 rfl rfl)
theorem dX0_put_3 : decode cX0_put 3 = .ok (.iload_n 2, 1) := dk_28 (dk_at dksX0_put_0 3 rfl rfl)
theorem dX0_put_4 : decode cX0_put 4 = .ok (.ifCond .lt 32, 3) := dk_155 0 32 (dk_at dksX0_put_0 4 rfl rfl)
theorem dX0_put_7 : decode cX0_put 7 = .ok (.aload_n 0, 1) := dk_42 (dk_at dksX0_put_0 7 rfl rfl)
theorem dX0_put_8 : decode cX0_put 8 = .ok (.getfield 28, 3) := dk_180 0 28 (dk_at dksX0_put_0 8 rfl rfl)
theorem dX0_put_11 : decode cX0_put 11 = .ok (.aload_n 0, 1) := dk_42 (dk_at dksX0_put_0 11 rfl rfl)
theorem dX0_put_12 : decode cX0_put 12 = .ok (.getfield 89, 3) := dk_180 0 89 (dk_at dksX0_put_0 12 rfl rfl)
theorem dX0_put_15 : decode cX0_put 15 = .ok (.iload_n 1, 1) := dk_27 (dk_at dksX0_put_0 15 rfl rfl)
theorem dX0_put_16 : decode cX0_put 16 = .ok (.iload_n 2, 1) := dk_28 (dk_at dksX0_put_0 16 rfl rfl)
theorem dX0_put_17 : decode cX0_put 17 = .ok (.ishr, 1) := dk_122 (dk_at dksX0_put_0 17 rfl rfl)
theorem dX0_put_18 : decode cX0_put 18 = .ok (.i2b, 1) := dk_145 (dk_at dksX0_put_0 18 rfl rfl)
theorem dX0_put_19 : decode cX0_put 19 = .ok (.bastore, 1) := dk_84 (dk_at dksX0_put_0 19 rfl rfl)
theorem dX0_put_20 : decode cX0_put 20 = .ok (.aload_n 0, 1) := dk_42 (dk_at dksX0_put_0 20 rfl rfl)
theorem dX0_put_21 : decode cX0_put 21 = .ok (.dup, 1) := dk_89 (dk_at dksX0_put_0 21 rfl rfl)
theorem dX0_put_22 : decode cX0_put 22 = .ok (.getfield 89, 3) := dk_180 0 89 (dk_at dksX0_put_1 0 rfl rfl)
theorem dX0_put_25 : decode cX0_put 25 = .ok (.iconst 1, 1) := dk_4 (dk_at dksX0_put_1 3 rfl rfl)
theorem dX0_put_26 : decode cX0_put 26 = .ok (.iadd, 1) := dk_96 (dk_at dksX0_put_1 4 rfl rfl)
theorem dX0_put_27 : decode cX0_put 27 = .ok (.putfield 89, 3) := dk_181 0 89 (dk_at dksX0_put_1 5 rfl rfl)
theorem dX0_put_30 : decode cX0_put 30 = .ok (.iinc 2 (-8), 3) := dk_132 2 248 (dk_at dksX0_put_1 8 rfl rfl)
theorem dX0_put_33 : decode cX0_put 33 = .ok (.goto (-30), 3) := dk_167 255 226 (dk_at dksX0_put_1 11 rfl rfl)
theorem dX0_put_36 : decode cX0_put 36 = .ok (.return_, 1) := dk_177 (dk_at dksX0_put_1 14 rfl rfl)
abbrev cX0_end : ByteArray := prog_1_method_16_code
def yX0_end : MethodName := ⟨RX0, "end", "(I)I"⟩
def dkwX0_end_0 : List UInt8 := [27, 3, 42, 180, 0, 89, 184, 0, 62, 154, 0, 5, 2, 172, 42, 27, 181, 0, 89, 27, 172]
abbrev dktX0_end_0 : List UInt8 := dkwX0_end_0 ++ []
theorem dksX0_end_0 : cX0_end.data.toList.drop 0 = dktX0_end_0 := by decide +kernel
theorem dX0_end_0 : decode cX0_end 0 = .ok (.iload_n 1, 1) := dk_27 (dk_at dksX0_end_0 0 rfl rfl)
theorem dX0_end_1 : decode cX0_end 1 = .ok (.iconst 0, 1) := dk_3 (dk_at dksX0_end_0 1 rfl rfl)
theorem dX0_end_2 : decode cX0_end 2 = .ok (.aload_n 0, 1) := dk_42 (dk_at dksX0_end_0 2 rfl rfl)
theorem dX0_end_3 : decode cX0_end 3 = .ok (.getfield 89, 3) := dk_180 0 89 (dk_at dksX0_end_0 3 rfl rfl)
theorem dX0_end_6 : decode cX0_end 6 = .ok (.invokestatic 62, 3) := dk_184 0 62 (dk_at dksX0_end_0 6 rfl rfl)
theorem dX0_end_9 : decode cX0_end 9 = .ok (.ifCond .ne 5, 3) := dk_154 0 5 (dk_at dksX0_end_0 9 rfl rfl)
theorem dX0_end_12 : decode cX0_end 12 = .ok (.iconst (-1), 1) := dk_2 (dk_at dksX0_end_0 12 rfl rfl)
theorem dX0_end_13 : decode cX0_end 13 = .ok (.ireturn, 1) := dk_172 (dk_at dksX0_end_0 13 rfl rfl)
theorem dX0_end_14 : decode cX0_end 14 = .ok (.aload_n 0, 1) := dk_42 (dk_at dksX0_end_0 14 rfl rfl)
theorem dX0_end_15 : decode cX0_end 15 = .ok (.iload_n 1, 1) := dk_27 (dk_at dksX0_end_0 15 rfl rfl)
theorem dX0_end_16 : decode cX0_end 16 = .ok (.putfield 89, 3) := dk_181 0 89 (dk_at dksX0_end_0 16 rfl rfl)
theorem dX0_end_19 : decode cX0_end 19 = .ok (.iload_n 1, 1) := dk_27 (dk_at dksX0_end_0 19 rfl rfl)
theorem dX0_end_20 : decode cX0_end 20 = .ok (.ireturn, 1) := dk_172 (dk_at dksX0_end_0 20 rfl rfl)
abbrev cX0_text : ByteArray := prog_1_method_17_code
def yX0_text : MethodName := ⟨RX0, "text", "()I"⟩
def dkwX0_text_5 : List UInt8 := [79, 42, 180, 0, 21, 180, 0, 59, 4, 46, 4, 100, 172]
abbrev dktX0_text_5 : List UInt8 := dkwX0_text_5 ++ []
def dkwX0_text_4 : List UInt8 := [29, 172, 58, 4, 42, 3, 181, 0, 89, 25, 4, 191, 42, 180, 0, 21, 180, 0, 59, 4, 92, 46, 4, 96]
abbrev dktX0_text_4 : List UInt8 := dkwX0_text_4 ++ dktX0_text_5
def dkwX0_text_3 : List UInt8 := [77, 42, 44, 180, 0, 111, 181, 0, 32, 42, 44, 180, 0, 112, 181, 0, 36, 2, 62, 42, 3, 181, 0, 89]
abbrev dktX0_text_3 : List UInt8 := dkwX0_text_3 ++ dktX0_text_4
def dkwX0_text_2 : List UInt8 := [187, 0, 100, 89, 42, 180, 0, 28, 27, 183, 0, 102, 182, 0, 105, 83, 42, 3, 181, 0, 89, 167, 0, 39]
abbrev dktX0_text_2 : List UInt8 := dkwX0_text_2 ++ dktX0_text_3
def dkwX0_text_1 : List UInt8 := [181, 0, 32, 42, 2, 181, 0, 36, 42, 180, 0, 21, 180, 0, 96, 42, 180, 0, 21, 180, 0, 59, 4, 46]
abbrev dktX0_text_1 : List UInt8 := dkwX0_text_1 ++ dktX0_text_2
def dkwX0_text_0 : List UInt8 := [42, 180, 0, 21, 180, 0, 59, 4, 46, 7, 160, 0, 5, 2, 172, 42, 180, 0, 89, 60, 42, 3]
abbrev dktX0_text_0 : List UInt8 := dkwX0_text_0 ++ dktX0_text_1
theorem dksX0_text_0 : cX0_text.data.toList.drop 0 = dktX0_text_0 := by decide +kernel
theorem dksX0_text_1 : cX0_text.data.toList.drop 22 = dktX0_text_1 := dk_seg dksX0_text_0 22 rfl rfl
theorem dksX0_text_2 : cX0_text.data.toList.drop 46 = dktX0_text_2 := dk_seg dksX0_text_1 24 rfl rfl
theorem dksX0_text_3 : cX0_text.data.toList.drop 70 = dktX0_text_3 := dk_seg dksX0_text_2 24 rfl rfl
theorem dksX0_text_4 : cX0_text.data.toList.drop 94 = dktX0_text_4 := dk_seg dksX0_text_3 24 rfl rfl
theorem dksX0_text_5 : cX0_text.data.toList.drop 118 = dktX0_text_5 := dk_seg dksX0_text_4 24 rfl rfl
theorem dX0_text_0 : decode cX0_text 0 = .ok (.aload_n 0, 1) := dk_42 (dk_at dksX0_text_0 0 rfl rfl)
theorem dX0_text_1 : decode cX0_text 1 = .ok (.getfield 21, 3) := dk_180 0 21 (dk_at dksX0_text_0 1 rfl rfl)
theorem dX0_text_4 : decode cX0_text 4 = .ok (.getfield 59, 3) := dk_180 0 59 (dk_at dksX0_text_0 4 rfl rfl)
theorem dX0_text_7 : decode cX0_text 7 = .ok (.iconst 1, 1) := dk_4 (dk_at dksX0_text_0 7 rfl rfl)
theorem dX0_text_8 : decode cX0_text 8 = .ok (.iaload, 1) := dk_46 (dk_at dksX0_text_0 8 rfl rfl)
theorem dX0_text_9 : decode cX0_text 9 = .ok (.iconst 4, 1) := dk_7 (dk_at dksX0_text_0 9 rfl rfl)
theorem dX0_text_10 : decode cX0_text 10 = .ok (.if_icmp .ne 5, 3) := dk_160 0 5 (dk_at dksX0_text_0 10 rfl rfl)
theorem dX0_text_13 : decode cX0_text 13 = .ok (.iconst (-1), 1) := dk_2 (dk_at dksX0_text_0 13 rfl rfl)
theorem dX0_text_14 : decode cX0_text 14 = .ok (.ireturn, 1) := dk_172 (dk_at dksX0_text_0 14 rfl rfl)
theorem dX0_text_15 : decode cX0_text 15 = .ok (.aload_n 0, 1) := dk_42 (dk_at dksX0_text_0 15 rfl rfl)
theorem dX0_text_16 : decode cX0_text 16 = .ok (.getfield 89, 3) := dk_180 0 89 (dk_at dksX0_text_0 16 rfl rfl)
theorem dX0_text_19 : decode cX0_text 19 = .ok (.istore_n 1, 1) := dk_60 (dk_at dksX0_text_0 19 rfl rfl)
theorem dX0_text_20 : decode cX0_text 20 = .ok (.aload_n 0, 1) := dk_42 (dk_at dksX0_text_0 20 rfl rfl)
theorem dX0_text_21 : decode cX0_text 21 = .ok (.iconst 0, 1) := dk_3 (dk_at dksX0_text_0 21 rfl rfl)
theorem dX0_text_22 : decode cX0_text 22 = .ok (.putfield 32, 3) := dk_181 0 32 (dk_at dksX0_text_1 0 rfl rfl)
theorem dX0_text_25 : decode cX0_text 25 = .ok (.aload_n 0, 1) := dk_42 (dk_at dksX0_text_1 3 rfl rfl)
theorem dX0_text_26 : decode cX0_text 26 = .ok (.iconst (-1), 1) := dk_2 (dk_at dksX0_text_1 4 rfl rfl)
theorem dX0_text_27 : decode cX0_text 27 = .ok (.putfield 36, 3) := dk_181 0 36 (dk_at dksX0_text_1 5 rfl rfl)
theorem dX0_text_30 : decode cX0_text 30 = .ok (.aload_n 0, 1) := dk_42 (dk_at dksX0_text_1 8 rfl rfl)
theorem dX0_text_31 : decode cX0_text 31 = .ok (.getfield 21, 3) := dk_180 0 21 (dk_at dksX0_text_1 9 rfl rfl)
theorem dX0_text_34 : decode cX0_text 34 = .ok (.getfield 96, 3) := dk_180 0 96 (dk_at dksX0_text_1 12 rfl rfl)
theorem dX0_text_37 : decode cX0_text 37 = .ok (.aload_n 0, 1) := dk_42 (dk_at dksX0_text_1 15 rfl rfl)
theorem dX0_text_38 : decode cX0_text 38 = .ok (.getfield 21, 3) := dk_180 0 21 (dk_at dksX0_text_1 16 rfl rfl)
theorem dX0_text_41 : decode cX0_text 41 = .ok (.getfield 59, 3) := dk_180 0 59 (dk_at dksX0_text_1 19 rfl rfl)
theorem dX0_text_44 : decode cX0_text 44 = .ok (.iconst 1, 1) := dk_4 (dk_at dksX0_text_1 22 rfl rfl)
theorem dX0_text_45 : decode cX0_text 45 = .ok (.iaload, 1) := dk_46 (dk_at dksX0_text_1 23 rfl rfl)
theorem dX0_text_46 : decode cX0_text 46 = .ok (.new 100, 3) := dk_187 0 100 (dk_at dksX0_text_2 0 rfl rfl)
theorem dX0_text_49 : decode cX0_text 49 = .ok (.dup, 1) := dk_89 (dk_at dksX0_text_2 3 rfl rfl)
theorem dX0_text_50 : decode cX0_text 50 = .ok (.aload_n 0, 1) := dk_42 (dk_at dksX0_text_2 4 rfl rfl)
theorem dX0_text_51 : decode cX0_text 51 = .ok (.getfield 28, 3) := dk_180 0 28 (dk_at dksX0_text_2 5 rfl rfl)
theorem dX0_text_54 : decode cX0_text 54 = .ok (.iload_n 1, 1) := dk_27 (dk_at dksX0_text_2 8 rfl rfl)
theorem dX0_text_55 : decode cX0_text 55 = .ok (.invokespecial 102, 3) := dk_183 0 102 (dk_at dksX0_text_2 9 rfl rfl)
theorem dX0_text_58 : decode cX0_text 58 = .ok (.invokevirtual 105, 3) := dk_182 0 105 (dk_at dksX0_text_2 12 rfl rfl)
theorem dX0_text_61 : decode cX0_text 61 = .ok (.aastore, 1) := dk_83 (dk_at dksX0_text_2 15 rfl rfl)
theorem dX0_text_62 : decode cX0_text 62 = .ok (.aload_n 0, 1) := dk_42 (dk_at dksX0_text_2 16 rfl rfl)
theorem dX0_text_63 : decode cX0_text 63 = .ok (.iconst 0, 1) := dk_3 (dk_at dksX0_text_2 17 rfl rfl)
theorem dX0_text_64 : decode cX0_text 64 = .ok (.putfield 89, 3) := dk_181 0 89 (dk_at dksX0_text_2 18 rfl rfl)
theorem dX0_text_67 : decode cX0_text 67 = .ok (.goto 39, 3) := dk_167 0 39 (dk_at dksX0_text_2 21 rfl rfl)
theorem dX0_text_70 : decode cX0_text 70 = .ok (.astore_n 2, 1) := dk_77 (dk_at dksX0_text_3 0 rfl rfl)
theorem dX0_text_71 : decode cX0_text 71 = .ok (.aload_n 0, 1) := dk_42 (dk_at dksX0_text_3 1 rfl rfl)
theorem dX0_text_72 : decode cX0_text 72 = .ok (.aload_n 2, 1) := dk_44 (dk_at dksX0_text_3 2 rfl rfl)
theorem dX0_text_73 : decode cX0_text 73 = .ok (.getfield 111, 3) := dk_180 0 111 (dk_at dksX0_text_3 3 rfl rfl)
theorem dX0_text_76 : decode cX0_text 76 = .ok (.putfield 32, 3) := dk_181 0 32 (dk_at dksX0_text_3 6 rfl rfl)
theorem dX0_text_79 : decode cX0_text 79 = .ok (.aload_n 0, 1) := dk_42 (dk_at dksX0_text_3 9 rfl rfl)
theorem dX0_text_80 : decode cX0_text 80 = .ok (.aload_n 2, 1) := dk_44 (dk_at dksX0_text_3 10 rfl rfl)
theorem dX0_text_81 : decode cX0_text 81 = .ok (.getfield 112, 3) := dk_180 0 112 (dk_at dksX0_text_3 11 rfl rfl)
theorem dX0_text_84 : decode cX0_text 84 = .ok (.putfield 36, 3) := dk_181 0 36 (dk_at dksX0_text_3 14 rfl rfl)
theorem dX0_text_87 : decode cX0_text 87 = .ok (.iconst (-1), 1) := dk_2 (dk_at dksX0_text_3 17 rfl rfl)
theorem dX0_text_88 : decode cX0_text 88 = .ok (.istore_n 3, 1) := dk_62 (dk_at dksX0_text_3 18 rfl rfl)
theorem dX0_text_89 : decode cX0_text 89 = .ok (.aload_n 0, 1) := dk_42 (dk_at dksX0_text_3 19 rfl rfl)
theorem dX0_text_90 : decode cX0_text 90 = .ok (.iconst 0, 1) := dk_3 (dk_at dksX0_text_3 20 rfl rfl)
theorem dX0_text_91 : decode cX0_text 91 = .ok (.putfield 89, 3) := dk_181 0 89 (dk_at dksX0_text_3 21 rfl rfl)
theorem dX0_text_94 : decode cX0_text 94 = .ok (.iload_n 3, 1) := dk_29 (dk_at dksX0_text_4 0 rfl rfl)
theorem dX0_text_95 : decode cX0_text 95 = .ok (.ireturn, 1) := dk_172 (dk_at dksX0_text_4 1 rfl rfl)
theorem dX0_text_96 : decode cX0_text 96 = .ok (.astore 4, 2) := dk_58 4 (dk_at dksX0_text_4 2 rfl rfl)
theorem dX0_text_98 : decode cX0_text 98 = .ok (.aload_n 0, 1) := dk_42 (dk_at dksX0_text_4 4 rfl rfl)
theorem dX0_text_99 : decode cX0_text 99 = .ok (.iconst 0, 1) := dk_3 (dk_at dksX0_text_4 5 rfl rfl)
theorem dX0_text_100 : decode cX0_text 100 = .ok (.putfield 89, 3) := dk_181 0 89 (dk_at dksX0_text_4 6 rfl rfl)
theorem dX0_text_103 : decode cX0_text 103 = .ok (.aload 4, 2) := dk_25 4 (dk_at dksX0_text_4 9 rfl rfl)
theorem dX0_text_105 : decode cX0_text 105 = .ok (.athrow, 1) := dk_191 (dk_at dksX0_text_4 11 rfl rfl)
theorem dX0_text_106 : decode cX0_text 106 = .ok (.aload_n 0, 1) := dk_42 (dk_at dksX0_text_4 12 rfl rfl)
theorem dX0_text_107 : decode cX0_text 107 = .ok (.getfield 21, 3) := dk_180 0 21 (dk_at dksX0_text_4 13 rfl rfl)
theorem dX0_text_110 : decode cX0_text 110 = .ok (.getfield 59, 3) := dk_180 0 59 (dk_at dksX0_text_4 16 rfl rfl)
theorem dX0_text_113 : decode cX0_text 113 = .ok (.iconst 1, 1) := dk_4 (dk_at dksX0_text_4 19 rfl rfl)
theorem dX0_text_114 : decode cX0_text 114 = .ok (.dup2, 1) := dk_92 (dk_at dksX0_text_4 20 rfl rfl)
theorem dX0_text_115 : decode cX0_text 115 = .ok (.iaload, 1) := dk_46 (dk_at dksX0_text_4 21 rfl rfl)
theorem dX0_text_116 : decode cX0_text 116 = .ok (.iconst 1, 1) := dk_4 (dk_at dksX0_text_4 22 rfl rfl)
theorem dX0_text_117 : decode cX0_text 117 = .ok (.iadd, 1) := dk_96 (dk_at dksX0_text_4 23 rfl rfl)
theorem dX0_text_118 : decode cX0_text 118 = .ok (.iastore, 1) := dk_79 (dk_at dksX0_text_5 0 rfl rfl)
theorem dX0_text_119 : decode cX0_text 119 = .ok (.aload_n 0, 1) := dk_42 (dk_at dksX0_text_5 1 rfl rfl)
theorem dX0_text_120 : decode cX0_text 120 = .ok (.getfield 21, 3) := dk_180 0 21 (dk_at dksX0_text_5 2 rfl rfl)
theorem dX0_text_123 : decode cX0_text 123 = .ok (.getfield 59, 3) := dk_180 0 59 (dk_at dksX0_text_5 5 rfl rfl)
theorem dX0_text_126 : decode cX0_text 126 = .ok (.iconst 1, 1) := dk_4 (dk_at dksX0_text_5 8 rfl rfl)
theorem dX0_text_127 : decode cX0_text 127 = .ok (.iaload, 1) := dk_46 (dk_at dksX0_text_5 9 rfl rfl)
theorem dX0_text_128 : decode cX0_text 128 = .ok (.iconst 1, 1) := dk_4 (dk_at dksX0_text_5 10 rfl rfl)
theorem dX0_text_129 : decode cX0_text 129 = .ok (.isub, 1) := dk_100 (dk_at dksX0_text_5 11 rfl rfl)
theorem dX0_text_130 : decode cX0_text 130 = .ok (.ireturn, 1) := dk_172 (dk_at dksX0_text_5 12 rfl rfl)
abbrev cX0_fault : ByteArray := prog_1_method_18_code
def yX0_fault : MethodName := ⟨RX0, "fault", "(I)I"⟩
def dkwX0_fault_1 : List UInt8 := [172]
abbrev dktX0_fault_1 : List UInt8 := dkwX0_fault_1 ++ []
def dkwX0_fault_0 : List UInt8 := [27, 154, 0, 10, 42, 180, 0, 32, 167, 0, 16, 27, 4, 160, 0, 10, 42, 180, 0, 36, 167, 0, 4, 2]
abbrev dktX0_fault_0 : List UInt8 := dkwX0_fault_0 ++ dktX0_fault_1
theorem dksX0_fault_0 : cX0_fault.data.toList.drop 0 = dktX0_fault_0 := by decide +kernel
theorem dksX0_fault_1 : cX0_fault.data.toList.drop 24 = dktX0_fault_1 := dk_seg dksX0_fault_0 24 rfl rfl
theorem dX0_fault_0 : decode cX0_fault 0 = .ok (.iload_n 1, 1) := dk_27 (dk_at dksX0_fault_0 0 rfl rfl)
theorem dX0_fault_1 : decode cX0_fault 1 = .ok (.ifCond .ne 10, 3) := dk_154 0 10 (dk_at dksX0_fault_0 1 rfl rfl)
theorem dX0_fault_4 : decode cX0_fault 4 = .ok (.aload_n 0, 1) := dk_42 (dk_at dksX0_fault_0 4 rfl rfl)
theorem dX0_fault_5 : decode cX0_fault 5 = .ok (.getfield 32, 3) := dk_180 0 32 (dk_at dksX0_fault_0 5 rfl rfl)
theorem dX0_fault_8 : decode cX0_fault 8 = .ok (.goto 16, 3) := dk_167 0 16 (dk_at dksX0_fault_0 8 rfl rfl)
theorem dX0_fault_11 : decode cX0_fault 11 = .ok (.iload_n 1, 1) := dk_27 (dk_at dksX0_fault_0 11 rfl rfl)
theorem dX0_fault_12 : decode cX0_fault 12 = .ok (.iconst 1, 1) := dk_4 (dk_at dksX0_fault_0 12 rfl rfl)
theorem dX0_fault_13 : decode cX0_fault 13 = .ok (.if_icmp .ne 10, 3) := dk_160 0 10 (dk_at dksX0_fault_0 13 rfl rfl)
theorem dX0_fault_16 : decode cX0_fault 16 = .ok (.aload_n 0, 1) := dk_42 (dk_at dksX0_fault_0 16 rfl rfl)
theorem dX0_fault_17 : decode cX0_fault 17 = .ok (.getfield 36, 3) := dk_180 0 36 (dk_at dksX0_fault_0 17 rfl rfl)
theorem dX0_fault_20 : decode cX0_fault 20 = .ok (.goto 4, 3) := dk_167 0 4 (dk_at dksX0_fault_0 20 rfl rfl)
theorem dX0_fault_23 : decode cX0_fault 23 = .ok (.iconst (-1), 1) := dk_2 (dk_at dksX0_fault_0 23 rfl rfl)
theorem dX0_fault_24 : decode cX0_fault 24 = .ok (.ireturn, 1) := dk_172 (dk_at dksX0_fault_1 0 rfl rfl)
abbrev cX0_by : ByteArray := prog_1_method_20_code
def yX0_by : MethodName := ⟨RX0, "by", "(I)Z"⟩
def dkwX0_by_1 : List UInt8 := [79, 4, 172]
abbrev dktX0_by_1 : List UInt8 := dkwX0_by_1 ++ []
def dkwX0_by_0 : List UInt8 := [27, 2, 159, 0, 13, 42, 27, 182, 0, 115, 154, 0, 5, 3, 172, 42, 180, 0, 21, 180, 0, 59, 5, 27]
abbrev dktX0_by_0 : List UInt8 := dkwX0_by_0 ++ dktX0_by_1
theorem dksX0_by_0 : cX0_by.data.toList.drop 0 = dktX0_by_0 := by decide +kernel
theorem dksX0_by_1 : cX0_by.data.toList.drop 24 = dktX0_by_1 := dk_seg dksX0_by_0 24 rfl rfl
theorem dX0_by_0 : decode cX0_by 0 = .ok (.iload_n 1, 1) := dk_27 (dk_at dksX0_by_0 0 rfl rfl)
theorem dX0_by_1 : decode cX0_by 1 = .ok (.iconst (-1), 1) := dk_2 (dk_at dksX0_by_0 1 rfl rfl)
theorem dX0_by_2 : decode cX0_by 2 = .ok (.if_icmp .eq 13, 3) := dk_159 0 13 (dk_at dksX0_by_0 2 rfl rfl)
theorem dX0_by_5 : decode cX0_by 5 = .ok (.aload_n 0, 1) := dk_42 (dk_at dksX0_by_0 5 rfl rfl)
theorem dX0_by_6 : decode cX0_by 6 = .ok (.iload_n 1, 1) := dk_27 (dk_at dksX0_by_0 6 rfl rfl)
theorem dX0_by_7 : decode cX0_by 7 = .ok (.invokevirtual 115, 3) := dk_182 0 115 (dk_at dksX0_by_0 7 rfl rfl)
theorem dX0_by_10 : decode cX0_by 10 = .ok (.ifCond .ne 5, 3) := dk_154 0 5 (dk_at dksX0_by_0 10 rfl rfl)
theorem dX0_by_13 : decode cX0_by 13 = .ok (.iconst 0, 1) := dk_3 (dk_at dksX0_by_0 13 rfl rfl)
theorem dX0_by_14 : decode cX0_by 14 = .ok (.ireturn, 1) := dk_172 (dk_at dksX0_by_0 14 rfl rfl)
theorem dX0_by_15 : decode cX0_by 15 = .ok (.aload_n 0, 1) := dk_42 (dk_at dksX0_by_0 15 rfl rfl)
theorem dX0_by_16 : decode cX0_by 16 = .ok (.getfield 21, 3) := dk_180 0 21 (dk_at dksX0_by_0 16 rfl rfl)
theorem dX0_by_19 : decode cX0_by 19 = .ok (.getfield 59, 3) := dk_180 0 59 (dk_at dksX0_by_0 19 rfl rfl)
theorem dX0_by_22 : decode cX0_by 22 = .ok (.iconst 2, 1) := dk_5 (dk_at dksX0_by_0 22 rfl rfl)
theorem dX0_by_23 : decode cX0_by 23 = .ok (.iload_n 1, 1) := dk_27 (dk_at dksX0_by_0 23 rfl rfl)
theorem dX0_by_24 : decode cX0_by 24 = .ok (.iastore, 1) := dk_79 (dk_at dksX0_by_1 0 rfl rfl)
theorem dX0_by_25 : decode cX0_by 25 = .ok (.iconst 1, 1) := dk_4 (dk_at dksX0_by_1 1 rfl rfl)
theorem dX0_by_26 : decode cX0_by 26 = .ok (.ireturn, 1) := dk_172 (dk_at dksX0_by_1 2 rfl rfl)
abbrev cX0_isText : ByteArray := prog_1_method_19_code
def yX0_isText : MethodName := ⟨RX0, "isText", "(I)Z"⟩
def dkwX0_isText_0 : List UInt8 := [27, 3, 42, 180, 0, 21, 180, 0, 59, 4, 46, 4, 100, 184, 0, 62, 172]
abbrev dktX0_isText_0 : List UInt8 := dkwX0_isText_0 ++ []
theorem dksX0_isText_0 : cX0_isText.data.toList.drop 0 = dktX0_isText_0 := by decide +kernel
theorem dX0_isText_0 : decode cX0_isText 0 = .ok (.iload_n 1, 1) := dk_27 (dk_at dksX0_isText_0 0 rfl rfl)
theorem dX0_isText_1 : decode cX0_isText 1 = .ok (.iconst 0, 1) := dk_3 (dk_at dksX0_isText_0 1 rfl rfl)
theorem dX0_isText_2 : decode cX0_isText 2 = .ok (.aload_n 0, 1) := dk_42 (dk_at dksX0_isText_0 2 rfl rfl)
theorem dX0_isText_3 : decode cX0_isText 3 = .ok (.getfield 21, 3) := dk_180 0 21 (dk_at dksX0_isText_0 3 rfl rfl)
theorem dX0_isText_6 : decode cX0_isText 6 = .ok (.getfield 59, 3) := dk_180 0 59 (dk_at dksX0_isText_0 6 rfl rfl)
theorem dX0_isText_9 : decode cX0_isText 9 = .ok (.iconst 1, 1) := dk_4 (dk_at dksX0_isText_0 9 rfl rfl)
theorem dX0_isText_10 : decode cX0_isText 10 = .ok (.iaload, 1) := dk_46 (dk_at dksX0_isText_0 10 rfl rfl)
theorem dX0_isText_11 : decode cX0_isText 11 = .ok (.iconst 1, 1) := dk_4 (dk_at dksX0_isText_0 11 rfl rfl)
theorem dX0_isText_12 : decode cX0_isText 12 = .ok (.isub, 1) := dk_100 (dk_at dksX0_isText_0 12 rfl rfl)
theorem dX0_isText_13 : decode cX0_isText 13 = .ok (.invokestatic 62, 3) := dk_184 0 62 (dk_at dksX0_isText_0 13 rfl rfl)
theorem dX0_isText_16 : decode cX0_isText 16 = .ok (.ireturn, 1) := dk_172 (dk_at dksX0_isText_0 16 rfl rfl)
abbrev cX0_day : ByteArray := prog_1_method_36_code
def yX0_day : MethodName := ⟨RX0, "day", "(I)I"⟩
def dkwX0_day_2 : List UInt8 := [180, 0, 21, 180, 0, 66, 182, 0, 208, 96, 61, 132, 3, 1, 167, 255, 227, 28, 172]
abbrev dktX0_day_2 : List UInt8 := dkwX0_day_2 ++ []
def dkwX0_day_1 : List UInt8 := [164, 0, 5, 2, 172, 3, 61, 3, 62, 29, 27, 162, 0, 30, 42, 180, 0, 21, 182, 0, 205, 28, 42, 42]
abbrev dktX0_day_1 : List UInt8 := dkwX0_day_1 ++ dktX0_day_2
def dkwX0_day_0 : List UInt8 := [27, 4, 16, 60, 184, 0, 62, 153, 0, 20, 42, 180, 0, 21, 180, 0, 66, 3, 46, 27, 96, 17, 39, 15]
abbrev dktX0_day_0 : List UInt8 := dkwX0_day_0 ++ dktX0_day_1
theorem dksX0_day_0 : cX0_day.data.toList.drop 0 = dktX0_day_0 := by decide +kernel
theorem dksX0_day_1 : cX0_day.data.toList.drop 24 = dktX0_day_1 := dk_seg dksX0_day_0 24 rfl rfl
theorem dksX0_day_2 : cX0_day.data.toList.drop 48 = dktX0_day_2 := dk_seg dksX0_day_1 24 rfl rfl
theorem dX0_day_0 : decode cX0_day 0 = .ok (.iload_n 1, 1) := dk_27 (dk_at dksX0_day_0 0 rfl rfl)
theorem dX0_day_1 : decode cX0_day 1 = .ok (.iconst 1, 1) := dk_4 (dk_at dksX0_day_0 1 rfl rfl)
theorem dX0_day_2 : decode cX0_day 2 = .ok (.bipush 60, 2) := dk_16 60 (dk_at dksX0_day_0 2 rfl rfl)
theorem dX0_day_4 : decode cX0_day 4 = .ok (.invokestatic 62, 3) := dk_184 0 62 (dk_at dksX0_day_0 4 rfl rfl)
theorem dX0_day_7 : decode cX0_day 7 = .ok (.ifCond .eq 20, 3) := dk_153 0 20 (dk_at dksX0_day_0 7 rfl rfl)
theorem dX0_day_10 : decode cX0_day 10 = .ok (.aload_n 0, 1) := dk_42 (dk_at dksX0_day_0 10 rfl rfl)
theorem dX0_day_11 : decode cX0_day 11 = .ok (.getfield 21, 3) := dk_180 0 21 (dk_at dksX0_day_0 11 rfl rfl)
theorem dX0_day_14 : decode cX0_day 14 = .ok (.getfield 66, 3) := dk_180 0 66 (dk_at dksX0_day_0 14 rfl rfl)
theorem dX0_day_17 : decode cX0_day 17 = .ok (.iconst 0, 1) := dk_3 (dk_at dksX0_day_0 17 rfl rfl)
theorem dX0_day_18 : decode cX0_day 18 = .ok (.iaload, 1) := dk_46 (dk_at dksX0_day_0 18 rfl rfl)
theorem dX0_day_19 : decode cX0_day 19 = .ok (.iload_n 1, 1) := dk_27 (dk_at dksX0_day_0 19 rfl rfl)
theorem dX0_day_20 : decode cX0_day 20 = .ok (.iadd, 1) := dk_96 (dk_at dksX0_day_0 20 rfl rfl)
theorem dX0_day_21 : decode cX0_day 21 = .ok (.sipush 9999, 3) := dk_17 39 15 (dk_at dksX0_day_0 21 rfl rfl)
theorem dX0_day_24 : decode cX0_day 24 = .ok (.if_icmp .le 5, 3) := dk_164 0 5 (dk_at dksX0_day_1 0 rfl rfl)
theorem dX0_day_27 : decode cX0_day 27 = .ok (.iconst (-1), 1) := dk_2 (dk_at dksX0_day_1 3 rfl rfl)
theorem dX0_day_28 : decode cX0_day 28 = .ok (.ireturn, 1) := dk_172 (dk_at dksX0_day_1 4 rfl rfl)
theorem dX0_day_29 : decode cX0_day 29 = .ok (.iconst 0, 1) := dk_3 (dk_at dksX0_day_1 5 rfl rfl)
theorem dX0_day_30 : decode cX0_day 30 = .ok (.istore_n 2, 1) := dk_61 (dk_at dksX0_day_1 6 rfl rfl)
theorem dX0_day_31 : decode cX0_day 31 = .ok (.iconst 0, 1) := dk_3 (dk_at dksX0_day_1 7 rfl rfl)
theorem dX0_day_32 : decode cX0_day 32 = .ok (.istore_n 3, 1) := dk_62 (dk_at dksX0_day_1 8 rfl rfl)
theorem dX0_day_33 : decode cX0_day 33 = .ok (.iload_n 3, 1) := dk_29 (dk_at dksX0_day_1 9 rfl rfl)
theorem dX0_day_34 : decode cX0_day 34 = .ok (.iload_n 1, 1) := dk_27 (dk_at dksX0_day_1 10 rfl rfl)
theorem dX0_day_35 : decode cX0_day 35 = .ok (.if_icmp .ge 30, 3) := dk_162 0 30 (dk_at dksX0_day_1 11 rfl rfl)
theorem dX0_day_38 : decode cX0_day 38 = .ok (.aload_n 0, 1) := dk_42 (dk_at dksX0_day_1 14 rfl rfl)
theorem dX0_day_39 : decode cX0_day 39 = .ok (.getfield 21, 3) := dk_180 0 21 (dk_at dksX0_day_1 15 rfl rfl)
theorem dX0_day_42 : decode cX0_day 42 = .ok (.invokevirtual 205, 3) := dk_182 0 205 (dk_at dksX0_day_1 18 rfl rfl)
theorem dX0_day_45 : decode cX0_day 45 = .ok (.iload_n 2, 1) := dk_28 (dk_at dksX0_day_1 21 rfl rfl)
theorem dX0_day_46 : decode cX0_day 46 = .ok (.aload_n 0, 1) := dk_42 (dk_at dksX0_day_1 22 rfl rfl)
theorem dX0_day_47 : decode cX0_day 47 = .ok (.aload_n 0, 1) := dk_42 (dk_at dksX0_day_1 23 rfl rfl)
theorem dX0_day_48 : decode cX0_day 48 = .ok (.getfield 21, 3) := dk_180 0 21 (dk_at dksX0_day_2 0 rfl rfl)
theorem dX0_day_51 : decode cX0_day 51 = .ok (.getfield 66, 3) := dk_180 0 66 (dk_at dksX0_day_2 3 rfl rfl)
theorem dX0_day_54 : decode cX0_day 54 = .ok (.invokevirtual 208, 3) := dk_182 0 208 (dk_at dksX0_day_2 6 rfl rfl)
theorem dX0_day_57 : decode cX0_day 57 = .ok (.iadd, 1) := dk_96 (dk_at dksX0_day_2 9 rfl rfl)
theorem dX0_day_58 : decode cX0_day 58 = .ok (.istore_n 2, 1) := dk_61 (dk_at dksX0_day_2 10 rfl rfl)
theorem dX0_day_59 : decode cX0_day 59 = .ok (.iinc 3 1, 3) := dk_132 3 1 (dk_at dksX0_day_2 11 rfl rfl)
theorem dX0_day_62 : decode cX0_day 62 = .ok (.goto (-29), 3) := dk_167 255 227 (dk_at dksX0_day_2 14 rfl rfl)
theorem dX0_day_65 : decode cX0_day 65 = .ok (.iload_n 2, 1) := dk_28 (dk_at dksX0_day_2 17 rfl rfl)
theorem dX0_day_66 : decode cX0_day 66 = .ok (.ireturn, 1) := dk_172 (dk_at dksX0_day_2 18 rfl rfl)
abbrev cX0_passes : ByteArray := prog_1_method_35_code
def yX0_passes : MethodName := ⟨RX0, "passes", "([I)I"⟩
def dkwX0_passes_5 : List UInt8 := [167, 255, 222, 132, 3, 1, 167, 255, 204, 43, 3, 92, 46, 4, 96, 79, 28, 172]
abbrev dktX0_passes_5 : List UInt8 := dkwX0_passes_5 ++ []
def dkwX0_passes_4 : List UInt8 := [21, 4, 184, 0, 198, 154, 0, 6, 167, 0, 13, 43, 29, 21, 4, 184, 0, 202, 132, 2, 1, 132, 4, 1]
abbrev dktX0_passes_4 : List UInt8 := dkwX0_passes_4 ++ dktX0_passes_5
def dkwX0_passes_3 : List UInt8 := [3, 62, 29, 43, 5, 46, 162, 0, 51, 29, 4, 96, 54, 4, 21, 4, 43, 5, 46, 162, 0, 32, 43, 29]
abbrev dktX0_passes_3 : List UInt8 := dkwX0_passes_3 ++ dktX0_passes_4
def dkwX0_passes_2 : List UInt8 := [182, 0, 192, 167, 0, 15, 42, 43, 29, 182, 0, 195, 153, 0, 6, 132, 2, 1, 132, 3, 1, 167, 255, 193]
abbrev dktX0_passes_2 : List UInt8 := dkwX0_passes_2 ++ dktX0_passes_3
def dkwX0_passes_1 : List UInt8 := [184, 0, 188, 153, 0, 6, 167, 0, 34, 43, 29, 7, 184, 0, 149, 46, 154, 0, 12, 42, 43, 29]
abbrev dktX0_passes_1 : List UInt8 := dkwX0_passes_1 ++ dktX0_passes_2
def dkwX0_passes_0 : List UInt8 := [3, 61, 3, 62, 29, 43, 5, 46, 162, 0, 62, 43, 29, 7, 184, 0, 149, 46, 5, 159, 0, 45, 43, 29]
abbrev dktX0_passes_0 : List UInt8 := dkwX0_passes_0 ++ dktX0_passes_1
theorem dksX0_passes_0 : cX0_passes.data.toList.drop 0 = dktX0_passes_0 := by decide +kernel
theorem dksX0_passes_1 : cX0_passes.data.toList.drop 24 = dktX0_passes_1 := dk_seg dksX0_passes_0 24 rfl rfl
theorem dksX0_passes_2 : cX0_passes.data.toList.drop 46 = dktX0_passes_2 := dk_seg dksX0_passes_1 22 rfl rfl
theorem dksX0_passes_3 : cX0_passes.data.toList.drop 70 = dktX0_passes_3 := dk_seg dksX0_passes_2 24 rfl rfl
theorem dksX0_passes_4 : cX0_passes.data.toList.drop 94 = dktX0_passes_4 := dk_seg dksX0_passes_3 24 rfl rfl
theorem dksX0_passes_5 : cX0_passes.data.toList.drop 118 = dktX0_passes_5 := dk_seg dksX0_passes_4 24 rfl rfl
theorem dX0_passes_0 : decode cX0_passes 0 = .ok (.iconst 0, 1) := dk_3 (dk_at dksX0_passes_0 0 rfl rfl)
theorem dX0_passes_1 : decode cX0_passes 1 = .ok (.istore_n 2, 1) := dk_61 (dk_at dksX0_passes_0 1 rfl rfl)
theorem dX0_passes_2 : decode cX0_passes 2 = .ok (.iconst 0, 1) := dk_3 (dk_at dksX0_passes_0 2 rfl rfl)
theorem dX0_passes_3 : decode cX0_passes 3 = .ok (.istore_n 3, 1) := dk_62 (dk_at dksX0_passes_0 3 rfl rfl)
theorem dX0_passes_4 : decode cX0_passes 4 = .ok (.iload_n 3, 1) := dk_29 (dk_at dksX0_passes_0 4 rfl rfl)
theorem dX0_passes_5 : decode cX0_passes 5 = .ok (.aload_n 1, 1) := dk_43 (dk_at dksX0_passes_0 5 rfl rfl)
theorem dX0_passes_6 : decode cX0_passes 6 = .ok (.iconst 2, 1) := dk_5 (dk_at dksX0_passes_0 6 rfl rfl)
theorem dX0_passes_7 : decode cX0_passes 7 = .ok (.iaload, 1) := dk_46 (dk_at dksX0_passes_0 7 rfl rfl)
theorem dX0_passes_8 : decode cX0_passes 8 = .ok (.if_icmp .ge 62, 3) := dk_162 0 62 (dk_at dksX0_passes_0 8 rfl rfl)
theorem dX0_passes_11 : decode cX0_passes 11 = .ok (.aload_n 1, 1) := dk_43 (dk_at dksX0_passes_0 11 rfl rfl)
theorem dX0_passes_12 : decode cX0_passes 12 = .ok (.iload_n 3, 1) := dk_29 (dk_at dksX0_passes_0 12 rfl rfl)
theorem dX0_passes_13 : decode cX0_passes 13 = .ok (.iconst 4, 1) := dk_7 (dk_at dksX0_passes_0 13 rfl rfl)
theorem dX0_passes_14 : decode cX0_passes 14 = .ok (.invokestatic 149, 3) := dk_184 0 149 (dk_at dksX0_passes_0 14 rfl rfl)
theorem dX0_passes_17 : decode cX0_passes 17 = .ok (.iaload, 1) := dk_46 (dk_at dksX0_passes_0 17 rfl rfl)
theorem dX0_passes_18 : decode cX0_passes 18 = .ok (.iconst 2, 1) := dk_5 (dk_at dksX0_passes_0 18 rfl rfl)
theorem dX0_passes_19 : decode cX0_passes 19 = .ok (.if_icmp .eq 45, 3) := dk_159 0 45 (dk_at dksX0_passes_0 19 rfl rfl)
theorem dX0_passes_22 : decode cX0_passes 22 = .ok (.aload_n 1, 1) := dk_43 (dk_at dksX0_passes_0 22 rfl rfl)
theorem dX0_passes_23 : decode cX0_passes 23 = .ok (.iload_n 3, 1) := dk_29 (dk_at dksX0_passes_0 23 rfl rfl)
theorem dX0_passes_24 : decode cX0_passes 24 = .ok (.invokestatic 188, 3) := dk_184 0 188 (dk_at dksX0_passes_1 0 rfl rfl)
theorem dX0_passes_27 : decode cX0_passes 27 = .ok (.ifCond .eq 6, 3) := dk_153 0 6 (dk_at dksX0_passes_1 3 rfl rfl)
theorem dX0_passes_30 : decode cX0_passes 30 = .ok (.goto 34, 3) := dk_167 0 34 (dk_at dksX0_passes_1 6 rfl rfl)
theorem dX0_passes_33 : decode cX0_passes 33 = .ok (.aload_n 1, 1) := dk_43 (dk_at dksX0_passes_1 9 rfl rfl)
theorem dX0_passes_34 : decode cX0_passes 34 = .ok (.iload_n 3, 1) := dk_29 (dk_at dksX0_passes_1 10 rfl rfl)
theorem dX0_passes_35 : decode cX0_passes 35 = .ok (.iconst 4, 1) := dk_7 (dk_at dksX0_passes_1 11 rfl rfl)
theorem dX0_passes_36 : decode cX0_passes 36 = .ok (.invokestatic 149, 3) := dk_184 0 149 (dk_at dksX0_passes_1 12 rfl rfl)
theorem dX0_passes_39 : decode cX0_passes 39 = .ok (.iaload, 1) := dk_46 (dk_at dksX0_passes_1 15 rfl rfl)
theorem dX0_passes_40 : decode cX0_passes 40 = .ok (.ifCond .ne 12, 3) := dk_154 0 12 (dk_at dksX0_passes_1 16 rfl rfl)
theorem dX0_passes_43 : decode cX0_passes 43 = .ok (.aload_n 0, 1) := dk_42 (dk_at dksX0_passes_1 19 rfl rfl)
theorem dX0_passes_44 : decode cX0_passes 44 = .ok (.aload_n 1, 1) := dk_43 (dk_at dksX0_passes_1 20 rfl rfl)
theorem dX0_passes_45 : decode cX0_passes 45 = .ok (.iload_n 3, 1) := dk_29 (dk_at dksX0_passes_1 21 rfl rfl)
theorem dX0_passes_46 : decode cX0_passes 46 = .ok (.invokevirtual 192, 3) := dk_182 0 192 (dk_at dksX0_passes_2 0 rfl rfl)
theorem dX0_passes_49 : decode cX0_passes 49 = .ok (.goto 15, 3) := dk_167 0 15 (dk_at dksX0_passes_2 3 rfl rfl)
theorem dX0_passes_52 : decode cX0_passes 52 = .ok (.aload_n 0, 1) := dk_42 (dk_at dksX0_passes_2 6 rfl rfl)
theorem dX0_passes_53 : decode cX0_passes 53 = .ok (.aload_n 1, 1) := dk_43 (dk_at dksX0_passes_2 7 rfl rfl)
theorem dX0_passes_54 : decode cX0_passes 54 = .ok (.iload_n 3, 1) := dk_29 (dk_at dksX0_passes_2 8 rfl rfl)
theorem dX0_passes_55 : decode cX0_passes 55 = .ok (.invokevirtual 195, 3) := dk_182 0 195 (dk_at dksX0_passes_2 9 rfl rfl)
theorem dX0_passes_58 : decode cX0_passes 58 = .ok (.ifCond .eq 6, 3) := dk_153 0 6 (dk_at dksX0_passes_2 12 rfl rfl)
theorem dX0_passes_61 : decode cX0_passes 61 = .ok (.iinc 2 1, 3) := dk_132 2 1 (dk_at dksX0_passes_2 15 rfl rfl)
theorem dX0_passes_64 : decode cX0_passes 64 = .ok (.iinc 3 1, 3) := dk_132 3 1 (dk_at dksX0_passes_2 18 rfl rfl)
theorem dX0_passes_67 : decode cX0_passes 67 = .ok (.goto (-63), 3) := dk_167 255 193 (dk_at dksX0_passes_2 21 rfl rfl)
theorem dX0_passes_70 : decode cX0_passes 70 = .ok (.iconst 0, 1) := dk_3 (dk_at dksX0_passes_3 0 rfl rfl)
theorem dX0_passes_71 : decode cX0_passes 71 = .ok (.istore_n 3, 1) := dk_62 (dk_at dksX0_passes_3 1 rfl rfl)
theorem dX0_passes_72 : decode cX0_passes 72 = .ok (.iload_n 3, 1) := dk_29 (dk_at dksX0_passes_3 2 rfl rfl)
theorem dX0_passes_73 : decode cX0_passes 73 = .ok (.aload_n 1, 1) := dk_43 (dk_at dksX0_passes_3 3 rfl rfl)
theorem dX0_passes_74 : decode cX0_passes 74 = .ok (.iconst 2, 1) := dk_5 (dk_at dksX0_passes_3 4 rfl rfl)
theorem dX0_passes_75 : decode cX0_passes 75 = .ok (.iaload, 1) := dk_46 (dk_at dksX0_passes_3 5 rfl rfl)
theorem dX0_passes_76 : decode cX0_passes 76 = .ok (.if_icmp .ge 51, 3) := dk_162 0 51 (dk_at dksX0_passes_3 6 rfl rfl)
theorem dX0_passes_79 : decode cX0_passes 79 = .ok (.iload_n 3, 1) := dk_29 (dk_at dksX0_passes_3 9 rfl rfl)
theorem dX0_passes_80 : decode cX0_passes 80 = .ok (.iconst 1, 1) := dk_4 (dk_at dksX0_passes_3 10 rfl rfl)
theorem dX0_passes_81 : decode cX0_passes 81 = .ok (.iadd, 1) := dk_96 (dk_at dksX0_passes_3 11 rfl rfl)
theorem dX0_passes_82 : decode cX0_passes 82 = .ok (.istore 4, 2) := dk_54 4 (dk_at dksX0_passes_3 12 rfl rfl)
theorem dX0_passes_84 : decode cX0_passes 84 = .ok (.iload 4, 2) := dk_21 4 (dk_at dksX0_passes_3 14 rfl rfl)
theorem dX0_passes_86 : decode cX0_passes 86 = .ok (.aload_n 1, 1) := dk_43 (dk_at dksX0_passes_3 16 rfl rfl)
theorem dX0_passes_87 : decode cX0_passes 87 = .ok (.iconst 2, 1) := dk_5 (dk_at dksX0_passes_3 17 rfl rfl)
theorem dX0_passes_88 : decode cX0_passes 88 = .ok (.iaload, 1) := dk_46 (dk_at dksX0_passes_3 18 rfl rfl)
theorem dX0_passes_89 : decode cX0_passes 89 = .ok (.if_icmp .ge 32, 3) := dk_162 0 32 (dk_at dksX0_passes_3 19 rfl rfl)
theorem dX0_passes_92 : decode cX0_passes 92 = .ok (.aload_n 1, 1) := dk_43 (dk_at dksX0_passes_3 22 rfl rfl)
theorem dX0_passes_93 : decode cX0_passes 93 = .ok (.iload_n 3, 1) := dk_29 (dk_at dksX0_passes_3 23 rfl rfl)
theorem dX0_passes_94 : decode cX0_passes 94 = .ok (.iload 4, 2) := dk_21 4 (dk_at dksX0_passes_4 0 rfl rfl)
theorem dX0_passes_96 : decode cX0_passes 96 = .ok (.invokestatic 198, 3) := dk_184 0 198 (dk_at dksX0_passes_4 2 rfl rfl)
theorem dX0_passes_99 : decode cX0_passes 99 = .ok (.ifCond .ne 6, 3) := dk_154 0 6 (dk_at dksX0_passes_4 5 rfl rfl)
theorem dX0_passes_102 : decode cX0_passes 102 = .ok (.goto 13, 3) := dk_167 0 13 (dk_at dksX0_passes_4 8 rfl rfl)
theorem dX0_passes_105 : decode cX0_passes 105 = .ok (.aload_n 1, 1) := dk_43 (dk_at dksX0_passes_4 11 rfl rfl)
theorem dX0_passes_106 : decode cX0_passes 106 = .ok (.iload_n 3, 1) := dk_29 (dk_at dksX0_passes_4 12 rfl rfl)
theorem dX0_passes_107 : decode cX0_passes 107 = .ok (.iload 4, 2) := dk_21 4 (dk_at dksX0_passes_4 13 rfl rfl)
theorem dX0_passes_109 : decode cX0_passes 109 = .ok (.invokestatic 202, 3) := dk_184 0 202 (dk_at dksX0_passes_4 15 rfl rfl)
theorem dX0_passes_112 : decode cX0_passes 112 = .ok (.iinc 2 1, 3) := dk_132 2 1 (dk_at dksX0_passes_4 18 rfl rfl)
theorem dX0_passes_115 : decode cX0_passes 115 = .ok (.iinc 4 1, 3) := dk_132 4 1 (dk_at dksX0_passes_4 21 rfl rfl)
theorem dX0_passes_118 : decode cX0_passes 118 = .ok (.goto (-34), 3) := dk_167 255 222 (dk_at dksX0_passes_5 0 rfl rfl)
theorem dX0_passes_121 : decode cX0_passes 121 = .ok (.iinc 3 1, 3) := dk_132 3 1 (dk_at dksX0_passes_5 3 rfl rfl)
theorem dX0_passes_124 : decode cX0_passes 124 = .ok (.goto (-52), 3) := dk_167 255 204 (dk_at dksX0_passes_5 6 rfl rfl)
theorem dX0_passes_127 : decode cX0_passes 127 = .ok (.aload_n 1, 1) := dk_43 (dk_at dksX0_passes_5 9 rfl rfl)
theorem dX0_passes_128 : decode cX0_passes 128 = .ok (.iconst 0, 1) := dk_3 (dk_at dksX0_passes_5 10 rfl rfl)
theorem dX0_passes_129 : decode cX0_passes 129 = .ok (.dup2, 1) := dk_92 (dk_at dksX0_passes_5 11 rfl rfl)
theorem dX0_passes_130 : decode cX0_passes 130 = .ok (.iaload, 1) := dk_46 (dk_at dksX0_passes_5 12 rfl rfl)
theorem dX0_passes_131 : decode cX0_passes 131 = .ok (.iconst 1, 1) := dk_4 (dk_at dksX0_passes_5 13 rfl rfl)
theorem dX0_passes_132 : decode cX0_passes 132 = .ok (.iadd, 1) := dk_96 (dk_at dksX0_passes_5 14 rfl rfl)
theorem dX0_passes_133 : decode cX0_passes 133 = .ok (.iastore, 1) := dk_79 (dk_at dksX0_passes_5 15 rfl rfl)
theorem dX0_passes_134 : decode cX0_passes 134 = .ok (.iload_n 2, 1) := dk_28 (dk_at dksX0_passes_5 16 rfl rfl)
theorem dX0_passes_135 : decode cX0_passes 135 = .ok (.ireturn, 1) := dk_172 (dk_at dksX0_passes_5 17 rfl rfl)
abbrev cX0_at : ByteArray := prog_1_method_7_code
def yX0_at : MethodName := ⟨RX0, "at", "(II)I"⟩
def dkwX0_at_0 : List UInt8 := [6, 16, 7, 26, 104, 96, 27, 96, 172]
abbrev dktX0_at_0 : List UInt8 := dkwX0_at_0 ++ []
theorem dksX0_at_0 : cX0_at.data.toList.drop 0 = dktX0_at_0 := by decide +kernel
theorem dX0_at_0 : decode cX0_at 0 = .ok (.iconst 3, 1) := dk_6 (dk_at dksX0_at_0 0 rfl rfl)
theorem dX0_at_1 : decode cX0_at 1 = .ok (.bipush 7, 2) := dk_16 7 (dk_at dksX0_at_0 1 rfl rfl)
theorem dX0_at_3 : decode cX0_at 3 = .ok (.iload_n 0, 1) := dk_26 (dk_at dksX0_at_0 3 rfl rfl)
theorem dX0_at_4 : decode cX0_at 4 = .ok (.imul, 1) := dk_104 (dk_at dksX0_at_0 4 rfl rfl)
theorem dX0_at_5 : decode cX0_at 5 = .ok (.iadd, 1) := dk_96 (dk_at dksX0_at_0 5 rfl rfl)
theorem dX0_at_6 : decode cX0_at 6 = .ok (.iload_n 1, 1) := dk_27 (dk_at dksX0_at_0 6 rfl rfl)
theorem dX0_at_7 : decode cX0_at 7 = .ok (.iadd, 1) := dk_96 (dk_at dksX0_at_0 7 rfl rfl)
theorem dX0_at_8 : decode cX0_at 8 = .ok (.ireturn, 1) := dk_172 (dk_at dksX0_at_0 8 rfl rfl)
abbrev cX0_waits : ByteArray := prog_1_method_34_code
def yX0_waits : MethodName := ⟨RX0, "waits", "([II)Z"⟩
def dkwX0_waits_1 : List UInt8 := [184, 0, 149, 46, 96, 46, 162, 0, 7, 4, 167, 0, 4, 3, 172]
abbrev dktX0_waits_1 : List UInt8 := dkwX0_waits_1 ++ []
def dkwX0_waits_0 : List UInt8 := [42, 3, 46, 42, 27, 16, 6, 184, 0, 149, 46, 161, 0, 21, 42, 3, 46, 42, 16, 73, 42, 27, 5]
abbrev dktX0_waits_0 : List UInt8 := dkwX0_waits_0 ++ dktX0_waits_1
theorem dksX0_waits_0 : cX0_waits.data.toList.drop 0 = dktX0_waits_0 := by decide +kernel
theorem dksX0_waits_1 : cX0_waits.data.toList.drop 23 = dktX0_waits_1 := dk_seg dksX0_waits_0 23 rfl rfl
theorem dX0_waits_0 : decode cX0_waits 0 = .ok (.aload_n 0, 1) := dk_42 (dk_at dksX0_waits_0 0 rfl rfl)
theorem dX0_waits_1 : decode cX0_waits 1 = .ok (.iconst 0, 1) := dk_3 (dk_at dksX0_waits_0 1 rfl rfl)
theorem dX0_waits_2 : decode cX0_waits 2 = .ok (.iaload, 1) := dk_46 (dk_at dksX0_waits_0 2 rfl rfl)
theorem dX0_waits_3 : decode cX0_waits 3 = .ok (.aload_n 0, 1) := dk_42 (dk_at dksX0_waits_0 3 rfl rfl)
theorem dX0_waits_4 : decode cX0_waits 4 = .ok (.iload_n 1, 1) := dk_27 (dk_at dksX0_waits_0 4 rfl rfl)
theorem dX0_waits_5 : decode cX0_waits 5 = .ok (.bipush 6, 2) := dk_16 6 (dk_at dksX0_waits_0 5 rfl rfl)
theorem dX0_waits_7 : decode cX0_waits 7 = .ok (.invokestatic 149, 3) := dk_184 0 149 (dk_at dksX0_waits_0 7 rfl rfl)
theorem dX0_waits_10 : decode cX0_waits 10 = .ok (.iaload, 1) := dk_46 (dk_at dksX0_waits_0 10 rfl rfl)
theorem dX0_waits_11 : decode cX0_waits 11 = .ok (.if_icmp .lt 21, 3) := dk_161 0 21 (dk_at dksX0_waits_0 11 rfl rfl)
theorem dX0_waits_14 : decode cX0_waits 14 = .ok (.aload_n 0, 1) := dk_42 (dk_at dksX0_waits_0 14 rfl rfl)
theorem dX0_waits_15 : decode cX0_waits 15 = .ok (.iconst 0, 1) := dk_3 (dk_at dksX0_waits_0 15 rfl rfl)
theorem dX0_waits_16 : decode cX0_waits 16 = .ok (.iaload, 1) := dk_46 (dk_at dksX0_waits_0 16 rfl rfl)
theorem dX0_waits_17 : decode cX0_waits 17 = .ok (.aload_n 0, 1) := dk_42 (dk_at dksX0_waits_0 17 rfl rfl)
theorem dX0_waits_18 : decode cX0_waits 18 = .ok (.bipush 73, 2) := dk_16 73 (dk_at dksX0_waits_0 18 rfl rfl)
theorem dX0_waits_20 : decode cX0_waits 20 = .ok (.aload_n 0, 1) := dk_42 (dk_at dksX0_waits_0 20 rfl rfl)
theorem dX0_waits_21 : decode cX0_waits 21 = .ok (.iload_n 1, 1) := dk_27 (dk_at dksX0_waits_0 21 rfl rfl)
theorem dX0_waits_22 : decode cX0_waits 22 = .ok (.iconst 2, 1) := dk_5 (dk_at dksX0_waits_0 22 rfl rfl)
theorem dX0_waits_23 : decode cX0_waits 23 = .ok (.invokestatic 149, 3) := dk_184 0 149 (dk_at dksX0_waits_1 0 rfl rfl)
theorem dX0_waits_26 : decode cX0_waits 26 = .ok (.iaload, 1) := dk_46 (dk_at dksX0_waits_1 3 rfl rfl)
theorem dX0_waits_27 : decode cX0_waits 27 = .ok (.iadd, 1) := dk_96 (dk_at dksX0_waits_1 4 rfl rfl)
theorem dX0_waits_28 : decode cX0_waits 28 = .ok (.iaload, 1) := dk_46 (dk_at dksX0_waits_1 5 rfl rfl)
theorem dX0_waits_29 : decode cX0_waits 29 = .ok (.if_icmp .ge 7, 3) := dk_162 0 7 (dk_at dksX0_waits_1 6 rfl rfl)
theorem dX0_waits_32 : decode cX0_waits 32 = .ok (.iconst 1, 1) := dk_4 (dk_at dksX0_waits_1 9 rfl rfl)
theorem dX0_waits_33 : decode cX0_waits 33 = .ok (.goto 4, 3) := dk_167 0 4 (dk_at dksX0_waits_1 10 rfl rfl)
theorem dX0_waits_36 : decode cX0_waits 36 = .ok (.iconst 0, 1) := dk_3 (dk_at dksX0_waits_1 13 rfl rfl)
theorem dX0_waits_37 : decode cX0_waits 37 = .ok (.ireturn, 1) := dk_172 (dk_at dksX0_waits_1 14 rfl rfl)
abbrev cX0_goesUp : ByteArray := prog_1_method_30_code
def yX0_goesUp : MethodName := ⟨RX0, "goesUp", "([II)V"⟩
def dkwX0_goesUp_2 : List UInt8 := [46, 160, 0, 9, 42, 43, 28, 182, 0, 179, 177]
abbrev dktX0_goesUp_2 : List UInt8 := dkwX0_goesUp_2 ++ []
def dkwX0_goesUp_1 : List UInt8 := [54, 4, 43, 28, 5, 184, 0, 149, 29, 79, 43, 28, 21, 4, 184, 0, 172, 29, 43, 28, 4, 184, 0, 149]
abbrev dktX0_goesUp_1 : List UInt8 := dkwX0_goesUp_1 ++ dktX0_goesUp_2
def dkwX0_goesUp_0 : List UInt8 := [42, 180, 0, 21, 180, 0, 73, 43, 28, 5, 184, 0, 149, 46, 46, 62, 42, 43, 28, 29, 3, 182, 0, 164]
abbrev dktX0_goesUp_0 : List UInt8 := dkwX0_goesUp_0 ++ dktX0_goesUp_1
theorem dksX0_goesUp_0 : cX0_goesUp.data.toList.drop 0 = dktX0_goesUp_0 := by decide +kernel
theorem dksX0_goesUp_1 : cX0_goesUp.data.toList.drop 24 = dktX0_goesUp_1 := dk_seg dksX0_goesUp_0 24 rfl rfl
theorem dksX0_goesUp_2 : cX0_goesUp.data.toList.drop 48 = dktX0_goesUp_2 := dk_seg dksX0_goesUp_1 24 rfl rfl
theorem dX0_goesUp_0 : decode cX0_goesUp 0 = .ok (.aload_n 0, 1) := dk_42 (dk_at dksX0_goesUp_0 0 rfl rfl)
theorem dX0_goesUp_1 : decode cX0_goesUp 1 = .ok (.getfield 21, 3) := dk_180 0 21 (dk_at dksX0_goesUp_0 1 rfl rfl)
theorem dX0_goesUp_4 : decode cX0_goesUp 4 = .ok (.getfield 73, 3) := dk_180 0 73 (dk_at dksX0_goesUp_0 4 rfl rfl)
theorem dX0_goesUp_7 : decode cX0_goesUp 7 = .ok (.aload_n 1, 1) := dk_43 (dk_at dksX0_goesUp_0 7 rfl rfl)
theorem dX0_goesUp_8 : decode cX0_goesUp 8 = .ok (.iload_n 2, 1) := dk_28 (dk_at dksX0_goesUp_0 8 rfl rfl)
theorem dX0_goesUp_9 : decode cX0_goesUp 9 = .ok (.iconst 2, 1) := dk_5 (dk_at dksX0_goesUp_0 9 rfl rfl)
theorem dX0_goesUp_10 : decode cX0_goesUp 10 = .ok (.invokestatic 149, 3) := dk_184 0 149 (dk_at dksX0_goesUp_0 10 rfl rfl)
theorem dX0_goesUp_13 : decode cX0_goesUp 13 = .ok (.iaload, 1) := dk_46 (dk_at dksX0_goesUp_0 13 rfl rfl)
theorem dX0_goesUp_14 : decode cX0_goesUp 14 = .ok (.iaload, 1) := dk_46 (dk_at dksX0_goesUp_0 14 rfl rfl)
theorem dX0_goesUp_15 : decode cX0_goesUp 15 = .ok (.istore_n 3, 1) := dk_62 (dk_at dksX0_goesUp_0 15 rfl rfl)
theorem dX0_goesUp_16 : decode cX0_goesUp 16 = .ok (.aload_n 0, 1) := dk_42 (dk_at dksX0_goesUp_0 16 rfl rfl)
theorem dX0_goesUp_17 : decode cX0_goesUp 17 = .ok (.aload_n 1, 1) := dk_43 (dk_at dksX0_goesUp_0 17 rfl rfl)
theorem dX0_goesUp_18 : decode cX0_goesUp 18 = .ok (.iload_n 2, 1) := dk_28 (dk_at dksX0_goesUp_0 18 rfl rfl)
theorem dX0_goesUp_19 : decode cX0_goesUp 19 = .ok (.iload_n 3, 1) := dk_29 (dk_at dksX0_goesUp_0 19 rfl rfl)
theorem dX0_goesUp_20 : decode cX0_goesUp 20 = .ok (.iconst 0, 1) := dk_3 (dk_at dksX0_goesUp_0 20 rfl rfl)
theorem dX0_goesUp_21 : decode cX0_goesUp 21 = .ok (.invokevirtual 164, 3) := dk_182 0 164 (dk_at dksX0_goesUp_0 21 rfl rfl)
theorem dX0_goesUp_24 : decode cX0_goesUp 24 = .ok (.istore 4, 2) := dk_54 4 (dk_at dksX0_goesUp_1 0 rfl rfl)
theorem dX0_goesUp_26 : decode cX0_goesUp 26 = .ok (.aload_n 1, 1) := dk_43 (dk_at dksX0_goesUp_1 2 rfl rfl)
theorem dX0_goesUp_27 : decode cX0_goesUp 27 = .ok (.iload_n 2, 1) := dk_28 (dk_at dksX0_goesUp_1 3 rfl rfl)
theorem dX0_goesUp_28 : decode cX0_goesUp 28 = .ok (.iconst 2, 1) := dk_5 (dk_at dksX0_goesUp_1 4 rfl rfl)
theorem dX0_goesUp_29 : decode cX0_goesUp 29 = .ok (.invokestatic 149, 3) := dk_184 0 149 (dk_at dksX0_goesUp_1 5 rfl rfl)
theorem dX0_goesUp_32 : decode cX0_goesUp 32 = .ok (.iload_n 3, 1) := dk_29 (dk_at dksX0_goesUp_1 8 rfl rfl)
theorem dX0_goesUp_33 : decode cX0_goesUp 33 = .ok (.iastore, 1) := dk_79 (dk_at dksX0_goesUp_1 9 rfl rfl)
theorem dX0_goesUp_34 : decode cX0_goesUp 34 = .ok (.aload_n 1, 1) := dk_43 (dk_at dksX0_goesUp_1 10 rfl rfl)
theorem dX0_goesUp_35 : decode cX0_goesUp 35 = .ok (.iload_n 2, 1) := dk_28 (dk_at dksX0_goesUp_1 11 rfl rfl)
theorem dX0_goesUp_36 : decode cX0_goesUp 36 = .ok (.iload 4, 2) := dk_21 4 (dk_at dksX0_goesUp_1 12 rfl rfl)
theorem dX0_goesUp_38 : decode cX0_goesUp 38 = .ok (.invokestatic 172, 3) := dk_184 0 172 (dk_at dksX0_goesUp_1 14 rfl rfl)
theorem dX0_goesUp_41 : decode cX0_goesUp 41 = .ok (.iload_n 3, 1) := dk_29 (dk_at dksX0_goesUp_1 17 rfl rfl)
theorem dX0_goesUp_42 : decode cX0_goesUp 42 = .ok (.aload_n 1, 1) := dk_43 (dk_at dksX0_goesUp_1 18 rfl rfl)
theorem dX0_goesUp_43 : decode cX0_goesUp 43 = .ok (.iload_n 2, 1) := dk_28 (dk_at dksX0_goesUp_1 19 rfl rfl)
theorem dX0_goesUp_44 : decode cX0_goesUp 44 = .ok (.iconst 1, 1) := dk_4 (dk_at dksX0_goesUp_1 20 rfl rfl)
theorem dX0_goesUp_45 : decode cX0_goesUp 45 = .ok (.invokestatic 149, 3) := dk_184 0 149 (dk_at dksX0_goesUp_1 21 rfl rfl)
theorem dX0_goesUp_48 : decode cX0_goesUp 48 = .ok (.iaload, 1) := dk_46 (dk_at dksX0_goesUp_2 0 rfl rfl)
theorem dX0_goesUp_49 : decode cX0_goesUp 49 = .ok (.if_icmp .ne 9, 3) := dk_160 0 9 (dk_at dksX0_goesUp_2 1 rfl rfl)
theorem dX0_goesUp_52 : decode cX0_goesUp 52 = .ok (.aload_n 0, 1) := dk_42 (dk_at dksX0_goesUp_2 4 rfl rfl)
theorem dX0_goesUp_53 : decode cX0_goesUp 53 = .ok (.aload_n 1, 1) := dk_43 (dk_at dksX0_goesUp_2 5 rfl rfl)
theorem dX0_goesUp_54 : decode cX0_goesUp 54 = .ok (.iload_n 2, 1) := dk_28 (dk_at dksX0_goesUp_2 6 rfl rfl)
theorem dX0_goesUp_55 : decode cX0_goesUp 55 = .ok (.invokevirtual 179, 3) := dk_182 0 179 (dk_at dksX0_goesUp_2 7 rfl rfl)
theorem dX0_goesUp_58 : decode cX0_goesUp 58 = .ok (.return_, 1) := dk_177 (dk_at dksX0_goesUp_2 10 rfl rfl)
abbrev cX0_lawOf : ByteArray := prog_1_method_25_code
def yX0_lawOf : MethodName := ⟨RX0, "lawOf", "([IIII)I"⟩
def dkwX0_lawOf_8 : List UInt8 := [180, 0, 39, 4, 46, 5, 108, 3, 17, 39, 15, 182, 0, 146, 172]
abbrev dktX0_lawOf_8 : List UInt8 := dkwX0_lawOf_8 ++ []
def dkwX0_lawOf_7 : List UInt8 := [180, 0, 39, 6, 46, 100, 3, 16, 10, 182, 0, 146, 167, 0, 25, 42, 42, 182, 0, 153, 21, 4, 42]
abbrev dktX0_lawOf_7 : List UInt8 := dkwX0_lawOf_7 ++ dktX0_lawOf_8
def dkwX0_lawOf_6 : List UInt8 := [182, 0, 146, 167, 0, 56, 21, 4, 4, 160, 0, 28, 42, 42, 182, 0, 153, 21, 4, 16, 10, 42]
abbrev dktX0_lawOf_6 : List UInt8 := dkwX0_lawOf_6 ++ dktX0_lawOf_7
def dkwX0_lawOf_5 : List UInt8 := [21, 4, 154, 0, 28, 42, 42, 182, 0, 153, 21, 4, 42, 180, 0, 39, 6, 46, 4, 96, 3, 17, 3, 231]
abbrev dktX0_lawOf_5 : List UInt8 := dkwX0_lawOf_5 ++ dktX0_lawOf_6
def dkwX0_lawOf_4 : List UInt8 := [21, 5, 5, 184, 0, 149, 46, 29, 160, 0, 7, 4, 167, 0, 4, 3, 96, 79, 132, 5, 1, 167, 255, 200]
abbrev dktX0_lawOf_4 : List UInt8 := dkwX0_lawOf_4 ++ dktX0_lawOf_5
def dkwX0_lawOf_3 : List UInt8 := [16, 8, 92, 46, 21, 5, 28, 159, 0, 31, 43, 21, 5, 7, 184, 0, 149, 46, 5, 159, 0, 19, 43]
abbrev dktX0_lawOf_3 : List UInt8 := dkwX0_lawOf_3 ++ dktX0_lawOf_4
def dkwX0_lawOf_2 : List UInt8 := [79, 42, 180, 0, 39, 16, 8, 3, 79, 3, 54, 5, 21, 5, 43, 5, 46, 162, 0, 54, 42, 180, 0, 39]
abbrev dktX0_lawOf_2 : List UInt8 := dkwX0_lawOf_2 ++ dktX0_lawOf_3
def dkwX0_lawOf_1 : List UInt8 := [184, 0, 149, 46, 182, 0, 142, 42, 180, 0, 39, 16, 7, 43, 3, 46, 43, 28, 8, 184, 0, 149, 46, 100]
abbrev dktX0_lawOf_1 : List UInt8 := dkwX0_lawOf_1 ++ dktX0_lawOf_2
def dkwX0_lawOf_0 : List UInt8 := [42, 43, 3, 46, 29, 43, 28, 6, 184, 0, 149, 46, 43, 28, 3, 184, 0, 149, 46, 43, 28, 4]
abbrev dktX0_lawOf_0 : List UInt8 := dkwX0_lawOf_0 ++ dktX0_lawOf_1
theorem dksX0_lawOf_0 : cX0_lawOf.data.toList.drop 0 = dktX0_lawOf_0 := by decide +kernel
theorem dksX0_lawOf_1 : cX0_lawOf.data.toList.drop 22 = dktX0_lawOf_1 := dk_seg dksX0_lawOf_0 22 rfl rfl
theorem dksX0_lawOf_2 : cX0_lawOf.data.toList.drop 46 = dktX0_lawOf_2 := dk_seg dksX0_lawOf_1 24 rfl rfl
theorem dksX0_lawOf_3 : cX0_lawOf.data.toList.drop 70 = dktX0_lawOf_3 := dk_seg dksX0_lawOf_2 24 rfl rfl
theorem dksX0_lawOf_4 : cX0_lawOf.data.toList.drop 93 = dktX0_lawOf_4 := dk_seg dksX0_lawOf_3 23 rfl rfl
theorem dksX0_lawOf_5 : cX0_lawOf.data.toList.drop 117 = dktX0_lawOf_5 := dk_seg dksX0_lawOf_4 24 rfl rfl
theorem dksX0_lawOf_6 : cX0_lawOf.data.toList.drop 141 = dktX0_lawOf_6 := dk_seg dksX0_lawOf_5 24 rfl rfl
theorem dksX0_lawOf_7 : cX0_lawOf.data.toList.drop 163 = dktX0_lawOf_7 := dk_seg dksX0_lawOf_6 22 rfl rfl
theorem dksX0_lawOf_8 : cX0_lawOf.data.toList.drop 186 = dktX0_lawOf_8 := dk_seg dksX0_lawOf_7 23 rfl rfl
theorem dX0_lawOf_0 : decode cX0_lawOf 0 = .ok (.aload_n 0, 1) := dk_42 (dk_at dksX0_lawOf_0 0 rfl rfl)
theorem dX0_lawOf_1 : decode cX0_lawOf 1 = .ok (.aload_n 1, 1) := dk_43 (dk_at dksX0_lawOf_0 1 rfl rfl)
theorem dX0_lawOf_2 : decode cX0_lawOf 2 = .ok (.iconst 0, 1) := dk_3 (dk_at dksX0_lawOf_0 2 rfl rfl)
theorem dX0_lawOf_3 : decode cX0_lawOf 3 = .ok (.iaload, 1) := dk_46 (dk_at dksX0_lawOf_0 3 rfl rfl)
theorem dX0_lawOf_4 : decode cX0_lawOf 4 = .ok (.iload_n 3, 1) := dk_29 (dk_at dksX0_lawOf_0 4 rfl rfl)
theorem dX0_lawOf_5 : decode cX0_lawOf 5 = .ok (.aload_n 1, 1) := dk_43 (dk_at dksX0_lawOf_0 5 rfl rfl)
theorem dX0_lawOf_6 : decode cX0_lawOf 6 = .ok (.iload_n 2, 1) := dk_28 (dk_at dksX0_lawOf_0 6 rfl rfl)
theorem dX0_lawOf_7 : decode cX0_lawOf 7 = .ok (.iconst 3, 1) := dk_6 (dk_at dksX0_lawOf_0 7 rfl rfl)
theorem dX0_lawOf_8 : decode cX0_lawOf 8 = .ok (.invokestatic 149, 3) := dk_184 0 149 (dk_at dksX0_lawOf_0 8 rfl rfl)
theorem dX0_lawOf_11 : decode cX0_lawOf 11 = .ok (.iaload, 1) := dk_46 (dk_at dksX0_lawOf_0 11 rfl rfl)
theorem dX0_lawOf_12 : decode cX0_lawOf 12 = .ok (.aload_n 1, 1) := dk_43 (dk_at dksX0_lawOf_0 12 rfl rfl)
theorem dX0_lawOf_13 : decode cX0_lawOf 13 = .ok (.iload_n 2, 1) := dk_28 (dk_at dksX0_lawOf_0 13 rfl rfl)
theorem dX0_lawOf_14 : decode cX0_lawOf 14 = .ok (.iconst 0, 1) := dk_3 (dk_at dksX0_lawOf_0 14 rfl rfl)
theorem dX0_lawOf_15 : decode cX0_lawOf 15 = .ok (.invokestatic 149, 3) := dk_184 0 149 (dk_at dksX0_lawOf_0 15 rfl rfl)
theorem dX0_lawOf_18 : decode cX0_lawOf 18 = .ok (.iaload, 1) := dk_46 (dk_at dksX0_lawOf_0 18 rfl rfl)
theorem dX0_lawOf_19 : decode cX0_lawOf 19 = .ok (.aload_n 1, 1) := dk_43 (dk_at dksX0_lawOf_0 19 rfl rfl)
theorem dX0_lawOf_20 : decode cX0_lawOf 20 = .ok (.iload_n 2, 1) := dk_28 (dk_at dksX0_lawOf_0 20 rfl rfl)
theorem dX0_lawOf_21 : decode cX0_lawOf 21 = .ok (.iconst 1, 1) := dk_4 (dk_at dksX0_lawOf_0 21 rfl rfl)
theorem dX0_lawOf_22 : decode cX0_lawOf 22 = .ok (.invokestatic 149, 3) := dk_184 0 149 (dk_at dksX0_lawOf_1 0 rfl rfl)
theorem dX0_lawOf_25 : decode cX0_lawOf 25 = .ok (.iaload, 1) := dk_46 (dk_at dksX0_lawOf_1 3 rfl rfl)
theorem dX0_lawOf_26 : decode cX0_lawOf 26 = .ok (.invokevirtual 142, 3) := dk_182 0 142 (dk_at dksX0_lawOf_1 4 rfl rfl)
theorem dX0_lawOf_29 : decode cX0_lawOf 29 = .ok (.aload_n 0, 1) := dk_42 (dk_at dksX0_lawOf_1 7 rfl rfl)
theorem dX0_lawOf_30 : decode cX0_lawOf 30 = .ok (.getfield 39, 3) := dk_180 0 39 (dk_at dksX0_lawOf_1 8 rfl rfl)
theorem dX0_lawOf_33 : decode cX0_lawOf 33 = .ok (.bipush 7, 2) := dk_16 7 (dk_at dksX0_lawOf_1 11 rfl rfl)
theorem dX0_lawOf_35 : decode cX0_lawOf 35 = .ok (.aload_n 1, 1) := dk_43 (dk_at dksX0_lawOf_1 13 rfl rfl)
theorem dX0_lawOf_36 : decode cX0_lawOf 36 = .ok (.iconst 0, 1) := dk_3 (dk_at dksX0_lawOf_1 14 rfl rfl)
theorem dX0_lawOf_37 : decode cX0_lawOf 37 = .ok (.iaload, 1) := dk_46 (dk_at dksX0_lawOf_1 15 rfl rfl)
theorem dX0_lawOf_38 : decode cX0_lawOf 38 = .ok (.aload_n 1, 1) := dk_43 (dk_at dksX0_lawOf_1 16 rfl rfl)
theorem dX0_lawOf_39 : decode cX0_lawOf 39 = .ok (.iload_n 2, 1) := dk_28 (dk_at dksX0_lawOf_1 17 rfl rfl)
theorem dX0_lawOf_40 : decode cX0_lawOf 40 = .ok (.iconst 5, 1) := dk_8 (dk_at dksX0_lawOf_1 18 rfl rfl)
theorem dX0_lawOf_41 : decode cX0_lawOf 41 = .ok (.invokestatic 149, 3) := dk_184 0 149 (dk_at dksX0_lawOf_1 19 rfl rfl)
theorem dX0_lawOf_44 : decode cX0_lawOf 44 = .ok (.iaload, 1) := dk_46 (dk_at dksX0_lawOf_1 22 rfl rfl)
theorem dX0_lawOf_45 : decode cX0_lawOf 45 = .ok (.isub, 1) := dk_100 (dk_at dksX0_lawOf_1 23 rfl rfl)
theorem dX0_lawOf_46 : decode cX0_lawOf 46 = .ok (.iastore, 1) := dk_79 (dk_at dksX0_lawOf_2 0 rfl rfl)
theorem dX0_lawOf_47 : decode cX0_lawOf 47 = .ok (.aload_n 0, 1) := dk_42 (dk_at dksX0_lawOf_2 1 rfl rfl)
theorem dX0_lawOf_48 : decode cX0_lawOf 48 = .ok (.getfield 39, 3) := dk_180 0 39 (dk_at dksX0_lawOf_2 2 rfl rfl)
theorem dX0_lawOf_51 : decode cX0_lawOf 51 = .ok (.bipush 8, 2) := dk_16 8 (dk_at dksX0_lawOf_2 5 rfl rfl)
theorem dX0_lawOf_53 : decode cX0_lawOf 53 = .ok (.iconst 0, 1) := dk_3 (dk_at dksX0_lawOf_2 7 rfl rfl)
theorem dX0_lawOf_54 : decode cX0_lawOf 54 = .ok (.iastore, 1) := dk_79 (dk_at dksX0_lawOf_2 8 rfl rfl)
theorem dX0_lawOf_55 : decode cX0_lawOf 55 = .ok (.iconst 0, 1) := dk_3 (dk_at dksX0_lawOf_2 9 rfl rfl)
theorem dX0_lawOf_56 : decode cX0_lawOf 56 = .ok (.istore 5, 2) := dk_54 5 (dk_at dksX0_lawOf_2 10 rfl rfl)
theorem dX0_lawOf_58 : decode cX0_lawOf 58 = .ok (.iload 5, 2) := dk_21 5 (dk_at dksX0_lawOf_2 12 rfl rfl)
theorem dX0_lawOf_60 : decode cX0_lawOf 60 = .ok (.aload_n 1, 1) := dk_43 (dk_at dksX0_lawOf_2 14 rfl rfl)
theorem dX0_lawOf_61 : decode cX0_lawOf 61 = .ok (.iconst 2, 1) := dk_5 (dk_at dksX0_lawOf_2 15 rfl rfl)
theorem dX0_lawOf_62 : decode cX0_lawOf 62 = .ok (.iaload, 1) := dk_46 (dk_at dksX0_lawOf_2 16 rfl rfl)
theorem dX0_lawOf_63 : decode cX0_lawOf 63 = .ok (.if_icmp .ge 54, 3) := dk_162 0 54 (dk_at dksX0_lawOf_2 17 rfl rfl)
theorem dX0_lawOf_66 : decode cX0_lawOf 66 = .ok (.aload_n 0, 1) := dk_42 (dk_at dksX0_lawOf_2 20 rfl rfl)
theorem dX0_lawOf_67 : decode cX0_lawOf 67 = .ok (.getfield 39, 3) := dk_180 0 39 (dk_at dksX0_lawOf_2 21 rfl rfl)
theorem dX0_lawOf_70 : decode cX0_lawOf 70 = .ok (.bipush 8, 2) := dk_16 8 (dk_at dksX0_lawOf_3 0 rfl rfl)
theorem dX0_lawOf_72 : decode cX0_lawOf 72 = .ok (.dup2, 1) := dk_92 (dk_at dksX0_lawOf_3 2 rfl rfl)
theorem dX0_lawOf_73 : decode cX0_lawOf 73 = .ok (.iaload, 1) := dk_46 (dk_at dksX0_lawOf_3 3 rfl rfl)
theorem dX0_lawOf_74 : decode cX0_lawOf 74 = .ok (.iload 5, 2) := dk_21 5 (dk_at dksX0_lawOf_3 4 rfl rfl)
theorem dX0_lawOf_76 : decode cX0_lawOf 76 = .ok (.iload_n 2, 1) := dk_28 (dk_at dksX0_lawOf_3 6 rfl rfl)
theorem dX0_lawOf_77 : decode cX0_lawOf 77 = .ok (.if_icmp .eq 31, 3) := dk_159 0 31 (dk_at dksX0_lawOf_3 7 rfl rfl)
theorem dX0_lawOf_80 : decode cX0_lawOf 80 = .ok (.aload_n 1, 1) := dk_43 (dk_at dksX0_lawOf_3 10 rfl rfl)
theorem dX0_lawOf_81 : decode cX0_lawOf 81 = .ok (.iload 5, 2) := dk_21 5 (dk_at dksX0_lawOf_3 11 rfl rfl)
theorem dX0_lawOf_83 : decode cX0_lawOf 83 = .ok (.iconst 4, 1) := dk_7 (dk_at dksX0_lawOf_3 13 rfl rfl)
theorem dX0_lawOf_84 : decode cX0_lawOf 84 = .ok (.invokestatic 149, 3) := dk_184 0 149 (dk_at dksX0_lawOf_3 14 rfl rfl)
theorem dX0_lawOf_87 : decode cX0_lawOf 87 = .ok (.iaload, 1) := dk_46 (dk_at dksX0_lawOf_3 17 rfl rfl)
theorem dX0_lawOf_88 : decode cX0_lawOf 88 = .ok (.iconst 2, 1) := dk_5 (dk_at dksX0_lawOf_3 18 rfl rfl)
theorem dX0_lawOf_89 : decode cX0_lawOf 89 = .ok (.if_icmp .eq 19, 3) := dk_159 0 19 (dk_at dksX0_lawOf_3 19 rfl rfl)
theorem dX0_lawOf_92 : decode cX0_lawOf 92 = .ok (.aload_n 1, 1) := dk_43 (dk_at dksX0_lawOf_3 22 rfl rfl)
theorem dX0_lawOf_93 : decode cX0_lawOf 93 = .ok (.iload 5, 2) := dk_21 5 (dk_at dksX0_lawOf_4 0 rfl rfl)
theorem dX0_lawOf_95 : decode cX0_lawOf 95 = .ok (.iconst 2, 1) := dk_5 (dk_at dksX0_lawOf_4 2 rfl rfl)
theorem dX0_lawOf_96 : decode cX0_lawOf 96 = .ok (.invokestatic 149, 3) := dk_184 0 149 (dk_at dksX0_lawOf_4 3 rfl rfl)
theorem dX0_lawOf_99 : decode cX0_lawOf 99 = .ok (.iaload, 1) := dk_46 (dk_at dksX0_lawOf_4 6 rfl rfl)
theorem dX0_lawOf_100 : decode cX0_lawOf 100 = .ok (.iload_n 3, 1) := dk_29 (dk_at dksX0_lawOf_4 7 rfl rfl)
theorem dX0_lawOf_101 : decode cX0_lawOf 101 = .ok (.if_icmp .ne 7, 3) := dk_160 0 7 (dk_at dksX0_lawOf_4 8 rfl rfl)
theorem dX0_lawOf_104 : decode cX0_lawOf 104 = .ok (.iconst 1, 1) := dk_4 (dk_at dksX0_lawOf_4 11 rfl rfl)
theorem dX0_lawOf_105 : decode cX0_lawOf 105 = .ok (.goto 4, 3) := dk_167 0 4 (dk_at dksX0_lawOf_4 12 rfl rfl)
theorem dX0_lawOf_108 : decode cX0_lawOf 108 = .ok (.iconst 0, 1) := dk_3 (dk_at dksX0_lawOf_4 15 rfl rfl)
theorem dX0_lawOf_109 : decode cX0_lawOf 109 = .ok (.iadd, 1) := dk_96 (dk_at dksX0_lawOf_4 16 rfl rfl)
theorem dX0_lawOf_110 : decode cX0_lawOf 110 = .ok (.iastore, 1) := dk_79 (dk_at dksX0_lawOf_4 17 rfl rfl)
theorem dX0_lawOf_111 : decode cX0_lawOf 111 = .ok (.iinc 5 1, 3) := dk_132 5 1 (dk_at dksX0_lawOf_4 18 rfl rfl)
theorem dX0_lawOf_114 : decode cX0_lawOf 114 = .ok (.goto (-56), 3) := dk_167 255 200 (dk_at dksX0_lawOf_4 21 rfl rfl)
theorem dX0_lawOf_117 : decode cX0_lawOf 117 = .ok (.iload 4, 2) := dk_21 4 (dk_at dksX0_lawOf_5 0 rfl rfl)
theorem dX0_lawOf_119 : decode cX0_lawOf 119 = .ok (.ifCond .ne 28, 3) := dk_154 0 28 (dk_at dksX0_lawOf_5 2 rfl rfl)
theorem dX0_lawOf_122 : decode cX0_lawOf 122 = .ok (.aload_n 0, 1) := dk_42 (dk_at dksX0_lawOf_5 5 rfl rfl)
theorem dX0_lawOf_123 : decode cX0_lawOf 123 = .ok (.aload_n 0, 1) := dk_42 (dk_at dksX0_lawOf_5 6 rfl rfl)
theorem dX0_lawOf_124 : decode cX0_lawOf 124 = .ok (.invokevirtual 153, 3) := dk_182 0 153 (dk_at dksX0_lawOf_5 7 rfl rfl)
theorem dX0_lawOf_127 : decode cX0_lawOf 127 = .ok (.iload 4, 2) := dk_21 4 (dk_at dksX0_lawOf_5 10 rfl rfl)
theorem dX0_lawOf_129 : decode cX0_lawOf 129 = .ok (.aload_n 0, 1) := dk_42 (dk_at dksX0_lawOf_5 12 rfl rfl)
theorem dX0_lawOf_130 : decode cX0_lawOf 130 = .ok (.getfield 39, 3) := dk_180 0 39 (dk_at dksX0_lawOf_5 13 rfl rfl)
theorem dX0_lawOf_133 : decode cX0_lawOf 133 = .ok (.iconst 3, 1) := dk_6 (dk_at dksX0_lawOf_5 16 rfl rfl)
theorem dX0_lawOf_134 : decode cX0_lawOf 134 = .ok (.iaload, 1) := dk_46 (dk_at dksX0_lawOf_5 17 rfl rfl)
theorem dX0_lawOf_135 : decode cX0_lawOf 135 = .ok (.iconst 1, 1) := dk_4 (dk_at dksX0_lawOf_5 18 rfl rfl)
theorem dX0_lawOf_136 : decode cX0_lawOf 136 = .ok (.iadd, 1) := dk_96 (dk_at dksX0_lawOf_5 19 rfl rfl)
theorem dX0_lawOf_137 : decode cX0_lawOf 137 = .ok (.iconst 0, 1) := dk_3 (dk_at dksX0_lawOf_5 20 rfl rfl)
theorem dX0_lawOf_138 : decode cX0_lawOf 138 = .ok (.sipush 999, 3) := dk_17 3 231 (dk_at dksX0_lawOf_5 21 rfl rfl)
theorem dX0_lawOf_141 : decode cX0_lawOf 141 = .ok (.invokevirtual 146, 3) := dk_182 0 146 (dk_at dksX0_lawOf_6 0 rfl rfl)
theorem dX0_lawOf_144 : decode cX0_lawOf 144 = .ok (.goto 56, 3) := dk_167 0 56 (dk_at dksX0_lawOf_6 3 rfl rfl)
theorem dX0_lawOf_147 : decode cX0_lawOf 147 = .ok (.iload 4, 2) := dk_21 4 (dk_at dksX0_lawOf_6 6 rfl rfl)
theorem dX0_lawOf_149 : decode cX0_lawOf 149 = .ok (.iconst 1, 1) := dk_4 (dk_at dksX0_lawOf_6 8 rfl rfl)
theorem dX0_lawOf_150 : decode cX0_lawOf 150 = .ok (.if_icmp .ne 28, 3) := dk_160 0 28 (dk_at dksX0_lawOf_6 9 rfl rfl)
theorem dX0_lawOf_153 : decode cX0_lawOf 153 = .ok (.aload_n 0, 1) := dk_42 (dk_at dksX0_lawOf_6 12 rfl rfl)
theorem dX0_lawOf_154 : decode cX0_lawOf 154 = .ok (.aload_n 0, 1) := dk_42 (dk_at dksX0_lawOf_6 13 rfl rfl)
theorem dX0_lawOf_155 : decode cX0_lawOf 155 = .ok (.invokevirtual 153, 3) := dk_182 0 153 (dk_at dksX0_lawOf_6 14 rfl rfl)
theorem dX0_lawOf_158 : decode cX0_lawOf 158 = .ok (.iload 4, 2) := dk_21 4 (dk_at dksX0_lawOf_6 17 rfl rfl)
theorem dX0_lawOf_160 : decode cX0_lawOf 160 = .ok (.bipush 10, 2) := dk_16 10 (dk_at dksX0_lawOf_6 19 rfl rfl)
theorem dX0_lawOf_162 : decode cX0_lawOf 162 = .ok (.aload_n 0, 1) := dk_42 (dk_at dksX0_lawOf_6 21 rfl rfl)
theorem dX0_lawOf_163 : decode cX0_lawOf 163 = .ok (.getfield 39, 3) := dk_180 0 39 (dk_at dksX0_lawOf_7 0 rfl rfl)
theorem dX0_lawOf_166 : decode cX0_lawOf 166 = .ok (.iconst 3, 1) := dk_6 (dk_at dksX0_lawOf_7 3 rfl rfl)
theorem dX0_lawOf_167 : decode cX0_lawOf 167 = .ok (.iaload, 1) := dk_46 (dk_at dksX0_lawOf_7 4 rfl rfl)
theorem dX0_lawOf_168 : decode cX0_lawOf 168 = .ok (.isub, 1) := dk_100 (dk_at dksX0_lawOf_7 5 rfl rfl)
theorem dX0_lawOf_169 : decode cX0_lawOf 169 = .ok (.iconst 0, 1) := dk_3 (dk_at dksX0_lawOf_7 6 rfl rfl)
theorem dX0_lawOf_170 : decode cX0_lawOf 170 = .ok (.bipush 10, 2) := dk_16 10 (dk_at dksX0_lawOf_7 7 rfl rfl)
theorem dX0_lawOf_172 : decode cX0_lawOf 172 = .ok (.invokevirtual 146, 3) := dk_182 0 146 (dk_at dksX0_lawOf_7 9 rfl rfl)
theorem dX0_lawOf_175 : decode cX0_lawOf 175 = .ok (.goto 25, 3) := dk_167 0 25 (dk_at dksX0_lawOf_7 12 rfl rfl)
theorem dX0_lawOf_178 : decode cX0_lawOf 178 = .ok (.aload_n 0, 1) := dk_42 (dk_at dksX0_lawOf_7 15 rfl rfl)
theorem dX0_lawOf_179 : decode cX0_lawOf 179 = .ok (.aload_n 0, 1) := dk_42 (dk_at dksX0_lawOf_7 16 rfl rfl)
theorem dX0_lawOf_180 : decode cX0_lawOf 180 = .ok (.invokevirtual 153, 3) := dk_182 0 153 (dk_at dksX0_lawOf_7 17 rfl rfl)
theorem dX0_lawOf_183 : decode cX0_lawOf 183 = .ok (.iload 4, 2) := dk_21 4 (dk_at dksX0_lawOf_7 20 rfl rfl)
theorem dX0_lawOf_185 : decode cX0_lawOf 185 = .ok (.aload_n 0, 1) := dk_42 (dk_at dksX0_lawOf_7 22 rfl rfl)
theorem dX0_lawOf_186 : decode cX0_lawOf 186 = .ok (.getfield 39, 3) := dk_180 0 39 (dk_at dksX0_lawOf_8 0 rfl rfl)
theorem dX0_lawOf_189 : decode cX0_lawOf 189 = .ok (.iconst 1, 1) := dk_4 (dk_at dksX0_lawOf_8 3 rfl rfl)
theorem dX0_lawOf_190 : decode cX0_lawOf 190 = .ok (.iaload, 1) := dk_46 (dk_at dksX0_lawOf_8 4 rfl rfl)
theorem dX0_lawOf_191 : decode cX0_lawOf 191 = .ok (.iconst 2, 1) := dk_5 (dk_at dksX0_lawOf_8 5 rfl rfl)
theorem dX0_lawOf_192 : decode cX0_lawOf 192 = .ok (.idiv, 1) := dk_108 (dk_at dksX0_lawOf_8 6 rfl rfl)
theorem dX0_lawOf_193 : decode cX0_lawOf 193 = .ok (.iconst 0, 1) := dk_3 (dk_at dksX0_lawOf_8 7 rfl rfl)
theorem dX0_lawOf_194 : decode cX0_lawOf 194 = .ok (.sipush 9999, 3) := dk_17 39 15 (dk_at dksX0_lawOf_8 8 rfl rfl)
theorem dX0_lawOf_197 : decode cX0_lawOf 197 = .ok (.invokevirtual 146, 3) := dk_182 0 146 (dk_at dksX0_lawOf_8 11 rfl rfl)
theorem dX0_lawOf_200 : decode cX0_lawOf 200 = .ok (.ireturn, 1) := dk_172 (dk_at dksX0_lawOf_8 14 rfl rfl)
abbrev cX0_namesOf : ByteArray := prog_1_method_23_code
def yX0_namesOf : MethodName := ⟨RX0, "namesOf", "(IIIII)V"⟩
def dkwX0_namesOf_4 : List UInt8 := [21, 6, 182, 0, 138, 167, 0, 4, 3, 79, 132, 6, 1, 167, 255, 217, 177]
abbrev dktX0_namesOf_4 : List UInt8 := dkwX0_namesOf_4 ++ []
def dkwX0_namesOf_3 : List UInt8 := [16, 10, 162, 0, 38, 42, 180, 0, 39, 16, 9, 21, 6, 96, 42, 21, 6, 182, 0, 69, 153, 0, 12, 42]
abbrev dktX0_namesOf_3 : List UInt8 := dkwX0_namesOf_3 ++ dktX0_namesOf_4
def dkwX0_namesOf_2 : List UInt8 := [79, 42, 180, 0, 39, 8, 21, 4, 79, 42, 180, 0, 39, 16, 6, 21, 5, 79, 3, 54, 6, 21, 6]
abbrev dktX0_namesOf_2 : List UInt8 := dkwX0_namesOf_2 ++ dktX0_namesOf_3
def dkwX0_namesOf_1 : List UInt8 := [180, 0, 39, 6, 42, 180, 0, 21, 180, 0, 76, 28, 46, 79, 42, 180, 0, 39, 7, 42, 28, 182, 0, 138]
abbrev dktX0_namesOf_1 : List UInt8 := dkwX0_namesOf_1 ++ dktX0_namesOf_2
def dkwX0_namesOf_0 : List UInt8 := [42, 180, 0, 39, 3, 27, 79, 42, 180, 0, 39, 4, 29, 79, 42, 180, 0, 39, 5, 28, 79, 42]
abbrev dktX0_namesOf_0 : List UInt8 := dkwX0_namesOf_0 ++ dktX0_namesOf_1
theorem dksX0_namesOf_0 : cX0_namesOf.data.toList.drop 0 = dktX0_namesOf_0 := by decide +kernel
theorem dksX0_namesOf_1 : cX0_namesOf.data.toList.drop 22 = dktX0_namesOf_1 := dk_seg dksX0_namesOf_0 22 rfl rfl
theorem dksX0_namesOf_2 : cX0_namesOf.data.toList.drop 46 = dktX0_namesOf_2 := dk_seg dksX0_namesOf_1 24 rfl rfl
theorem dksX0_namesOf_3 : cX0_namesOf.data.toList.drop 69 = dktX0_namesOf_3 := dk_seg dksX0_namesOf_2 23 rfl rfl
theorem dksX0_namesOf_4 : cX0_namesOf.data.toList.drop 93 = dktX0_namesOf_4 := dk_seg dksX0_namesOf_3 24 rfl rfl
theorem dX0_namesOf_0 : decode cX0_namesOf 0 = .ok (.aload_n 0, 1) := dk_42 (dk_at dksX0_namesOf_0 0 rfl rfl)
theorem dX0_namesOf_1 : decode cX0_namesOf 1 = .ok (.getfield 39, 3) := dk_180 0 39 (dk_at dksX0_namesOf_0 1 rfl rfl)
theorem dX0_namesOf_4 : decode cX0_namesOf 4 = .ok (.iconst 0, 1) := dk_3 (dk_at dksX0_namesOf_0 4 rfl rfl)
theorem dX0_namesOf_5 : decode cX0_namesOf 5 = .ok (.iload_n 1, 1) := dk_27 (dk_at dksX0_namesOf_0 5 rfl rfl)
theorem dX0_namesOf_6 : decode cX0_namesOf 6 = .ok (.iastore, 1) := dk_79 (dk_at dksX0_namesOf_0 6 rfl rfl)
theorem dX0_namesOf_7 : decode cX0_namesOf 7 = .ok (.aload_n 0, 1) := dk_42 (dk_at dksX0_namesOf_0 7 rfl rfl)
theorem dX0_namesOf_8 : decode cX0_namesOf 8 = .ok (.getfield 39, 3) := dk_180 0 39 (dk_at dksX0_namesOf_0 8 rfl rfl)
theorem dX0_namesOf_11 : decode cX0_namesOf 11 = .ok (.iconst 1, 1) := dk_4 (dk_at dksX0_namesOf_0 11 rfl rfl)
theorem dX0_namesOf_12 : decode cX0_namesOf 12 = .ok (.iload_n 3, 1) := dk_29 (dk_at dksX0_namesOf_0 12 rfl rfl)
theorem dX0_namesOf_13 : decode cX0_namesOf 13 = .ok (.iastore, 1) := dk_79 (dk_at dksX0_namesOf_0 13 rfl rfl)
theorem dX0_namesOf_14 : decode cX0_namesOf 14 = .ok (.aload_n 0, 1) := dk_42 (dk_at dksX0_namesOf_0 14 rfl rfl)
theorem dX0_namesOf_15 : decode cX0_namesOf 15 = .ok (.getfield 39, 3) := dk_180 0 39 (dk_at dksX0_namesOf_0 15 rfl rfl)
theorem dX0_namesOf_18 : decode cX0_namesOf 18 = .ok (.iconst 2, 1) := dk_5 (dk_at dksX0_namesOf_0 18 rfl rfl)
theorem dX0_namesOf_19 : decode cX0_namesOf 19 = .ok (.iload_n 2, 1) := dk_28 (dk_at dksX0_namesOf_0 19 rfl rfl)
theorem dX0_namesOf_20 : decode cX0_namesOf 20 = .ok (.iastore, 1) := dk_79 (dk_at dksX0_namesOf_0 20 rfl rfl)
theorem dX0_namesOf_21 : decode cX0_namesOf 21 = .ok (.aload_n 0, 1) := dk_42 (dk_at dksX0_namesOf_0 21 rfl rfl)
theorem dX0_namesOf_22 : decode cX0_namesOf 22 = .ok (.getfield 39, 3) := dk_180 0 39 (dk_at dksX0_namesOf_1 0 rfl rfl)
theorem dX0_namesOf_25 : decode cX0_namesOf 25 = .ok (.iconst 3, 1) := dk_6 (dk_at dksX0_namesOf_1 3 rfl rfl)
theorem dX0_namesOf_26 : decode cX0_namesOf 26 = .ok (.aload_n 0, 1) := dk_42 (dk_at dksX0_namesOf_1 4 rfl rfl)
theorem dX0_namesOf_27 : decode cX0_namesOf 27 = .ok (.getfield 21, 3) := dk_180 0 21 (dk_at dksX0_namesOf_1 5 rfl rfl)
theorem dX0_namesOf_30 : decode cX0_namesOf 30 = .ok (.getfield 76, 3) := dk_180 0 76 (dk_at dksX0_namesOf_1 8 rfl rfl)
theorem dX0_namesOf_33 : decode cX0_namesOf 33 = .ok (.iload_n 2, 1) := dk_28 (dk_at dksX0_namesOf_1 11 rfl rfl)
theorem dX0_namesOf_34 : decode cX0_namesOf 34 = .ok (.iaload, 1) := dk_46 (dk_at dksX0_namesOf_1 12 rfl rfl)
theorem dX0_namesOf_35 : decode cX0_namesOf 35 = .ok (.iastore, 1) := dk_79 (dk_at dksX0_namesOf_1 13 rfl rfl)
theorem dX0_namesOf_36 : decode cX0_namesOf 36 = .ok (.aload_n 0, 1) := dk_42 (dk_at dksX0_namesOf_1 14 rfl rfl)
theorem dX0_namesOf_37 : decode cX0_namesOf 37 = .ok (.getfield 39, 3) := dk_180 0 39 (dk_at dksX0_namesOf_1 15 rfl rfl)
theorem dX0_namesOf_40 : decode cX0_namesOf 40 = .ok (.iconst 4, 1) := dk_7 (dk_at dksX0_namesOf_1 18 rfl rfl)
theorem dX0_namesOf_41 : decode cX0_namesOf 41 = .ok (.aload_n 0, 1) := dk_42 (dk_at dksX0_namesOf_1 19 rfl rfl)
theorem dX0_namesOf_42 : decode cX0_namesOf 42 = .ok (.iload_n 2, 1) := dk_28 (dk_at dksX0_namesOf_1 20 rfl rfl)
theorem dX0_namesOf_43 : decode cX0_namesOf 43 = .ok (.invokevirtual 138, 3) := dk_182 0 138 (dk_at dksX0_namesOf_1 21 rfl rfl)
theorem dX0_namesOf_46 : decode cX0_namesOf 46 = .ok (.iastore, 1) := dk_79 (dk_at dksX0_namesOf_2 0 rfl rfl)
theorem dX0_namesOf_47 : decode cX0_namesOf 47 = .ok (.aload_n 0, 1) := dk_42 (dk_at dksX0_namesOf_2 1 rfl rfl)
theorem dX0_namesOf_48 : decode cX0_namesOf 48 = .ok (.getfield 39, 3) := dk_180 0 39 (dk_at dksX0_namesOf_2 2 rfl rfl)
theorem dX0_namesOf_51 : decode cX0_namesOf 51 = .ok (.iconst 5, 1) := dk_8 (dk_at dksX0_namesOf_2 5 rfl rfl)
theorem dX0_namesOf_52 : decode cX0_namesOf 52 = .ok (.iload 4, 2) := dk_21 4 (dk_at dksX0_namesOf_2 6 rfl rfl)
theorem dX0_namesOf_54 : decode cX0_namesOf 54 = .ok (.iastore, 1) := dk_79 (dk_at dksX0_namesOf_2 8 rfl rfl)
theorem dX0_namesOf_55 : decode cX0_namesOf 55 = .ok (.aload_n 0, 1) := dk_42 (dk_at dksX0_namesOf_2 9 rfl rfl)
theorem dX0_namesOf_56 : decode cX0_namesOf 56 = .ok (.getfield 39, 3) := dk_180 0 39 (dk_at dksX0_namesOf_2 10 rfl rfl)
theorem dX0_namesOf_59 : decode cX0_namesOf 59 = .ok (.bipush 6, 2) := dk_16 6 (dk_at dksX0_namesOf_2 13 rfl rfl)
theorem dX0_namesOf_61 : decode cX0_namesOf 61 = .ok (.iload 5, 2) := dk_21 5 (dk_at dksX0_namesOf_2 15 rfl rfl)
theorem dX0_namesOf_63 : decode cX0_namesOf 63 = .ok (.iastore, 1) := dk_79 (dk_at dksX0_namesOf_2 17 rfl rfl)
theorem dX0_namesOf_64 : decode cX0_namesOf 64 = .ok (.iconst 0, 1) := dk_3 (dk_at dksX0_namesOf_2 18 rfl rfl)
theorem dX0_namesOf_65 : decode cX0_namesOf 65 = .ok (.istore 6, 2) := dk_54 6 (dk_at dksX0_namesOf_2 19 rfl rfl)
theorem dX0_namesOf_67 : decode cX0_namesOf 67 = .ok (.iload 6, 2) := dk_21 6 (dk_at dksX0_namesOf_2 21 rfl rfl)
theorem dX0_namesOf_69 : decode cX0_namesOf 69 = .ok (.bipush 10, 2) := dk_16 10 (dk_at dksX0_namesOf_3 0 rfl rfl)
theorem dX0_namesOf_71 : decode cX0_namesOf 71 = .ok (.if_icmp .ge 38, 3) := dk_162 0 38 (dk_at dksX0_namesOf_3 2 rfl rfl)
theorem dX0_namesOf_74 : decode cX0_namesOf 74 = .ok (.aload_n 0, 1) := dk_42 (dk_at dksX0_namesOf_3 5 rfl rfl)
theorem dX0_namesOf_75 : decode cX0_namesOf 75 = .ok (.getfield 39, 3) := dk_180 0 39 (dk_at dksX0_namesOf_3 6 rfl rfl)
theorem dX0_namesOf_78 : decode cX0_namesOf 78 = .ok (.bipush 9, 2) := dk_16 9 (dk_at dksX0_namesOf_3 9 rfl rfl)
theorem dX0_namesOf_80 : decode cX0_namesOf 80 = .ok (.iload 6, 2) := dk_21 6 (dk_at dksX0_namesOf_3 11 rfl rfl)
theorem dX0_namesOf_82 : decode cX0_namesOf 82 = .ok (.iadd, 1) := dk_96 (dk_at dksX0_namesOf_3 13 rfl rfl)
theorem dX0_namesOf_83 : decode cX0_namesOf 83 = .ok (.aload_n 0, 1) := dk_42 (dk_at dksX0_namesOf_3 14 rfl rfl)
theorem dX0_namesOf_84 : decode cX0_namesOf 84 = .ok (.iload 6, 2) := dk_21 6 (dk_at dksX0_namesOf_3 15 rfl rfl)
theorem dX0_namesOf_86 : decode cX0_namesOf 86 = .ok (.invokevirtual 69, 3) := dk_182 0 69 (dk_at dksX0_namesOf_3 17 rfl rfl)
theorem dX0_namesOf_89 : decode cX0_namesOf 89 = .ok (.ifCond .eq 12, 3) := dk_153 0 12 (dk_at dksX0_namesOf_3 20 rfl rfl)
theorem dX0_namesOf_92 : decode cX0_namesOf 92 = .ok (.aload_n 0, 1) := dk_42 (dk_at dksX0_namesOf_3 23 rfl rfl)
theorem dX0_namesOf_93 : decode cX0_namesOf 93 = .ok (.iload 6, 2) := dk_21 6 (dk_at dksX0_namesOf_4 0 rfl rfl)
theorem dX0_namesOf_95 : decode cX0_namesOf 95 = .ok (.invokevirtual 138, 3) := dk_182 0 138 (dk_at dksX0_namesOf_4 2 rfl rfl)
theorem dX0_namesOf_98 : decode cX0_namesOf 98 = .ok (.goto 4, 3) := dk_167 0 4 (dk_at dksX0_namesOf_4 5 rfl rfl)
theorem dX0_namesOf_101 : decode cX0_namesOf 101 = .ok (.iconst 0, 1) := dk_3 (dk_at dksX0_namesOf_4 8 rfl rfl)
theorem dX0_namesOf_102 : decode cX0_namesOf 102 = .ok (.iastore, 1) := dk_79 (dk_at dksX0_namesOf_4 9 rfl rfl)
theorem dX0_namesOf_103 : decode cX0_namesOf 103 = .ok (.iinc 6 1, 3) := dk_132 6 1 (dk_at dksX0_namesOf_4 10 rfl rfl)
theorem dX0_namesOf_106 : decode cX0_namesOf 106 = .ok (.goto (-39), 3) := dk_167 255 217 (dk_at dksX0_namesOf_4 13 rfl rfl)
theorem dX0_namesOf_109 : decode cX0_namesOf 109 = .ok (.return_, 1) := dk_177 (dk_at dksX0_namesOf_4 16 rfl rfl)
abbrev cX0_rankOf : ByteArray := prog_1_method_10_code
def yX0_rankOf : MethodName := ⟨RX0, "rankOf", "(I)I"⟩
def dkwX0_rankOf_1 : List UInt8 := [180, 0, 73, 29, 46, 62, 167, 255, 238, 28, 172]
abbrev dktX0_rankOf_1 : List UInt8 := dkwX0_rankOf_1 ++ []
def dkwX0_rankOf_0 : List UInt8 := [3, 61, 42, 180, 0, 21, 180, 0, 73, 27, 46, 62, 29, 2, 159, 0, 19, 132, 2, 1, 42, 180, 0, 21]
abbrev dktX0_rankOf_0 : List UInt8 := dkwX0_rankOf_0 ++ dktX0_rankOf_1
theorem dksX0_rankOf_0 : cX0_rankOf.data.toList.drop 0 = dktX0_rankOf_0 := by decide +kernel
theorem dksX0_rankOf_1 : cX0_rankOf.data.toList.drop 24 = dktX0_rankOf_1 := dk_seg dksX0_rankOf_0 24 rfl rfl
theorem dX0_rankOf_0 : decode cX0_rankOf 0 = .ok (.iconst 0, 1) := dk_3 (dk_at dksX0_rankOf_0 0 rfl rfl)
theorem dX0_rankOf_1 : decode cX0_rankOf 1 = .ok (.istore_n 2, 1) := dk_61 (dk_at dksX0_rankOf_0 1 rfl rfl)
theorem dX0_rankOf_2 : decode cX0_rankOf 2 = .ok (.aload_n 0, 1) := dk_42 (dk_at dksX0_rankOf_0 2 rfl rfl)
theorem dX0_rankOf_3 : decode cX0_rankOf 3 = .ok (.getfield 21, 3) := dk_180 0 21 (dk_at dksX0_rankOf_0 3 rfl rfl)
theorem dX0_rankOf_6 : decode cX0_rankOf 6 = .ok (.getfield 73, 3) := dk_180 0 73 (dk_at dksX0_rankOf_0 6 rfl rfl)
theorem dX0_rankOf_9 : decode cX0_rankOf 9 = .ok (.iload_n 1, 1) := dk_27 (dk_at dksX0_rankOf_0 9 rfl rfl)
theorem dX0_rankOf_10 : decode cX0_rankOf 10 = .ok (.iaload, 1) := dk_46 (dk_at dksX0_rankOf_0 10 rfl rfl)
theorem dX0_rankOf_11 : decode cX0_rankOf 11 = .ok (.istore_n 3, 1) := dk_62 (dk_at dksX0_rankOf_0 11 rfl rfl)
theorem dX0_rankOf_12 : decode cX0_rankOf 12 = .ok (.iload_n 3, 1) := dk_29 (dk_at dksX0_rankOf_0 12 rfl rfl)
theorem dX0_rankOf_13 : decode cX0_rankOf 13 = .ok (.iconst (-1), 1) := dk_2 (dk_at dksX0_rankOf_0 13 rfl rfl)
theorem dX0_rankOf_14 : decode cX0_rankOf 14 = .ok (.if_icmp .eq 19, 3) := dk_159 0 19 (dk_at dksX0_rankOf_0 14 rfl rfl)
theorem dX0_rankOf_17 : decode cX0_rankOf 17 = .ok (.iinc 2 1, 3) := dk_132 2 1 (dk_at dksX0_rankOf_0 17 rfl rfl)
theorem dX0_rankOf_20 : decode cX0_rankOf 20 = .ok (.aload_n 0, 1) := dk_42 (dk_at dksX0_rankOf_0 20 rfl rfl)
theorem dX0_rankOf_21 : decode cX0_rankOf 21 = .ok (.getfield 21, 3) := dk_180 0 21 (dk_at dksX0_rankOf_0 21 rfl rfl)
theorem dX0_rankOf_24 : decode cX0_rankOf 24 = .ok (.getfield 73, 3) := dk_180 0 73 (dk_at dksX0_rankOf_1 0 rfl rfl)
theorem dX0_rankOf_27 : decode cX0_rankOf 27 = .ok (.iload_n 3, 1) := dk_29 (dk_at dksX0_rankOf_1 3 rfl rfl)
theorem dX0_rankOf_28 : decode cX0_rankOf 28 = .ok (.iaload, 1) := dk_46 (dk_at dksX0_rankOf_1 4 rfl rfl)
theorem dX0_rankOf_29 : decode cX0_rankOf 29 = .ok (.istore_n 3, 1) := dk_62 (dk_at dksX0_rankOf_1 5 rfl rfl)
theorem dX0_rankOf_30 : decode cX0_rankOf 30 = .ok (.goto (-18), 3) := dk_167 255 238 (dk_at dksX0_rankOf_1 6 rfl rfl)
theorem dX0_rankOf_33 : decode cX0_rankOf 33 = .ok (.iload_n 2, 1) := dk_28 (dk_at dksX0_rankOf_1 9 rfl rfl)
theorem dX0_rankOf_34 : decode cX0_rankOf 34 = .ok (.ireturn, 1) := dk_172 (dk_at dksX0_rankOf_1 10 rfl rfl)
abbrev cX0_rules : ByteArray := prog_1_method_21_code
def yX0_rules : MethodName := ⟨RX0, "rules", "()LApologyUp$Text;"⟩
def dkwX0_rules_1 : List UInt8 := [180, 0, 96, 42, 180, 0, 21, 180, 0, 59, 5, 46, 50, 176]
abbrev dktX0_rules_1 : List UInt8 := dkwX0_rules_1 ++ []
def dkwX0_rules_0 : List UInt8 := [42, 180, 0, 21, 180, 0, 59, 5, 46, 2, 160, 0, 9, 178, 0, 118, 167, 0, 20, 42, 180, 0, 21]
abbrev dktX0_rules_0 : List UInt8 := dkwX0_rules_0 ++ dktX0_rules_1
theorem dksX0_rules_0 : cX0_rules.data.toList.drop 0 = dktX0_rules_0 := by decide +kernel
theorem dksX0_rules_1 : cX0_rules.data.toList.drop 23 = dktX0_rules_1 := dk_seg dksX0_rules_0 23 rfl rfl
theorem dX0_rules_0 : decode cX0_rules 0 = .ok (.aload_n 0, 1) := dk_42 (dk_at dksX0_rules_0 0 rfl rfl)
theorem dX0_rules_1 : decode cX0_rules 1 = .ok (.getfield 21, 3) := dk_180 0 21 (dk_at dksX0_rules_0 1 rfl rfl)
theorem dX0_rules_4 : decode cX0_rules 4 = .ok (.getfield 59, 3) := dk_180 0 59 (dk_at dksX0_rules_0 4 rfl rfl)
theorem dX0_rules_7 : decode cX0_rules 7 = .ok (.iconst 2, 1) := dk_5 (dk_at dksX0_rules_0 7 rfl rfl)
theorem dX0_rules_8 : decode cX0_rules 8 = .ok (.iaload, 1) := dk_46 (dk_at dksX0_rules_0 8 rfl rfl)
theorem dX0_rules_9 : decode cX0_rules 9 = .ok (.iconst (-1), 1) := dk_2 (dk_at dksX0_rules_0 9 rfl rfl)
theorem dX0_rules_10 : decode cX0_rules 10 = .ok (.if_icmp .ne 9, 3) := dk_160 0 9 (dk_at dksX0_rules_0 10 rfl rfl)
theorem dX0_rules_13 : decode cX0_rules 13 = .ok (.getstatic 118, 3) := dk_178 0 118 (dk_at dksX0_rules_0 13 rfl rfl)
theorem dX0_rules_16 : decode cX0_rules 16 = .ok (.goto 20, 3) := dk_167 0 20 (dk_at dksX0_rules_0 16 rfl rfl)
theorem dX0_rules_19 : decode cX0_rules 19 = .ok (.aload_n 0, 1) := dk_42 (dk_at dksX0_rules_0 19 rfl rfl)
theorem dX0_rules_20 : decode cX0_rules 20 = .ok (.getfield 21, 3) := dk_180 0 21 (dk_at dksX0_rules_0 20 rfl rfl)
theorem dX0_rules_23 : decode cX0_rules 23 = .ok (.getfield 96, 3) := dk_180 0 96 (dk_at dksX0_rules_1 0 rfl rfl)
theorem dX0_rules_26 : decode cX0_rules 26 = .ok (.aload_n 0, 1) := dk_42 (dk_at dksX0_rules_1 3 rfl rfl)
theorem dX0_rules_27 : decode cX0_rules 27 = .ok (.getfield 21, 3) := dk_180 0 21 (dk_at dksX0_rules_1 4 rfl rfl)
theorem dX0_rules_30 : decode cX0_rules 30 = .ok (.getfield 59, 3) := dk_180 0 59 (dk_at dksX0_rules_1 7 rfl rfl)
theorem dX0_rules_33 : decode cX0_rules 33 = .ok (.iconst 2, 1) := dk_5 (dk_at dksX0_rules_1 10 rfl rfl)
theorem dX0_rules_34 : decode cX0_rules 34 = .ok (.iaload, 1) := dk_46 (dk_at dksX0_rules_1 11 rfl rfl)
theorem dX0_rules_35 : decode cX0_rules 35 = .ok (.aaload, 1) := dk_50 (dk_at dksX0_rules_1 12 rfl rfl)
theorem dX0_rules_36 : decode cX0_rules 36 = .ok (.areturn, 1) := dk_176 (dk_at dksX0_rules_1 13 rfl rfl)
abbrev cX0_law : ByteArray := prog_1_method_22_code
def yX0_law : MethodName := ⟨RX0, "law", "(LApologyUp$Text;IIII)I"⟩
def dkwX0_law_1 : List UInt8 := [185, 0, 128, 2, 0, 21, 4, 21, 5, 184, 0, 134, 172]
abbrev dktX0_law_1 : List UInt8 := dkwX0_law_1 ++ []
def dkwX0_law_0 : List UInt8 := [43, 180, 0, 122, 28, 50, 199, 0, 8, 29, 133, 167, 0, 18, 43, 180, 0, 122, 28, 50, 42, 180, 0, 39]
abbrev dktX0_law_0 : List UInt8 := dkwX0_law_0 ++ dktX0_law_1
theorem dksX0_law_0 : cX0_law.data.toList.drop 0 = dktX0_law_0 := by decide +kernel
theorem dksX0_law_1 : cX0_law.data.toList.drop 24 = dktX0_law_1 := dk_seg dksX0_law_0 24 rfl rfl
theorem dX0_law_0 : decode cX0_law 0 = .ok (.aload_n 1, 1) := dk_43 (dk_at dksX0_law_0 0 rfl rfl)
theorem dX0_law_1 : decode cX0_law 1 = .ok (.getfield 122, 3) := dk_180 0 122 (dk_at dksX0_law_0 1 rfl rfl)
theorem dX0_law_4 : decode cX0_law 4 = .ok (.iload_n 2, 1) := dk_28 (dk_at dksX0_law_0 4 rfl rfl)
theorem dX0_law_5 : decode cX0_law 5 = .ok (.aaload, 1) := dk_50 (dk_at dksX0_law_0 5 rfl rfl)
theorem dX0_law_6 : decode cX0_law 6 = .ok (.ifnonnull 8, 3) := dk_199 0 8 (dk_at dksX0_law_0 6 rfl rfl)
theorem dX0_law_9 : decode cX0_law 9 = .ok (.iload_n 3, 1) := dk_29 (dk_at dksX0_law_0 9 rfl rfl)
theorem dX0_law_10 : decode cX0_law 10 = .ok (.i2l, 1) := dk_133 (dk_at dksX0_law_0 10 rfl rfl)
theorem dX0_law_11 : decode cX0_law 11 = .ok (.goto 18, 3) := dk_167 0 18 (dk_at dksX0_law_0 11 rfl rfl)
theorem dX0_law_14 : decode cX0_law 14 = .ok (.aload_n 1, 1) := dk_43 (dk_at dksX0_law_0 14 rfl rfl)
theorem dX0_law_15 : decode cX0_law 15 = .ok (.getfield 122, 3) := dk_180 0 122 (dk_at dksX0_law_0 15 rfl rfl)
theorem dX0_law_18 : decode cX0_law 18 = .ok (.iload_n 2, 1) := dk_28 (dk_at dksX0_law_0 18 rfl rfl)
theorem dX0_law_19 : decode cX0_law 19 = .ok (.aaload, 1) := dk_50 (dk_at dksX0_law_0 19 rfl rfl)
theorem dX0_law_20 : decode cX0_law 20 = .ok (.aload_n 0, 1) := dk_42 (dk_at dksX0_law_0 20 rfl rfl)
theorem dX0_law_21 : decode cX0_law 21 = .ok (.getfield 39, 3) := dk_180 0 39 (dk_at dksX0_law_0 21 rfl rfl)
theorem dX0_law_24 : decode cX0_law 24 = .ok (.invokeinterface 128 2, 5) := by decide +kernel
theorem dX0_law_29 : decode cX0_law 29 = .ok (.iload 4, 2) := dk_21 4 (dk_at dksX0_law_1 5 rfl rfl)
theorem dX0_law_31 : decode cX0_law 31 = .ok (.iload 5, 2) := dk_21 5 (dk_at dksX0_law_1 7 rfl rfl)
theorem dX0_law_33 : decode cX0_law 33 = .ok (.invokestatic 134, 3) := dk_184 0 134 (dk_at dksX0_law_1 9 rfl rfl)
theorem dX0_law_36 : decode cX0_law 36 = .ok (.ireturn, 1) := dk_172 (dk_at dksX0_law_1 12 rfl rfl)
abbrev cX0_held : ByteArray := prog_1_method_3_code
def yX0_held : MethodName := ⟨RX0, "held", "(JII)I"⟩
def dkwX0_held_0 : List UInt8 := [28, 133, 29, 133, 30, 184, 0, 3, 184, 0, 9, 136, 172]
abbrev dktX0_held_0 : List UInt8 := dkwX0_held_0 ++ []
theorem dksX0_held_0 : cX0_held.data.toList.drop 0 = dktX0_held_0 := by decide +kernel
theorem dX0_held_0 : decode cX0_held 0 = .ok (.iload_n 2, 1) := dk_28 (dk_at dksX0_held_0 0 rfl rfl)
theorem dX0_held_1 : decode cX0_held 1 = .ok (.i2l, 1) := dk_133 (dk_at dksX0_held_0 1 rfl rfl)
theorem dX0_held_2 : decode cX0_held 2 = .ok (.iload_n 3, 1) := dk_29 (dk_at dksX0_held_0 2 rfl rfl)
theorem dX0_held_3 : decode cX0_held 3 = .ok (.i2l, 1) := dk_133 (dk_at dksX0_held_0 3 rfl rfl)
theorem dX0_held_4 : decode cX0_held 4 = .ok (.lload_n 0, 1) := dk_30 (dk_at dksX0_held_0 4 rfl rfl)
theorem dX0_held_5 : decode cX0_held 5 = .ok (.invokestatic 3, 3) := dk_184 0 3 (dk_at dksX0_held_0 5 rfl rfl)
theorem dX0_held_8 : decode cX0_held 8 = .ok (.invokestatic 9, 3) := dk_184 0 9 (dk_at dksX0_held_0 8 rfl rfl)
theorem dX0_held_11 : decode cX0_held 11 = .ok (.l2i, 1) := dk_136 (dk_at dksX0_held_0 11 rfl rfl)
theorem dX0_held_12 : decode cX0_held 12 = .ok (.ireturn, 1) := dk_172 (dk_at dksX0_held_0 12 rfl rfl)
abbrev cX0_grows : ByteArray := prog_1_method_28_code
def yX0_grows : MethodName := ⟨RX0, "grows", "([III)V"⟩
def dkwX0_grows_0 : List UInt8 := [42, 27, 6, 184, 0, 149, 17, 39, 15, 42, 27, 6, 184, 0, 149, 46, 28, 96, 184, 0, 162, 79, 177]
abbrev dktX0_grows_0 : List UInt8 := dkwX0_grows_0 ++ []
theorem dksX0_grows_0 : cX0_grows.data.toList.drop 0 = dktX0_grows_0 := by decide +kernel
theorem dX0_grows_0 : decode cX0_grows 0 = .ok (.aload_n 0, 1) := dk_42 (dk_at dksX0_grows_0 0 rfl rfl)
theorem dX0_grows_1 : decode cX0_grows 1 = .ok (.iload_n 1, 1) := dk_27 (dk_at dksX0_grows_0 1 rfl rfl)
theorem dX0_grows_2 : decode cX0_grows 2 = .ok (.iconst 3, 1) := dk_6 (dk_at dksX0_grows_0 2 rfl rfl)
theorem dX0_grows_3 : decode cX0_grows 3 = .ok (.invokestatic 149, 3) := dk_184 0 149 (dk_at dksX0_grows_0 3 rfl rfl)
theorem dX0_grows_6 : decode cX0_grows 6 = .ok (.sipush 9999, 3) := dk_17 39 15 (dk_at dksX0_grows_0 6 rfl rfl)
theorem dX0_grows_9 : decode cX0_grows 9 = .ok (.aload_n 0, 1) := dk_42 (dk_at dksX0_grows_0 9 rfl rfl)
theorem dX0_grows_10 : decode cX0_grows 10 = .ok (.iload_n 1, 1) := dk_27 (dk_at dksX0_grows_0 10 rfl rfl)
theorem dX0_grows_11 : decode cX0_grows 11 = .ok (.iconst 3, 1) := dk_6 (dk_at dksX0_grows_0 11 rfl rfl)
theorem dX0_grows_12 : decode cX0_grows 12 = .ok (.invokestatic 149, 3) := dk_184 0 149 (dk_at dksX0_grows_0 12 rfl rfl)
theorem dX0_grows_15 : decode cX0_grows 15 = .ok (.iaload, 1) := dk_46 (dk_at dksX0_grows_0 15 rfl rfl)
theorem dX0_grows_16 : decode cX0_grows 16 = .ok (.iload_n 2, 1) := dk_28 (dk_at dksX0_grows_0 16 rfl rfl)
theorem dX0_grows_17 : decode cX0_grows 17 = .ok (.iadd, 1) := dk_96 (dk_at dksX0_grows_0 17 rfl rfl)
theorem dX0_grows_18 : decode cX0_grows 18 = .ok (.invokestatic 162, 3) := dk_184 0 162 (dk_at dksX0_grows_0 18 rfl rfl)
theorem dX0_grows_21 : decode cX0_grows 21 = .ok (.iastore, 1) := dk_79 (dk_at dksX0_grows_0 21 rfl rfl)
theorem dX0_grows_22 : decode cX0_grows 22 = .ok (.return_, 1) := dk_177 (dk_at dksX0_grows_0 22 rfl rfl)
abbrev cX0_judged : ByteArray := prog_1_method_29_code
def yX0_judged : MethodName := ⟨RX0, "judged", "([II)V"⟩
def dkwX0_judged_3 : List UInt8 := [46, 79, 43, 28, 29, 153, 0, 7, 3, 167, 0, 4, 4, 184, 0, 176, 177]
abbrev dktX0_judged_3 : List UInt8 := dkwX0_judged_3 ++ []
def dkwX0_judged_2 : List UInt8 := [43, 28, 43, 28, 6, 184, 0, 149, 46, 184, 0, 172, 43, 28, 5, 184, 0, 149, 43, 28, 3, 184, 0, 149]
abbrev dktX0_judged_2 : List UInt8 := dkwX0_judged_2 ++ dktX0_judged_3
def dkwX0_judged_1 : List UInt8 := [167, 0, 4, 3, 62, 43, 184, 0, 168, 29, 153, 0, 14, 43, 28, 7, 184, 0, 149, 4, 79, 167, 0, 29]
abbrev dktX0_judged_1 : List UInt8 := dkwX0_judged_1 ++ dktX0_judged_2
def dkwX0_judged_0 : List UInt8 := [43, 4, 46, 16, 10, 112, 42, 43, 28, 43, 28, 5, 184, 0, 149, 46, 4, 182, 0, 164, 162, 0, 7, 4]
abbrev dktX0_judged_0 : List UInt8 := dkwX0_judged_0 ++ dktX0_judged_1
theorem dksX0_judged_0 : cX0_judged.data.toList.drop 0 = dktX0_judged_0 := by decide +kernel
theorem dksX0_judged_1 : cX0_judged.data.toList.drop 24 = dktX0_judged_1 := dk_seg dksX0_judged_0 24 rfl rfl
theorem dksX0_judged_2 : cX0_judged.data.toList.drop 48 = dktX0_judged_2 := dk_seg dksX0_judged_1 24 rfl rfl
theorem dksX0_judged_3 : cX0_judged.data.toList.drop 72 = dktX0_judged_3 := dk_seg dksX0_judged_2 24 rfl rfl
theorem dX0_judged_0 : decode cX0_judged 0 = .ok (.aload_n 1, 1) := dk_43 (dk_at dksX0_judged_0 0 rfl rfl)
theorem dX0_judged_1 : decode cX0_judged 1 = .ok (.iconst 1, 1) := dk_4 (dk_at dksX0_judged_0 1 rfl rfl)
theorem dX0_judged_2 : decode cX0_judged 2 = .ok (.iaload, 1) := dk_46 (dk_at dksX0_judged_0 2 rfl rfl)
theorem dX0_judged_3 : decode cX0_judged 3 = .ok (.bipush 10, 2) := dk_16 10 (dk_at dksX0_judged_0 3 rfl rfl)
theorem dX0_judged_5 : decode cX0_judged 5 = .ok (.irem, 1) := dk_112 (dk_at dksX0_judged_0 5 rfl rfl)
theorem dX0_judged_6 : decode cX0_judged 6 = .ok (.aload_n 0, 1) := dk_42 (dk_at dksX0_judged_0 6 rfl rfl)
theorem dX0_judged_7 : decode cX0_judged 7 = .ok (.aload_n 1, 1) := dk_43 (dk_at dksX0_judged_0 7 rfl rfl)
theorem dX0_judged_8 : decode cX0_judged 8 = .ok (.iload_n 2, 1) := dk_28 (dk_at dksX0_judged_0 8 rfl rfl)
theorem dX0_judged_9 : decode cX0_judged 9 = .ok (.aload_n 1, 1) := dk_43 (dk_at dksX0_judged_0 9 rfl rfl)
theorem dX0_judged_10 : decode cX0_judged 10 = .ok (.iload_n 2, 1) := dk_28 (dk_at dksX0_judged_0 10 rfl rfl)
theorem dX0_judged_11 : decode cX0_judged 11 = .ok (.iconst 2, 1) := dk_5 (dk_at dksX0_judged_0 11 rfl rfl)
theorem dX0_judged_12 : decode cX0_judged 12 = .ok (.invokestatic 149, 3) := dk_184 0 149 (dk_at dksX0_judged_0 12 rfl rfl)
theorem dX0_judged_15 : decode cX0_judged 15 = .ok (.iaload, 1) := dk_46 (dk_at dksX0_judged_0 15 rfl rfl)
theorem dX0_judged_16 : decode cX0_judged 16 = .ok (.iconst 1, 1) := dk_4 (dk_at dksX0_judged_0 16 rfl rfl)
theorem dX0_judged_17 : decode cX0_judged 17 = .ok (.invokevirtual 164, 3) := dk_182 0 164 (dk_at dksX0_judged_0 17 rfl rfl)
theorem dX0_judged_20 : decode cX0_judged 20 = .ok (.if_icmp .ge 7, 3) := dk_162 0 7 (dk_at dksX0_judged_0 20 rfl rfl)
theorem dX0_judged_23 : decode cX0_judged 23 = .ok (.iconst 1, 1) := dk_4 (dk_at dksX0_judged_0 23 rfl rfl)
theorem dX0_judged_24 : decode cX0_judged 24 = .ok (.goto 4, 3) := dk_167 0 4 (dk_at dksX0_judged_1 0 rfl rfl)
theorem dX0_judged_27 : decode cX0_judged 27 = .ok (.iconst 0, 1) := dk_3 (dk_at dksX0_judged_1 3 rfl rfl)
theorem dX0_judged_28 : decode cX0_judged 28 = .ok (.istore_n 3, 1) := dk_62 (dk_at dksX0_judged_1 4 rfl rfl)
theorem dX0_judged_29 : decode cX0_judged 29 = .ok (.aload_n 1, 1) := dk_43 (dk_at dksX0_judged_1 5 rfl rfl)
theorem dX0_judged_30 : decode cX0_judged 30 = .ok (.invokestatic 168, 3) := dk_184 0 168 (dk_at dksX0_judged_1 6 rfl rfl)
theorem dX0_judged_33 : decode cX0_judged 33 = .ok (.iload_n 3, 1) := dk_29 (dk_at dksX0_judged_1 9 rfl rfl)
theorem dX0_judged_34 : decode cX0_judged 34 = .ok (.ifCond .eq 14, 3) := dk_153 0 14 (dk_at dksX0_judged_1 10 rfl rfl)
theorem dX0_judged_37 : decode cX0_judged 37 = .ok (.aload_n 1, 1) := dk_43 (dk_at dksX0_judged_1 13 rfl rfl)
theorem dX0_judged_38 : decode cX0_judged 38 = .ok (.iload_n 2, 1) := dk_28 (dk_at dksX0_judged_1 14 rfl rfl)
theorem dX0_judged_39 : decode cX0_judged 39 = .ok (.iconst 4, 1) := dk_7 (dk_at dksX0_judged_1 15 rfl rfl)
theorem dX0_judged_40 : decode cX0_judged 40 = .ok (.invokestatic 149, 3) := dk_184 0 149 (dk_at dksX0_judged_1 16 rfl rfl)
theorem dX0_judged_43 : decode cX0_judged 43 = .ok (.iconst 1, 1) := dk_4 (dk_at dksX0_judged_1 19 rfl rfl)
theorem dX0_judged_44 : decode cX0_judged 44 = .ok (.iastore, 1) := dk_79 (dk_at dksX0_judged_1 20 rfl rfl)
theorem dX0_judged_45 : decode cX0_judged 45 = .ok (.goto 29, 3) := dk_167 0 29 (dk_at dksX0_judged_1 21 rfl rfl)
theorem dX0_judged_48 : decode cX0_judged 48 = .ok (.aload_n 1, 1) := dk_43 (dk_at dksX0_judged_2 0 rfl rfl)
theorem dX0_judged_49 : decode cX0_judged 49 = .ok (.iload_n 2, 1) := dk_28 (dk_at dksX0_judged_2 1 rfl rfl)
theorem dX0_judged_50 : decode cX0_judged 50 = .ok (.aload_n 1, 1) := dk_43 (dk_at dksX0_judged_2 2 rfl rfl)
theorem dX0_judged_51 : decode cX0_judged 51 = .ok (.iload_n 2, 1) := dk_28 (dk_at dksX0_judged_2 3 rfl rfl)
theorem dX0_judged_52 : decode cX0_judged 52 = .ok (.iconst 3, 1) := dk_6 (dk_at dksX0_judged_2 4 rfl rfl)
theorem dX0_judged_53 : decode cX0_judged 53 = .ok (.invokestatic 149, 3) := dk_184 0 149 (dk_at dksX0_judged_2 5 rfl rfl)
theorem dX0_judged_56 : decode cX0_judged 56 = .ok (.iaload, 1) := dk_46 (dk_at dksX0_judged_2 8 rfl rfl)
theorem dX0_judged_57 : decode cX0_judged 57 = .ok (.invokestatic 172, 3) := dk_184 0 172 (dk_at dksX0_judged_2 9 rfl rfl)
theorem dX0_judged_60 : decode cX0_judged 60 = .ok (.aload_n 1, 1) := dk_43 (dk_at dksX0_judged_2 12 rfl rfl)
theorem dX0_judged_61 : decode cX0_judged 61 = .ok (.iload_n 2, 1) := dk_28 (dk_at dksX0_judged_2 13 rfl rfl)
theorem dX0_judged_62 : decode cX0_judged 62 = .ok (.iconst 2, 1) := dk_5 (dk_at dksX0_judged_2 14 rfl rfl)
theorem dX0_judged_63 : decode cX0_judged 63 = .ok (.invokestatic 149, 3) := dk_184 0 149 (dk_at dksX0_judged_2 15 rfl rfl)
theorem dX0_judged_66 : decode cX0_judged 66 = .ok (.aload_n 1, 1) := dk_43 (dk_at dksX0_judged_2 18 rfl rfl)
theorem dX0_judged_67 : decode cX0_judged 67 = .ok (.iload_n 2, 1) := dk_28 (dk_at dksX0_judged_2 19 rfl rfl)
theorem dX0_judged_68 : decode cX0_judged 68 = .ok (.iconst 0, 1) := dk_3 (dk_at dksX0_judged_2 20 rfl rfl)
theorem dX0_judged_69 : decode cX0_judged 69 = .ok (.invokestatic 149, 3) := dk_184 0 149 (dk_at dksX0_judged_2 21 rfl rfl)
theorem dX0_judged_72 : decode cX0_judged 72 = .ok (.iaload, 1) := dk_46 (dk_at dksX0_judged_3 0 rfl rfl)
theorem dX0_judged_73 : decode cX0_judged 73 = .ok (.iastore, 1) := dk_79 (dk_at dksX0_judged_3 1 rfl rfl)
theorem dX0_judged_74 : decode cX0_judged 74 = .ok (.aload_n 1, 1) := dk_43 (dk_at dksX0_judged_3 2 rfl rfl)
theorem dX0_judged_75 : decode cX0_judged 75 = .ok (.iload_n 2, 1) := dk_28 (dk_at dksX0_judged_3 3 rfl rfl)
theorem dX0_judged_76 : decode cX0_judged 76 = .ok (.iload_n 3, 1) := dk_29 (dk_at dksX0_judged_3 4 rfl rfl)
theorem dX0_judged_77 : decode cX0_judged 77 = .ok (.ifCond .eq 7, 3) := dk_153 0 7 (dk_at dksX0_judged_3 5 rfl rfl)
theorem dX0_judged_80 : decode cX0_judged 80 = .ok (.iconst 0, 1) := dk_3 (dk_at dksX0_judged_3 8 rfl rfl)
theorem dX0_judged_81 : decode cX0_judged 81 = .ok (.goto 4, 3) := dk_167 0 4 (dk_at dksX0_judged_3 9 rfl rfl)
theorem dX0_judged_84 : decode cX0_judged 84 = .ok (.iconst 1, 1) := dk_4 (dk_at dksX0_judged_3 12 rfl rfl)
theorem dX0_judged_85 : decode cX0_judged 85 = .ok (.invokestatic 176, 3) := dk_184 0 176 (dk_at dksX0_judged_3 13 rfl rfl)
theorem dX0_judged_88 : decode cX0_judged 88 = .ok (.return_, 1) := dk_177 (dk_at dksX0_judged_3 16 rfl rfl)
abbrev cX0_draws : ByteArray := prog_1_method_27_code
def yX0_draws : MethodName := ⟨RX0, "draws", "([I)V"⟩
def dkwX0_draws_0 : List UInt8 := [42, 4, 42, 4, 46, 17, 1, 165, 104, 17, 1, 51, 96, 17, 119, 75, 112, 79, 177]
abbrev dktX0_draws_0 : List UInt8 := dkwX0_draws_0 ++ []
theorem dksX0_draws_0 : cX0_draws.data.toList.drop 0 = dktX0_draws_0 := by decide +kernel
theorem dX0_draws_0 : decode cX0_draws 0 = .ok (.aload_n 0, 1) := dk_42 (dk_at dksX0_draws_0 0 rfl rfl)
theorem dX0_draws_1 : decode cX0_draws 1 = .ok (.iconst 1, 1) := dk_4 (dk_at dksX0_draws_0 1 rfl rfl)
theorem dX0_draws_2 : decode cX0_draws 2 = .ok (.aload_n 0, 1) := dk_42 (dk_at dksX0_draws_0 2 rfl rfl)
theorem dX0_draws_3 : decode cX0_draws 3 = .ok (.iconst 1, 1) := dk_4 (dk_at dksX0_draws_0 3 rfl rfl)
theorem dX0_draws_4 : decode cX0_draws 4 = .ok (.iaload, 1) := dk_46 (dk_at dksX0_draws_0 4 rfl rfl)
theorem dX0_draws_5 : decode cX0_draws 5 = .ok (.sipush 421, 3) := dk_17 1 165 (dk_at dksX0_draws_0 5 rfl rfl)
theorem dX0_draws_8 : decode cX0_draws 8 = .ok (.imul, 1) := dk_104 (dk_at dksX0_draws_0 8 rfl rfl)
theorem dX0_draws_9 : decode cX0_draws 9 = .ok (.sipush 307, 3) := dk_17 1 51 (dk_at dksX0_draws_0 9 rfl rfl)
theorem dX0_draws_12 : decode cX0_draws 12 = .ok (.iadd, 1) := dk_96 (dk_at dksX0_draws_0 12 rfl rfl)
theorem dX0_draws_13 : decode cX0_draws 13 = .ok (.sipush 30539, 3) := dk_17 119 75 (dk_at dksX0_draws_0 13 rfl rfl)
theorem dX0_draws_16 : decode cX0_draws 16 = .ok (.irem, 1) := dk_112 (dk_at dksX0_draws_0 16 rfl rfl)
theorem dX0_draws_17 : decode cX0_draws 17 = .ok (.iastore, 1) := dk_79 (dk_at dksX0_draws_0 17 rfl rfl)
theorem dX0_draws_18 : decode cX0_draws 18 = .ok (.return_, 1) := dk_177 (dk_at dksX0_draws_0 18 rfl rfl)
abbrev cX0_writes : ByteArray := prog_1_method_26_code
def yX0_writes : MethodName := ⟨RX0, "writes", "([III)V"⟩
def dkwX0_writes_3 : List UInt8 := [42, 16, 83, 92, 46, 4, 96, 79, 177]
abbrev dktX0_writes_3 : List UInt8 := dkwX0_writes_3 ++ []
def dkwX0_writes_2 : List UInt8 := [27, 6, 184, 0, 149, 46, 79, 78, 45, 3, 42, 16, 84, 7, 42, 16, 83, 46, 104, 96, 7, 184, 0, 156]
abbrev dktX0_writes_2 : List UInt8 := dkwX0_writes_2 ++ dktX0_writes_3
def dkwX0_writes_1 : List UInt8 := [46, 4, 100, 79, 7, 188, 10, 89, 3, 42, 3, 46, 79, 89, 4, 27, 79, 89, 5, 28, 79, 89, 6, 42]
abbrev dktX0_writes_1 : List UInt8 := dkwX0_writes_1 ++ dktX0_writes_2
def dkwX0_writes_0 : List UInt8 := [42, 16, 83, 46, 16, 30, 160, 0, 22, 42, 16, 88, 42, 16, 84, 16, 116, 184, 0, 156, 42, 16, 83, 92]
abbrev dktX0_writes_0 : List UInt8 := dkwX0_writes_0 ++ dktX0_writes_1
theorem dksX0_writes_0 : cX0_writes.data.toList.drop 0 = dktX0_writes_0 := by decide +kernel
theorem dksX0_writes_1 : cX0_writes.data.toList.drop 24 = dktX0_writes_1 := dk_seg dksX0_writes_0 24 rfl rfl
theorem dksX0_writes_2 : cX0_writes.data.toList.drop 48 = dktX0_writes_2 := dk_seg dksX0_writes_1 24 rfl rfl
theorem dksX0_writes_3 : cX0_writes.data.toList.drop 72 = dktX0_writes_3 := dk_seg dksX0_writes_2 24 rfl rfl
theorem dX0_writes_0 : decode cX0_writes 0 = .ok (.aload_n 0, 1) := dk_42 (dk_at dksX0_writes_0 0 rfl rfl)
theorem dX0_writes_1 : decode cX0_writes 1 = .ok (.bipush 83, 2) := dk_16 83 (dk_at dksX0_writes_0 1 rfl rfl)
theorem dX0_writes_3 : decode cX0_writes 3 = .ok (.iaload, 1) := dk_46 (dk_at dksX0_writes_0 3 rfl rfl)
theorem dX0_writes_4 : decode cX0_writes 4 = .ok (.bipush 30, 2) := dk_16 30 (dk_at dksX0_writes_0 4 rfl rfl)
theorem dX0_writes_6 : decode cX0_writes 6 = .ok (.if_icmp .ne 22, 3) := dk_160 0 22 (dk_at dksX0_writes_0 6 rfl rfl)
theorem dX0_writes_9 : decode cX0_writes 9 = .ok (.aload_n 0, 1) := dk_42 (dk_at dksX0_writes_0 9 rfl rfl)
theorem dX0_writes_10 : decode cX0_writes 10 = .ok (.bipush 88, 2) := dk_16 88 (dk_at dksX0_writes_0 10 rfl rfl)
theorem dX0_writes_12 : decode cX0_writes 12 = .ok (.aload_n 0, 1) := dk_42 (dk_at dksX0_writes_0 12 rfl rfl)
theorem dX0_writes_13 : decode cX0_writes 13 = .ok (.bipush 84, 2) := dk_16 84 (dk_at dksX0_writes_0 13 rfl rfl)
theorem dX0_writes_15 : decode cX0_writes 15 = .ok (.bipush 116, 2) := dk_16 116 (dk_at dksX0_writes_0 15 rfl rfl)
theorem dX0_writes_17 : decode cX0_writes 17 = .ok (.invokestatic 156, 3) := dk_184 0 156 (dk_at dksX0_writes_0 17 rfl rfl)
theorem dX0_writes_20 : decode cX0_writes 20 = .ok (.aload_n 0, 1) := dk_42 (dk_at dksX0_writes_0 20 rfl rfl)
theorem dX0_writes_21 : decode cX0_writes 21 = .ok (.bipush 83, 2) := dk_16 83 (dk_at dksX0_writes_0 21 rfl rfl)
theorem dX0_writes_23 : decode cX0_writes 23 = .ok (.dup2, 1) := dk_92 (dk_at dksX0_writes_0 23 rfl rfl)
theorem dX0_writes_24 : decode cX0_writes 24 = .ok (.iaload, 1) := dk_46 (dk_at dksX0_writes_1 0 rfl rfl)
theorem dX0_writes_25 : decode cX0_writes 25 = .ok (.iconst 1, 1) := dk_4 (dk_at dksX0_writes_1 1 rfl rfl)
theorem dX0_writes_26 : decode cX0_writes 26 = .ok (.isub, 1) := dk_100 (dk_at dksX0_writes_1 2 rfl rfl)
theorem dX0_writes_27 : decode cX0_writes 27 = .ok (.iastore, 1) := dk_79 (dk_at dksX0_writes_1 3 rfl rfl)
theorem dX0_writes_28 : decode cX0_writes 28 = .ok (.iconst 4, 1) := dk_7 (dk_at dksX0_writes_1 4 rfl rfl)
theorem dX0_writes_29 : decode cX0_writes 29 = .ok (.newarray .int, 2) := dk_188_10 (dk_at dksX0_writes_1 5 rfl rfl)
theorem dX0_writes_31 : decode cX0_writes 31 = .ok (.dup, 1) := dk_89 (dk_at dksX0_writes_1 7 rfl rfl)
theorem dX0_writes_32 : decode cX0_writes 32 = .ok (.iconst 0, 1) := dk_3 (dk_at dksX0_writes_1 8 rfl rfl)
theorem dX0_writes_33 : decode cX0_writes 33 = .ok (.aload_n 0, 1) := dk_42 (dk_at dksX0_writes_1 9 rfl rfl)
theorem dX0_writes_34 : decode cX0_writes 34 = .ok (.iconst 0, 1) := dk_3 (dk_at dksX0_writes_1 10 rfl rfl)
theorem dX0_writes_35 : decode cX0_writes 35 = .ok (.iaload, 1) := dk_46 (dk_at dksX0_writes_1 11 rfl rfl)
theorem dX0_writes_36 : decode cX0_writes 36 = .ok (.iastore, 1) := dk_79 (dk_at dksX0_writes_1 12 rfl rfl)
theorem dX0_writes_37 : decode cX0_writes 37 = .ok (.dup, 1) := dk_89 (dk_at dksX0_writes_1 13 rfl rfl)
theorem dX0_writes_38 : decode cX0_writes 38 = .ok (.iconst 1, 1) := dk_4 (dk_at dksX0_writes_1 14 rfl rfl)
theorem dX0_writes_39 : decode cX0_writes 39 = .ok (.iload_n 1, 1) := dk_27 (dk_at dksX0_writes_1 15 rfl rfl)
theorem dX0_writes_40 : decode cX0_writes 40 = .ok (.iastore, 1) := dk_79 (dk_at dksX0_writes_1 16 rfl rfl)
theorem dX0_writes_41 : decode cX0_writes 41 = .ok (.dup, 1) := dk_89 (dk_at dksX0_writes_1 17 rfl rfl)
theorem dX0_writes_42 : decode cX0_writes 42 = .ok (.iconst 2, 1) := dk_5 (dk_at dksX0_writes_1 18 rfl rfl)
theorem dX0_writes_43 : decode cX0_writes 43 = .ok (.iload_n 2, 1) := dk_28 (dk_at dksX0_writes_1 19 rfl rfl)
theorem dX0_writes_44 : decode cX0_writes 44 = .ok (.iastore, 1) := dk_79 (dk_at dksX0_writes_1 20 rfl rfl)
theorem dX0_writes_45 : decode cX0_writes 45 = .ok (.dup, 1) := dk_89 (dk_at dksX0_writes_1 21 rfl rfl)
theorem dX0_writes_46 : decode cX0_writes 46 = .ok (.iconst 3, 1) := dk_6 (dk_at dksX0_writes_1 22 rfl rfl)
theorem dX0_writes_47 : decode cX0_writes 47 = .ok (.aload_n 0, 1) := dk_42 (dk_at dksX0_writes_1 23 rfl rfl)
theorem dX0_writes_48 : decode cX0_writes 48 = .ok (.iload_n 1, 1) := dk_27 (dk_at dksX0_writes_2 0 rfl rfl)
theorem dX0_writes_49 : decode cX0_writes 49 = .ok (.iconst 3, 1) := dk_6 (dk_at dksX0_writes_2 1 rfl rfl)
theorem dX0_writes_50 : decode cX0_writes 50 = .ok (.invokestatic 149, 3) := dk_184 0 149 (dk_at dksX0_writes_2 2 rfl rfl)
theorem dX0_writes_53 : decode cX0_writes 53 = .ok (.iaload, 1) := dk_46 (dk_at dksX0_writes_2 5 rfl rfl)
theorem dX0_writes_54 : decode cX0_writes 54 = .ok (.iastore, 1) := dk_79 (dk_at dksX0_writes_2 6 rfl rfl)
theorem dX0_writes_55 : decode cX0_writes 55 = .ok (.astore_n 3, 1) := dk_78 (dk_at dksX0_writes_2 7 rfl rfl)
theorem dX0_writes_56 : decode cX0_writes 56 = .ok (.aload_n 3, 1) := dk_45 (dk_at dksX0_writes_2 8 rfl rfl)
theorem dX0_writes_57 : decode cX0_writes 57 = .ok (.iconst 0, 1) := dk_3 (dk_at dksX0_writes_2 9 rfl rfl)
theorem dX0_writes_58 : decode cX0_writes 58 = .ok (.aload_n 0, 1) := dk_42 (dk_at dksX0_writes_2 10 rfl rfl)
theorem dX0_writes_59 : decode cX0_writes 59 = .ok (.bipush 84, 2) := dk_16 84 (dk_at dksX0_writes_2 11 rfl rfl)
theorem dX0_writes_61 : decode cX0_writes 61 = .ok (.iconst 4, 1) := dk_7 (dk_at dksX0_writes_2 13 rfl rfl)
theorem dX0_writes_62 : decode cX0_writes 62 = .ok (.aload_n 0, 1) := dk_42 (dk_at dksX0_writes_2 14 rfl rfl)
theorem dX0_writes_63 : decode cX0_writes 63 = .ok (.bipush 83, 2) := dk_16 83 (dk_at dksX0_writes_2 15 rfl rfl)
theorem dX0_writes_65 : decode cX0_writes 65 = .ok (.iaload, 1) := dk_46 (dk_at dksX0_writes_2 17 rfl rfl)
theorem dX0_writes_66 : decode cX0_writes 66 = .ok (.imul, 1) := dk_104 (dk_at dksX0_writes_2 18 rfl rfl)
theorem dX0_writes_67 : decode cX0_writes 67 = .ok (.iadd, 1) := dk_96 (dk_at dksX0_writes_2 19 rfl rfl)
theorem dX0_writes_68 : decode cX0_writes 68 = .ok (.iconst 4, 1) := dk_7 (dk_at dksX0_writes_2 20 rfl rfl)
theorem dX0_writes_69 : decode cX0_writes 69 = .ok (.invokestatic 156, 3) := dk_184 0 156 (dk_at dksX0_writes_2 21 rfl rfl)
theorem dX0_writes_72 : decode cX0_writes 72 = .ok (.aload_n 0, 1) := dk_42 (dk_at dksX0_writes_3 0 rfl rfl)
theorem dX0_writes_73 : decode cX0_writes 73 = .ok (.bipush 83, 2) := dk_16 83 (dk_at dksX0_writes_3 1 rfl rfl)
theorem dX0_writes_75 : decode cX0_writes 75 = .ok (.dup2, 1) := dk_92 (dk_at dksX0_writes_3 3 rfl rfl)
theorem dX0_writes_76 : decode cX0_writes 76 = .ok (.iaload, 1) := dk_46 (dk_at dksX0_writes_3 4 rfl rfl)
theorem dX0_writes_77 : decode cX0_writes 77 = .ok (.iconst 1, 1) := dk_4 (dk_at dksX0_writes_3 5 rfl rfl)
theorem dX0_writes_78 : decode cX0_writes 78 = .ok (.iadd, 1) := dk_96 (dk_at dksX0_writes_3 6 rfl rfl)
theorem dX0_writes_79 : decode cX0_writes 79 = .ok (.iastore, 1) := dk_79 (dk_at dksX0_writes_3 7 rfl rfl)
theorem dX0_writes_80 : decode cX0_writes 80 = .ok (.return_, 1) := dk_177 (dk_at dksX0_writes_3 8 rfl rfl)
abbrev cX0_comesDown : ByteArray := prog_1_method_31_code
def yX0_comesDown : MethodName := ⟨RX0, "comesDown", "([II)Z"⟩
def dkwX0_comesDown_3 : List UInt8 := [184, 0, 149, 5, 79, 43, 28, 5, 184, 0, 176, 21, 4, 172]
abbrev dktX0_comesDown_3 : List UInt8 := dkwX0_comesDown_3 ++ []
def dkwX0_comesDown_2 : List UInt8 := [184, 0, 149, 46, 160, 0, 7, 4, 167, 0, 4, 3, 54, 4, 21, 4, 153, 0, 17, 43, 28, 7]
abbrev dktX0_comesDown_2 : List UInt8 := dkwX0_comesDown_2 ++ dktX0_comesDown_3
def dkwX0_comesDown_1 : List UInt8 := [184, 0, 149, 42, 43, 28, 29, 5, 182, 0, 164, 79, 43, 28, 5, 184, 0, 149, 29, 79, 29, 43, 28, 3]
abbrev dktX0_comesDown_1 : List UInt8 := dkwX0_comesDown_1 ++ dktX0_comesDown_2
def dkwX0_comesDown_0 : List UInt8 := [42, 43, 28, 5, 184, 0, 149, 46, 43, 28, 3, 184, 0, 149, 46, 182, 0, 183, 62, 43, 28, 6]
abbrev dktX0_comesDown_0 : List UInt8 := dkwX0_comesDown_0 ++ dktX0_comesDown_1
theorem dksX0_comesDown_0 : cX0_comesDown.data.toList.drop 0 = dktX0_comesDown_0 := by decide +kernel
theorem dksX0_comesDown_1 : cX0_comesDown.data.toList.drop 22 = dktX0_comesDown_1 := dk_seg dksX0_comesDown_0 22 rfl rfl
theorem dksX0_comesDown_2 : cX0_comesDown.data.toList.drop 46 = dktX0_comesDown_2 := dk_seg dksX0_comesDown_1 24 rfl rfl
theorem dksX0_comesDown_3 : cX0_comesDown.data.toList.drop 68 = dktX0_comesDown_3 := dk_seg dksX0_comesDown_2 22 rfl rfl
theorem dX0_comesDown_0 : decode cX0_comesDown 0 = .ok (.aload_n 0, 1) := dk_42 (dk_at dksX0_comesDown_0 0 rfl rfl)
theorem dX0_comesDown_1 : decode cX0_comesDown 1 = .ok (.aload_n 1, 1) := dk_43 (dk_at dksX0_comesDown_0 1 rfl rfl)
theorem dX0_comesDown_2 : decode cX0_comesDown 2 = .ok (.iload_n 2, 1) := dk_28 (dk_at dksX0_comesDown_0 2 rfl rfl)
theorem dX0_comesDown_3 : decode cX0_comesDown 3 = .ok (.iconst 2, 1) := dk_5 (dk_at dksX0_comesDown_0 3 rfl rfl)
theorem dX0_comesDown_4 : decode cX0_comesDown 4 = .ok (.invokestatic 149, 3) := dk_184 0 149 (dk_at dksX0_comesDown_0 4 rfl rfl)
theorem dX0_comesDown_7 : decode cX0_comesDown 7 = .ok (.iaload, 1) := dk_46 (dk_at dksX0_comesDown_0 7 rfl rfl)
theorem dX0_comesDown_8 : decode cX0_comesDown 8 = .ok (.aload_n 1, 1) := dk_43 (dk_at dksX0_comesDown_0 8 rfl rfl)
theorem dX0_comesDown_9 : decode cX0_comesDown 9 = .ok (.iload_n 2, 1) := dk_28 (dk_at dksX0_comesDown_0 9 rfl rfl)
theorem dX0_comesDown_10 : decode cX0_comesDown 10 = .ok (.iconst 0, 1) := dk_3 (dk_at dksX0_comesDown_0 10 rfl rfl)
theorem dX0_comesDown_11 : decode cX0_comesDown 11 = .ok (.invokestatic 149, 3) := dk_184 0 149 (dk_at dksX0_comesDown_0 11 rfl rfl)
theorem dX0_comesDown_14 : decode cX0_comesDown 14 = .ok (.iaload, 1) := dk_46 (dk_at dksX0_comesDown_0 14 rfl rfl)
theorem dX0_comesDown_15 : decode cX0_comesDown 15 = .ok (.invokevirtual 183, 3) := dk_182 0 183 (dk_at dksX0_comesDown_0 15 rfl rfl)
theorem dX0_comesDown_18 : decode cX0_comesDown 18 = .ok (.istore_n 3, 1) := dk_62 (dk_at dksX0_comesDown_0 18 rfl rfl)
theorem dX0_comesDown_19 : decode cX0_comesDown 19 = .ok (.aload_n 1, 1) := dk_43 (dk_at dksX0_comesDown_0 19 rfl rfl)
theorem dX0_comesDown_20 : decode cX0_comesDown 20 = .ok (.iload_n 2, 1) := dk_28 (dk_at dksX0_comesDown_0 20 rfl rfl)
theorem dX0_comesDown_21 : decode cX0_comesDown 21 = .ok (.iconst 3, 1) := dk_6 (dk_at dksX0_comesDown_0 21 rfl rfl)
theorem dX0_comesDown_22 : decode cX0_comesDown 22 = .ok (.invokestatic 149, 3) := dk_184 0 149 (dk_at dksX0_comesDown_1 0 rfl rfl)
theorem dX0_comesDown_25 : decode cX0_comesDown 25 = .ok (.aload_n 0, 1) := dk_42 (dk_at dksX0_comesDown_1 3 rfl rfl)
theorem dX0_comesDown_26 : decode cX0_comesDown 26 = .ok (.aload_n 1, 1) := dk_43 (dk_at dksX0_comesDown_1 4 rfl rfl)
theorem dX0_comesDown_27 : decode cX0_comesDown 27 = .ok (.iload_n 2, 1) := dk_28 (dk_at dksX0_comesDown_1 5 rfl rfl)
theorem dX0_comesDown_28 : decode cX0_comesDown 28 = .ok (.iload_n 3, 1) := dk_29 (dk_at dksX0_comesDown_1 6 rfl rfl)
theorem dX0_comesDown_29 : decode cX0_comesDown 29 = .ok (.iconst 2, 1) := dk_5 (dk_at dksX0_comesDown_1 7 rfl rfl)
theorem dX0_comesDown_30 : decode cX0_comesDown 30 = .ok (.invokevirtual 164, 3) := dk_182 0 164 (dk_at dksX0_comesDown_1 8 rfl rfl)
theorem dX0_comesDown_33 : decode cX0_comesDown 33 = .ok (.iastore, 1) := dk_79 (dk_at dksX0_comesDown_1 11 rfl rfl)
theorem dX0_comesDown_34 : decode cX0_comesDown 34 = .ok (.aload_n 1, 1) := dk_43 (dk_at dksX0_comesDown_1 12 rfl rfl)
theorem dX0_comesDown_35 : decode cX0_comesDown 35 = .ok (.iload_n 2, 1) := dk_28 (dk_at dksX0_comesDown_1 13 rfl rfl)
theorem dX0_comesDown_36 : decode cX0_comesDown 36 = .ok (.iconst 2, 1) := dk_5 (dk_at dksX0_comesDown_1 14 rfl rfl)
theorem dX0_comesDown_37 : decode cX0_comesDown 37 = .ok (.invokestatic 149, 3) := dk_184 0 149 (dk_at dksX0_comesDown_1 15 rfl rfl)
theorem dX0_comesDown_40 : decode cX0_comesDown 40 = .ok (.iload_n 3, 1) := dk_29 (dk_at dksX0_comesDown_1 18 rfl rfl)
theorem dX0_comesDown_41 : decode cX0_comesDown 41 = .ok (.iastore, 1) := dk_79 (dk_at dksX0_comesDown_1 19 rfl rfl)
theorem dX0_comesDown_42 : decode cX0_comesDown 42 = .ok (.iload_n 3, 1) := dk_29 (dk_at dksX0_comesDown_1 20 rfl rfl)
theorem dX0_comesDown_43 : decode cX0_comesDown 43 = .ok (.aload_n 1, 1) := dk_43 (dk_at dksX0_comesDown_1 21 rfl rfl)
theorem dX0_comesDown_44 : decode cX0_comesDown 44 = .ok (.iload_n 2, 1) := dk_28 (dk_at dksX0_comesDown_1 22 rfl rfl)
theorem dX0_comesDown_45 : decode cX0_comesDown 45 = .ok (.iconst 0, 1) := dk_3 (dk_at dksX0_comesDown_1 23 rfl rfl)
theorem dX0_comesDown_46 : decode cX0_comesDown 46 = .ok (.invokestatic 149, 3) := dk_184 0 149 (dk_at dksX0_comesDown_2 0 rfl rfl)
theorem dX0_comesDown_49 : decode cX0_comesDown 49 = .ok (.iaload, 1) := dk_46 (dk_at dksX0_comesDown_2 3 rfl rfl)
theorem dX0_comesDown_50 : decode cX0_comesDown 50 = .ok (.if_icmp .ne 7, 3) := dk_160 0 7 (dk_at dksX0_comesDown_2 4 rfl rfl)
theorem dX0_comesDown_53 : decode cX0_comesDown 53 = .ok (.iconst 1, 1) := dk_4 (dk_at dksX0_comesDown_2 7 rfl rfl)
theorem dX0_comesDown_54 : decode cX0_comesDown 54 = .ok (.goto 4, 3) := dk_167 0 4 (dk_at dksX0_comesDown_2 8 rfl rfl)
theorem dX0_comesDown_57 : decode cX0_comesDown 57 = .ok (.iconst 0, 1) := dk_3 (dk_at dksX0_comesDown_2 11 rfl rfl)
theorem dX0_comesDown_58 : decode cX0_comesDown 58 = .ok (.istore 4, 2) := dk_54 4 (dk_at dksX0_comesDown_2 12 rfl rfl)
theorem dX0_comesDown_60 : decode cX0_comesDown 60 = .ok (.iload 4, 2) := dk_21 4 (dk_at dksX0_comesDown_2 14 rfl rfl)
theorem dX0_comesDown_62 : decode cX0_comesDown 62 = .ok (.ifCond .eq 17, 3) := dk_153 0 17 (dk_at dksX0_comesDown_2 16 rfl rfl)
theorem dX0_comesDown_65 : decode cX0_comesDown 65 = .ok (.aload_n 1, 1) := dk_43 (dk_at dksX0_comesDown_2 19 rfl rfl)
theorem dX0_comesDown_66 : decode cX0_comesDown 66 = .ok (.iload_n 2, 1) := dk_28 (dk_at dksX0_comesDown_2 20 rfl rfl)
theorem dX0_comesDown_67 : decode cX0_comesDown 67 = .ok (.iconst 4, 1) := dk_7 (dk_at dksX0_comesDown_2 21 rfl rfl)
theorem dX0_comesDown_68 : decode cX0_comesDown 68 = .ok (.invokestatic 149, 3) := dk_184 0 149 (dk_at dksX0_comesDown_3 0 rfl rfl)
theorem dX0_comesDown_71 : decode cX0_comesDown 71 = .ok (.iconst 2, 1) := dk_5 (dk_at dksX0_comesDown_3 3 rfl rfl)
theorem dX0_comesDown_72 : decode cX0_comesDown 72 = .ok (.iastore, 1) := dk_79 (dk_at dksX0_comesDown_3 4 rfl rfl)
theorem dX0_comesDown_73 : decode cX0_comesDown 73 = .ok (.aload_n 1, 1) := dk_43 (dk_at dksX0_comesDown_3 5 rfl rfl)
theorem dX0_comesDown_74 : decode cX0_comesDown 74 = .ok (.iload_n 2, 1) := dk_28 (dk_at dksX0_comesDown_3 6 rfl rfl)
theorem dX0_comesDown_75 : decode cX0_comesDown 75 = .ok (.iconst 2, 1) := dk_5 (dk_at dksX0_comesDown_3 7 rfl rfl)
theorem dX0_comesDown_76 : decode cX0_comesDown 76 = .ok (.invokestatic 176, 3) := dk_184 0 176 (dk_at dksX0_comesDown_3 8 rfl rfl)
theorem dX0_comesDown_79 : decode cX0_comesDown 79 = .ok (.iload 4, 2) := dk_21 4 (dk_at dksX0_comesDown_3 11 rfl rfl)
theorem dX0_comesDown_81 : decode cX0_comesDown 81 = .ok (.ireturn, 1) := dk_172 (dk_at dksX0_comesDown_3 13 rfl rfl)
abbrev cX0_towards : ByteArray := prog_1_method_13_code
def yX0_towards : MethodName := ⟨RX0, "towards", "(II)I"⟩
def dkwX0_towards_1 : List UInt8 := [62, 167, 255, 233, 29, 172]
abbrev dktX0_towards_1 : List UInt8 := dkwX0_towards_1 ++ []
def dkwX0_towards_0 : List UInt8 := [28, 62, 42, 180, 0, 21, 180, 0, 73, 29, 46, 27, 159, 0, 16, 42, 180, 0, 21, 180, 0, 73, 29, 46]
abbrev dktX0_towards_0 : List UInt8 := dkwX0_towards_0 ++ dktX0_towards_1
theorem dksX0_towards_0 : cX0_towards.data.toList.drop 0 = dktX0_towards_0 := by decide +kernel
theorem dksX0_towards_1 : cX0_towards.data.toList.drop 24 = dktX0_towards_1 := dk_seg dksX0_towards_0 24 rfl rfl
theorem dX0_towards_0 : decode cX0_towards 0 = .ok (.iload_n 2, 1) := dk_28 (dk_at dksX0_towards_0 0 rfl rfl)
theorem dX0_towards_1 : decode cX0_towards 1 = .ok (.istore_n 3, 1) := dk_62 (dk_at dksX0_towards_0 1 rfl rfl)
theorem dX0_towards_2 : decode cX0_towards 2 = .ok (.aload_n 0, 1) := dk_42 (dk_at dksX0_towards_0 2 rfl rfl)
theorem dX0_towards_3 : decode cX0_towards 3 = .ok (.getfield 21, 3) := dk_180 0 21 (dk_at dksX0_towards_0 3 rfl rfl)
theorem dX0_towards_6 : decode cX0_towards 6 = .ok (.getfield 73, 3) := dk_180 0 73 (dk_at dksX0_towards_0 6 rfl rfl)
theorem dX0_towards_9 : decode cX0_towards 9 = .ok (.iload_n 3, 1) := dk_29 (dk_at dksX0_towards_0 9 rfl rfl)
theorem dX0_towards_10 : decode cX0_towards 10 = .ok (.iaload, 1) := dk_46 (dk_at dksX0_towards_0 10 rfl rfl)
theorem dX0_towards_11 : decode cX0_towards 11 = .ok (.iload_n 1, 1) := dk_27 (dk_at dksX0_towards_0 11 rfl rfl)
theorem dX0_towards_12 : decode cX0_towards 12 = .ok (.if_icmp .eq 16, 3) := dk_159 0 16 (dk_at dksX0_towards_0 12 rfl rfl)
theorem dX0_towards_15 : decode cX0_towards 15 = .ok (.aload_n 0, 1) := dk_42 (dk_at dksX0_towards_0 15 rfl rfl)
theorem dX0_towards_16 : decode cX0_towards 16 = .ok (.getfield 21, 3) := dk_180 0 21 (dk_at dksX0_towards_0 16 rfl rfl)
theorem dX0_towards_19 : decode cX0_towards 19 = .ok (.getfield 73, 3) := dk_180 0 73 (dk_at dksX0_towards_0 19 rfl rfl)
theorem dX0_towards_22 : decode cX0_towards 22 = .ok (.iload_n 3, 1) := dk_29 (dk_at dksX0_towards_0 22 rfl rfl)
theorem dX0_towards_23 : decode cX0_towards 23 = .ok (.iaload, 1) := dk_46 (dk_at dksX0_towards_0 23 rfl rfl)
theorem dX0_towards_24 : decode cX0_towards 24 = .ok (.istore_n 3, 1) := dk_62 (dk_at dksX0_towards_1 0 rfl rfl)
theorem dX0_towards_25 : decode cX0_towards 25 = .ok (.goto (-23), 3) := dk_167 255 233 (dk_at dksX0_towards_1 1 rfl rfl)
theorem dX0_towards_28 : decode cX0_towards 28 = .ok (.iload_n 3, 1) := dk_29 (dk_at dksX0_towards_1 4 rfl rfl)
theorem dX0_towards_29 : decode cX0_towards 29 = .ok (.ireturn, 1) := dk_172 (dk_at dksX0_towards_1 5 rfl rfl)
abbrev cX0_doMeet : ByteArray := prog_1_method_32_code
def yX0_doMeet : MethodName := ⟨RX0, "doMeet", "([III)Z"⟩
def dkwX0_doMeet_2 : List UInt8 := [184, 0, 149, 46, 160, 0, 7, 4, 167, 0, 4, 3, 172]
abbrev dktX0_doMeet_2 : List UInt8 := dkwX0_doMeet_2 ++ []
def dkwX0_doMeet_1 : List UInt8 := [184, 0, 149, 46, 42, 28, 4, 184, 0, 149, 46, 160, 0, 24, 42, 27, 5, 184, 0, 149, 46, 42, 28, 5]
abbrev dktX0_doMeet_1 : List UInt8 := dkwX0_doMeet_1 ++ dktX0_doMeet_2
def dkwX0_doMeet_0 : List UInt8 := [42, 27, 7, 184, 0, 149, 46, 154, 0, 51, 42, 28, 7, 184, 0, 149, 46, 154, 0, 41, 42, 27, 4]
abbrev dktX0_doMeet_0 : List UInt8 := dkwX0_doMeet_0 ++ dktX0_doMeet_1
theorem dksX0_doMeet_0 : cX0_doMeet.data.toList.drop 0 = dktX0_doMeet_0 := by decide +kernel
theorem dksX0_doMeet_1 : cX0_doMeet.data.toList.drop 23 = dktX0_doMeet_1 := dk_seg dksX0_doMeet_0 23 rfl rfl
theorem dksX0_doMeet_2 : cX0_doMeet.data.toList.drop 47 = dktX0_doMeet_2 := dk_seg dksX0_doMeet_1 24 rfl rfl
theorem dX0_doMeet_0 : decode cX0_doMeet 0 = .ok (.aload_n 0, 1) := dk_42 (dk_at dksX0_doMeet_0 0 rfl rfl)
theorem dX0_doMeet_1 : decode cX0_doMeet 1 = .ok (.iload_n 1, 1) := dk_27 (dk_at dksX0_doMeet_0 1 rfl rfl)
theorem dX0_doMeet_2 : decode cX0_doMeet 2 = .ok (.iconst 4, 1) := dk_7 (dk_at dksX0_doMeet_0 2 rfl rfl)
theorem dX0_doMeet_3 : decode cX0_doMeet 3 = .ok (.invokestatic 149, 3) := dk_184 0 149 (dk_at dksX0_doMeet_0 3 rfl rfl)
theorem dX0_doMeet_6 : decode cX0_doMeet 6 = .ok (.iaload, 1) := dk_46 (dk_at dksX0_doMeet_0 6 rfl rfl)
theorem dX0_doMeet_7 : decode cX0_doMeet 7 = .ok (.ifCond .ne 51, 3) := dk_154 0 51 (dk_at dksX0_doMeet_0 7 rfl rfl)
theorem dX0_doMeet_10 : decode cX0_doMeet 10 = .ok (.aload_n 0, 1) := dk_42 (dk_at dksX0_doMeet_0 10 rfl rfl)
theorem dX0_doMeet_11 : decode cX0_doMeet 11 = .ok (.iload_n 2, 1) := dk_28 (dk_at dksX0_doMeet_0 11 rfl rfl)
theorem dX0_doMeet_12 : decode cX0_doMeet 12 = .ok (.iconst 4, 1) := dk_7 (dk_at dksX0_doMeet_0 12 rfl rfl)
theorem dX0_doMeet_13 : decode cX0_doMeet 13 = .ok (.invokestatic 149, 3) := dk_184 0 149 (dk_at dksX0_doMeet_0 13 rfl rfl)
theorem dX0_doMeet_16 : decode cX0_doMeet 16 = .ok (.iaload, 1) := dk_46 (dk_at dksX0_doMeet_0 16 rfl rfl)
theorem dX0_doMeet_17 : decode cX0_doMeet 17 = .ok (.ifCond .ne 41, 3) := dk_154 0 41 (dk_at dksX0_doMeet_0 17 rfl rfl)
theorem dX0_doMeet_20 : decode cX0_doMeet 20 = .ok (.aload_n 0, 1) := dk_42 (dk_at dksX0_doMeet_0 20 rfl rfl)
theorem dX0_doMeet_21 : decode cX0_doMeet 21 = .ok (.iload_n 1, 1) := dk_27 (dk_at dksX0_doMeet_0 21 rfl rfl)
theorem dX0_doMeet_22 : decode cX0_doMeet 22 = .ok (.iconst 1, 1) := dk_4 (dk_at dksX0_doMeet_0 22 rfl rfl)
theorem dX0_doMeet_23 : decode cX0_doMeet 23 = .ok (.invokestatic 149, 3) := dk_184 0 149 (dk_at dksX0_doMeet_1 0 rfl rfl)
theorem dX0_doMeet_26 : decode cX0_doMeet 26 = .ok (.iaload, 1) := dk_46 (dk_at dksX0_doMeet_1 3 rfl rfl)
theorem dX0_doMeet_27 : decode cX0_doMeet 27 = .ok (.aload_n 0, 1) := dk_42 (dk_at dksX0_doMeet_1 4 rfl rfl)
theorem dX0_doMeet_28 : decode cX0_doMeet 28 = .ok (.iload_n 2, 1) := dk_28 (dk_at dksX0_doMeet_1 5 rfl rfl)
theorem dX0_doMeet_29 : decode cX0_doMeet 29 = .ok (.iconst 1, 1) := dk_4 (dk_at dksX0_doMeet_1 6 rfl rfl)
theorem dX0_doMeet_30 : decode cX0_doMeet 30 = .ok (.invokestatic 149, 3) := dk_184 0 149 (dk_at dksX0_doMeet_1 7 rfl rfl)
theorem dX0_doMeet_33 : decode cX0_doMeet 33 = .ok (.iaload, 1) := dk_46 (dk_at dksX0_doMeet_1 10 rfl rfl)
theorem dX0_doMeet_34 : decode cX0_doMeet 34 = .ok (.if_icmp .ne 24, 3) := dk_160 0 24 (dk_at dksX0_doMeet_1 11 rfl rfl)
theorem dX0_doMeet_37 : decode cX0_doMeet 37 = .ok (.aload_n 0, 1) := dk_42 (dk_at dksX0_doMeet_1 14 rfl rfl)
theorem dX0_doMeet_38 : decode cX0_doMeet 38 = .ok (.iload_n 1, 1) := dk_27 (dk_at dksX0_doMeet_1 15 rfl rfl)
theorem dX0_doMeet_39 : decode cX0_doMeet 39 = .ok (.iconst 2, 1) := dk_5 (dk_at dksX0_doMeet_1 16 rfl rfl)
theorem dX0_doMeet_40 : decode cX0_doMeet 40 = .ok (.invokestatic 149, 3) := dk_184 0 149 (dk_at dksX0_doMeet_1 17 rfl rfl)
theorem dX0_doMeet_43 : decode cX0_doMeet 43 = .ok (.iaload, 1) := dk_46 (dk_at dksX0_doMeet_1 20 rfl rfl)
theorem dX0_doMeet_44 : decode cX0_doMeet 44 = .ok (.aload_n 0, 1) := dk_42 (dk_at dksX0_doMeet_1 21 rfl rfl)
theorem dX0_doMeet_45 : decode cX0_doMeet 45 = .ok (.iload_n 2, 1) := dk_28 (dk_at dksX0_doMeet_1 22 rfl rfl)
theorem dX0_doMeet_46 : decode cX0_doMeet 46 = .ok (.iconst 2, 1) := dk_5 (dk_at dksX0_doMeet_1 23 rfl rfl)
theorem dX0_doMeet_47 : decode cX0_doMeet 47 = .ok (.invokestatic 149, 3) := dk_184 0 149 (dk_at dksX0_doMeet_2 0 rfl rfl)
theorem dX0_doMeet_50 : decode cX0_doMeet 50 = .ok (.iaload, 1) := dk_46 (dk_at dksX0_doMeet_2 3 rfl rfl)
theorem dX0_doMeet_51 : decode cX0_doMeet 51 = .ok (.if_icmp .ne 7, 3) := dk_160 0 7 (dk_at dksX0_doMeet_2 4 rfl rfl)
theorem dX0_doMeet_54 : decode cX0_doMeet 54 = .ok (.iconst 1, 1) := dk_4 (dk_at dksX0_doMeet_2 7 rfl rfl)
theorem dX0_doMeet_55 : decode cX0_doMeet 55 = .ok (.goto 4, 3) := dk_167 0 4 (dk_at dksX0_doMeet_2 8 rfl rfl)
theorem dX0_doMeet_58 : decode cX0_doMeet 58 = .ok (.iconst 0, 1) := dk_3 (dk_at dksX0_doMeet_2 11 rfl rfl)
theorem dX0_doMeet_59 : decode cX0_doMeet 59 = .ok (.ireturn, 1) := dk_172 (dk_at dksX0_doMeet_2 12 rfl rfl)
abbrev cX0_merges : ByteArray := prog_1_method_33_code
def yX0_merges : MethodName := ⟨RX0, "merges", "([III)V"⟩
def dkwX0_merges_2 : List UInt8 := [6, 184, 0, 149, 3, 79, 42, 28, 7, 184, 0, 149, 5, 79, 42, 28, 6, 184, 0, 176, 177]
abbrev dktX0_merges_2 : List UInt8 := dkwX0_merges_2 ++ []
def dkwX0_merges_1 : List UInt8 := [17, 39, 15, 29, 21, 4, 184, 0, 186, 29, 21, 4, 184, 0, 162, 5, 108, 96, 184, 0, 162, 79, 42, 28]
abbrev dktX0_merges_1 : List UInt8 := dkwX0_merges_1 ++ dktX0_merges_2
def dkwX0_merges_0 : List UInt8 := [42, 27, 6, 184, 0, 149, 46, 62, 42, 28, 6, 184, 0, 149, 46, 54, 4, 42, 27, 6, 184, 0, 149]
abbrev dktX0_merges_0 : List UInt8 := dkwX0_merges_0 ++ dktX0_merges_1
theorem dksX0_merges_0 : cX0_merges.data.toList.drop 0 = dktX0_merges_0 := by decide +kernel
theorem dksX0_merges_1 : cX0_merges.data.toList.drop 23 = dktX0_merges_1 := dk_seg dksX0_merges_0 23 rfl rfl
theorem dksX0_merges_2 : cX0_merges.data.toList.drop 47 = dktX0_merges_2 := dk_seg dksX0_merges_1 24 rfl rfl
theorem dX0_merges_0 : decode cX0_merges 0 = .ok (.aload_n 0, 1) := dk_42 (dk_at dksX0_merges_0 0 rfl rfl)
theorem dX0_merges_1 : decode cX0_merges 1 = .ok (.iload_n 1, 1) := dk_27 (dk_at dksX0_merges_0 1 rfl rfl)
theorem dX0_merges_2 : decode cX0_merges 2 = .ok (.iconst 3, 1) := dk_6 (dk_at dksX0_merges_0 2 rfl rfl)
theorem dX0_merges_3 : decode cX0_merges 3 = .ok (.invokestatic 149, 3) := dk_184 0 149 (dk_at dksX0_merges_0 3 rfl rfl)
theorem dX0_merges_6 : decode cX0_merges 6 = .ok (.iaload, 1) := dk_46 (dk_at dksX0_merges_0 6 rfl rfl)
theorem dX0_merges_7 : decode cX0_merges 7 = .ok (.istore_n 3, 1) := dk_62 (dk_at dksX0_merges_0 7 rfl rfl)
theorem dX0_merges_8 : decode cX0_merges 8 = .ok (.aload_n 0, 1) := dk_42 (dk_at dksX0_merges_0 8 rfl rfl)
theorem dX0_merges_9 : decode cX0_merges 9 = .ok (.iload_n 2, 1) := dk_28 (dk_at dksX0_merges_0 9 rfl rfl)
theorem dX0_merges_10 : decode cX0_merges 10 = .ok (.iconst 3, 1) := dk_6 (dk_at dksX0_merges_0 10 rfl rfl)
theorem dX0_merges_11 : decode cX0_merges 11 = .ok (.invokestatic 149, 3) := dk_184 0 149 (dk_at dksX0_merges_0 11 rfl rfl)
theorem dX0_merges_14 : decode cX0_merges 14 = .ok (.iaload, 1) := dk_46 (dk_at dksX0_merges_0 14 rfl rfl)
theorem dX0_merges_15 : decode cX0_merges 15 = .ok (.istore 4, 2) := dk_54 4 (dk_at dksX0_merges_0 15 rfl rfl)
theorem dX0_merges_17 : decode cX0_merges 17 = .ok (.aload_n 0, 1) := dk_42 (dk_at dksX0_merges_0 17 rfl rfl)
theorem dX0_merges_18 : decode cX0_merges 18 = .ok (.iload_n 1, 1) := dk_27 (dk_at dksX0_merges_0 18 rfl rfl)
theorem dX0_merges_19 : decode cX0_merges 19 = .ok (.iconst 3, 1) := dk_6 (dk_at dksX0_merges_0 19 rfl rfl)
theorem dX0_merges_20 : decode cX0_merges 20 = .ok (.invokestatic 149, 3) := dk_184 0 149 (dk_at dksX0_merges_0 20 rfl rfl)
theorem dX0_merges_23 : decode cX0_merges 23 = .ok (.sipush 9999, 3) := dk_17 39 15 (dk_at dksX0_merges_1 0 rfl rfl)
theorem dX0_merges_26 : decode cX0_merges 26 = .ok (.iload_n 3, 1) := dk_29 (dk_at dksX0_merges_1 3 rfl rfl)
theorem dX0_merges_27 : decode cX0_merges 27 = .ok (.iload 4, 2) := dk_21 4 (dk_at dksX0_merges_1 4 rfl rfl)
theorem dX0_merges_29 : decode cX0_merges 29 = .ok (.invokestatic 186, 3) := dk_184 0 186 (dk_at dksX0_merges_1 6 rfl rfl)
theorem dX0_merges_32 : decode cX0_merges 32 = .ok (.iload_n 3, 1) := dk_29 (dk_at dksX0_merges_1 9 rfl rfl)
theorem dX0_merges_33 : decode cX0_merges 33 = .ok (.iload 4, 2) := dk_21 4 (dk_at dksX0_merges_1 10 rfl rfl)
theorem dX0_merges_35 : decode cX0_merges 35 = .ok (.invokestatic 162, 3) := dk_184 0 162 (dk_at dksX0_merges_1 12 rfl rfl)
theorem dX0_merges_38 : decode cX0_merges 38 = .ok (.iconst 2, 1) := dk_5 (dk_at dksX0_merges_1 15 rfl rfl)
theorem dX0_merges_39 : decode cX0_merges 39 = .ok (.idiv, 1) := dk_108 (dk_at dksX0_merges_1 16 rfl rfl)
theorem dX0_merges_40 : decode cX0_merges 40 = .ok (.iadd, 1) := dk_96 (dk_at dksX0_merges_1 17 rfl rfl)
theorem dX0_merges_41 : decode cX0_merges 41 = .ok (.invokestatic 162, 3) := dk_184 0 162 (dk_at dksX0_merges_1 18 rfl rfl)
theorem dX0_merges_44 : decode cX0_merges 44 = .ok (.iastore, 1) := dk_79 (dk_at dksX0_merges_1 21 rfl rfl)
theorem dX0_merges_45 : decode cX0_merges 45 = .ok (.aload_n 0, 1) := dk_42 (dk_at dksX0_merges_1 22 rfl rfl)
theorem dX0_merges_46 : decode cX0_merges 46 = .ok (.iload_n 2, 1) := dk_28 (dk_at dksX0_merges_1 23 rfl rfl)
theorem dX0_merges_47 : decode cX0_merges 47 = .ok (.iconst 3, 1) := dk_6 (dk_at dksX0_merges_2 0 rfl rfl)
theorem dX0_merges_48 : decode cX0_merges 48 = .ok (.invokestatic 149, 3) := dk_184 0 149 (dk_at dksX0_merges_2 1 rfl rfl)
theorem dX0_merges_51 : decode cX0_merges 51 = .ok (.iconst 0, 1) := dk_3 (dk_at dksX0_merges_2 4 rfl rfl)
theorem dX0_merges_52 : decode cX0_merges 52 = .ok (.iastore, 1) := dk_79 (dk_at dksX0_merges_2 5 rfl rfl)
theorem dX0_merges_53 : decode cX0_merges 53 = .ok (.aload_n 0, 1) := dk_42 (dk_at dksX0_merges_2 6 rfl rfl)
theorem dX0_merges_54 : decode cX0_merges 54 = .ok (.iload_n 2, 1) := dk_28 (dk_at dksX0_merges_2 7 rfl rfl)
theorem dX0_merges_55 : decode cX0_merges 55 = .ok (.iconst 4, 1) := dk_7 (dk_at dksX0_merges_2 8 rfl rfl)
theorem dX0_merges_56 : decode cX0_merges 56 = .ok (.invokestatic 149, 3) := dk_184 0 149 (dk_at dksX0_merges_2 9 rfl rfl)
theorem dX0_merges_59 : decode cX0_merges 59 = .ok (.iconst 2, 1) := dk_5 (dk_at dksX0_merges_2 12 rfl rfl)
theorem dX0_merges_60 : decode cX0_merges 60 = .ok (.iastore, 1) := dk_79 (dk_at dksX0_merges_2 13 rfl rfl)
theorem dX0_merges_61 : decode cX0_merges 61 = .ok (.aload_n 0, 1) := dk_42 (dk_at dksX0_merges_2 14 rfl rfl)
theorem dX0_merges_62 : decode cX0_merges 62 = .ok (.iload_n 2, 1) := dk_28 (dk_at dksX0_merges_2 15 rfl rfl)
theorem dX0_merges_63 : decode cX0_merges 63 = .ok (.iconst 3, 1) := dk_6 (dk_at dksX0_merges_2 16 rfl rfl)
theorem dX0_merges_64 : decode cX0_merges 64 = .ok (.invokestatic 176, 3) := dk_184 0 176 (dk_at dksX0_merges_2 17 rfl rfl)
theorem dX0_merges_67 : decode cX0_merges 67 = .ok (.return_, 1) := dk_177 (dk_at dksX0_merges_2 20 rfl rfl)
abbrev cX0_wrong : ByteArray := prog_1_method_39_code
def yX0_wrong : MethodName := ⟨RX0, "wrong", "(III)I"⟩
def dkwX0_wrong_1 : List UInt8 := [180, 0, 21, 182, 0, 205, 42, 27, 28, 29, 182, 0, 215, 172]
abbrev dktX0_wrong_1 : List UInt8 := dkwX0_wrong_1 ++ []
def dkwX0_wrong_0 : List UInt8 := [42, 27, 28, 182, 0, 212, 153, 0, 14, 29, 4, 17, 39, 15, 184, 0, 62, 154, 0, 5, 2, 172, 42]
abbrev dktX0_wrong_0 : List UInt8 := dkwX0_wrong_0 ++ dktX0_wrong_1
theorem dksX0_wrong_0 : cX0_wrong.data.toList.drop 0 = dktX0_wrong_0 := by decide +kernel
theorem dksX0_wrong_1 : cX0_wrong.data.toList.drop 23 = dktX0_wrong_1 := dk_seg dksX0_wrong_0 23 rfl rfl
theorem dX0_wrong_0 : decode cX0_wrong 0 = .ok (.aload_n 0, 1) := dk_42 (dk_at dksX0_wrong_0 0 rfl rfl)
theorem dX0_wrong_1 : decode cX0_wrong 1 = .ok (.iload_n 1, 1) := dk_27 (dk_at dksX0_wrong_0 1 rfl rfl)
theorem dX0_wrong_2 : decode cX0_wrong 2 = .ok (.iload_n 2, 1) := dk_28 (dk_at dksX0_wrong_0 2 rfl rfl)
theorem dX0_wrong_3 : decode cX0_wrong 3 = .ok (.invokevirtual 212, 3) := dk_182 0 212 (dk_at dksX0_wrong_0 3 rfl rfl)
theorem dX0_wrong_6 : decode cX0_wrong 6 = .ok (.ifCond .eq 14, 3) := dk_153 0 14 (dk_at dksX0_wrong_0 6 rfl rfl)
theorem dX0_wrong_9 : decode cX0_wrong 9 = .ok (.iload_n 3, 1) := dk_29 (dk_at dksX0_wrong_0 9 rfl rfl)
theorem dX0_wrong_10 : decode cX0_wrong 10 = .ok (.iconst 1, 1) := dk_4 (dk_at dksX0_wrong_0 10 rfl rfl)
theorem dX0_wrong_11 : decode cX0_wrong 11 = .ok (.sipush 9999, 3) := dk_17 39 15 (dk_at dksX0_wrong_0 11 rfl rfl)
theorem dX0_wrong_14 : decode cX0_wrong 14 = .ok (.invokestatic 62, 3) := dk_184 0 62 (dk_at dksX0_wrong_0 14 rfl rfl)
theorem dX0_wrong_17 : decode cX0_wrong 17 = .ok (.ifCond .ne 5, 3) := dk_154 0 5 (dk_at dksX0_wrong_0 17 rfl rfl)
theorem dX0_wrong_20 : decode cX0_wrong 20 = .ok (.iconst (-1), 1) := dk_2 (dk_at dksX0_wrong_0 20 rfl rfl)
theorem dX0_wrong_21 : decode cX0_wrong 21 = .ok (.ireturn, 1) := dk_172 (dk_at dksX0_wrong_0 21 rfl rfl)
theorem dX0_wrong_22 : decode cX0_wrong 22 = .ok (.aload_n 0, 1) := dk_42 (dk_at dksX0_wrong_0 22 rfl rfl)
theorem dX0_wrong_23 : decode cX0_wrong 23 = .ok (.getfield 21, 3) := dk_180 0 21 (dk_at dksX0_wrong_1 0 rfl rfl)
theorem dX0_wrong_26 : decode cX0_wrong 26 = .ok (.invokevirtual 205, 3) := dk_182 0 205 (dk_at dksX0_wrong_1 3 rfl rfl)
theorem dX0_wrong_29 : decode cX0_wrong 29 = .ok (.aload_n 0, 1) := dk_42 (dk_at dksX0_wrong_1 6 rfl rfl)
theorem dX0_wrong_30 : decode cX0_wrong 30 = .ok (.iload_n 1, 1) := dk_27 (dk_at dksX0_wrong_1 7 rfl rfl)
theorem dX0_wrong_31 : decode cX0_wrong 31 = .ok (.iload_n 2, 1) := dk_28 (dk_at dksX0_wrong_1 8 rfl rfl)
theorem dX0_wrong_32 : decode cX0_wrong 32 = .ok (.iload_n 3, 1) := dk_29 (dk_at dksX0_wrong_1 9 rfl rfl)
theorem dX0_wrong_33 : decode cX0_wrong 33 = .ok (.invokevirtual 215, 3) := dk_182 0 215 (dk_at dksX0_wrong_1 10 rfl rfl)
theorem dX0_wrong_36 : decode cX0_wrong 36 = .ok (.ireturn, 1) := dk_172 (dk_at dksX0_wrong_1 13 rfl rfl)
abbrev cX0_canWrong : ByteArray := prog_1_method_37_code
def yX0_canWrong : MethodName := ⟨RX0, "canWrong", "(II)Z"⟩
def dkwX0_canWrong_1 : List UInt8 := [153, 0, 21, 42, 180, 0, 21, 180, 0, 66, 5, 46, 16, 10, 162, 0, 7, 4, 167, 0, 4, 3, 172]
abbrev dktX0_canWrong_1 : List UInt8 := dkwX0_canWrong_1 ++ []
def dkwX0_canWrong_0 : List UInt8 := [42, 27, 182, 0, 69, 153, 0, 38, 42, 28, 182, 0, 69, 153, 0, 30, 42, 27, 28, 182, 0, 86]
abbrev dktX0_canWrong_0 : List UInt8 := dkwX0_canWrong_0 ++ dktX0_canWrong_1
theorem dksX0_canWrong_0 : cX0_canWrong.data.toList.drop 0 = dktX0_canWrong_0 := by decide +kernel
theorem dksX0_canWrong_1 : cX0_canWrong.data.toList.drop 22 = dktX0_canWrong_1 := dk_seg dksX0_canWrong_0 22 rfl rfl
theorem dX0_canWrong_0 : decode cX0_canWrong 0 = .ok (.aload_n 0, 1) := dk_42 (dk_at dksX0_canWrong_0 0 rfl rfl)
theorem dX0_canWrong_1 : decode cX0_canWrong 1 = .ok (.iload_n 1, 1) := dk_27 (dk_at dksX0_canWrong_0 1 rfl rfl)
theorem dX0_canWrong_2 : decode cX0_canWrong 2 = .ok (.invokevirtual 69, 3) := dk_182 0 69 (dk_at dksX0_canWrong_0 2 rfl rfl)
theorem dX0_canWrong_5 : decode cX0_canWrong 5 = .ok (.ifCond .eq 38, 3) := dk_153 0 38 (dk_at dksX0_canWrong_0 5 rfl rfl)
theorem dX0_canWrong_8 : decode cX0_canWrong 8 = .ok (.aload_n 0, 1) := dk_42 (dk_at dksX0_canWrong_0 8 rfl rfl)
theorem dX0_canWrong_9 : decode cX0_canWrong 9 = .ok (.iload_n 2, 1) := dk_28 (dk_at dksX0_canWrong_0 9 rfl rfl)
theorem dX0_canWrong_10 : decode cX0_canWrong 10 = .ok (.invokevirtual 69, 3) := dk_182 0 69 (dk_at dksX0_canWrong_0 10 rfl rfl)
theorem dX0_canWrong_13 : decode cX0_canWrong 13 = .ok (.ifCond .eq 30, 3) := dk_153 0 30 (dk_at dksX0_canWrong_0 13 rfl rfl)
theorem dX0_canWrong_16 : decode cX0_canWrong 16 = .ok (.aload_n 0, 1) := dk_42 (dk_at dksX0_canWrong_0 16 rfl rfl)
theorem dX0_canWrong_17 : decode cX0_canWrong 17 = .ok (.iload_n 1, 1) := dk_27 (dk_at dksX0_canWrong_0 17 rfl rfl)
theorem dX0_canWrong_18 : decode cX0_canWrong 18 = .ok (.iload_n 2, 1) := dk_28 (dk_at dksX0_canWrong_0 18 rfl rfl)
theorem dX0_canWrong_19 : decode cX0_canWrong 19 = .ok (.invokevirtual 86, 3) := dk_182 0 86 (dk_at dksX0_canWrong_0 19 rfl rfl)
theorem dX0_canWrong_22 : decode cX0_canWrong 22 = .ok (.ifCond .eq 21, 3) := dk_153 0 21 (dk_at dksX0_canWrong_1 0 rfl rfl)
theorem dX0_canWrong_25 : decode cX0_canWrong 25 = .ok (.aload_n 0, 1) := dk_42 (dk_at dksX0_canWrong_1 3 rfl rfl)
theorem dX0_canWrong_26 : decode cX0_canWrong 26 = .ok (.getfield 21, 3) := dk_180 0 21 (dk_at dksX0_canWrong_1 4 rfl rfl)
theorem dX0_canWrong_29 : decode cX0_canWrong 29 = .ok (.getfield 66, 3) := dk_180 0 66 (dk_at dksX0_canWrong_1 7 rfl rfl)
theorem dX0_canWrong_32 : decode cX0_canWrong 32 = .ok (.iconst 2, 1) := dk_5 (dk_at dksX0_canWrong_1 10 rfl rfl)
theorem dX0_canWrong_33 : decode cX0_canWrong 33 = .ok (.iaload, 1) := dk_46 (dk_at dksX0_canWrong_1 11 rfl rfl)
theorem dX0_canWrong_34 : decode cX0_canWrong 34 = .ok (.bipush 10, 2) := dk_16 10 (dk_at dksX0_canWrong_1 12 rfl rfl)
theorem dX0_canWrong_36 : decode cX0_canWrong 36 = .ok (.if_icmp .ge 7, 3) := dk_162 0 7 (dk_at dksX0_canWrong_1 14 rfl rfl)
theorem dX0_canWrong_39 : decode cX0_canWrong 39 = .ok (.iconst 1, 1) := dk_4 (dk_at dksX0_canWrong_1 17 rfl rfl)
theorem dX0_canWrong_40 : decode cX0_canWrong 40 = .ok (.goto 4, 3) := dk_167 0 4 (dk_at dksX0_canWrong_1 18 rfl rfl)
theorem dX0_canWrong_43 : decode cX0_canWrong 43 = .ok (.iconst 0, 1) := dk_3 (dk_at dksX0_canWrong_1 21 rfl rfl)
theorem dX0_canWrong_44 : decode cX0_canWrong 44 = .ok (.ireturn, 1) := dk_172 (dk_at dksX0_canWrong_1 22 rfl rfl)
abbrev cX0_isBelow : ByteArray := prog_1_method_11_code
def yX0_isBelow : MethodName := ⟨RX0, "isBelow", "(II)Z"⟩
def dkwX0_isBelow_1 : List UInt8 := [180, 0, 73, 29, 46, 62, 167, 255, 236, 29, 28, 160, 0, 7, 4, 167, 0, 4, 3, 172]
abbrev dktX0_isBelow_1 : List UInt8 := dkwX0_isBelow_1 ++ []
def dkwX0_isBelow_0 : List UInt8 := [42, 180, 0, 21, 180, 0, 73, 27, 46, 62, 29, 2, 159, 0, 21, 29, 28, 159, 0, 16, 42, 180, 0, 21]
abbrev dktX0_isBelow_0 : List UInt8 := dkwX0_isBelow_0 ++ dktX0_isBelow_1
theorem dksX0_isBelow_0 : cX0_isBelow.data.toList.drop 0 = dktX0_isBelow_0 := by decide +kernel
theorem dksX0_isBelow_1 : cX0_isBelow.data.toList.drop 24 = dktX0_isBelow_1 := dk_seg dksX0_isBelow_0 24 rfl rfl
theorem dX0_isBelow_0 : decode cX0_isBelow 0 = .ok (.aload_n 0, 1) := dk_42 (dk_at dksX0_isBelow_0 0 rfl rfl)
theorem dX0_isBelow_1 : decode cX0_isBelow 1 = .ok (.getfield 21, 3) := dk_180 0 21 (dk_at dksX0_isBelow_0 1 rfl rfl)
theorem dX0_isBelow_4 : decode cX0_isBelow 4 = .ok (.getfield 73, 3) := dk_180 0 73 (dk_at dksX0_isBelow_0 4 rfl rfl)
theorem dX0_isBelow_7 : decode cX0_isBelow 7 = .ok (.iload_n 1, 1) := dk_27 (dk_at dksX0_isBelow_0 7 rfl rfl)
theorem dX0_isBelow_8 : decode cX0_isBelow 8 = .ok (.iaload, 1) := dk_46 (dk_at dksX0_isBelow_0 8 rfl rfl)
theorem dX0_isBelow_9 : decode cX0_isBelow 9 = .ok (.istore_n 3, 1) := dk_62 (dk_at dksX0_isBelow_0 9 rfl rfl)
theorem dX0_isBelow_10 : decode cX0_isBelow 10 = .ok (.iload_n 3, 1) := dk_29 (dk_at dksX0_isBelow_0 10 rfl rfl)
theorem dX0_isBelow_11 : decode cX0_isBelow 11 = .ok (.iconst (-1), 1) := dk_2 (dk_at dksX0_isBelow_0 11 rfl rfl)
theorem dX0_isBelow_12 : decode cX0_isBelow 12 = .ok (.if_icmp .eq 21, 3) := dk_159 0 21 (dk_at dksX0_isBelow_0 12 rfl rfl)
theorem dX0_isBelow_15 : decode cX0_isBelow 15 = .ok (.iload_n 3, 1) := dk_29 (dk_at dksX0_isBelow_0 15 rfl rfl)
theorem dX0_isBelow_16 : decode cX0_isBelow 16 = .ok (.iload_n 2, 1) := dk_28 (dk_at dksX0_isBelow_0 16 rfl rfl)
theorem dX0_isBelow_17 : decode cX0_isBelow 17 = .ok (.if_icmp .eq 16, 3) := dk_159 0 16 (dk_at dksX0_isBelow_0 17 rfl rfl)
theorem dX0_isBelow_20 : decode cX0_isBelow 20 = .ok (.aload_n 0, 1) := dk_42 (dk_at dksX0_isBelow_0 20 rfl rfl)
theorem dX0_isBelow_21 : decode cX0_isBelow 21 = .ok (.getfield 21, 3) := dk_180 0 21 (dk_at dksX0_isBelow_0 21 rfl rfl)
theorem dX0_isBelow_24 : decode cX0_isBelow 24 = .ok (.getfield 73, 3) := dk_180 0 73 (dk_at dksX0_isBelow_1 0 rfl rfl)
theorem dX0_isBelow_27 : decode cX0_isBelow 27 = .ok (.iload_n 3, 1) := dk_29 (dk_at dksX0_isBelow_1 3 rfl rfl)
theorem dX0_isBelow_28 : decode cX0_isBelow 28 = .ok (.iaload, 1) := dk_46 (dk_at dksX0_isBelow_1 4 rfl rfl)
theorem dX0_isBelow_29 : decode cX0_isBelow 29 = .ok (.istore_n 3, 1) := dk_62 (dk_at dksX0_isBelow_1 5 rfl rfl)
theorem dX0_isBelow_30 : decode cX0_isBelow 30 = .ok (.goto (-20), 3) := dk_167 255 236 (dk_at dksX0_isBelow_1 6 rfl rfl)
theorem dX0_isBelow_33 : decode cX0_isBelow 33 = .ok (.iload_n 3, 1) := dk_29 (dk_at dksX0_isBelow_1 9 rfl rfl)
theorem dX0_isBelow_34 : decode cX0_isBelow 34 = .ok (.iload_n 2, 1) := dk_28 (dk_at dksX0_isBelow_1 10 rfl rfl)
theorem dX0_isBelow_35 : decode cX0_isBelow 35 = .ok (.if_icmp .ne 7, 3) := dk_160 0 7 (dk_at dksX0_isBelow_1 11 rfl rfl)
theorem dX0_isBelow_38 : decode cX0_isBelow 38 = .ok (.iconst 1, 1) := dk_4 (dk_at dksX0_isBelow_1 14 rfl rfl)
theorem dX0_isBelow_39 : decode cX0_isBelow 39 = .ok (.goto 4, 3) := dk_167 0 4 (dk_at dksX0_isBelow_1 15 rfl rfl)
theorem dX0_isBelow_42 : decode cX0_isBelow 42 = .ok (.iconst 0, 1) := dk_3 (dk_at dksX0_isBelow_1 18 rfl rfl)
theorem dX0_isBelow_43 : decode cX0_isBelow 43 = .ok (.ireturn, 1) := dk_172 (dk_at dksX0_isBelow_1 19 rfl rfl)
abbrev cX0_wrongs : ByteArray := prog_1_method_38_code
def yX0_wrongs : MethodName := ⟨RX0, "wrongs", "(III)I"⟩
def dkwX0_wrongs_3 : List UInt8 := [4, 96, 79, 25, 4, 5, 46, 4, 100, 172]
abbrev dktX0_wrongs_3 : List UInt8 := dkwX0_wrongs_3 ++ []
def dkwX0_wrongs_2 : List UInt8 := [25, 5, 3, 25, 4, 6, 16, 7, 25, 4, 5, 46, 104, 96, 16, 7, 184, 0, 156, 25, 4, 5, 92, 46]
abbrev dktX0_wrongs_2 : List UInt8 := dkwX0_wrongs_2 ++ dktX0_wrongs_3
def dkwX0_wrongs_1 : List UInt8 := [79, 89, 6, 29, 79, 89, 7, 3, 79, 89, 8, 25, 4, 3, 46, 79, 89, 16, 6, 3, 79, 58, 5]
abbrev dktX0_wrongs_1 : List UInt8 := dkwX0_wrongs_1 ++ dktX0_wrongs_2
def dkwX0_wrongs_0 : List UInt8 := [42, 180, 0, 21, 180, 0, 66, 58, 4, 16, 7, 188, 10, 89, 3, 27, 79, 89, 4, 28, 79, 89, 5, 27]
abbrev dktX0_wrongs_0 : List UInt8 := dkwX0_wrongs_0 ++ dktX0_wrongs_1
theorem dksX0_wrongs_0 : cX0_wrongs.data.toList.drop 0 = dktX0_wrongs_0 := by decide +kernel
theorem dksX0_wrongs_1 : cX0_wrongs.data.toList.drop 24 = dktX0_wrongs_1 := dk_seg dksX0_wrongs_0 24 rfl rfl
theorem dksX0_wrongs_2 : cX0_wrongs.data.toList.drop 47 = dktX0_wrongs_2 := dk_seg dksX0_wrongs_1 23 rfl rfl
theorem dksX0_wrongs_3 : cX0_wrongs.data.toList.drop 71 = dktX0_wrongs_3 := dk_seg dksX0_wrongs_2 24 rfl rfl
theorem dX0_wrongs_0 : decode cX0_wrongs 0 = .ok (.aload_n 0, 1) := dk_42 (dk_at dksX0_wrongs_0 0 rfl rfl)
theorem dX0_wrongs_1 : decode cX0_wrongs 1 = .ok (.getfield 21, 3) := dk_180 0 21 (dk_at dksX0_wrongs_0 1 rfl rfl)
theorem dX0_wrongs_4 : decode cX0_wrongs 4 = .ok (.getfield 66, 3) := dk_180 0 66 (dk_at dksX0_wrongs_0 4 rfl rfl)
theorem dX0_wrongs_7 : decode cX0_wrongs 7 = .ok (.astore 4, 2) := dk_58 4 (dk_at dksX0_wrongs_0 7 rfl rfl)
theorem dX0_wrongs_9 : decode cX0_wrongs 9 = .ok (.bipush 7, 2) := dk_16 7 (dk_at dksX0_wrongs_0 9 rfl rfl)
theorem dX0_wrongs_11 : decode cX0_wrongs 11 = .ok (.newarray .int, 2) := dk_188_10 (dk_at dksX0_wrongs_0 11 rfl rfl)
theorem dX0_wrongs_13 : decode cX0_wrongs 13 = .ok (.dup, 1) := dk_89 (dk_at dksX0_wrongs_0 13 rfl rfl)
theorem dX0_wrongs_14 : decode cX0_wrongs 14 = .ok (.iconst 0, 1) := dk_3 (dk_at dksX0_wrongs_0 14 rfl rfl)
theorem dX0_wrongs_15 : decode cX0_wrongs 15 = .ok (.iload_n 1, 1) := dk_27 (dk_at dksX0_wrongs_0 15 rfl rfl)
theorem dX0_wrongs_16 : decode cX0_wrongs 16 = .ok (.iastore, 1) := dk_79 (dk_at dksX0_wrongs_0 16 rfl rfl)
theorem dX0_wrongs_17 : decode cX0_wrongs 17 = .ok (.dup, 1) := dk_89 (dk_at dksX0_wrongs_0 17 rfl rfl)
theorem dX0_wrongs_18 : decode cX0_wrongs 18 = .ok (.iconst 1, 1) := dk_4 (dk_at dksX0_wrongs_0 18 rfl rfl)
theorem dX0_wrongs_19 : decode cX0_wrongs 19 = .ok (.iload_n 2, 1) := dk_28 (dk_at dksX0_wrongs_0 19 rfl rfl)
theorem dX0_wrongs_20 : decode cX0_wrongs 20 = .ok (.iastore, 1) := dk_79 (dk_at dksX0_wrongs_0 20 rfl rfl)
theorem dX0_wrongs_21 : decode cX0_wrongs 21 = .ok (.dup, 1) := dk_89 (dk_at dksX0_wrongs_0 21 rfl rfl)
theorem dX0_wrongs_22 : decode cX0_wrongs 22 = .ok (.iconst 2, 1) := dk_5 (dk_at dksX0_wrongs_0 22 rfl rfl)
theorem dX0_wrongs_23 : decode cX0_wrongs 23 = .ok (.iload_n 1, 1) := dk_27 (dk_at dksX0_wrongs_0 23 rfl rfl)
theorem dX0_wrongs_24 : decode cX0_wrongs 24 = .ok (.iastore, 1) := dk_79 (dk_at dksX0_wrongs_1 0 rfl rfl)
theorem dX0_wrongs_25 : decode cX0_wrongs 25 = .ok (.dup, 1) := dk_89 (dk_at dksX0_wrongs_1 1 rfl rfl)
theorem dX0_wrongs_26 : decode cX0_wrongs 26 = .ok (.iconst 3, 1) := dk_6 (dk_at dksX0_wrongs_1 2 rfl rfl)
theorem dX0_wrongs_27 : decode cX0_wrongs 27 = .ok (.iload_n 3, 1) := dk_29 (dk_at dksX0_wrongs_1 3 rfl rfl)
theorem dX0_wrongs_28 : decode cX0_wrongs 28 = .ok (.iastore, 1) := dk_79 (dk_at dksX0_wrongs_1 4 rfl rfl)
theorem dX0_wrongs_29 : decode cX0_wrongs 29 = .ok (.dup, 1) := dk_89 (dk_at dksX0_wrongs_1 5 rfl rfl)
theorem dX0_wrongs_30 : decode cX0_wrongs 30 = .ok (.iconst 4, 1) := dk_7 (dk_at dksX0_wrongs_1 6 rfl rfl)
theorem dX0_wrongs_31 : decode cX0_wrongs 31 = .ok (.iconst 0, 1) := dk_3 (dk_at dksX0_wrongs_1 7 rfl rfl)
theorem dX0_wrongs_32 : decode cX0_wrongs 32 = .ok (.iastore, 1) := dk_79 (dk_at dksX0_wrongs_1 8 rfl rfl)
theorem dX0_wrongs_33 : decode cX0_wrongs 33 = .ok (.dup, 1) := dk_89 (dk_at dksX0_wrongs_1 9 rfl rfl)
theorem dX0_wrongs_34 : decode cX0_wrongs 34 = .ok (.iconst 5, 1) := dk_8 (dk_at dksX0_wrongs_1 10 rfl rfl)
theorem dX0_wrongs_35 : decode cX0_wrongs 35 = .ok (.aload 4, 2) := dk_25 4 (dk_at dksX0_wrongs_1 11 rfl rfl)
theorem dX0_wrongs_37 : decode cX0_wrongs 37 = .ok (.iconst 0, 1) := dk_3 (dk_at dksX0_wrongs_1 13 rfl rfl)
theorem dX0_wrongs_38 : decode cX0_wrongs 38 = .ok (.iaload, 1) := dk_46 (dk_at dksX0_wrongs_1 14 rfl rfl)
theorem dX0_wrongs_39 : decode cX0_wrongs 39 = .ok (.iastore, 1) := dk_79 (dk_at dksX0_wrongs_1 15 rfl rfl)
theorem dX0_wrongs_40 : decode cX0_wrongs 40 = .ok (.dup, 1) := dk_89 (dk_at dksX0_wrongs_1 16 rfl rfl)
theorem dX0_wrongs_41 : decode cX0_wrongs 41 = .ok (.bipush 6, 2) := dk_16 6 (dk_at dksX0_wrongs_1 17 rfl rfl)
theorem dX0_wrongs_43 : decode cX0_wrongs 43 = .ok (.iconst 0, 1) := dk_3 (dk_at dksX0_wrongs_1 19 rfl rfl)
theorem dX0_wrongs_44 : decode cX0_wrongs 44 = .ok (.iastore, 1) := dk_79 (dk_at dksX0_wrongs_1 20 rfl rfl)
theorem dX0_wrongs_45 : decode cX0_wrongs 45 = .ok (.astore 5, 2) := dk_58 5 (dk_at dksX0_wrongs_1 21 rfl rfl)
theorem dX0_wrongs_47 : decode cX0_wrongs 47 = .ok (.aload 5, 2) := dk_25 5 (dk_at dksX0_wrongs_2 0 rfl rfl)
theorem dX0_wrongs_49 : decode cX0_wrongs 49 = .ok (.iconst 0, 1) := dk_3 (dk_at dksX0_wrongs_2 2 rfl rfl)
theorem dX0_wrongs_50 : decode cX0_wrongs 50 = .ok (.aload 4, 2) := dk_25 4 (dk_at dksX0_wrongs_2 3 rfl rfl)
theorem dX0_wrongs_52 : decode cX0_wrongs 52 = .ok (.iconst 3, 1) := dk_6 (dk_at dksX0_wrongs_2 5 rfl rfl)
theorem dX0_wrongs_53 : decode cX0_wrongs 53 = .ok (.bipush 7, 2) := dk_16 7 (dk_at dksX0_wrongs_2 6 rfl rfl)
theorem dX0_wrongs_55 : decode cX0_wrongs 55 = .ok (.aload 4, 2) := dk_25 4 (dk_at dksX0_wrongs_2 8 rfl rfl)
theorem dX0_wrongs_57 : decode cX0_wrongs 57 = .ok (.iconst 2, 1) := dk_5 (dk_at dksX0_wrongs_2 10 rfl rfl)
theorem dX0_wrongs_58 : decode cX0_wrongs 58 = .ok (.iaload, 1) := dk_46 (dk_at dksX0_wrongs_2 11 rfl rfl)
theorem dX0_wrongs_59 : decode cX0_wrongs 59 = .ok (.imul, 1) := dk_104 (dk_at dksX0_wrongs_2 12 rfl rfl)
theorem dX0_wrongs_60 : decode cX0_wrongs 60 = .ok (.iadd, 1) := dk_96 (dk_at dksX0_wrongs_2 13 rfl rfl)
theorem dX0_wrongs_61 : decode cX0_wrongs 61 = .ok (.bipush 7, 2) := dk_16 7 (dk_at dksX0_wrongs_2 14 rfl rfl)
theorem dX0_wrongs_63 : decode cX0_wrongs 63 = .ok (.invokestatic 156, 3) := dk_184 0 156 (dk_at dksX0_wrongs_2 16 rfl rfl)
theorem dX0_wrongs_66 : decode cX0_wrongs 66 = .ok (.aload 4, 2) := dk_25 4 (dk_at dksX0_wrongs_2 19 rfl rfl)
theorem dX0_wrongs_68 : decode cX0_wrongs 68 = .ok (.iconst 2, 1) := dk_5 (dk_at dksX0_wrongs_2 21 rfl rfl)
theorem dX0_wrongs_69 : decode cX0_wrongs 69 = .ok (.dup2, 1) := dk_92 (dk_at dksX0_wrongs_2 22 rfl rfl)
theorem dX0_wrongs_70 : decode cX0_wrongs 70 = .ok (.iaload, 1) := dk_46 (dk_at dksX0_wrongs_2 23 rfl rfl)
theorem dX0_wrongs_71 : decode cX0_wrongs 71 = .ok (.iconst 1, 1) := dk_4 (dk_at dksX0_wrongs_3 0 rfl rfl)
theorem dX0_wrongs_72 : decode cX0_wrongs 72 = .ok (.iadd, 1) := dk_96 (dk_at dksX0_wrongs_3 1 rfl rfl)
theorem dX0_wrongs_73 : decode cX0_wrongs 73 = .ok (.iastore, 1) := dk_79 (dk_at dksX0_wrongs_3 2 rfl rfl)
theorem dX0_wrongs_74 : decode cX0_wrongs 74 = .ok (.aload 4, 2) := dk_25 4 (dk_at dksX0_wrongs_3 3 rfl rfl)
theorem dX0_wrongs_76 : decode cX0_wrongs 76 = .ok (.iconst 2, 1) := dk_5 (dk_at dksX0_wrongs_3 5 rfl rfl)
theorem dX0_wrongs_77 : decode cX0_wrongs 77 = .ok (.iaload, 1) := dk_46 (dk_at dksX0_wrongs_3 6 rfl rfl)
theorem dX0_wrongs_78 : decode cX0_wrongs 78 = .ok (.iconst 1, 1) := dk_4 (dk_at dksX0_wrongs_3 7 rfl rfl)
theorem dX0_wrongs_79 : decode cX0_wrongs 79 = .ok (.isub, 1) := dk_100 (dk_at dksX0_wrongs_3 8 rfl rfl)
theorem dX0_wrongs_80 : decode cX0_wrongs 80 = .ok (.ireturn, 1) := dk_172 (dk_at dksX0_wrongs_3 9 rfl rfl)
abbrev cX0_away : ByteArray := prog_1_method_41_code
def yX0_away : MethodName := ⟨RX0, "away", "(II)Z"⟩
def dkwX0_away_1 : List UInt8 := [182, 0, 205, 42, 27, 28, 182, 0, 219, 4, 172]
abbrev dktX0_away_1 : List UInt8 := dkwX0_away_1 ++ []
def dkwX0_away_0 : List UInt8 := [42, 27, 182, 0, 69, 153, 0, 13, 28, 3, 16, 99, 184, 0, 62, 154, 0, 5, 3, 172, 42, 180, 0, 21]
abbrev dktX0_away_0 : List UInt8 := dkwX0_away_0 ++ dktX0_away_1
theorem dksX0_away_0 : cX0_away.data.toList.drop 0 = dktX0_away_0 := by decide +kernel
theorem dksX0_away_1 : cX0_away.data.toList.drop 24 = dktX0_away_1 := dk_seg dksX0_away_0 24 rfl rfl
theorem dX0_away_0 : decode cX0_away 0 = .ok (.aload_n 0, 1) := dk_42 (dk_at dksX0_away_0 0 rfl rfl)
theorem dX0_away_1 : decode cX0_away 1 = .ok (.iload_n 1, 1) := dk_27 (dk_at dksX0_away_0 1 rfl rfl)
theorem dX0_away_2 : decode cX0_away 2 = .ok (.invokevirtual 69, 3) := dk_182 0 69 (dk_at dksX0_away_0 2 rfl rfl)
theorem dX0_away_5 : decode cX0_away 5 = .ok (.ifCond .eq 13, 3) := dk_153 0 13 (dk_at dksX0_away_0 5 rfl rfl)
theorem dX0_away_8 : decode cX0_away 8 = .ok (.iload_n 2, 1) := dk_28 (dk_at dksX0_away_0 8 rfl rfl)
theorem dX0_away_9 : decode cX0_away 9 = .ok (.iconst 0, 1) := dk_3 (dk_at dksX0_away_0 9 rfl rfl)
theorem dX0_away_10 : decode cX0_away 10 = .ok (.bipush 99, 2) := dk_16 99 (dk_at dksX0_away_0 10 rfl rfl)
theorem dX0_away_12 : decode cX0_away 12 = .ok (.invokestatic 62, 3) := dk_184 0 62 (dk_at dksX0_away_0 12 rfl rfl)
theorem dX0_away_15 : decode cX0_away 15 = .ok (.ifCond .ne 5, 3) := dk_154 0 5 (dk_at dksX0_away_0 15 rfl rfl)
theorem dX0_away_18 : decode cX0_away 18 = .ok (.iconst 0, 1) := dk_3 (dk_at dksX0_away_0 18 rfl rfl)
theorem dX0_away_19 : decode cX0_away 19 = .ok (.ireturn, 1) := dk_172 (dk_at dksX0_away_0 19 rfl rfl)
theorem dX0_away_20 : decode cX0_away 20 = .ok (.aload_n 0, 1) := dk_42 (dk_at dksX0_away_0 20 rfl rfl)
theorem dX0_away_21 : decode cX0_away 21 = .ok (.getfield 21, 3) := dk_180 0 21 (dk_at dksX0_away_0 21 rfl rfl)
theorem dX0_away_24 : decode cX0_away 24 = .ok (.invokevirtual 205, 3) := dk_182 0 205 (dk_at dksX0_away_1 0 rfl rfl)
theorem dX0_away_27 : decode cX0_away 27 = .ok (.aload_n 0, 1) := dk_42 (dk_at dksX0_away_1 3 rfl rfl)
theorem dX0_away_28 : decode cX0_away 28 = .ok (.iload_n 1, 1) := dk_27 (dk_at dksX0_away_1 4 rfl rfl)
theorem dX0_away_29 : decode cX0_away 29 = .ok (.iload_n 2, 1) := dk_28 (dk_at dksX0_away_1 5 rfl rfl)
theorem dX0_away_30 : decode cX0_away 30 = .ok (.invokevirtual 219, 3) := dk_182 0 219 (dk_at dksX0_away_1 6 rfl rfl)
theorem dX0_away_33 : decode cX0_away 33 = .ok (.iconst 1, 1) := dk_4 (dk_at dksX0_away_1 9 rfl rfl)
theorem dX0_away_34 : decode cX0_away 34 = .ok (.ireturn, 1) := dk_172 (dk_at dksX0_away_1 10 rfl rfl)
abbrev cX0_goesAway : ByteArray := prog_1_method_40_code
def yX0_goesAway : MethodName := ⟨RX0, "goesAway", "(II)V"⟩
def dkwX0_goesAway_1 : List UInt8 := [180, 0, 66, 3, 46, 28, 96, 79, 177]
abbrev dktX0_goesAway_1 : List UInt8 := dkwX0_goesAway_1 ++ []
def dkwX0_goesAway_0 : List UInt8 := [42, 180, 0, 21, 180, 0, 66, 16, 73, 27, 96, 28, 154, 0, 7, 3, 167, 0, 14, 42, 180, 0, 21]
abbrev dktX0_goesAway_0 : List UInt8 := dkwX0_goesAway_0 ++ dktX0_goesAway_1
theorem dksX0_goesAway_0 : cX0_goesAway.data.toList.drop 0 = dktX0_goesAway_0 := by decide +kernel
theorem dksX0_goesAway_1 : cX0_goesAway.data.toList.drop 23 = dktX0_goesAway_1 := dk_seg dksX0_goesAway_0 23 rfl rfl
theorem dX0_goesAway_0 : decode cX0_goesAway 0 = .ok (.aload_n 0, 1) := dk_42 (dk_at dksX0_goesAway_0 0 rfl rfl)
theorem dX0_goesAway_1 : decode cX0_goesAway 1 = .ok (.getfield 21, 3) := dk_180 0 21 (dk_at dksX0_goesAway_0 1 rfl rfl)
theorem dX0_goesAway_4 : decode cX0_goesAway 4 = .ok (.getfield 66, 3) := dk_180 0 66 (dk_at dksX0_goesAway_0 4 rfl rfl)
theorem dX0_goesAway_7 : decode cX0_goesAway 7 = .ok (.bipush 73, 2) := dk_16 73 (dk_at dksX0_goesAway_0 7 rfl rfl)
theorem dX0_goesAway_9 : decode cX0_goesAway 9 = .ok (.iload_n 1, 1) := dk_27 (dk_at dksX0_goesAway_0 9 rfl rfl)
theorem dX0_goesAway_10 : decode cX0_goesAway 10 = .ok (.iadd, 1) := dk_96 (dk_at dksX0_goesAway_0 10 rfl rfl)
theorem dX0_goesAway_11 : decode cX0_goesAway 11 = .ok (.iload_n 2, 1) := dk_28 (dk_at dksX0_goesAway_0 11 rfl rfl)
theorem dX0_goesAway_12 : decode cX0_goesAway 12 = .ok (.ifCond .ne 7, 3) := dk_154 0 7 (dk_at dksX0_goesAway_0 12 rfl rfl)
theorem dX0_goesAway_15 : decode cX0_goesAway 15 = .ok (.iconst 0, 1) := dk_3 (dk_at dksX0_goesAway_0 15 rfl rfl)
theorem dX0_goesAway_16 : decode cX0_goesAway 16 = .ok (.goto 14, 3) := dk_167 0 14 (dk_at dksX0_goesAway_0 16 rfl rfl)
theorem dX0_goesAway_19 : decode cX0_goesAway 19 = .ok (.aload_n 0, 1) := dk_42 (dk_at dksX0_goesAway_0 19 rfl rfl)
theorem dX0_goesAway_20 : decode cX0_goesAway 20 = .ok (.getfield 21, 3) := dk_180 0 21 (dk_at dksX0_goesAway_0 20 rfl rfl)
theorem dX0_goesAway_23 : decode cX0_goesAway 23 = .ok (.getfield 66, 3) := dk_180 0 66 (dk_at dksX0_goesAway_1 0 rfl rfl)
theorem dX0_goesAway_26 : decode cX0_goesAway 26 = .ok (.iconst 0, 1) := dk_3 (dk_at dksX0_goesAway_1 3 rfl rfl)
theorem dX0_goesAway_27 : decode cX0_goesAway 27 = .ok (.iaload, 1) := dk_46 (dk_at dksX0_goesAway_1 4 rfl rfl)
theorem dX0_goesAway_28 : decode cX0_goesAway 28 = .ok (.iload_n 2, 1) := dk_28 (dk_at dksX0_goesAway_1 5 rfl rfl)
theorem dX0_goesAway_29 : decode cX0_goesAway 29 = .ok (.iadd, 1) := dk_96 (dk_at dksX0_goesAway_1 6 rfl rfl)
theorem dX0_goesAway_30 : decode cX0_goesAway 30 = .ok (.iastore, 1) := dk_79 (dk_at dksX0_goesAway_1 7 rfl rfl)
theorem dX0_goesAway_31 : decode cX0_goesAway 31 = .ok (.return_, 1) := dk_177 (dk_at dksX0_goesAway_1 8 rfl rfl)
abbrev cX0_sideways : ByteArray := prog_1_method_42_code
def yX0_sideways : MethodName := ⟨RX0, "sideways", "(II)Z"⟩
def dkwX0_sideways_4 : List UInt8 := [45, 27, 5, 184, 0, 149, 28, 79, 45, 27, 16, 6, 184, 0, 149, 45, 3, 46, 5, 96, 79, 4, 172]
abbrev dktX0_sideways_4 : List UInt8 := dkwX0_sideways_4 ++ []
def dkwX0_sideways_3 : List UInt8 := [42, 28, 45, 27, 4, 184, 0, 149, 46, 182, 0, 86, 154, 0, 5, 3, 172, 42, 180, 0, 21, 182, 0, 205]
abbrev dktX0_sideways_3 : List UInt8 := dkwX0_sideways_3 ++ dktX0_sideways_4
def dkwX0_sideways_2 : List UInt8 := [3, 172, 42, 180, 0, 21, 180, 0, 79, 45, 27, 5, 184, 0, 149, 46, 46, 28, 184, 0, 82, 153, 0, 18]
abbrev dktX0_sideways_2 : List UInt8 := dkwX0_sideways_2 ++ dktX0_sideways_3
def dkwX0_sideways_1 : List UInt8 := [45, 27, 7, 184, 0, 149, 46, 154, 0, 17, 45, 3, 46, 45, 27, 16, 6, 184, 0, 149, 46, 162, 0, 5]
abbrev dktX0_sideways_1 : List UInt8 := dkwX0_sideways_1 ++ dktX0_sideways_2
def dkwX0_sideways_0 : List UInt8 := [42, 180, 0, 21, 180, 0, 66, 78, 42, 27, 182, 0, 223, 153, 0, 35, 42, 28, 182, 0, 69, 153, 0, 27]
abbrev dktX0_sideways_0 : List UInt8 := dkwX0_sideways_0 ++ dktX0_sideways_1
theorem dksX0_sideways_0 : cX0_sideways.data.toList.drop 0 = dktX0_sideways_0 := by decide +kernel
theorem dksX0_sideways_1 : cX0_sideways.data.toList.drop 24 = dktX0_sideways_1 := dk_seg dksX0_sideways_0 24 rfl rfl
theorem dksX0_sideways_2 : cX0_sideways.data.toList.drop 48 = dktX0_sideways_2 := dk_seg dksX0_sideways_1 24 rfl rfl
theorem dksX0_sideways_3 : cX0_sideways.data.toList.drop 72 = dktX0_sideways_3 := dk_seg dksX0_sideways_2 24 rfl rfl
theorem dksX0_sideways_4 : cX0_sideways.data.toList.drop 96 = dktX0_sideways_4 := dk_seg dksX0_sideways_3 24 rfl rfl
theorem dX0_sideways_0 : decode cX0_sideways 0 = .ok (.aload_n 0, 1) := dk_42 (dk_at dksX0_sideways_0 0 rfl rfl)
theorem dX0_sideways_1 : decode cX0_sideways 1 = .ok (.getfield 21, 3) := dk_180 0 21 (dk_at dksX0_sideways_0 1 rfl rfl)
theorem dX0_sideways_4 : decode cX0_sideways 4 = .ok (.getfield 66, 3) := dk_180 0 66 (dk_at dksX0_sideways_0 4 rfl rfl)
theorem dX0_sideways_7 : decode cX0_sideways 7 = .ok (.astore_n 3, 1) := dk_78 (dk_at dksX0_sideways_0 7 rfl rfl)
theorem dX0_sideways_8 : decode cX0_sideways 8 = .ok (.aload_n 0, 1) := dk_42 (dk_at dksX0_sideways_0 8 rfl rfl)
theorem dX0_sideways_9 : decode cX0_sideways 9 = .ok (.iload_n 1, 1) := dk_27 (dk_at dksX0_sideways_0 9 rfl rfl)
theorem dX0_sideways_10 : decode cX0_sideways 10 = .ok (.invokevirtual 223, 3) := dk_182 0 223 (dk_at dksX0_sideways_0 10 rfl rfl)
theorem dX0_sideways_13 : decode cX0_sideways 13 = .ok (.ifCond .eq 35, 3) := dk_153 0 35 (dk_at dksX0_sideways_0 13 rfl rfl)
theorem dX0_sideways_16 : decode cX0_sideways 16 = .ok (.aload_n 0, 1) := dk_42 (dk_at dksX0_sideways_0 16 rfl rfl)
theorem dX0_sideways_17 : decode cX0_sideways 17 = .ok (.iload_n 2, 1) := dk_28 (dk_at dksX0_sideways_0 17 rfl rfl)
theorem dX0_sideways_18 : decode cX0_sideways 18 = .ok (.invokevirtual 69, 3) := dk_182 0 69 (dk_at dksX0_sideways_0 18 rfl rfl)
theorem dX0_sideways_21 : decode cX0_sideways 21 = .ok (.ifCond .eq 27, 3) := dk_153 0 27 (dk_at dksX0_sideways_0 21 rfl rfl)
theorem dX0_sideways_24 : decode cX0_sideways 24 = .ok (.aload_n 3, 1) := dk_45 (dk_at dksX0_sideways_1 0 rfl rfl)
theorem dX0_sideways_25 : decode cX0_sideways 25 = .ok (.iload_n 1, 1) := dk_27 (dk_at dksX0_sideways_1 1 rfl rfl)
theorem dX0_sideways_26 : decode cX0_sideways 26 = .ok (.iconst 4, 1) := dk_7 (dk_at dksX0_sideways_1 2 rfl rfl)
theorem dX0_sideways_27 : decode cX0_sideways 27 = .ok (.invokestatic 149, 3) := dk_184 0 149 (dk_at dksX0_sideways_1 3 rfl rfl)
theorem dX0_sideways_30 : decode cX0_sideways 30 = .ok (.iaload, 1) := dk_46 (dk_at dksX0_sideways_1 6 rfl rfl)
theorem dX0_sideways_31 : decode cX0_sideways 31 = .ok (.ifCond .ne 17, 3) := dk_154 0 17 (dk_at dksX0_sideways_1 7 rfl rfl)
theorem dX0_sideways_34 : decode cX0_sideways 34 = .ok (.aload_n 3, 1) := dk_45 (dk_at dksX0_sideways_1 10 rfl rfl)
theorem dX0_sideways_35 : decode cX0_sideways 35 = .ok (.iconst 0, 1) := dk_3 (dk_at dksX0_sideways_1 11 rfl rfl)
theorem dX0_sideways_36 : decode cX0_sideways 36 = .ok (.iaload, 1) := dk_46 (dk_at dksX0_sideways_1 12 rfl rfl)
theorem dX0_sideways_37 : decode cX0_sideways 37 = .ok (.aload_n 3, 1) := dk_45 (dk_at dksX0_sideways_1 13 rfl rfl)
theorem dX0_sideways_38 : decode cX0_sideways 38 = .ok (.iload_n 1, 1) := dk_27 (dk_at dksX0_sideways_1 14 rfl rfl)
theorem dX0_sideways_39 : decode cX0_sideways 39 = .ok (.bipush 6, 2) := dk_16 6 (dk_at dksX0_sideways_1 15 rfl rfl)
theorem dX0_sideways_41 : decode cX0_sideways 41 = .ok (.invokestatic 149, 3) := dk_184 0 149 (dk_at dksX0_sideways_1 17 rfl rfl)
theorem dX0_sideways_44 : decode cX0_sideways 44 = .ok (.iaload, 1) := dk_46 (dk_at dksX0_sideways_1 20 rfl rfl)
theorem dX0_sideways_45 : decode cX0_sideways 45 = .ok (.if_icmp .ge 5, 3) := dk_162 0 5 (dk_at dksX0_sideways_1 21 rfl rfl)
theorem dX0_sideways_48 : decode cX0_sideways 48 = .ok (.iconst 0, 1) := dk_3 (dk_at dksX0_sideways_2 0 rfl rfl)
theorem dX0_sideways_49 : decode cX0_sideways 49 = .ok (.ireturn, 1) := dk_172 (dk_at dksX0_sideways_2 1 rfl rfl)
theorem dX0_sideways_50 : decode cX0_sideways 50 = .ok (.aload_n 0, 1) := dk_42 (dk_at dksX0_sideways_2 2 rfl rfl)
theorem dX0_sideways_51 : decode cX0_sideways 51 = .ok (.getfield 21, 3) := dk_180 0 21 (dk_at dksX0_sideways_2 3 rfl rfl)
theorem dX0_sideways_54 : decode cX0_sideways 54 = .ok (.getfield 79, 3) := dk_180 0 79 (dk_at dksX0_sideways_2 6 rfl rfl)
theorem dX0_sideways_57 : decode cX0_sideways 57 = .ok (.aload_n 3, 1) := dk_45 (dk_at dksX0_sideways_2 9 rfl rfl)
theorem dX0_sideways_58 : decode cX0_sideways 58 = .ok (.iload_n 1, 1) := dk_27 (dk_at dksX0_sideways_2 10 rfl rfl)
theorem dX0_sideways_59 : decode cX0_sideways 59 = .ok (.iconst 2, 1) := dk_5 (dk_at dksX0_sideways_2 11 rfl rfl)
theorem dX0_sideways_60 : decode cX0_sideways 60 = .ok (.invokestatic 149, 3) := dk_184 0 149 (dk_at dksX0_sideways_2 12 rfl rfl)
theorem dX0_sideways_63 : decode cX0_sideways 63 = .ok (.iaload, 1) := dk_46 (dk_at dksX0_sideways_2 15 rfl rfl)
theorem dX0_sideways_64 : decode cX0_sideways 64 = .ok (.iaload, 1) := dk_46 (dk_at dksX0_sideways_2 16 rfl rfl)
theorem dX0_sideways_65 : decode cX0_sideways 65 = .ok (.iload_n 2, 1) := dk_28 (dk_at dksX0_sideways_2 17 rfl rfl)
theorem dX0_sideways_66 : decode cX0_sideways 66 = .ok (.invokestatic 82, 3) := dk_184 0 82 (dk_at dksX0_sideways_2 18 rfl rfl)
theorem dX0_sideways_69 : decode cX0_sideways 69 = .ok (.ifCond .eq 18, 3) := dk_153 0 18 (dk_at dksX0_sideways_2 21 rfl rfl)
theorem dX0_sideways_72 : decode cX0_sideways 72 = .ok (.aload_n 0, 1) := dk_42 (dk_at dksX0_sideways_3 0 rfl rfl)
theorem dX0_sideways_73 : decode cX0_sideways 73 = .ok (.iload_n 2, 1) := dk_28 (dk_at dksX0_sideways_3 1 rfl rfl)
theorem dX0_sideways_74 : decode cX0_sideways 74 = .ok (.aload_n 3, 1) := dk_45 (dk_at dksX0_sideways_3 2 rfl rfl)
theorem dX0_sideways_75 : decode cX0_sideways 75 = .ok (.iload_n 1, 1) := dk_27 (dk_at dksX0_sideways_3 3 rfl rfl)
theorem dX0_sideways_76 : decode cX0_sideways 76 = .ok (.iconst 1, 1) := dk_4 (dk_at dksX0_sideways_3 4 rfl rfl)
theorem dX0_sideways_77 : decode cX0_sideways 77 = .ok (.invokestatic 149, 3) := dk_184 0 149 (dk_at dksX0_sideways_3 5 rfl rfl)
theorem dX0_sideways_80 : decode cX0_sideways 80 = .ok (.iaload, 1) := dk_46 (dk_at dksX0_sideways_3 8 rfl rfl)
theorem dX0_sideways_81 : decode cX0_sideways 81 = .ok (.invokevirtual 86, 3) := dk_182 0 86 (dk_at dksX0_sideways_3 9 rfl rfl)
theorem dX0_sideways_84 : decode cX0_sideways 84 = .ok (.ifCond .ne 5, 3) := dk_154 0 5 (dk_at dksX0_sideways_3 12 rfl rfl)
theorem dX0_sideways_87 : decode cX0_sideways 87 = .ok (.iconst 0, 1) := dk_3 (dk_at dksX0_sideways_3 15 rfl rfl)
theorem dX0_sideways_88 : decode cX0_sideways 88 = .ok (.ireturn, 1) := dk_172 (dk_at dksX0_sideways_3 16 rfl rfl)
theorem dX0_sideways_89 : decode cX0_sideways 89 = .ok (.aload_n 0, 1) := dk_42 (dk_at dksX0_sideways_3 17 rfl rfl)
theorem dX0_sideways_90 : decode cX0_sideways 90 = .ok (.getfield 21, 3) := dk_180 0 21 (dk_at dksX0_sideways_3 18 rfl rfl)
theorem dX0_sideways_93 : decode cX0_sideways 93 = .ok (.invokevirtual 205, 3) := dk_182 0 205 (dk_at dksX0_sideways_3 21 rfl rfl)
theorem dX0_sideways_96 : decode cX0_sideways 96 = .ok (.aload_n 3, 1) := dk_45 (dk_at dksX0_sideways_4 0 rfl rfl)
theorem dX0_sideways_97 : decode cX0_sideways 97 = .ok (.iload_n 1, 1) := dk_27 (dk_at dksX0_sideways_4 1 rfl rfl)
theorem dX0_sideways_98 : decode cX0_sideways 98 = .ok (.iconst 2, 1) := dk_5 (dk_at dksX0_sideways_4 2 rfl rfl)
theorem dX0_sideways_99 : decode cX0_sideways 99 = .ok (.invokestatic 149, 3) := dk_184 0 149 (dk_at dksX0_sideways_4 3 rfl rfl)
theorem dX0_sideways_102 : decode cX0_sideways 102 = .ok (.iload_n 2, 1) := dk_28 (dk_at dksX0_sideways_4 6 rfl rfl)
theorem dX0_sideways_103 : decode cX0_sideways 103 = .ok (.iastore, 1) := dk_79 (dk_at dksX0_sideways_4 7 rfl rfl)
theorem dX0_sideways_104 : decode cX0_sideways 104 = .ok (.aload_n 3, 1) := dk_45 (dk_at dksX0_sideways_4 8 rfl rfl)
theorem dX0_sideways_105 : decode cX0_sideways 105 = .ok (.iload_n 1, 1) := dk_27 (dk_at dksX0_sideways_4 9 rfl rfl)
theorem dX0_sideways_106 : decode cX0_sideways 106 = .ok (.bipush 6, 2) := dk_16 6 (dk_at dksX0_sideways_4 10 rfl rfl)
theorem dX0_sideways_108 : decode cX0_sideways 108 = .ok (.invokestatic 149, 3) := dk_184 0 149 (dk_at dksX0_sideways_4 12 rfl rfl)
theorem dX0_sideways_111 : decode cX0_sideways 111 = .ok (.aload_n 3, 1) := dk_45 (dk_at dksX0_sideways_4 15 rfl rfl)
theorem dX0_sideways_112 : decode cX0_sideways 112 = .ok (.iconst 0, 1) := dk_3 (dk_at dksX0_sideways_4 16 rfl rfl)
theorem dX0_sideways_113 : decode cX0_sideways 113 = .ok (.iaload, 1) := dk_46 (dk_at dksX0_sideways_4 17 rfl rfl)
theorem dX0_sideways_114 : decode cX0_sideways 114 = .ok (.iconst 2, 1) := dk_5 (dk_at dksX0_sideways_4 18 rfl rfl)
theorem dX0_sideways_115 : decode cX0_sideways 115 = .ok (.iadd, 1) := dk_96 (dk_at dksX0_sideways_4 19 rfl rfl)
theorem dX0_sideways_116 : decode cX0_sideways 116 = .ok (.iastore, 1) := dk_79 (dk_at dksX0_sideways_4 20 rfl rfl)
theorem dX0_sideways_117 : decode cX0_sideways 117 = .ok (.iconst 1, 1) := dk_4 (dk_at dksX0_sideways_4 21 rfl rfl)
theorem dX0_sideways_118 : decode cX0_sideways 118 = .ok (.ireturn, 1) := dk_172 (dk_at dksX0_sideways_4 22 rfl rfl)
abbrev cX0_isApology : ByteArray := prog_1_method_6_code
def yX0_isApology : MethodName := ⟨RX0, "isApology", "(I)Z"⟩
def dkwX0_isApology_0 : List UInt8 := [27, 3, 42, 180, 0, 21, 180, 0, 66, 5, 46, 4, 100, 184, 0, 62, 172]
abbrev dktX0_isApology_0 : List UInt8 := dkwX0_isApology_0 ++ []
theorem dksX0_isApology_0 : cX0_isApology.data.toList.drop 0 = dktX0_isApology_0 := by decide +kernel
theorem dX0_isApology_0 : decode cX0_isApology 0 = .ok (.iload_n 1, 1) := dk_27 (dk_at dksX0_isApology_0 0 rfl rfl)
theorem dX0_isApology_1 : decode cX0_isApology 1 = .ok (.iconst 0, 1) := dk_3 (dk_at dksX0_isApology_0 1 rfl rfl)
theorem dX0_isApology_2 : decode cX0_isApology 2 = .ok (.aload_n 0, 1) := dk_42 (dk_at dksX0_isApology_0 2 rfl rfl)
theorem dX0_isApology_3 : decode cX0_isApology 3 = .ok (.getfield 21, 3) := dk_180 0 21 (dk_at dksX0_isApology_0 3 rfl rfl)
theorem dX0_isApology_6 : decode cX0_isApology 6 = .ok (.getfield 66, 3) := dk_180 0 66 (dk_at dksX0_isApology_0 6 rfl rfl)
theorem dX0_isApology_9 : decode cX0_isApology 9 = .ok (.iconst 2, 1) := dk_5 (dk_at dksX0_isApology_0 9 rfl rfl)
theorem dX0_isApology_10 : decode cX0_isApology 10 = .ok (.iaload, 1) := dk_46 (dk_at dksX0_isApology_0 10 rfl rfl)
theorem dX0_isApology_11 : decode cX0_isApology 11 = .ok (.iconst 1, 1) := dk_4 (dk_at dksX0_isApology_0 11 rfl rfl)
theorem dX0_isApology_12 : decode cX0_isApology 12 = .ok (.isub, 1) := dk_100 (dk_at dksX0_isApology_0 12 rfl rfl)
theorem dX0_isApology_13 : decode cX0_isApology 13 = .ok (.invokestatic 62, 3) := dk_184 0 62 (dk_at dksX0_isApology_0 13 rfl rfl)
theorem dX0_isApology_16 : decode cX0_isApology 16 = .ok (.ireturn, 1) := dk_172 (dk_at dksX0_isApology_0 16 rfl rfl)
abbrev cX0_played : ByteArray := prog_1_method_45_code
def yX0_played : MethodName := ⟨RX0, "played", "(I)I"⟩
def dkwX0_played_2 : List UInt8 := [154, 0, 15, 44, 29, 182, 1, 14, 192, 0, 230, 182, 1, 22, 172, 132, 3, 1, 167, 255, 218, 2, 172]
abbrev dktX0_played_2 : List UInt8 := dkwX0_played_2 ++ []
def dkwX0_played_1 : List UInt8 := [3, 62, 29, 44, 182, 1, 9, 162, 0, 36, 42, 44, 29, 182, 1, 14, 192, 0, 230, 182, 1, 18]
abbrev dktX0_played_1 : List UInt8 := dkwX0_played_1 ++ dktX0_played_2
def dkwX0_played_0 : List UInt8 := [42, 27, 182, 0, 115, 154, 0, 6, 16, 254, 172, 42, 180, 0, 21, 180, 0, 96, 27, 50, 180, 1, 5, 77]
abbrev dktX0_played_0 : List UInt8 := dkwX0_played_0 ++ dktX0_played_1
theorem dksX0_played_0 : cX0_played.data.toList.drop 0 = dktX0_played_0 := by decide +kernel
theorem dksX0_played_1 : cX0_played.data.toList.drop 24 = dktX0_played_1 := dk_seg dksX0_played_0 24 rfl rfl
theorem dksX0_played_2 : cX0_played.data.toList.drop 46 = dktX0_played_2 := dk_seg dksX0_played_1 22 rfl rfl
theorem dX0_played_0 : decode cX0_played 0 = .ok (.aload_n 0, 1) := dk_42 (dk_at dksX0_played_0 0 rfl rfl)
theorem dX0_played_1 : decode cX0_played 1 = .ok (.iload_n 1, 1) := dk_27 (dk_at dksX0_played_0 1 rfl rfl)
theorem dX0_played_2 : decode cX0_played 2 = .ok (.invokevirtual 115, 3) := dk_182 0 115 (dk_at dksX0_played_0 2 rfl rfl)
theorem dX0_played_5 : decode cX0_played 5 = .ok (.ifCond .ne 6, 3) := dk_154 0 6 (dk_at dksX0_played_0 5 rfl rfl)
theorem dX0_played_8 : decode cX0_played 8 = .ok (.bipush (-2), 2) := dk_16 254 (dk_at dksX0_played_0 8 rfl rfl)
theorem dX0_played_10 : decode cX0_played 10 = .ok (.ireturn, 1) := dk_172 (dk_at dksX0_played_0 10 rfl rfl)
theorem dX0_played_11 : decode cX0_played 11 = .ok (.aload_n 0, 1) := dk_42 (dk_at dksX0_played_0 11 rfl rfl)
theorem dX0_played_12 : decode cX0_played 12 = .ok (.getfield 21, 3) := dk_180 0 21 (dk_at dksX0_played_0 12 rfl rfl)
theorem dX0_played_15 : decode cX0_played 15 = .ok (.getfield 96, 3) := dk_180 0 96 (dk_at dksX0_played_0 15 rfl rfl)
theorem dX0_played_18 : decode cX0_played 18 = .ok (.iload_n 1, 1) := dk_27 (dk_at dksX0_played_0 18 rfl rfl)
theorem dX0_played_19 : decode cX0_played 19 = .ok (.aaload, 1) := dk_50 (dk_at dksX0_played_0 19 rfl rfl)
theorem dX0_played_20 : decode cX0_played 20 = .ok (.getfield 261, 3) := dk_180 1 5 (dk_at dksX0_played_0 20 rfl rfl)
theorem dX0_played_23 : decode cX0_played 23 = .ok (.astore_n 2, 1) := dk_77 (dk_at dksX0_played_0 23 rfl rfl)
theorem dX0_played_24 : decode cX0_played 24 = .ok (.iconst 0, 1) := dk_3 (dk_at dksX0_played_1 0 rfl rfl)
theorem dX0_played_25 : decode cX0_played 25 = .ok (.istore_n 3, 1) := dk_62 (dk_at dksX0_played_1 1 rfl rfl)
theorem dX0_played_26 : decode cX0_played 26 = .ok (.iload_n 3, 1) := dk_29 (dk_at dksX0_played_1 2 rfl rfl)
theorem dX0_played_27 : decode cX0_played 27 = .ok (.aload_n 2, 1) := dk_44 (dk_at dksX0_played_1 3 rfl rfl)
theorem dX0_played_28 : decode cX0_played 28 = .ok (.invokevirtual 265, 3) := dk_182 1 9 (dk_at dksX0_played_1 4 rfl rfl)
theorem dX0_played_31 : decode cX0_played 31 = .ok (.if_icmp .ge 36, 3) := dk_162 0 36 (dk_at dksX0_played_1 7 rfl rfl)
theorem dX0_played_34 : decode cX0_played 34 = .ok (.aload_n 0, 1) := dk_42 (dk_at dksX0_played_1 10 rfl rfl)
theorem dX0_played_35 : decode cX0_played 35 = .ok (.aload_n 2, 1) := dk_44 (dk_at dksX0_played_1 11 rfl rfl)
theorem dX0_played_36 : decode cX0_played 36 = .ok (.iload_n 3, 1) := dk_29 (dk_at dksX0_played_1 12 rfl rfl)
theorem dX0_played_37 : decode cX0_played 37 = .ok (.invokevirtual 270, 3) := dk_182 1 14 (dk_at dksX0_played_1 13 rfl rfl)
theorem dX0_played_40 : decode cX0_played 40 = .ok (.checkcast 230, 3) := dk_192 0 230 (dk_at dksX0_played_1 16 rfl rfl)
theorem dX0_played_43 : decode cX0_played 43 = .ok (.invokevirtual 274, 3) := dk_182 1 18 (dk_at dksX0_played_1 19 rfl rfl)
theorem dX0_played_46 : decode cX0_played 46 = .ok (.ifCond .ne 15, 3) := dk_154 0 15 (dk_at dksX0_played_2 0 rfl rfl)
theorem dX0_played_49 : decode cX0_played 49 = .ok (.aload_n 2, 1) := dk_44 (dk_at dksX0_played_2 3 rfl rfl)
theorem dX0_played_50 : decode cX0_played 50 = .ok (.iload_n 3, 1) := dk_29 (dk_at dksX0_played_2 4 rfl rfl)
theorem dX0_played_51 : decode cX0_played 51 = .ok (.invokevirtual 270, 3) := dk_182 1 14 (dk_at dksX0_played_2 5 rfl rfl)
theorem dX0_played_54 : decode cX0_played 54 = .ok (.checkcast 230, 3) := dk_192 0 230 (dk_at dksX0_played_2 8 rfl rfl)
theorem dX0_played_57 : decode cX0_played 57 = .ok (.invokevirtual 278, 3) := dk_182 1 22 (dk_at dksX0_played_2 11 rfl rfl)
theorem dX0_played_60 : decode cX0_played 60 = .ok (.ireturn, 1) := dk_172 (dk_at dksX0_played_2 14 rfl rfl)
theorem dX0_played_61 : decode cX0_played 61 = .ok (.iinc 3 1, 3) := dk_132 3 1 (dk_at dksX0_played_2 15 rfl rfl)
theorem dX0_played_64 : decode cX0_played 64 = .ok (.goto (-38), 3) := dk_167 255 218 (dk_at dksX0_played_2 18 rfl rfl)
theorem dX0_played_67 : decode cX0_played 67 = .ok (.iconst (-1), 1) := dk_2 (dk_at dksX0_played_2 21 rfl rfl)
theorem dX0_played_68 : decode cX0_played 68 = .ok (.ireturn, 1) := dk_172 (dk_at dksX0_played_2 22 rfl rfl)
abbrev cX0_does : ByteArray := prog_1_method_44_code
def yX0_does : MethodName := ⟨RX0, "does", "(LApologyUp$Doing;)Z"⟩
def dkwX0_does_6 : List UInt8 := [182, 1, 2, 172]
abbrev dktX0_does_6 : List UInt8 := dkwX0_does_6 ++ []
def dkwX0_does_5 : List UInt8 := [182, 0, 252, 172, 42, 43, 182, 0, 238, 43, 182, 0, 235, 182, 0, 255, 172, 42, 43, 182, 0, 238]
abbrev dktX0_does_5 : List UInt8 := dkwX0_does_5 ++ dktX0_does_6
def dkwX0_does_4 : List UInt8 := [182, 0, 249, 2, 159, 0, 7, 4, 167, 0, 4, 3, 172, 42, 43, 182, 0, 238, 43, 182, 0, 235]
abbrev dktX0_does_4 : List UInt8 := dkwX0_does_4 ++ dktX0_does_5
def dkwX0_does_3 : List UInt8 := [182, 0, 238, 43, 182, 0, 235, 182, 0, 244, 172, 42, 43, 182, 0, 238, 43, 182, 0, 235, 43, 182, 0, 246]
abbrev dktX0_does_3 : List UInt8 := dkwX0_does_3 ++ dktX0_does_4
def dkwX0_does_2 : List UInt8 := [42, 43, 182, 0, 235, 43, 182, 0, 238, 182, 0, 241, 2, 159, 0, 7, 4, 167, 0, 4, 3, 172, 42, 43]
abbrev dktX0_does_2 : List UInt8 := dkwX0_does_2 ++ dktX0_does_3
def dkwX0_does_1 : List UInt8 := [170, 0, 0, 0, 0, 0, 0, 123, 0, 0, 0, 203, 0, 0, 0, 207, 0, 0, 0, 36, 0, 0, 0, 58, 0, 0, 0, 71, 0, 0, 0, 97, 0, 0, 0, 110]
abbrev dktX0_does_1 : List UInt8 := dkwX0_does_1 ++ dktX0_does_2
def dkwX0_does_0 : List UInt8 := [43, 182, 0, 229]
abbrev dktX0_does_0 : List UInt8 := dkwX0_does_0 ++ dktX0_does_1
theorem dksX0_does_0 : cX0_does.data.toList.drop 0 = dktX0_does_0 := by decide +kernel
theorem dksX0_does_1 : cX0_does.data.toList.drop 4 = dktX0_does_1 := dk_seg dksX0_does_0 4 rfl rfl
theorem dksX0_does_2 : cX0_does.data.toList.drop 40 = dktX0_does_2 := dk_seg dksX0_does_1 36 rfl rfl
theorem dksX0_does_3 : cX0_does.data.toList.drop 64 = dktX0_does_3 := dk_seg dksX0_does_2 24 rfl rfl
theorem dksX0_does_4 : cX0_does.data.toList.drop 88 = dktX0_does_4 := dk_seg dksX0_does_3 24 rfl rfl
theorem dksX0_does_5 : cX0_does.data.toList.drop 110 = dktX0_does_5 := dk_seg dksX0_does_4 22 rfl rfl
theorem dksX0_does_6 : cX0_does.data.toList.drop 132 = dktX0_does_6 := dk_seg dksX0_does_5 22 rfl rfl
theorem dX0_does_0 : decode cX0_does 0 = .ok (.aload_n 1, 1) := dk_43 (dk_at dksX0_does_0 0 rfl rfl)
theorem dX0_does_1 : decode cX0_does 1 = .ok (.invokevirtual 229, 3) := dk_182 0 229 (dk_at dksX0_does_0 1 rfl rfl)
theorem dX0_does_4 : decode cX0_does 4 = .ok (.tableswitch 123 203 207 #[36, 58, 71, 97, 110], 36) := by decide +kernel
theorem dX0_does_40 : decode cX0_does 40 = .ok (.aload_n 0, 1) := dk_42 (dk_at dksX0_does_2 0 rfl rfl)
theorem dX0_does_41 : decode cX0_does 41 = .ok (.aload_n 1, 1) := dk_43 (dk_at dksX0_does_2 1 rfl rfl)
theorem dX0_does_42 : decode cX0_does 42 = .ok (.invokevirtual 235, 3) := dk_182 0 235 (dk_at dksX0_does_2 2 rfl rfl)
theorem dX0_does_45 : decode cX0_does 45 = .ok (.aload_n 1, 1) := dk_43 (dk_at dksX0_does_2 5 rfl rfl)
theorem dX0_does_46 : decode cX0_does 46 = .ok (.invokevirtual 238, 3) := dk_182 0 238 (dk_at dksX0_does_2 6 rfl rfl)
theorem dX0_does_49 : decode cX0_does 49 = .ok (.invokevirtual 241, 3) := dk_182 0 241 (dk_at dksX0_does_2 9 rfl rfl)
theorem dX0_does_52 : decode cX0_does 52 = .ok (.iconst (-1), 1) := dk_2 (dk_at dksX0_does_2 12 rfl rfl)
theorem dX0_does_53 : decode cX0_does 53 = .ok (.if_icmp .eq 7, 3) := dk_159 0 7 (dk_at dksX0_does_2 13 rfl rfl)
theorem dX0_does_56 : decode cX0_does 56 = .ok (.iconst 1, 1) := dk_4 (dk_at dksX0_does_2 16 rfl rfl)
theorem dX0_does_57 : decode cX0_does 57 = .ok (.goto 4, 3) := dk_167 0 4 (dk_at dksX0_does_2 17 rfl rfl)
theorem dX0_does_60 : decode cX0_does 60 = .ok (.iconst 0, 1) := dk_3 (dk_at dksX0_does_2 20 rfl rfl)
theorem dX0_does_61 : decode cX0_does 61 = .ok (.ireturn, 1) := dk_172 (dk_at dksX0_does_2 21 rfl rfl)
theorem dX0_does_62 : decode cX0_does 62 = .ok (.aload_n 0, 1) := dk_42 (dk_at dksX0_does_2 22 rfl rfl)
theorem dX0_does_63 : decode cX0_does 63 = .ok (.aload_n 1, 1) := dk_43 (dk_at dksX0_does_2 23 rfl rfl)
theorem dX0_does_64 : decode cX0_does 64 = .ok (.invokevirtual 238, 3) := dk_182 0 238 (dk_at dksX0_does_3 0 rfl rfl)
theorem dX0_does_67 : decode cX0_does 67 = .ok (.aload_n 1, 1) := dk_43 (dk_at dksX0_does_3 3 rfl rfl)
theorem dX0_does_68 : decode cX0_does 68 = .ok (.invokevirtual 235, 3) := dk_182 0 235 (dk_at dksX0_does_3 4 rfl rfl)
theorem dX0_does_71 : decode cX0_does 71 = .ok (.invokevirtual 244, 3) := dk_182 0 244 (dk_at dksX0_does_3 7 rfl rfl)
theorem dX0_does_74 : decode cX0_does 74 = .ok (.ireturn, 1) := dk_172 (dk_at dksX0_does_3 10 rfl rfl)
theorem dX0_does_75 : decode cX0_does 75 = .ok (.aload_n 0, 1) := dk_42 (dk_at dksX0_does_3 11 rfl rfl)
theorem dX0_does_76 : decode cX0_does 76 = .ok (.aload_n 1, 1) := dk_43 (dk_at dksX0_does_3 12 rfl rfl)
theorem dX0_does_77 : decode cX0_does 77 = .ok (.invokevirtual 238, 3) := dk_182 0 238 (dk_at dksX0_does_3 13 rfl rfl)
theorem dX0_does_80 : decode cX0_does 80 = .ok (.aload_n 1, 1) := dk_43 (dk_at dksX0_does_3 16 rfl rfl)
theorem dX0_does_81 : decode cX0_does 81 = .ok (.invokevirtual 235, 3) := dk_182 0 235 (dk_at dksX0_does_3 17 rfl rfl)
theorem dX0_does_84 : decode cX0_does 84 = .ok (.aload_n 1, 1) := dk_43 (dk_at dksX0_does_3 20 rfl rfl)
theorem dX0_does_85 : decode cX0_does 85 = .ok (.invokevirtual 246, 3) := dk_182 0 246 (dk_at dksX0_does_3 21 rfl rfl)
theorem dX0_does_88 : decode cX0_does 88 = .ok (.invokevirtual 249, 3) := dk_182 0 249 (dk_at dksX0_does_4 0 rfl rfl)
theorem dX0_does_91 : decode cX0_does 91 = .ok (.iconst (-1), 1) := dk_2 (dk_at dksX0_does_4 3 rfl rfl)
theorem dX0_does_92 : decode cX0_does 92 = .ok (.if_icmp .eq 7, 3) := dk_159 0 7 (dk_at dksX0_does_4 4 rfl rfl)
theorem dX0_does_95 : decode cX0_does 95 = .ok (.iconst 1, 1) := dk_4 (dk_at dksX0_does_4 7 rfl rfl)
theorem dX0_does_96 : decode cX0_does 96 = .ok (.goto 4, 3) := dk_167 0 4 (dk_at dksX0_does_4 8 rfl rfl)
theorem dX0_does_99 : decode cX0_does 99 = .ok (.iconst 0, 1) := dk_3 (dk_at dksX0_does_4 11 rfl rfl)
theorem dX0_does_100 : decode cX0_does 100 = .ok (.ireturn, 1) := dk_172 (dk_at dksX0_does_4 12 rfl rfl)
theorem dX0_does_101 : decode cX0_does 101 = .ok (.aload_n 0, 1) := dk_42 (dk_at dksX0_does_4 13 rfl rfl)
theorem dX0_does_102 : decode cX0_does 102 = .ok (.aload_n 1, 1) := dk_43 (dk_at dksX0_does_4 14 rfl rfl)
theorem dX0_does_103 : decode cX0_does 103 = .ok (.invokevirtual 238, 3) := dk_182 0 238 (dk_at dksX0_does_4 15 rfl rfl)
theorem dX0_does_106 : decode cX0_does 106 = .ok (.aload_n 1, 1) := dk_43 (dk_at dksX0_does_4 18 rfl rfl)
theorem dX0_does_107 : decode cX0_does 107 = .ok (.invokevirtual 235, 3) := dk_182 0 235 (dk_at dksX0_does_4 19 rfl rfl)
theorem dX0_does_110 : decode cX0_does 110 = .ok (.invokevirtual 252, 3) := dk_182 0 252 (dk_at dksX0_does_5 0 rfl rfl)
theorem dX0_does_113 : decode cX0_does 113 = .ok (.ireturn, 1) := dk_172 (dk_at dksX0_does_5 3 rfl rfl)
theorem dX0_does_114 : decode cX0_does 114 = .ok (.aload_n 0, 1) := dk_42 (dk_at dksX0_does_5 4 rfl rfl)
theorem dX0_does_115 : decode cX0_does 115 = .ok (.aload_n 1, 1) := dk_43 (dk_at dksX0_does_5 5 rfl rfl)
theorem dX0_does_116 : decode cX0_does 116 = .ok (.invokevirtual 238, 3) := dk_182 0 238 (dk_at dksX0_does_5 6 rfl rfl)
theorem dX0_does_119 : decode cX0_does 119 = .ok (.aload_n 1, 1) := dk_43 (dk_at dksX0_does_5 9 rfl rfl)
theorem dX0_does_120 : decode cX0_does 120 = .ok (.invokevirtual 235, 3) := dk_182 0 235 (dk_at dksX0_does_5 10 rfl rfl)
theorem dX0_does_123 : decode cX0_does 123 = .ok (.invokevirtual 255, 3) := dk_182 0 255 (dk_at dksX0_does_5 13 rfl rfl)
theorem dX0_does_126 : decode cX0_does 126 = .ok (.ireturn, 1) := dk_172 (dk_at dksX0_does_5 16 rfl rfl)
theorem dX0_does_127 : decode cX0_does 127 = .ok (.aload_n 0, 1) := dk_42 (dk_at dksX0_does_5 17 rfl rfl)
theorem dX0_does_128 : decode cX0_does 128 = .ok (.aload_n 1, 1) := dk_43 (dk_at dksX0_does_5 18 rfl rfl)
theorem dX0_does_129 : decode cX0_does 129 = .ok (.invokevirtual 238, 3) := dk_182 0 238 (dk_at dksX0_does_5 19 rfl rfl)
theorem dX0_does_132 : decode cX0_does 132 = .ok (.invokevirtual 258, 3) := dk_182 1 2 (dk_at dksX0_does_6 0 rfl rfl)
theorem dX0_does_135 : decode cX0_does 135 = .ok (.ireturn, 1) := dk_172 (dk_at dksX0_does_6 3 rfl rfl)
abbrev cX0_passesAll : ByteArray := prog_1_method_43_code
def yX0_passesAll : MethodName := ⟨RX0, "passesAll", "(I)Z"⟩
def dkwX0_passesAll_1 : List UInt8 := [4, 172]
abbrev dktX0_passesAll_1 : List UInt8 := dkwX0_passesAll_1 ++ []
def dkwX0_passesAll_0 : List UInt8 := [3, 61, 28, 27, 162, 0, 20, 42, 4, 182, 0, 226, 2, 160, 0, 5, 3, 172, 132, 2, 1, 167, 255, 237]
abbrev dktX0_passesAll_0 : List UInt8 := dkwX0_passesAll_0 ++ dktX0_passesAll_1
theorem dksX0_passesAll_0 : cX0_passesAll.data.toList.drop 0 = dktX0_passesAll_0 := by decide +kernel
theorem dksX0_passesAll_1 : cX0_passesAll.data.toList.drop 24 = dktX0_passesAll_1 := dk_seg dksX0_passesAll_0 24 rfl rfl
theorem dX0_passesAll_0 : decode cX0_passesAll 0 = .ok (.iconst 0, 1) := dk_3 (dk_at dksX0_passesAll_0 0 rfl rfl)
theorem dX0_passesAll_1 : decode cX0_passesAll 1 = .ok (.istore_n 2, 1) := dk_61 (dk_at dksX0_passesAll_0 1 rfl rfl)
theorem dX0_passesAll_2 : decode cX0_passesAll 2 = .ok (.iload_n 2, 1) := dk_28 (dk_at dksX0_passesAll_0 2 rfl rfl)
theorem dX0_passesAll_3 : decode cX0_passesAll 3 = .ok (.iload_n 1, 1) := dk_27 (dk_at dksX0_passesAll_0 3 rfl rfl)
theorem dX0_passesAll_4 : decode cX0_passesAll 4 = .ok (.if_icmp .ge 20, 3) := dk_162 0 20 (dk_at dksX0_passesAll_0 4 rfl rfl)
theorem dX0_passesAll_7 : decode cX0_passesAll 7 = .ok (.aload_n 0, 1) := dk_42 (dk_at dksX0_passesAll_0 7 rfl rfl)
theorem dX0_passesAll_8 : decode cX0_passesAll 8 = .ok (.iconst 1, 1) := dk_4 (dk_at dksX0_passesAll_0 8 rfl rfl)
theorem dX0_passesAll_9 : decode cX0_passesAll 9 = .ok (.invokevirtual 226, 3) := dk_182 0 226 (dk_at dksX0_passesAll_0 9 rfl rfl)
theorem dX0_passesAll_12 : decode cX0_passesAll 12 = .ok (.iconst (-1), 1) := dk_2 (dk_at dksX0_passesAll_0 12 rfl rfl)
theorem dX0_passesAll_13 : decode cX0_passesAll 13 = .ok (.if_icmp .ne 5, 3) := dk_160 0 5 (dk_at dksX0_passesAll_0 13 rfl rfl)
theorem dX0_passesAll_16 : decode cX0_passesAll 16 = .ok (.iconst 0, 1) := dk_3 (dk_at dksX0_passesAll_0 16 rfl rfl)
theorem dX0_passesAll_17 : decode cX0_passesAll 17 = .ok (.ireturn, 1) := dk_172 (dk_at dksX0_passesAll_0 17 rfl rfl)
theorem dX0_passesAll_18 : decode cX0_passesAll 18 = .ok (.iinc 2 1, 3) := dk_132 2 1 (dk_at dksX0_passesAll_0 18 rfl rfl)
theorem dX0_passesAll_21 : decode cX0_passesAll 21 = .ok (.goto (-19), 3) := dk_167 255 237 (dk_at dksX0_passesAll_0 21 rfl rfl)
theorem dX0_passesAll_24 : decode cX0_passesAll 24 = .ok (.iconst 1, 1) := dk_4 (dk_at dksX0_passesAll_1 0 rfl rfl)
theorem dX0_passesAll_25 : decode cX0_passesAll 25 = .ok (.ireturn, 1) := dk_172 (dk_at dksX0_passesAll_1 1 rfl rfl)
abbrev cX0_years : ByteArray := prog_1_method_47_code
def yX0_years : MethodName := ⟨RX0, "years", "(II)I"⟩
def dkwX0_years_4 : List UInt8 := [172]
abbrev dktX0_years_4 : List UInt8 := dkwX0_years_4 ++ []
def dkwX0_years_3 : List UInt8 := [184, 0, 168, 42, 21, 4, 182, 1, 25, 132, 3, 1, 167, 255, 221, 42, 180, 0, 21, 180, 0, 66, 3, 46]
abbrev dktX0_years_3 : List UInt8 := dkwX0_years_3 ++ dktX0_years_4
def dkwX0_years_2 : List UInt8 := [29, 28, 162, 0, 36, 42, 180, 0, 21, 180, 0, 66, 4, 46, 54, 4, 42, 180, 0, 21, 180, 0, 66]
abbrev dktX0_years_2 : List UInt8 := dkwX0_years_2 ++ dktX0_years_3
def dkwX0_years_1 : List UInt8 := [180, 0, 21, 182, 0, 205, 42, 180, 0, 21, 180, 0, 66, 4, 27, 5, 104, 17, 0, 181, 96, 79, 3, 62]
abbrev dktX0_years_1 : List UInt8 := dkwX0_years_1 ++ dktX0_years_2
def dkwX0_years_0 : List UInt8 := [27, 3, 17, 39, 15, 184, 0, 62, 153, 0, 13, 28, 4, 16, 40, 184, 0, 62, 154, 0, 5, 2, 172, 42]
abbrev dktX0_years_0 : List UInt8 := dkwX0_years_0 ++ dktX0_years_1
theorem dksX0_years_0 : cX0_years.data.toList.drop 0 = dktX0_years_0 := by decide +kernel
theorem dksX0_years_1 : cX0_years.data.toList.drop 24 = dktX0_years_1 := dk_seg dksX0_years_0 24 rfl rfl
theorem dksX0_years_2 : cX0_years.data.toList.drop 48 = dktX0_years_2 := dk_seg dksX0_years_1 24 rfl rfl
theorem dksX0_years_3 : cX0_years.data.toList.drop 71 = dktX0_years_3 := dk_seg dksX0_years_2 23 rfl rfl
theorem dksX0_years_4 : cX0_years.data.toList.drop 95 = dktX0_years_4 := dk_seg dksX0_years_3 24 rfl rfl
theorem dX0_years_0 : decode cX0_years 0 = .ok (.iload_n 1, 1) := dk_27 (dk_at dksX0_years_0 0 rfl rfl)
theorem dX0_years_1 : decode cX0_years 1 = .ok (.iconst 0, 1) := dk_3 (dk_at dksX0_years_0 1 rfl rfl)
theorem dX0_years_2 : decode cX0_years 2 = .ok (.sipush 9999, 3) := dk_17 39 15 (dk_at dksX0_years_0 2 rfl rfl)
theorem dX0_years_5 : decode cX0_years 5 = .ok (.invokestatic 62, 3) := dk_184 0 62 (dk_at dksX0_years_0 5 rfl rfl)
theorem dX0_years_8 : decode cX0_years 8 = .ok (.ifCond .eq 13, 3) := dk_153 0 13 (dk_at dksX0_years_0 8 rfl rfl)
theorem dX0_years_11 : decode cX0_years 11 = .ok (.iload_n 2, 1) := dk_28 (dk_at dksX0_years_0 11 rfl rfl)
theorem dX0_years_12 : decode cX0_years 12 = .ok (.iconst 1, 1) := dk_4 (dk_at dksX0_years_0 12 rfl rfl)
theorem dX0_years_13 : decode cX0_years 13 = .ok (.bipush 40, 2) := dk_16 40 (dk_at dksX0_years_0 13 rfl rfl)
theorem dX0_years_15 : decode cX0_years 15 = .ok (.invokestatic 62, 3) := dk_184 0 62 (dk_at dksX0_years_0 15 rfl rfl)
theorem dX0_years_18 : decode cX0_years 18 = .ok (.ifCond .ne 5, 3) := dk_154 0 5 (dk_at dksX0_years_0 18 rfl rfl)
theorem dX0_years_21 : decode cX0_years 21 = .ok (.iconst (-1), 1) := dk_2 (dk_at dksX0_years_0 21 rfl rfl)
theorem dX0_years_22 : decode cX0_years 22 = .ok (.ireturn, 1) := dk_172 (dk_at dksX0_years_0 22 rfl rfl)
theorem dX0_years_23 : decode cX0_years 23 = .ok (.aload_n 0, 1) := dk_42 (dk_at dksX0_years_0 23 rfl rfl)
theorem dX0_years_24 : decode cX0_years 24 = .ok (.getfield 21, 3) := dk_180 0 21 (dk_at dksX0_years_1 0 rfl rfl)
theorem dX0_years_27 : decode cX0_years 27 = .ok (.invokevirtual 205, 3) := dk_182 0 205 (dk_at dksX0_years_1 3 rfl rfl)
theorem dX0_years_30 : decode cX0_years 30 = .ok (.aload_n 0, 1) := dk_42 (dk_at dksX0_years_1 6 rfl rfl)
theorem dX0_years_31 : decode cX0_years 31 = .ok (.getfield 21, 3) := dk_180 0 21 (dk_at dksX0_years_1 7 rfl rfl)
theorem dX0_years_34 : decode cX0_years 34 = .ok (.getfield 66, 3) := dk_180 0 66 (dk_at dksX0_years_1 10 rfl rfl)
theorem dX0_years_37 : decode cX0_years 37 = .ok (.iconst 1, 1) := dk_4 (dk_at dksX0_years_1 13 rfl rfl)
theorem dX0_years_38 : decode cX0_years 38 = .ok (.iload_n 1, 1) := dk_27 (dk_at dksX0_years_1 14 rfl rfl)
theorem dX0_years_39 : decode cX0_years 39 = .ok (.iconst 2, 1) := dk_5 (dk_at dksX0_years_1 15 rfl rfl)
theorem dX0_years_40 : decode cX0_years 40 = .ok (.imul, 1) := dk_104 (dk_at dksX0_years_1 16 rfl rfl)
theorem dX0_years_41 : decode cX0_years 41 = .ok (.sipush 181, 3) := dk_17 0 181 (dk_at dksX0_years_1 17 rfl rfl)
theorem dX0_years_44 : decode cX0_years 44 = .ok (.iadd, 1) := dk_96 (dk_at dksX0_years_1 20 rfl rfl)
theorem dX0_years_45 : decode cX0_years 45 = .ok (.iastore, 1) := dk_79 (dk_at dksX0_years_1 21 rfl rfl)
theorem dX0_years_46 : decode cX0_years 46 = .ok (.iconst 0, 1) := dk_3 (dk_at dksX0_years_1 22 rfl rfl)
theorem dX0_years_47 : decode cX0_years 47 = .ok (.istore_n 3, 1) := dk_62 (dk_at dksX0_years_1 23 rfl rfl)
theorem dX0_years_48 : decode cX0_years 48 = .ok (.iload_n 3, 1) := dk_29 (dk_at dksX0_years_2 0 rfl rfl)
theorem dX0_years_49 : decode cX0_years 49 = .ok (.iload_n 2, 1) := dk_28 (dk_at dksX0_years_2 1 rfl rfl)
theorem dX0_years_50 : decode cX0_years 50 = .ok (.if_icmp .ge 36, 3) := dk_162 0 36 (dk_at dksX0_years_2 2 rfl rfl)
theorem dX0_years_53 : decode cX0_years 53 = .ok (.aload_n 0, 1) := dk_42 (dk_at dksX0_years_2 5 rfl rfl)
theorem dX0_years_54 : decode cX0_years 54 = .ok (.getfield 21, 3) := dk_180 0 21 (dk_at dksX0_years_2 6 rfl rfl)
theorem dX0_years_57 : decode cX0_years 57 = .ok (.getfield 66, 3) := dk_180 0 66 (dk_at dksX0_years_2 9 rfl rfl)
theorem dX0_years_60 : decode cX0_years 60 = .ok (.iconst 1, 1) := dk_4 (dk_at dksX0_years_2 12 rfl rfl)
theorem dX0_years_61 : decode cX0_years 61 = .ok (.iaload, 1) := dk_46 (dk_at dksX0_years_2 13 rfl rfl)
theorem dX0_years_62 : decode cX0_years 62 = .ok (.istore 4, 2) := dk_54 4 (dk_at dksX0_years_2 14 rfl rfl)
theorem dX0_years_64 : decode cX0_years 64 = .ok (.aload_n 0, 1) := dk_42 (dk_at dksX0_years_2 16 rfl rfl)
theorem dX0_years_65 : decode cX0_years 65 = .ok (.getfield 21, 3) := dk_180 0 21 (dk_at dksX0_years_2 17 rfl rfl)
theorem dX0_years_68 : decode cX0_years 68 = .ok (.getfield 66, 3) := dk_180 0 66 (dk_at dksX0_years_2 20 rfl rfl)
theorem dX0_years_71 : decode cX0_years 71 = .ok (.invokestatic 168, 3) := dk_184 0 168 (dk_at dksX0_years_3 0 rfl rfl)
theorem dX0_years_74 : decode cX0_years 74 = .ok (.aload_n 0, 1) := dk_42 (dk_at dksX0_years_3 3 rfl rfl)
theorem dX0_years_75 : decode cX0_years 75 = .ok (.iload 4, 2) := dk_21 4 (dk_at dksX0_years_3 4 rfl rfl)
theorem dX0_years_77 : decode cX0_years 77 = .ok (.invokevirtual 281, 3) := dk_182 1 25 (dk_at dksX0_years_3 6 rfl rfl)
theorem dX0_years_80 : decode cX0_years 80 = .ok (.iinc 3 1, 3) := dk_132 3 1 (dk_at dksX0_years_3 9 rfl rfl)
theorem dX0_years_83 : decode cX0_years 83 = .ok (.goto (-35), 3) := dk_167 255 221 (dk_at dksX0_years_3 12 rfl rfl)
theorem dX0_years_86 : decode cX0_years 86 = .ok (.aload_n 0, 1) := dk_42 (dk_at dksX0_years_3 15 rfl rfl)
theorem dX0_years_87 : decode cX0_years 87 = .ok (.getfield 21, 3) := dk_180 0 21 (dk_at dksX0_years_3 16 rfl rfl)
theorem dX0_years_90 : decode cX0_years 90 = .ok (.getfield 66, 3) := dk_180 0 66 (dk_at dksX0_years_3 19 rfl rfl)
theorem dX0_years_93 : decode cX0_years 93 = .ok (.iconst 0, 1) := dk_3 (dk_at dksX0_years_3 22 rfl rfl)
theorem dX0_years_94 : decode cX0_years 94 = .ok (.iaload, 1) := dk_46 (dk_at dksX0_years_3 23 rfl rfl)
theorem dX0_years_95 : decode cX0_years 95 = .ok (.ireturn, 1) := dk_172 (dk_at dksX0_years_4 0 rfl rfl)
abbrev cX0_happens : ByteArray := prog_1_method_46_code
def yX0_happens : MethodName := ⟨RX0, "happens", "(I)V"⟩
def dkwX0_happens_6 : List UInt8 := [182, 0, 208, 62, 177]
abbrev dktX0_happens_6 : List UInt8 := dkwX0_happens_6 ++ []
def dkwX0_happens_5 : List UInt8 := [180, 0, 21, 180, 0, 66, 3, 46, 17, 39, 15, 162, 0, 15, 42, 42, 180, 0, 21, 180, 0, 66]
abbrev dktX0_happens_5 : List UInt8 := dkwX0_happens_5 ++ dktX0_happens_6
def dkwX0_happens_4 : List UInt8 := [167, 0, 49, 42, 28, 182, 0, 69, 153, 0, 41, 42, 28, 27, 7, 112, 182, 0, 219, 167, 0, 30, 42]
abbrev dktX0_happens_4 : List UInt8 := dkwX0_happens_4 ++ dktX0_happens_5
def dkwX0_happens_3 : List UInt8 := [42, 28, 3, 182, 0, 212, 153, 0, 65, 42, 28, 3, 4, 27, 16, 20, 112, 96, 182, 0, 215, 62]
abbrev dktX0_happens_3 : List UInt8 := dkwX0_happens_3 ++ dktX0_happens_4
def dkwX0_happens_2 : List UInt8 := [171, 0, 0, 0, 0, 0, 71, 0, 0, 0, 2, 0, 0, 0, 0, 0, 0, 0, 27, 0, 0, 0, 1, 0, 0, 0, 52]
abbrev dktX0_happens_2 : List UInt8 := dkwX0_happens_2 ++ dktX0_happens_3
def dkwX0_happens_1 : List UInt8 := [3, 46, 112, 61, 3, 62, 27, 8, 112]
abbrev dktX0_happens_1 : List UInt8 := dkwX0_happens_1 ++ dktX0_happens_2
def dkwX0_happens_0 : List UInt8 := [42, 180, 0, 21, 180, 0, 59, 3, 46, 154, 0, 7, 2, 167, 0, 14, 27, 42, 180, 0, 21, 180, 0, 59]
abbrev dktX0_happens_0 : List UInt8 := dkwX0_happens_0 ++ dktX0_happens_1
theorem dksX0_happens_0 : cX0_happens.data.toList.drop 0 = dktX0_happens_0 := by decide +kernel
theorem dksX0_happens_1 : cX0_happens.data.toList.drop 24 = dktX0_happens_1 := dk_seg dksX0_happens_0 24 rfl rfl
theorem dksX0_happens_2 : cX0_happens.data.toList.drop 33 = dktX0_happens_2 := dk_seg dksX0_happens_1 9 rfl rfl
theorem dksX0_happens_3 : cX0_happens.data.toList.drop 60 = dktX0_happens_3 := dk_seg dksX0_happens_2 27 rfl rfl
theorem dksX0_happens_4 : cX0_happens.data.toList.drop 82 = dktX0_happens_4 := dk_seg dksX0_happens_3 22 rfl rfl
theorem dksX0_happens_5 : cX0_happens.data.toList.drop 105 = dktX0_happens_5 := dk_seg dksX0_happens_4 23 rfl rfl
theorem dksX0_happens_6 : cX0_happens.data.toList.drop 127 = dktX0_happens_6 := dk_seg dksX0_happens_5 22 rfl rfl
theorem dX0_happens_0 : decode cX0_happens 0 = .ok (.aload_n 0, 1) := dk_42 (dk_at dksX0_happens_0 0 rfl rfl)
theorem dX0_happens_1 : decode cX0_happens 1 = .ok (.getfield 21, 3) := dk_180 0 21 (dk_at dksX0_happens_0 1 rfl rfl)
theorem dX0_happens_4 : decode cX0_happens 4 = .ok (.getfield 59, 3) := dk_180 0 59 (dk_at dksX0_happens_0 4 rfl rfl)
theorem dX0_happens_7 : decode cX0_happens 7 = .ok (.iconst 0, 1) := dk_3 (dk_at dksX0_happens_0 7 rfl rfl)
theorem dX0_happens_8 : decode cX0_happens 8 = .ok (.iaload, 1) := dk_46 (dk_at dksX0_happens_0 8 rfl rfl)
theorem dX0_happens_9 : decode cX0_happens 9 = .ok (.ifCond .ne 7, 3) := dk_154 0 7 (dk_at dksX0_happens_0 9 rfl rfl)
theorem dX0_happens_12 : decode cX0_happens 12 = .ok (.iconst (-1), 1) := dk_2 (dk_at dksX0_happens_0 12 rfl rfl)
theorem dX0_happens_13 : decode cX0_happens 13 = .ok (.goto 14, 3) := dk_167 0 14 (dk_at dksX0_happens_0 13 rfl rfl)
theorem dX0_happens_16 : decode cX0_happens 16 = .ok (.iload_n 1, 1) := dk_27 (dk_at dksX0_happens_0 16 rfl rfl)
theorem dX0_happens_17 : decode cX0_happens 17 = .ok (.aload_n 0, 1) := dk_42 (dk_at dksX0_happens_0 17 rfl rfl)
theorem dX0_happens_18 : decode cX0_happens 18 = .ok (.getfield 21, 3) := dk_180 0 21 (dk_at dksX0_happens_0 18 rfl rfl)
theorem dX0_happens_21 : decode cX0_happens 21 = .ok (.getfield 59, 3) := dk_180 0 59 (dk_at dksX0_happens_0 21 rfl rfl)
theorem dX0_happens_24 : decode cX0_happens 24 = .ok (.iconst 0, 1) := dk_3 (dk_at dksX0_happens_1 0 rfl rfl)
theorem dX0_happens_25 : decode cX0_happens 25 = .ok (.iaload, 1) := dk_46 (dk_at dksX0_happens_1 1 rfl rfl)
theorem dX0_happens_26 : decode cX0_happens 26 = .ok (.irem, 1) := dk_112 (dk_at dksX0_happens_1 2 rfl rfl)
theorem dX0_happens_27 : decode cX0_happens 27 = .ok (.istore_n 2, 1) := dk_61 (dk_at dksX0_happens_1 3 rfl rfl)
theorem dX0_happens_28 : decode cX0_happens 28 = .ok (.iconst 0, 1) := dk_3 (dk_at dksX0_happens_1 4 rfl rfl)
theorem dX0_happens_29 : decode cX0_happens 29 = .ok (.istore_n 3, 1) := dk_62 (dk_at dksX0_happens_1 5 rfl rfl)
theorem dX0_happens_30 : decode cX0_happens 30 = .ok (.iload_n 1, 1) := dk_27 (dk_at dksX0_happens_1 6 rfl rfl)
theorem dX0_happens_31 : decode cX0_happens 31 = .ok (.iconst 5, 1) := dk_8 (dk_at dksX0_happens_1 7 rfl rfl)
theorem dX0_happens_32 : decode cX0_happens 32 = .ok (.irem, 1) := dk_112 (dk_at dksX0_happens_1 8 rfl rfl)
theorem dX0_happens_33 : decode cX0_happens 33 = .ok (.lookupswitch 71 #[(0, 27), (1, 52)], 27) := by decide +kernel
theorem dX0_happens_60 : decode cX0_happens 60 = .ok (.aload_n 0, 1) := dk_42 (dk_at dksX0_happens_3 0 rfl rfl)
theorem dX0_happens_61 : decode cX0_happens 61 = .ok (.iload_n 2, 1) := dk_28 (dk_at dksX0_happens_3 1 rfl rfl)
theorem dX0_happens_62 : decode cX0_happens 62 = .ok (.iconst 0, 1) := dk_3 (dk_at dksX0_happens_3 2 rfl rfl)
theorem dX0_happens_63 : decode cX0_happens 63 = .ok (.invokevirtual 212, 3) := dk_182 0 212 (dk_at dksX0_happens_3 3 rfl rfl)
theorem dX0_happens_66 : decode cX0_happens 66 = .ok (.ifCond .eq 65, 3) := dk_153 0 65 (dk_at dksX0_happens_3 6 rfl rfl)
theorem dX0_happens_69 : decode cX0_happens 69 = .ok (.aload_n 0, 1) := dk_42 (dk_at dksX0_happens_3 9 rfl rfl)
theorem dX0_happens_70 : decode cX0_happens 70 = .ok (.iload_n 2, 1) := dk_28 (dk_at dksX0_happens_3 10 rfl rfl)
theorem dX0_happens_71 : decode cX0_happens 71 = .ok (.iconst 0, 1) := dk_3 (dk_at dksX0_happens_3 11 rfl rfl)
theorem dX0_happens_72 : decode cX0_happens 72 = .ok (.iconst 1, 1) := dk_4 (dk_at dksX0_happens_3 12 rfl rfl)
theorem dX0_happens_73 : decode cX0_happens 73 = .ok (.iload_n 1, 1) := dk_27 (dk_at dksX0_happens_3 13 rfl rfl)
theorem dX0_happens_74 : decode cX0_happens 74 = .ok (.bipush 20, 2) := dk_16 20 (dk_at dksX0_happens_3 14 rfl rfl)
theorem dX0_happens_76 : decode cX0_happens 76 = .ok (.irem, 1) := dk_112 (dk_at dksX0_happens_3 16 rfl rfl)
theorem dX0_happens_77 : decode cX0_happens 77 = .ok (.iadd, 1) := dk_96 (dk_at dksX0_happens_3 17 rfl rfl)
theorem dX0_happens_78 : decode cX0_happens 78 = .ok (.invokevirtual 215, 3) := dk_182 0 215 (dk_at dksX0_happens_3 18 rfl rfl)
theorem dX0_happens_81 : decode cX0_happens 81 = .ok (.istore_n 3, 1) := dk_62 (dk_at dksX0_happens_3 21 rfl rfl)
theorem dX0_happens_82 : decode cX0_happens 82 = .ok (.goto 49, 3) := dk_167 0 49 (dk_at dksX0_happens_4 0 rfl rfl)
theorem dX0_happens_85 : decode cX0_happens 85 = .ok (.aload_n 0, 1) := dk_42 (dk_at dksX0_happens_4 3 rfl rfl)
theorem dX0_happens_86 : decode cX0_happens 86 = .ok (.iload_n 2, 1) := dk_28 (dk_at dksX0_happens_4 4 rfl rfl)
theorem dX0_happens_87 : decode cX0_happens 87 = .ok (.invokevirtual 69, 3) := dk_182 0 69 (dk_at dksX0_happens_4 5 rfl rfl)
theorem dX0_happens_90 : decode cX0_happens 90 = .ok (.ifCond .eq 41, 3) := dk_153 0 41 (dk_at dksX0_happens_4 8 rfl rfl)
theorem dX0_happens_93 : decode cX0_happens 93 = .ok (.aload_n 0, 1) := dk_42 (dk_at dksX0_happens_4 11 rfl rfl)
theorem dX0_happens_94 : decode cX0_happens 94 = .ok (.iload_n 2, 1) := dk_28 (dk_at dksX0_happens_4 12 rfl rfl)
theorem dX0_happens_95 : decode cX0_happens 95 = .ok (.iload_n 1, 1) := dk_27 (dk_at dksX0_happens_4 13 rfl rfl)
theorem dX0_happens_96 : decode cX0_happens 96 = .ok (.iconst 4, 1) := dk_7 (dk_at dksX0_happens_4 14 rfl rfl)
theorem dX0_happens_97 : decode cX0_happens 97 = .ok (.irem, 1) := dk_112 (dk_at dksX0_happens_4 15 rfl rfl)
theorem dX0_happens_98 : decode cX0_happens 98 = .ok (.invokevirtual 219, 3) := dk_182 0 219 (dk_at dksX0_happens_4 16 rfl rfl)
theorem dX0_happens_101 : decode cX0_happens 101 = .ok (.goto 30, 3) := dk_167 0 30 (dk_at dksX0_happens_4 19 rfl rfl)
theorem dX0_happens_104 : decode cX0_happens 104 = .ok (.aload_n 0, 1) := dk_42 (dk_at dksX0_happens_4 22 rfl rfl)
theorem dX0_happens_105 : decode cX0_happens 105 = .ok (.getfield 21, 3) := dk_180 0 21 (dk_at dksX0_happens_5 0 rfl rfl)
theorem dX0_happens_108 : decode cX0_happens 108 = .ok (.getfield 66, 3) := dk_180 0 66 (dk_at dksX0_happens_5 3 rfl rfl)
theorem dX0_happens_111 : decode cX0_happens 111 = .ok (.iconst 0, 1) := dk_3 (dk_at dksX0_happens_5 6 rfl rfl)
theorem dX0_happens_112 : decode cX0_happens 112 = .ok (.iaload, 1) := dk_46 (dk_at dksX0_happens_5 7 rfl rfl)
theorem dX0_happens_113 : decode cX0_happens 113 = .ok (.sipush 9999, 3) := dk_17 39 15 (dk_at dksX0_happens_5 8 rfl rfl)
theorem dX0_happens_116 : decode cX0_happens 116 = .ok (.if_icmp .ge 15, 3) := dk_162 0 15 (dk_at dksX0_happens_5 11 rfl rfl)
theorem dX0_happens_119 : decode cX0_happens 119 = .ok (.aload_n 0, 1) := dk_42 (dk_at dksX0_happens_5 14 rfl rfl)
theorem dX0_happens_120 : decode cX0_happens 120 = .ok (.aload_n 0, 1) := dk_42 (dk_at dksX0_happens_5 15 rfl rfl)
theorem dX0_happens_121 : decode cX0_happens 121 = .ok (.getfield 21, 3) := dk_180 0 21 (dk_at dksX0_happens_5 16 rfl rfl)
theorem dX0_happens_124 : decode cX0_happens 124 = .ok (.getfield 66, 3) := dk_180 0 66 (dk_at dksX0_happens_5 19 rfl rfl)
theorem dX0_happens_127 : decode cX0_happens 127 = .ok (.invokevirtual 208, 3) := dk_182 0 208 (dk_at dksX0_happens_6 0 rfl rfl)
theorem dX0_happens_130 : decode cX0_happens 130 = .ok (.istore_n 3, 1) := dk_62 (dk_at dksX0_happens_6 3 rfl rfl)
theorem dX0_happens_131 : decode cX0_happens 131 = .ok (.return_, 1) := dk_177 (dk_at dksX0_happens_6 4 rfl rfl)
abbrev cX0_undo : ByteArray := prog_1_method_48_code
def yX0_undo : MethodName := ⟨RX0, "undo", "()I"⟩
def dkwX0_undo_2 : List UInt8 := [180, 0, 66, 184, 1, 32, 42, 180, 0, 21, 180, 0, 59, 6, 46, 172]
abbrev dktX0_undo_2 : List UInt8 := dkwX0_undo_2 ++ []
def dkwX0_undo_1 : List UInt8 := [4, 100, 79, 42, 180, 0, 21, 180, 1, 28, 42, 180, 0, 21, 180, 0, 59, 6, 46, 50, 42, 180, 0, 21]
abbrev dktX0_undo_1 : List UInt8 := dkwX0_undo_1 ++ dktX0_undo_2
def dkwX0_undo_0 : List UInt8 := [42, 180, 0, 21, 180, 0, 59, 6, 46, 154, 0, 5, 2, 172, 42, 180, 0, 21, 180, 0, 59, 6, 92, 46]
abbrev dktX0_undo_0 : List UInt8 := dkwX0_undo_0 ++ dktX0_undo_1
theorem dksX0_undo_0 : cX0_undo.data.toList.drop 0 = dktX0_undo_0 := by decide +kernel
theorem dksX0_undo_1 : cX0_undo.data.toList.drop 24 = dktX0_undo_1 := dk_seg dksX0_undo_0 24 rfl rfl
theorem dksX0_undo_2 : cX0_undo.data.toList.drop 48 = dktX0_undo_2 := dk_seg dksX0_undo_1 24 rfl rfl
theorem dX0_undo_0 : decode cX0_undo 0 = .ok (.aload_n 0, 1) := dk_42 (dk_at dksX0_undo_0 0 rfl rfl)
theorem dX0_undo_1 : decode cX0_undo 1 = .ok (.getfield 21, 3) := dk_180 0 21 (dk_at dksX0_undo_0 1 rfl rfl)
theorem dX0_undo_4 : decode cX0_undo 4 = .ok (.getfield 59, 3) := dk_180 0 59 (dk_at dksX0_undo_0 4 rfl rfl)
theorem dX0_undo_7 : decode cX0_undo 7 = .ok (.iconst 3, 1) := dk_6 (dk_at dksX0_undo_0 7 rfl rfl)
theorem dX0_undo_8 : decode cX0_undo 8 = .ok (.iaload, 1) := dk_46 (dk_at dksX0_undo_0 8 rfl rfl)
theorem dX0_undo_9 : decode cX0_undo 9 = .ok (.ifCond .ne 5, 3) := dk_154 0 5 (dk_at dksX0_undo_0 9 rfl rfl)
theorem dX0_undo_12 : decode cX0_undo 12 = .ok (.iconst (-1), 1) := dk_2 (dk_at dksX0_undo_0 12 rfl rfl)
theorem dX0_undo_13 : decode cX0_undo 13 = .ok (.ireturn, 1) := dk_172 (dk_at dksX0_undo_0 13 rfl rfl)
theorem dX0_undo_14 : decode cX0_undo 14 = .ok (.aload_n 0, 1) := dk_42 (dk_at dksX0_undo_0 14 rfl rfl)
theorem dX0_undo_15 : decode cX0_undo 15 = .ok (.getfield 21, 3) := dk_180 0 21 (dk_at dksX0_undo_0 15 rfl rfl)
theorem dX0_undo_18 : decode cX0_undo 18 = .ok (.getfield 59, 3) := dk_180 0 59 (dk_at dksX0_undo_0 18 rfl rfl)
theorem dX0_undo_21 : decode cX0_undo 21 = .ok (.iconst 3, 1) := dk_6 (dk_at dksX0_undo_0 21 rfl rfl)
theorem dX0_undo_22 : decode cX0_undo 22 = .ok (.dup2, 1) := dk_92 (dk_at dksX0_undo_0 22 rfl rfl)
theorem dX0_undo_23 : decode cX0_undo 23 = .ok (.iaload, 1) := dk_46 (dk_at dksX0_undo_0 23 rfl rfl)
theorem dX0_undo_24 : decode cX0_undo 24 = .ok (.iconst 1, 1) := dk_4 (dk_at dksX0_undo_1 0 rfl rfl)
theorem dX0_undo_25 : decode cX0_undo 25 = .ok (.isub, 1) := dk_100 (dk_at dksX0_undo_1 1 rfl rfl)
theorem dX0_undo_26 : decode cX0_undo 26 = .ok (.iastore, 1) := dk_79 (dk_at dksX0_undo_1 2 rfl rfl)
theorem dX0_undo_27 : decode cX0_undo 27 = .ok (.aload_n 0, 1) := dk_42 (dk_at dksX0_undo_1 3 rfl rfl)
theorem dX0_undo_28 : decode cX0_undo 28 = .ok (.getfield 21, 3) := dk_180 0 21 (dk_at dksX0_undo_1 4 rfl rfl)
theorem dX0_undo_31 : decode cX0_undo 31 = .ok (.getfield 284, 3) := dk_180 1 28 (dk_at dksX0_undo_1 7 rfl rfl)
theorem dX0_undo_34 : decode cX0_undo 34 = .ok (.aload_n 0, 1) := dk_42 (dk_at dksX0_undo_1 10 rfl rfl)
theorem dX0_undo_35 : decode cX0_undo 35 = .ok (.getfield 21, 3) := dk_180 0 21 (dk_at dksX0_undo_1 11 rfl rfl)
theorem dX0_undo_38 : decode cX0_undo 38 = .ok (.getfield 59, 3) := dk_180 0 59 (dk_at dksX0_undo_1 14 rfl rfl)
theorem dX0_undo_41 : decode cX0_undo 41 = .ok (.iconst 3, 1) := dk_6 (dk_at dksX0_undo_1 17 rfl rfl)
theorem dX0_undo_42 : decode cX0_undo 42 = .ok (.iaload, 1) := dk_46 (dk_at dksX0_undo_1 18 rfl rfl)
theorem dX0_undo_43 : decode cX0_undo 43 = .ok (.aaload, 1) := dk_50 (dk_at dksX0_undo_1 19 rfl rfl)
theorem dX0_undo_44 : decode cX0_undo 44 = .ok (.aload_n 0, 1) := dk_42 (dk_at dksX0_undo_1 20 rfl rfl)
theorem dX0_undo_45 : decode cX0_undo 45 = .ok (.getfield 21, 3) := dk_180 0 21 (dk_at dksX0_undo_1 21 rfl rfl)
theorem dX0_undo_48 : decode cX0_undo 48 = .ok (.getfield 66, 3) := dk_180 0 66 (dk_at dksX0_undo_2 0 rfl rfl)
theorem dX0_undo_51 : decode cX0_undo 51 = .ok (.invokestatic 288, 3) := dk_184 1 32 (dk_at dksX0_undo_2 3 rfl rfl)
theorem dX0_undo_54 : decode cX0_undo 54 = .ok (.aload_n 0, 1) := dk_42 (dk_at dksX0_undo_2 6 rfl rfl)
theorem dX0_undo_55 : decode cX0_undo 55 = .ok (.getfield 21, 3) := dk_180 0 21 (dk_at dksX0_undo_2 7 rfl rfl)
theorem dX0_undo_58 : decode cX0_undo 58 = .ok (.getfield 59, 3) := dk_180 0 59 (dk_at dksX0_undo_2 10 rfl rfl)
theorem dX0_undo_61 : decode cX0_undo 61 = .ok (.iconst 3, 1) := dk_6 (dk_at dksX0_undo_2 13 rfl rfl)
theorem dX0_undo_62 : decode cX0_undo 62 = .ok (.iaload, 1) := dk_46 (dk_at dksX0_undo_2 14 rfl rfl)
theorem dX0_undo_63 : decode cX0_undo 63 = .ok (.ireturn, 1) := dk_172 (dk_at dksX0_undo_2 15 rfl rfl)
abbrev cX0_of : ByteArray := prog_1_method_50_code
def yX0_of : MethodName := ⟨RX0, "of", "(II)I"⟩
def dkwX0_of_5 : List UInt8 := [42, 27, 182, 1, 42, 172, 16, 254, 172]
abbrev dktX0_of_5 : List UInt8 := dkwX0_of_5 ++ []
def dkwX0_of_4 : List UInt8 := [16, 10, 27, 3, 182, 1, 36, 172, 42, 27, 182, 1, 39, 172, 42, 180, 0, 21, 180, 0, 79, 27, 46, 172]
abbrev dktX0_of_4 : List UInt8 := dkwX0_of_4 ++ dktX0_of_5
def dkwX0_of_3 : List UInt8 := [182, 0, 138, 172, 42, 180, 0, 21, 180, 0, 66, 16, 73, 27, 96, 46, 172, 42, 42, 182, 0, 153, 27]
abbrev dktX0_of_3 : List UInt8 := dkwX0_of_3 ++ dktX0_of_4
def dkwX0_of_2 : List UInt8 := [42, 180, 0, 21, 180, 0, 73, 27, 46, 172, 42, 180, 0, 21, 180, 0, 76, 27, 46, 172, 42, 27]
abbrev dktX0_of_2 : List UInt8 := dkwX0_of_2 ++ dktX0_of_3
def dkwX0_of_1 : List UInt8 := [170, 0, 0, 0, 0, 0, 0, 123, 0, 0, 0, 0, 0, 0, 0, 7, 0, 0, 0, 48, 0, 0, 0, 58, 0, 0, 0, 68, 0, 0, 0, 74, 0, 0, 0, 87, 0, 0, 0, 101, 0, 0, 0, 107, 0, 0, 0, 117]
abbrev dktX0_of_1 : List UInt8 := dkwX0_of_1 ++ dktX0_of_2
def dkwX0_of_0 : List UInt8 := [42, 27, 182, 0, 69, 154, 0, 6, 16, 254, 172, 28]
abbrev dktX0_of_0 : List UInt8 := dkwX0_of_0 ++ dktX0_of_1
theorem dksX0_of_0 : cX0_of.data.toList.drop 0 = dktX0_of_0 := by decide +kernel
theorem dksX0_of_1 : cX0_of.data.toList.drop 12 = dktX0_of_1 := dk_seg dksX0_of_0 12 rfl rfl
theorem dksX0_of_2 : cX0_of.data.toList.drop 60 = dktX0_of_2 := dk_seg dksX0_of_1 48 rfl rfl
theorem dksX0_of_3 : cX0_of.data.toList.drop 82 = dktX0_of_3 := dk_seg dksX0_of_2 22 rfl rfl
theorem dksX0_of_4 : cX0_of.data.toList.drop 105 = dktX0_of_4 := dk_seg dksX0_of_3 23 rfl rfl
theorem dksX0_of_5 : cX0_of.data.toList.drop 129 = dktX0_of_5 := dk_seg dksX0_of_4 24 rfl rfl
theorem dX0_of_0 : decode cX0_of 0 = .ok (.aload_n 0, 1) := dk_42 (dk_at dksX0_of_0 0 rfl rfl)
theorem dX0_of_1 : decode cX0_of 1 = .ok (.iload_n 1, 1) := dk_27 (dk_at dksX0_of_0 1 rfl rfl)
theorem dX0_of_2 : decode cX0_of 2 = .ok (.invokevirtual 69, 3) := dk_182 0 69 (dk_at dksX0_of_0 2 rfl rfl)
theorem dX0_of_5 : decode cX0_of 5 = .ok (.ifCond .ne 6, 3) := dk_154 0 6 (dk_at dksX0_of_0 5 rfl rfl)
theorem dX0_of_8 : decode cX0_of 8 = .ok (.bipush (-2), 2) := dk_16 254 (dk_at dksX0_of_0 8 rfl rfl)
theorem dX0_of_10 : decode cX0_of 10 = .ok (.ireturn, 1) := dk_172 (dk_at dksX0_of_0 10 rfl rfl)
theorem dX0_of_11 : decode cX0_of 11 = .ok (.iload_n 2, 1) := dk_28 (dk_at dksX0_of_0 11 rfl rfl)
theorem dX0_of_12 : decode cX0_of 12 = .ok (.tableswitch 123 0 7 #[48, 58, 68, 74, 87, 101, 107, 117], 48) := by decide +kernel
theorem dX0_of_60 : decode cX0_of 60 = .ok (.aload_n 0, 1) := dk_42 (dk_at dksX0_of_2 0 rfl rfl)
theorem dX0_of_61 : decode cX0_of 61 = .ok (.getfield 21, 3) := dk_180 0 21 (dk_at dksX0_of_2 1 rfl rfl)
theorem dX0_of_64 : decode cX0_of 64 = .ok (.getfield 73, 3) := dk_180 0 73 (dk_at dksX0_of_2 4 rfl rfl)
theorem dX0_of_67 : decode cX0_of 67 = .ok (.iload_n 1, 1) := dk_27 (dk_at dksX0_of_2 7 rfl rfl)
theorem dX0_of_68 : decode cX0_of 68 = .ok (.iaload, 1) := dk_46 (dk_at dksX0_of_2 8 rfl rfl)
theorem dX0_of_69 : decode cX0_of 69 = .ok (.ireturn, 1) := dk_172 (dk_at dksX0_of_2 9 rfl rfl)
theorem dX0_of_70 : decode cX0_of 70 = .ok (.aload_n 0, 1) := dk_42 (dk_at dksX0_of_2 10 rfl rfl)
theorem dX0_of_71 : decode cX0_of 71 = .ok (.getfield 21, 3) := dk_180 0 21 (dk_at dksX0_of_2 11 rfl rfl)
theorem dX0_of_74 : decode cX0_of 74 = .ok (.getfield 76, 3) := dk_180 0 76 (dk_at dksX0_of_2 14 rfl rfl)
theorem dX0_of_77 : decode cX0_of 77 = .ok (.iload_n 1, 1) := dk_27 (dk_at dksX0_of_2 17 rfl rfl)
theorem dX0_of_78 : decode cX0_of 78 = .ok (.iaload, 1) := dk_46 (dk_at dksX0_of_2 18 rfl rfl)
theorem dX0_of_79 : decode cX0_of 79 = .ok (.ireturn, 1) := dk_172 (dk_at dksX0_of_2 19 rfl rfl)
theorem dX0_of_80 : decode cX0_of 80 = .ok (.aload_n 0, 1) := dk_42 (dk_at dksX0_of_2 20 rfl rfl)
theorem dX0_of_81 : decode cX0_of 81 = .ok (.iload_n 1, 1) := dk_27 (dk_at dksX0_of_2 21 rfl rfl)
theorem dX0_of_82 : decode cX0_of 82 = .ok (.invokevirtual 138, 3) := dk_182 0 138 (dk_at dksX0_of_3 0 rfl rfl)
theorem dX0_of_85 : decode cX0_of 85 = .ok (.ireturn, 1) := dk_172 (dk_at dksX0_of_3 3 rfl rfl)
theorem dX0_of_86 : decode cX0_of 86 = .ok (.aload_n 0, 1) := dk_42 (dk_at dksX0_of_3 4 rfl rfl)
theorem dX0_of_87 : decode cX0_of 87 = .ok (.getfield 21, 3) := dk_180 0 21 (dk_at dksX0_of_3 5 rfl rfl)
theorem dX0_of_90 : decode cX0_of 90 = .ok (.getfield 66, 3) := dk_180 0 66 (dk_at dksX0_of_3 8 rfl rfl)
theorem dX0_of_93 : decode cX0_of 93 = .ok (.bipush 73, 2) := dk_16 73 (dk_at dksX0_of_3 11 rfl rfl)
theorem dX0_of_95 : decode cX0_of 95 = .ok (.iload_n 1, 1) := dk_27 (dk_at dksX0_of_3 13 rfl rfl)
theorem dX0_of_96 : decode cX0_of 96 = .ok (.iadd, 1) := dk_96 (dk_at dksX0_of_3 14 rfl rfl)
theorem dX0_of_97 : decode cX0_of 97 = .ok (.iaload, 1) := dk_46 (dk_at dksX0_of_3 15 rfl rfl)
theorem dX0_of_98 : decode cX0_of 98 = .ok (.ireturn, 1) := dk_172 (dk_at dksX0_of_3 16 rfl rfl)
theorem dX0_of_99 : decode cX0_of 99 = .ok (.aload_n 0, 1) := dk_42 (dk_at dksX0_of_3 17 rfl rfl)
theorem dX0_of_100 : decode cX0_of 100 = .ok (.aload_n 0, 1) := dk_42 (dk_at dksX0_of_3 18 rfl rfl)
theorem dX0_of_101 : decode cX0_of 101 = .ok (.invokevirtual 153, 3) := dk_182 0 153 (dk_at dksX0_of_3 19 rfl rfl)
theorem dX0_of_104 : decode cX0_of 104 = .ok (.iload_n 1, 1) := dk_27 (dk_at dksX0_of_3 22 rfl rfl)
theorem dX0_of_105 : decode cX0_of 105 = .ok (.bipush 10, 2) := dk_16 10 (dk_at dksX0_of_4 0 rfl rfl)
theorem dX0_of_107 : decode cX0_of 107 = .ok (.iload_n 1, 1) := dk_27 (dk_at dksX0_of_4 2 rfl rfl)
theorem dX0_of_108 : decode cX0_of 108 = .ok (.iconst 0, 1) := dk_3 (dk_at dksX0_of_4 3 rfl rfl)
theorem dX0_of_109 : decode cX0_of 109 = .ok (.invokevirtual 292, 3) := dk_182 1 36 (dk_at dksX0_of_4 4 rfl rfl)
theorem dX0_of_112 : decode cX0_of 112 = .ok (.ireturn, 1) := dk_172 (dk_at dksX0_of_4 7 rfl rfl)
theorem dX0_of_113 : decode cX0_of 113 = .ok (.aload_n 0, 1) := dk_42 (dk_at dksX0_of_4 8 rfl rfl)
theorem dX0_of_114 : decode cX0_of 114 = .ok (.iload_n 1, 1) := dk_27 (dk_at dksX0_of_4 9 rfl rfl)
theorem dX0_of_115 : decode cX0_of 115 = .ok (.invokevirtual 295, 3) := dk_182 1 39 (dk_at dksX0_of_4 10 rfl rfl)
theorem dX0_of_118 : decode cX0_of 118 = .ok (.ireturn, 1) := dk_172 (dk_at dksX0_of_4 13 rfl rfl)
theorem dX0_of_119 : decode cX0_of 119 = .ok (.aload_n 0, 1) := dk_42 (dk_at dksX0_of_4 14 rfl rfl)
theorem dX0_of_120 : decode cX0_of 120 = .ok (.getfield 21, 3) := dk_180 0 21 (dk_at dksX0_of_4 15 rfl rfl)
theorem dX0_of_123 : decode cX0_of 123 = .ok (.getfield 79, 3) := dk_180 0 79 (dk_at dksX0_of_4 18 rfl rfl)
theorem dX0_of_126 : decode cX0_of 126 = .ok (.iload_n 1, 1) := dk_27 (dk_at dksX0_of_4 21 rfl rfl)
theorem dX0_of_127 : decode cX0_of 127 = .ok (.iaload, 1) := dk_46 (dk_at dksX0_of_4 22 rfl rfl)
theorem dX0_of_128 : decode cX0_of 128 = .ok (.ireturn, 1) := dk_172 (dk_at dksX0_of_4 23 rfl rfl)
theorem dX0_of_129 : decode cX0_of 129 = .ok (.aload_n 0, 1) := dk_42 (dk_at dksX0_of_5 0 rfl rfl)
theorem dX0_of_130 : decode cX0_of 130 = .ok (.iload_n 1, 1) := dk_27 (dk_at dksX0_of_5 1 rfl rfl)
theorem dX0_of_131 : decode cX0_of 131 = .ok (.invokevirtual 298, 3) := dk_182 1 42 (dk_at dksX0_of_5 2 rfl rfl)
theorem dX0_of_134 : decode cX0_of 134 = .ok (.ireturn, 1) := dk_172 (dk_at dksX0_of_5 5 rfl rfl)
theorem dX0_of_135 : decode cX0_of 135 = .ok (.bipush (-2), 2) := dk_16 254 (dk_at dksX0_of_5 6 rfl rfl)
theorem dX0_of_137 : decode cX0_of 137 = .ok (.ireturn, 1) := dk_172 (dk_at dksX0_of_5 8 rfl rfl)
abbrev cX0_addsBy : ByteArray := prog_1_method_24_code
def yX0_addsBy : MethodName := ⟨RX0, "addsBy", "(LApologyUp$Text;IIII)I"⟩
def dkwX0_addsBy_2 : List UInt8 := [17, 3, 231, 182, 0, 146, 172]
abbrev dktX0_addsBy_2 : List UInt8 := dkwX0_addsBy_2 ++ []
def dkwX0_addsBy_1 : List UInt8 := [16, 7, 3, 79, 42, 180, 0, 39, 16, 8, 3, 79, 42, 43, 3, 42, 180, 0, 39, 6, 46, 4, 96, 3]
abbrev dktX0_addsBy_1 : List UInt8 := dkwX0_addsBy_1 ++ dktX0_addsBy_2
def dkwX0_addsBy_0 : List UInt8 := [42, 42, 180, 0, 21, 180, 0, 66, 3, 46, 28, 29, 21, 4, 21, 5, 182, 0, 142, 42, 180, 0, 39]
abbrev dktX0_addsBy_0 : List UInt8 := dkwX0_addsBy_0 ++ dktX0_addsBy_1
theorem dksX0_addsBy_0 : cX0_addsBy.data.toList.drop 0 = dktX0_addsBy_0 := by decide +kernel
theorem dksX0_addsBy_1 : cX0_addsBy.data.toList.drop 23 = dktX0_addsBy_1 := dk_seg dksX0_addsBy_0 23 rfl rfl
theorem dksX0_addsBy_2 : cX0_addsBy.data.toList.drop 47 = dktX0_addsBy_2 := dk_seg dksX0_addsBy_1 24 rfl rfl
theorem dX0_addsBy_0 : decode cX0_addsBy 0 = .ok (.aload_n 0, 1) := dk_42 (dk_at dksX0_addsBy_0 0 rfl rfl)
theorem dX0_addsBy_1 : decode cX0_addsBy 1 = .ok (.aload_n 0, 1) := dk_42 (dk_at dksX0_addsBy_0 1 rfl rfl)
theorem dX0_addsBy_2 : decode cX0_addsBy 2 = .ok (.getfield 21, 3) := dk_180 0 21 (dk_at dksX0_addsBy_0 2 rfl rfl)
theorem dX0_addsBy_5 : decode cX0_addsBy 5 = .ok (.getfield 66, 3) := dk_180 0 66 (dk_at dksX0_addsBy_0 5 rfl rfl)
theorem dX0_addsBy_8 : decode cX0_addsBy 8 = .ok (.iconst 0, 1) := dk_3 (dk_at dksX0_addsBy_0 8 rfl rfl)
theorem dX0_addsBy_9 : decode cX0_addsBy 9 = .ok (.iaload, 1) := dk_46 (dk_at dksX0_addsBy_0 9 rfl rfl)
theorem dX0_addsBy_10 : decode cX0_addsBy 10 = .ok (.iload_n 2, 1) := dk_28 (dk_at dksX0_addsBy_0 10 rfl rfl)
theorem dX0_addsBy_11 : decode cX0_addsBy 11 = .ok (.iload_n 3, 1) := dk_29 (dk_at dksX0_addsBy_0 11 rfl rfl)
theorem dX0_addsBy_12 : decode cX0_addsBy 12 = .ok (.iload 4, 2) := dk_21 4 (dk_at dksX0_addsBy_0 12 rfl rfl)
theorem dX0_addsBy_14 : decode cX0_addsBy 14 = .ok (.iload 5, 2) := dk_21 5 (dk_at dksX0_addsBy_0 14 rfl rfl)
theorem dX0_addsBy_16 : decode cX0_addsBy 16 = .ok (.invokevirtual 142, 3) := dk_182 0 142 (dk_at dksX0_addsBy_0 16 rfl rfl)
theorem dX0_addsBy_19 : decode cX0_addsBy 19 = .ok (.aload_n 0, 1) := dk_42 (dk_at dksX0_addsBy_0 19 rfl rfl)
theorem dX0_addsBy_20 : decode cX0_addsBy 20 = .ok (.getfield 39, 3) := dk_180 0 39 (dk_at dksX0_addsBy_0 20 rfl rfl)
theorem dX0_addsBy_23 : decode cX0_addsBy 23 = .ok (.bipush 7, 2) := dk_16 7 (dk_at dksX0_addsBy_1 0 rfl rfl)
theorem dX0_addsBy_25 : decode cX0_addsBy 25 = .ok (.iconst 0, 1) := dk_3 (dk_at dksX0_addsBy_1 2 rfl rfl)
theorem dX0_addsBy_26 : decode cX0_addsBy 26 = .ok (.iastore, 1) := dk_79 (dk_at dksX0_addsBy_1 3 rfl rfl)
theorem dX0_addsBy_27 : decode cX0_addsBy 27 = .ok (.aload_n 0, 1) := dk_42 (dk_at dksX0_addsBy_1 4 rfl rfl)
theorem dX0_addsBy_28 : decode cX0_addsBy 28 = .ok (.getfield 39, 3) := dk_180 0 39 (dk_at dksX0_addsBy_1 5 rfl rfl)
theorem dX0_addsBy_31 : decode cX0_addsBy 31 = .ok (.bipush 8, 2) := dk_16 8 (dk_at dksX0_addsBy_1 8 rfl rfl)
theorem dX0_addsBy_33 : decode cX0_addsBy 33 = .ok (.iconst 0, 1) := dk_3 (dk_at dksX0_addsBy_1 10 rfl rfl)
theorem dX0_addsBy_34 : decode cX0_addsBy 34 = .ok (.iastore, 1) := dk_79 (dk_at dksX0_addsBy_1 11 rfl rfl)
theorem dX0_addsBy_35 : decode cX0_addsBy 35 = .ok (.aload_n 0, 1) := dk_42 (dk_at dksX0_addsBy_1 12 rfl rfl)
theorem dX0_addsBy_36 : decode cX0_addsBy 36 = .ok (.aload_n 1, 1) := dk_43 (dk_at dksX0_addsBy_1 13 rfl rfl)
theorem dX0_addsBy_37 : decode cX0_addsBy 37 = .ok (.iconst 0, 1) := dk_3 (dk_at dksX0_addsBy_1 14 rfl rfl)
theorem dX0_addsBy_38 : decode cX0_addsBy 38 = .ok (.aload_n 0, 1) := dk_42 (dk_at dksX0_addsBy_1 15 rfl rfl)
theorem dX0_addsBy_39 : decode cX0_addsBy 39 = .ok (.getfield 39, 3) := dk_180 0 39 (dk_at dksX0_addsBy_1 16 rfl rfl)
theorem dX0_addsBy_42 : decode cX0_addsBy 42 = .ok (.iconst 3, 1) := dk_6 (dk_at dksX0_addsBy_1 19 rfl rfl)
theorem dX0_addsBy_43 : decode cX0_addsBy 43 = .ok (.iaload, 1) := dk_46 (dk_at dksX0_addsBy_1 20 rfl rfl)
theorem dX0_addsBy_44 : decode cX0_addsBy 44 = .ok (.iconst 1, 1) := dk_4 (dk_at dksX0_addsBy_1 21 rfl rfl)
theorem dX0_addsBy_45 : decode cX0_addsBy 45 = .ok (.iadd, 1) := dk_96 (dk_at dksX0_addsBy_1 22 rfl rfl)
theorem dX0_addsBy_46 : decode cX0_addsBy 46 = .ok (.iconst 0, 1) := dk_3 (dk_at dksX0_addsBy_1 23 rfl rfl)
theorem dX0_addsBy_47 : decode cX0_addsBy 47 = .ok (.sipush 999, 3) := dk_17 3 231 (dk_at dksX0_addsBy_2 0 rfl rfl)
theorem dX0_addsBy_50 : decode cX0_addsBy 50 = .ok (.invokevirtual 146, 3) := dk_182 0 146 (dk_at dksX0_addsBy_2 3 rfl rfl)
theorem dX0_addsBy_53 : decode cX0_addsBy 53 = .ok (.ireturn, 1) := dk_172 (dk_at dksX0_addsBy_2 6 rfl rfl)
abbrev cX0_deskOf : ByteArray := prog_1_method_49_code
def yX0_deskOf : MethodName := ⟨RX0, "deskOf", "(I)I"⟩
def dkwX0_deskOf_2 : List UInt8 := [184, 0, 149, 46, 27, 160, 0, 7, 4, 167, 0, 4, 3, 96, 61, 132, 3, 1, 167, 255, 198, 28, 172]
abbrev dktX0_deskOf_2 : List UInt8 := dkwX0_deskOf_2 ++ []
def dkwX0_deskOf_1 : List UInt8 := [180, 0, 66, 29, 7, 184, 0, 149, 46, 5, 159, 0, 24, 42, 180, 0, 21, 180, 0, 66, 29, 5]
abbrev dktX0_deskOf_1 : List UInt8 := dkwX0_deskOf_1 ++ dktX0_deskOf_2
def dkwX0_deskOf_0 : List UInt8 := [3, 61, 3, 62, 29, 42, 180, 0, 21, 180, 0, 66, 5, 46, 162, 0, 51, 28, 42, 180, 0, 21]
abbrev dktX0_deskOf_0 : List UInt8 := dkwX0_deskOf_0 ++ dktX0_deskOf_1
theorem dksX0_deskOf_0 : cX0_deskOf.data.toList.drop 0 = dktX0_deskOf_0 := by decide +kernel
theorem dksX0_deskOf_1 : cX0_deskOf.data.toList.drop 22 = dktX0_deskOf_1 := dk_seg dksX0_deskOf_0 22 rfl rfl
theorem dksX0_deskOf_2 : cX0_deskOf.data.toList.drop 44 = dktX0_deskOf_2 := dk_seg dksX0_deskOf_1 22 rfl rfl
theorem dX0_deskOf_0 : decode cX0_deskOf 0 = .ok (.iconst 0, 1) := dk_3 (dk_at dksX0_deskOf_0 0 rfl rfl)
theorem dX0_deskOf_1 : decode cX0_deskOf 1 = .ok (.istore_n 2, 1) := dk_61 (dk_at dksX0_deskOf_0 1 rfl rfl)
theorem dX0_deskOf_2 : decode cX0_deskOf 2 = .ok (.iconst 0, 1) := dk_3 (dk_at dksX0_deskOf_0 2 rfl rfl)
theorem dX0_deskOf_3 : decode cX0_deskOf 3 = .ok (.istore_n 3, 1) := dk_62 (dk_at dksX0_deskOf_0 3 rfl rfl)
theorem dX0_deskOf_4 : decode cX0_deskOf 4 = .ok (.iload_n 3, 1) := dk_29 (dk_at dksX0_deskOf_0 4 rfl rfl)
theorem dX0_deskOf_5 : decode cX0_deskOf 5 = .ok (.aload_n 0, 1) := dk_42 (dk_at dksX0_deskOf_0 5 rfl rfl)
theorem dX0_deskOf_6 : decode cX0_deskOf 6 = .ok (.getfield 21, 3) := dk_180 0 21 (dk_at dksX0_deskOf_0 6 rfl rfl)
theorem dX0_deskOf_9 : decode cX0_deskOf 9 = .ok (.getfield 66, 3) := dk_180 0 66 (dk_at dksX0_deskOf_0 9 rfl rfl)
theorem dX0_deskOf_12 : decode cX0_deskOf 12 = .ok (.iconst 2, 1) := dk_5 (dk_at dksX0_deskOf_0 12 rfl rfl)
theorem dX0_deskOf_13 : decode cX0_deskOf 13 = .ok (.iaload, 1) := dk_46 (dk_at dksX0_deskOf_0 13 rfl rfl)
theorem dX0_deskOf_14 : decode cX0_deskOf 14 = .ok (.if_icmp .ge 51, 3) := dk_162 0 51 (dk_at dksX0_deskOf_0 14 rfl rfl)
theorem dX0_deskOf_17 : decode cX0_deskOf 17 = .ok (.iload_n 2, 1) := dk_28 (dk_at dksX0_deskOf_0 17 rfl rfl)
theorem dX0_deskOf_18 : decode cX0_deskOf 18 = .ok (.aload_n 0, 1) := dk_42 (dk_at dksX0_deskOf_0 18 rfl rfl)
theorem dX0_deskOf_19 : decode cX0_deskOf 19 = .ok (.getfield 21, 3) := dk_180 0 21 (dk_at dksX0_deskOf_0 19 rfl rfl)
theorem dX0_deskOf_22 : decode cX0_deskOf 22 = .ok (.getfield 66, 3) := dk_180 0 66 (dk_at dksX0_deskOf_1 0 rfl rfl)
theorem dX0_deskOf_25 : decode cX0_deskOf 25 = .ok (.iload_n 3, 1) := dk_29 (dk_at dksX0_deskOf_1 3 rfl rfl)
theorem dX0_deskOf_26 : decode cX0_deskOf 26 = .ok (.iconst 4, 1) := dk_7 (dk_at dksX0_deskOf_1 4 rfl rfl)
theorem dX0_deskOf_27 : decode cX0_deskOf 27 = .ok (.invokestatic 149, 3) := dk_184 0 149 (dk_at dksX0_deskOf_1 5 rfl rfl)
theorem dX0_deskOf_30 : decode cX0_deskOf 30 = .ok (.iaload, 1) := dk_46 (dk_at dksX0_deskOf_1 8 rfl rfl)
theorem dX0_deskOf_31 : decode cX0_deskOf 31 = .ok (.iconst 2, 1) := dk_5 (dk_at dksX0_deskOf_1 9 rfl rfl)
theorem dX0_deskOf_32 : decode cX0_deskOf 32 = .ok (.if_icmp .eq 24, 3) := dk_159 0 24 (dk_at dksX0_deskOf_1 10 rfl rfl)
theorem dX0_deskOf_35 : decode cX0_deskOf 35 = .ok (.aload_n 0, 1) := dk_42 (dk_at dksX0_deskOf_1 13 rfl rfl)
theorem dX0_deskOf_36 : decode cX0_deskOf 36 = .ok (.getfield 21, 3) := dk_180 0 21 (dk_at dksX0_deskOf_1 14 rfl rfl)
theorem dX0_deskOf_39 : decode cX0_deskOf 39 = .ok (.getfield 66, 3) := dk_180 0 66 (dk_at dksX0_deskOf_1 17 rfl rfl)
theorem dX0_deskOf_42 : decode cX0_deskOf 42 = .ok (.iload_n 3, 1) := dk_29 (dk_at dksX0_deskOf_1 20 rfl rfl)
theorem dX0_deskOf_43 : decode cX0_deskOf 43 = .ok (.iconst 2, 1) := dk_5 (dk_at dksX0_deskOf_1 21 rfl rfl)
theorem dX0_deskOf_44 : decode cX0_deskOf 44 = .ok (.invokestatic 149, 3) := dk_184 0 149 (dk_at dksX0_deskOf_2 0 rfl rfl)
theorem dX0_deskOf_47 : decode cX0_deskOf 47 = .ok (.iaload, 1) := dk_46 (dk_at dksX0_deskOf_2 3 rfl rfl)
theorem dX0_deskOf_48 : decode cX0_deskOf 48 = .ok (.iload_n 1, 1) := dk_27 (dk_at dksX0_deskOf_2 4 rfl rfl)
theorem dX0_deskOf_49 : decode cX0_deskOf 49 = .ok (.if_icmp .ne 7, 3) := dk_160 0 7 (dk_at dksX0_deskOf_2 5 rfl rfl)
theorem dX0_deskOf_52 : decode cX0_deskOf 52 = .ok (.iconst 1, 1) := dk_4 (dk_at dksX0_deskOf_2 8 rfl rfl)
theorem dX0_deskOf_53 : decode cX0_deskOf 53 = .ok (.goto 4, 3) := dk_167 0 4 (dk_at dksX0_deskOf_2 9 rfl rfl)
theorem dX0_deskOf_56 : decode cX0_deskOf 56 = .ok (.iconst 0, 1) := dk_3 (dk_at dksX0_deskOf_2 12 rfl rfl)
theorem dX0_deskOf_57 : decode cX0_deskOf 57 = .ok (.iadd, 1) := dk_96 (dk_at dksX0_deskOf_2 13 rfl rfl)
theorem dX0_deskOf_58 : decode cX0_deskOf 58 = .ok (.istore_n 2, 1) := dk_61 (dk_at dksX0_deskOf_2 14 rfl rfl)
theorem dX0_deskOf_59 : decode cX0_deskOf 59 = .ok (.iinc 3 1, 3) := dk_132 3 1 (dk_at dksX0_deskOf_2 15 rfl rfl)
theorem dX0_deskOf_62 : decode cX0_deskOf 62 = .ok (.goto (-58), 3) := dk_167 255 198 (dk_at dksX0_deskOf_2 18 rfl rfl)
theorem dX0_deskOf_65 : decode cX0_deskOf 65 = .ok (.iload_n 2, 1) := dk_28 (dk_at dksX0_deskOf_2 21 rfl rfl)
theorem dX0_deskOf_66 : decode cX0_deskOf 66 = .ok (.ireturn, 1) := dk_172 (dk_at dksX0_deskOf_2 22 rfl rfl)
abbrev cX0_under : ByteArray := prog_1_method_12_code
def yX0_under : MethodName := ⟨RX0, "under", "(I)I"⟩
def dkwX0_under_2 : List UInt8 := [172]
abbrev dktX0_under_2 : List UInt8 := dkwX0_under_2 ++ []
def dkwX0_under_1 : List UInt8 := [29, 27, 182, 0, 86, 153, 0, 9, 4, 29, 120, 167, 0, 4, 3, 128, 61, 132, 3, 1, 167, 255, 216, 28]
abbrev dktX0_under_1 : List UInt8 := dkwX0_under_1 ++ dktX0_under_2
def dkwX0_under_0 : List UInt8 := [3, 61, 3, 62, 29, 42, 180, 0, 21, 180, 0, 59, 3, 46, 162, 0, 33, 28, 29, 27, 159, 0, 12, 42]
abbrev dktX0_under_0 : List UInt8 := dkwX0_under_0 ++ dktX0_under_1
theorem dksX0_under_0 : cX0_under.data.toList.drop 0 = dktX0_under_0 := by decide +kernel
theorem dksX0_under_1 : cX0_under.data.toList.drop 24 = dktX0_under_1 := dk_seg dksX0_under_0 24 rfl rfl
theorem dksX0_under_2 : cX0_under.data.toList.drop 48 = dktX0_under_2 := dk_seg dksX0_under_1 24 rfl rfl
theorem dX0_under_0 : decode cX0_under 0 = .ok (.iconst 0, 1) := dk_3 (dk_at dksX0_under_0 0 rfl rfl)
theorem dX0_under_1 : decode cX0_under 1 = .ok (.istore_n 2, 1) := dk_61 (dk_at dksX0_under_0 1 rfl rfl)
theorem dX0_under_2 : decode cX0_under 2 = .ok (.iconst 0, 1) := dk_3 (dk_at dksX0_under_0 2 rfl rfl)
theorem dX0_under_3 : decode cX0_under 3 = .ok (.istore_n 3, 1) := dk_62 (dk_at dksX0_under_0 3 rfl rfl)
theorem dX0_under_4 : decode cX0_under 4 = .ok (.iload_n 3, 1) := dk_29 (dk_at dksX0_under_0 4 rfl rfl)
theorem dX0_under_5 : decode cX0_under 5 = .ok (.aload_n 0, 1) := dk_42 (dk_at dksX0_under_0 5 rfl rfl)
theorem dX0_under_6 : decode cX0_under 6 = .ok (.getfield 21, 3) := dk_180 0 21 (dk_at dksX0_under_0 6 rfl rfl)
theorem dX0_under_9 : decode cX0_under 9 = .ok (.getfield 59, 3) := dk_180 0 59 (dk_at dksX0_under_0 9 rfl rfl)
theorem dX0_under_12 : decode cX0_under 12 = .ok (.iconst 0, 1) := dk_3 (dk_at dksX0_under_0 12 rfl rfl)
theorem dX0_under_13 : decode cX0_under 13 = .ok (.iaload, 1) := dk_46 (dk_at dksX0_under_0 13 rfl rfl)
theorem dX0_under_14 : decode cX0_under 14 = .ok (.if_icmp .ge 33, 3) := dk_162 0 33 (dk_at dksX0_under_0 14 rfl rfl)
theorem dX0_under_17 : decode cX0_under 17 = .ok (.iload_n 2, 1) := dk_28 (dk_at dksX0_under_0 17 rfl rfl)
theorem dX0_under_18 : decode cX0_under 18 = .ok (.iload_n 3, 1) := dk_29 (dk_at dksX0_under_0 18 rfl rfl)
theorem dX0_under_19 : decode cX0_under 19 = .ok (.iload_n 1, 1) := dk_27 (dk_at dksX0_under_0 19 rfl rfl)
theorem dX0_under_20 : decode cX0_under 20 = .ok (.if_icmp .eq 12, 3) := dk_159 0 12 (dk_at dksX0_under_0 20 rfl rfl)
theorem dX0_under_23 : decode cX0_under 23 = .ok (.aload_n 0, 1) := dk_42 (dk_at dksX0_under_0 23 rfl rfl)
theorem dX0_under_24 : decode cX0_under 24 = .ok (.iload_n 3, 1) := dk_29 (dk_at dksX0_under_1 0 rfl rfl)
theorem dX0_under_25 : decode cX0_under 25 = .ok (.iload_n 1, 1) := dk_27 (dk_at dksX0_under_1 1 rfl rfl)
theorem dX0_under_26 : decode cX0_under 26 = .ok (.invokevirtual 86, 3) := dk_182 0 86 (dk_at dksX0_under_1 2 rfl rfl)
theorem dX0_under_29 : decode cX0_under 29 = .ok (.ifCond .eq 9, 3) := dk_153 0 9 (dk_at dksX0_under_1 5 rfl rfl)
theorem dX0_under_32 : decode cX0_under 32 = .ok (.iconst 1, 1) := dk_4 (dk_at dksX0_under_1 8 rfl rfl)
theorem dX0_under_33 : decode cX0_under 33 = .ok (.iload_n 3, 1) := dk_29 (dk_at dksX0_under_1 9 rfl rfl)
theorem dX0_under_34 : decode cX0_under 34 = .ok (.ishl, 1) := dk_120 (dk_at dksX0_under_1 10 rfl rfl)
theorem dX0_under_35 : decode cX0_under 35 = .ok (.goto 4, 3) := dk_167 0 4 (dk_at dksX0_under_1 11 rfl rfl)
theorem dX0_under_38 : decode cX0_under 38 = .ok (.iconst 0, 1) := dk_3 (dk_at dksX0_under_1 14 rfl rfl)
theorem dX0_under_39 : decode cX0_under 39 = .ok (.ior, 1) := dk_128 (dk_at dksX0_under_1 15 rfl rfl)
theorem dX0_under_40 : decode cX0_under 40 = .ok (.istore_n 2, 1) := dk_61 (dk_at dksX0_under_1 16 rfl rfl)
theorem dX0_under_41 : decode cX0_under 41 = .ok (.iinc 3 1, 3) := dk_132 3 1 (dk_at dksX0_under_1 17 rfl rfl)
theorem dX0_under_44 : decode cX0_under 44 = .ok (.goto (-40), 3) := dk_167 255 216 (dk_at dksX0_under_1 20 rfl rfl)
theorem dX0_under_47 : decode cX0_under 47 = .ok (.iload_n 2, 1) := dk_28 (dk_at dksX0_under_1 23 rfl rfl)
theorem dX0_under_48 : decode cX0_under 48 = .ok (.ireturn, 1) := dk_172 (dk_at dksX0_under_2 0 rfl rfl)
abbrev cX0_ofApology : ByteArray := prog_1_method_51_code
def yX0_ofApology : MethodName := ⟨RX0, "ofApology", "(II)I"⟩
def dkwX0_ofApology_1 : List UInt8 := [180, 0, 66, 27, 28, 184, 0, 149, 46, 167, 0, 5, 16, 254, 172]
abbrev dktX0_ofApology_1 : List UInt8 := dkwX0_ofApology_1 ++ []
def dkwX0_ofApology_0 : List UInt8 := [42, 27, 182, 0, 223, 153, 0, 29, 28, 3, 16, 6, 184, 0, 62, 153, 0, 19, 42, 180, 0, 21]
abbrev dktX0_ofApology_0 : List UInt8 := dkwX0_ofApology_0 ++ dktX0_ofApology_1
theorem dksX0_ofApology_0 : cX0_ofApology.data.toList.drop 0 = dktX0_ofApology_0 := by decide +kernel
theorem dksX0_ofApology_1 : cX0_ofApology.data.toList.drop 22 = dktX0_ofApology_1 := dk_seg dksX0_ofApology_0 22 rfl rfl
theorem dX0_ofApology_0 : decode cX0_ofApology 0 = .ok (.aload_n 0, 1) := dk_42 (dk_at dksX0_ofApology_0 0 rfl rfl)
theorem dX0_ofApology_1 : decode cX0_ofApology 1 = .ok (.iload_n 1, 1) := dk_27 (dk_at dksX0_ofApology_0 1 rfl rfl)
theorem dX0_ofApology_2 : decode cX0_ofApology 2 = .ok (.invokevirtual 223, 3) := dk_182 0 223 (dk_at dksX0_ofApology_0 2 rfl rfl)
theorem dX0_ofApology_5 : decode cX0_ofApology 5 = .ok (.ifCond .eq 29, 3) := dk_153 0 29 (dk_at dksX0_ofApology_0 5 rfl rfl)
theorem dX0_ofApology_8 : decode cX0_ofApology 8 = .ok (.iload_n 2, 1) := dk_28 (dk_at dksX0_ofApology_0 8 rfl rfl)
theorem dX0_ofApology_9 : decode cX0_ofApology 9 = .ok (.iconst 0, 1) := dk_3 (dk_at dksX0_ofApology_0 9 rfl rfl)
theorem dX0_ofApology_10 : decode cX0_ofApology 10 = .ok (.bipush 6, 2) := dk_16 6 (dk_at dksX0_ofApology_0 10 rfl rfl)
theorem dX0_ofApology_12 : decode cX0_ofApology 12 = .ok (.invokestatic 62, 3) := dk_184 0 62 (dk_at dksX0_ofApology_0 12 rfl rfl)
theorem dX0_ofApology_15 : decode cX0_ofApology 15 = .ok (.ifCond .eq 19, 3) := dk_153 0 19 (dk_at dksX0_ofApology_0 15 rfl rfl)
theorem dX0_ofApology_18 : decode cX0_ofApology 18 = .ok (.aload_n 0, 1) := dk_42 (dk_at dksX0_ofApology_0 18 rfl rfl)
theorem dX0_ofApology_19 : decode cX0_ofApology 19 = .ok (.getfield 21, 3) := dk_180 0 21 (dk_at dksX0_ofApology_0 19 rfl rfl)
theorem dX0_ofApology_22 : decode cX0_ofApology 22 = .ok (.getfield 66, 3) := dk_180 0 66 (dk_at dksX0_ofApology_1 0 rfl rfl)
theorem dX0_ofApology_25 : decode cX0_ofApology 25 = .ok (.iload_n 1, 1) := dk_27 (dk_at dksX0_ofApology_1 3 rfl rfl)
theorem dX0_ofApology_26 : decode cX0_ofApology 26 = .ok (.iload_n 2, 1) := dk_28 (dk_at dksX0_ofApology_1 4 rfl rfl)
theorem dX0_ofApology_27 : decode cX0_ofApology 27 = .ok (.invokestatic 149, 3) := dk_184 0 149 (dk_at dksX0_ofApology_1 5 rfl rfl)
theorem dX0_ofApology_30 : decode cX0_ofApology 30 = .ok (.iaload, 1) := dk_46 (dk_at dksX0_ofApology_1 8 rfl rfl)
theorem dX0_ofApology_31 : decode cX0_ofApology 31 = .ok (.goto 5, 3) := dk_167 0 5 (dk_at dksX0_ofApology_1 9 rfl rfl)
theorem dX0_ofApology_34 : decode cX0_ofApology 34 = .ok (.bipush (-2), 2) := dk_16 254 (dk_at dksX0_ofApology_1 12 rfl rfl)
theorem dX0_ofApology_36 : decode cX0_ofApology 36 = .ok (.ireturn, 1) := dk_172 (dk_at dksX0_ofApology_1 14 rfl rfl)
abbrev cX0_is : ByteArray := prog_1_method_52_code
def yX0_is : MethodName := ⟨RX0, "is", "(I)I"⟩
def dkwX0_is_0 : List UInt8 := [27, 3, 5, 184, 0, 62, 153, 0, 15, 42, 180, 0, 21, 180, 0, 66, 27, 46, 167, 0, 5, 16, 254, 172]
abbrev dktX0_is_0 : List UInt8 := dkwX0_is_0 ++ []
theorem dksX0_is_0 : cX0_is.data.toList.drop 0 = dktX0_is_0 := by decide +kernel
theorem dX0_is_0 : decode cX0_is 0 = .ok (.iload_n 1, 1) := dk_27 (dk_at dksX0_is_0 0 rfl rfl)
theorem dX0_is_1 : decode cX0_is 1 = .ok (.iconst 0, 1) := dk_3 (dk_at dksX0_is_0 1 rfl rfl)
theorem dX0_is_2 : decode cX0_is 2 = .ok (.iconst 2, 1) := dk_5 (dk_at dksX0_is_0 2 rfl rfl)
theorem dX0_is_3 : decode cX0_is 3 = .ok (.invokestatic 62, 3) := dk_184 0 62 (dk_at dksX0_is_0 3 rfl rfl)
theorem dX0_is_6 : decode cX0_is 6 = .ok (.ifCond .eq 15, 3) := dk_153 0 15 (dk_at dksX0_is_0 6 rfl rfl)
theorem dX0_is_9 : decode cX0_is 9 = .ok (.aload_n 0, 1) := dk_42 (dk_at dksX0_is_0 9 rfl rfl)
theorem dX0_is_10 : decode cX0_is 10 = .ok (.getfield 21, 3) := dk_180 0 21 (dk_at dksX0_is_0 10 rfl rfl)
theorem dX0_is_13 : decode cX0_is 13 = .ok (.getfield 66, 3) := dk_180 0 66 (dk_at dksX0_is_0 13 rfl rfl)
theorem dX0_is_16 : decode cX0_is 16 = .ok (.iload_n 1, 1) := dk_27 (dk_at dksX0_is_0 16 rfl rfl)
theorem dX0_is_17 : decode cX0_is 17 = .ok (.iaload, 1) := dk_46 (dk_at dksX0_is_0 17 rfl rfl)
theorem dX0_is_18 : decode cX0_is 18 = .ok (.goto 5, 3) := dk_167 0 5 (dk_at dksX0_is_0 18 rfl rfl)
theorem dX0_is_21 : decode cX0_is 21 = .ok (.bipush (-2), 2) := dk_16 254 (dk_at dksX0_is_0 21 rfl rfl)
theorem dX0_is_23 : decode cX0_is 23 = .ok (.ireturn, 1) := dk_172 (dk_at dksX0_is_0 23 rfl rfl)
abbrev cX0_book : ByteArray := prog_1_method_53_code
def yX0_book : MethodName := ⟨RX0, "book", "(II)I"⟩
def dkwX0_book_2 : List UInt8 := [180, 0, 21, 180, 0, 66, 16, 84, 7, 27, 104, 96, 28, 96, 46, 167, 0, 5, 16, 254, 172]
abbrev dktX0_book_2 : List UInt8 := dkwX0_book_2 ++ []
def dkwX0_book_1 : List UInt8 := [180, 0, 66, 16, 83, 46, 4, 100, 184, 0, 62, 153, 0, 31, 28, 3, 6, 184, 0, 62, 153, 0, 22, 42]
abbrev dktX0_book_1 : List UInt8 := dkwX0_book_1 ++ dktX0_book_2
def dkwX0_book_0 : List UInt8 := [27, 2, 160, 0, 14, 42, 180, 0, 21, 180, 0, 66, 16, 83, 46, 172, 27, 3, 42, 180, 0, 21]
abbrev dktX0_book_0 : List UInt8 := dkwX0_book_0 ++ dktX0_book_1
theorem dksX0_book_0 : cX0_book.data.toList.drop 0 = dktX0_book_0 := by decide +kernel
theorem dksX0_book_1 : cX0_book.data.toList.drop 22 = dktX0_book_1 := dk_seg dksX0_book_0 22 rfl rfl
theorem dksX0_book_2 : cX0_book.data.toList.drop 46 = dktX0_book_2 := dk_seg dksX0_book_1 24 rfl rfl
theorem dX0_book_0 : decode cX0_book 0 = .ok (.iload_n 1, 1) := dk_27 (dk_at dksX0_book_0 0 rfl rfl)
theorem dX0_book_1 : decode cX0_book 1 = .ok (.iconst (-1), 1) := dk_2 (dk_at dksX0_book_0 1 rfl rfl)
theorem dX0_book_2 : decode cX0_book 2 = .ok (.if_icmp .ne 14, 3) := dk_160 0 14 (dk_at dksX0_book_0 2 rfl rfl)
theorem dX0_book_5 : decode cX0_book 5 = .ok (.aload_n 0, 1) := dk_42 (dk_at dksX0_book_0 5 rfl rfl)
theorem dX0_book_6 : decode cX0_book 6 = .ok (.getfield 21, 3) := dk_180 0 21 (dk_at dksX0_book_0 6 rfl rfl)
theorem dX0_book_9 : decode cX0_book 9 = .ok (.getfield 66, 3) := dk_180 0 66 (dk_at dksX0_book_0 9 rfl rfl)
theorem dX0_book_12 : decode cX0_book 12 = .ok (.bipush 83, 2) := dk_16 83 (dk_at dksX0_book_0 12 rfl rfl)
theorem dX0_book_14 : decode cX0_book 14 = .ok (.iaload, 1) := dk_46 (dk_at dksX0_book_0 14 rfl rfl)
theorem dX0_book_15 : decode cX0_book 15 = .ok (.ireturn, 1) := dk_172 (dk_at dksX0_book_0 15 rfl rfl)
theorem dX0_book_16 : decode cX0_book 16 = .ok (.iload_n 1, 1) := dk_27 (dk_at dksX0_book_0 16 rfl rfl)
theorem dX0_book_17 : decode cX0_book 17 = .ok (.iconst 0, 1) := dk_3 (dk_at dksX0_book_0 17 rfl rfl)
theorem dX0_book_18 : decode cX0_book 18 = .ok (.aload_n 0, 1) := dk_42 (dk_at dksX0_book_0 18 rfl rfl)
theorem dX0_book_19 : decode cX0_book 19 = .ok (.getfield 21, 3) := dk_180 0 21 (dk_at dksX0_book_0 19 rfl rfl)
theorem dX0_book_22 : decode cX0_book 22 = .ok (.getfield 66, 3) := dk_180 0 66 (dk_at dksX0_book_1 0 rfl rfl)
theorem dX0_book_25 : decode cX0_book 25 = .ok (.bipush 83, 2) := dk_16 83 (dk_at dksX0_book_1 3 rfl rfl)
theorem dX0_book_27 : decode cX0_book 27 = .ok (.iaload, 1) := dk_46 (dk_at dksX0_book_1 5 rfl rfl)
theorem dX0_book_28 : decode cX0_book 28 = .ok (.iconst 1, 1) := dk_4 (dk_at dksX0_book_1 6 rfl rfl)
theorem dX0_book_29 : decode cX0_book 29 = .ok (.isub, 1) := dk_100 (dk_at dksX0_book_1 7 rfl rfl)
theorem dX0_book_30 : decode cX0_book 30 = .ok (.invokestatic 62, 3) := dk_184 0 62 (dk_at dksX0_book_1 8 rfl rfl)
theorem dX0_book_33 : decode cX0_book 33 = .ok (.ifCond .eq 31, 3) := dk_153 0 31 (dk_at dksX0_book_1 11 rfl rfl)
theorem dX0_book_36 : decode cX0_book 36 = .ok (.iload_n 2, 1) := dk_28 (dk_at dksX0_book_1 14 rfl rfl)
theorem dX0_book_37 : decode cX0_book 37 = .ok (.iconst 0, 1) := dk_3 (dk_at dksX0_book_1 15 rfl rfl)
theorem dX0_book_38 : decode cX0_book 38 = .ok (.iconst 3, 1) := dk_6 (dk_at dksX0_book_1 16 rfl rfl)
theorem dX0_book_39 : decode cX0_book 39 = .ok (.invokestatic 62, 3) := dk_184 0 62 (dk_at dksX0_book_1 17 rfl rfl)
theorem dX0_book_42 : decode cX0_book 42 = .ok (.ifCond .eq 22, 3) := dk_153 0 22 (dk_at dksX0_book_1 20 rfl rfl)
theorem dX0_book_45 : decode cX0_book 45 = .ok (.aload_n 0, 1) := dk_42 (dk_at dksX0_book_1 23 rfl rfl)
theorem dX0_book_46 : decode cX0_book 46 = .ok (.getfield 21, 3) := dk_180 0 21 (dk_at dksX0_book_2 0 rfl rfl)
theorem dX0_book_49 : decode cX0_book 49 = .ok (.getfield 66, 3) := dk_180 0 66 (dk_at dksX0_book_2 3 rfl rfl)
theorem dX0_book_52 : decode cX0_book 52 = .ok (.bipush 84, 2) := dk_16 84 (dk_at dksX0_book_2 6 rfl rfl)
theorem dX0_book_54 : decode cX0_book 54 = .ok (.iconst 4, 1) := dk_7 (dk_at dksX0_book_2 8 rfl rfl)
theorem dX0_book_55 : decode cX0_book 55 = .ok (.iload_n 1, 1) := dk_27 (dk_at dksX0_book_2 9 rfl rfl)
theorem dX0_book_56 : decode cX0_book 56 = .ok (.imul, 1) := dk_104 (dk_at dksX0_book_2 10 rfl rfl)
theorem dX0_book_57 : decode cX0_book 57 = .ok (.iadd, 1) := dk_96 (dk_at dksX0_book_2 11 rfl rfl)
theorem dX0_book_58 : decode cX0_book 58 = .ok (.iload_n 2, 1) := dk_28 (dk_at dksX0_book_2 12 rfl rfl)
theorem dX0_book_59 : decode cX0_book 59 = .ok (.iadd, 1) := dk_96 (dk_at dksX0_book_2 13 rfl rfl)
theorem dX0_book_60 : decode cX0_book 60 = .ok (.iaload, 1) := dk_46 (dk_at dksX0_book_2 14 rfl rfl)
theorem dX0_book_61 : decode cX0_book 61 = .ok (.goto 5, 3) := dk_167 0 5 (dk_at dksX0_book_2 15 rfl rfl)
theorem dX0_book_64 : decode cX0_book 64 = .ok (.bipush (-2), 2) := dk_16 254 (dk_at dksX0_book_2 18 rfl rfl)
theorem dX0_book_66 : decode cX0_book 66 = .ok (.ireturn, 1) := dk_172 (dk_at dksX0_book_2 20 rfl rfl)
abbrev cX0_foretold : ByteArray := prog_1_method_54_code
def yX0_foretold : MethodName := ⟨RX0, "foretold", "(III)I"⟩
def dkwX0_foretold_4 : List UInt8 := [184, 0, 149, 46, 172]
abbrev dktX0_foretold_4 : List UInt8 := dkwX0_foretold_4 ++ []
def dkwX0_foretold_3 : List UInt8 := [180, 0, 43, 182, 0, 208, 96, 54, 4, 132, 5, 1, 167, 255, 222, 42, 180, 0, 43, 28, 5, 29, 96]
abbrev dktX0_foretold_3 : List UInt8 := dkwX0_foretold_3 ++ dktX0_foretold_4
def dkwX0_foretold_2 : List UInt8 := [54, 5, 21, 5, 27, 162, 0, 34, 42, 180, 0, 43, 3, 46, 17, 39, 15, 162, 0, 22, 21, 4, 42, 42]
abbrev dktX0_foretold_2 : List UInt8 := dkwX0_foretold_2 ++ dktX0_foretold_3
def dkwX0_foretold_1 : List UInt8 := [154, 0, 5, 2, 172, 42, 180, 0, 21, 180, 0, 66, 42, 180, 0, 43, 184, 1, 32, 3, 54, 4, 3]
abbrev dktX0_foretold_1 : List UInt8 := dkwX0_foretold_1 ++ dktX0_foretold_2
def dkwX0_foretold_0 : List UInt8 := [27, 4, 16, 60, 184, 0, 62, 153, 0, 20, 42, 28, 182, 0, 223, 153, 0, 12, 29, 3, 5, 184, 0, 62]
abbrev dktX0_foretold_0 : List UInt8 := dkwX0_foretold_0 ++ dktX0_foretold_1
theorem dksX0_foretold_0 : cX0_foretold.data.toList.drop 0 = dktX0_foretold_0 := by decide +kernel
theorem dksX0_foretold_1 : cX0_foretold.data.toList.drop 24 = dktX0_foretold_1 := dk_seg dksX0_foretold_0 24 rfl rfl
theorem dksX0_foretold_2 : cX0_foretold.data.toList.drop 47 = dktX0_foretold_2 := dk_seg dksX0_foretold_1 23 rfl rfl
theorem dksX0_foretold_3 : cX0_foretold.data.toList.drop 71 = dktX0_foretold_3 := dk_seg dksX0_foretold_2 24 rfl rfl
theorem dksX0_foretold_4 : cX0_foretold.data.toList.drop 94 = dktX0_foretold_4 := dk_seg dksX0_foretold_3 23 rfl rfl
theorem dX0_foretold_0 : decode cX0_foretold 0 = .ok (.iload_n 1, 1) := dk_27 (dk_at dksX0_foretold_0 0 rfl rfl)
theorem dX0_foretold_1 : decode cX0_foretold 1 = .ok (.iconst 1, 1) := dk_4 (dk_at dksX0_foretold_0 1 rfl rfl)
theorem dX0_foretold_2 : decode cX0_foretold 2 = .ok (.bipush 60, 2) := dk_16 60 (dk_at dksX0_foretold_0 2 rfl rfl)
theorem dX0_foretold_4 : decode cX0_foretold 4 = .ok (.invokestatic 62, 3) := dk_184 0 62 (dk_at dksX0_foretold_0 4 rfl rfl)
theorem dX0_foretold_7 : decode cX0_foretold 7 = .ok (.ifCond .eq 20, 3) := dk_153 0 20 (dk_at dksX0_foretold_0 7 rfl rfl)
theorem dX0_foretold_10 : decode cX0_foretold 10 = .ok (.aload_n 0, 1) := dk_42 (dk_at dksX0_foretold_0 10 rfl rfl)
theorem dX0_foretold_11 : decode cX0_foretold 11 = .ok (.iload_n 2, 1) := dk_28 (dk_at dksX0_foretold_0 11 rfl rfl)
theorem dX0_foretold_12 : decode cX0_foretold 12 = .ok (.invokevirtual 223, 3) := dk_182 0 223 (dk_at dksX0_foretold_0 12 rfl rfl)
theorem dX0_foretold_15 : decode cX0_foretold 15 = .ok (.ifCond .eq 12, 3) := dk_153 0 12 (dk_at dksX0_foretold_0 15 rfl rfl)
theorem dX0_foretold_18 : decode cX0_foretold 18 = .ok (.iload_n 3, 1) := dk_29 (dk_at dksX0_foretold_0 18 rfl rfl)
theorem dX0_foretold_19 : decode cX0_foretold 19 = .ok (.iconst 0, 1) := dk_3 (dk_at dksX0_foretold_0 19 rfl rfl)
theorem dX0_foretold_20 : decode cX0_foretold 20 = .ok (.iconst 2, 1) := dk_5 (dk_at dksX0_foretold_0 20 rfl rfl)
theorem dX0_foretold_21 : decode cX0_foretold 21 = .ok (.invokestatic 62, 3) := dk_184 0 62 (dk_at dksX0_foretold_0 21 rfl rfl)
theorem dX0_foretold_24 : decode cX0_foretold 24 = .ok (.ifCond .ne 5, 3) := dk_154 0 5 (dk_at dksX0_foretold_1 0 rfl rfl)
theorem dX0_foretold_27 : decode cX0_foretold 27 = .ok (.iconst (-1), 1) := dk_2 (dk_at dksX0_foretold_1 3 rfl rfl)
theorem dX0_foretold_28 : decode cX0_foretold 28 = .ok (.ireturn, 1) := dk_172 (dk_at dksX0_foretold_1 4 rfl rfl)
theorem dX0_foretold_29 : decode cX0_foretold 29 = .ok (.aload_n 0, 1) := dk_42 (dk_at dksX0_foretold_1 5 rfl rfl)
theorem dX0_foretold_30 : decode cX0_foretold 30 = .ok (.getfield 21, 3) := dk_180 0 21 (dk_at dksX0_foretold_1 6 rfl rfl)
theorem dX0_foretold_33 : decode cX0_foretold 33 = .ok (.getfield 66, 3) := dk_180 0 66 (dk_at dksX0_foretold_1 9 rfl rfl)
theorem dX0_foretold_36 : decode cX0_foretold 36 = .ok (.aload_n 0, 1) := dk_42 (dk_at dksX0_foretold_1 12 rfl rfl)
theorem dX0_foretold_37 : decode cX0_foretold 37 = .ok (.getfield 43, 3) := dk_180 0 43 (dk_at dksX0_foretold_1 13 rfl rfl)
theorem dX0_foretold_40 : decode cX0_foretold 40 = .ok (.invokestatic 288, 3) := dk_184 1 32 (dk_at dksX0_foretold_1 16 rfl rfl)
theorem dX0_foretold_43 : decode cX0_foretold 43 = .ok (.iconst 0, 1) := dk_3 (dk_at dksX0_foretold_1 19 rfl rfl)
theorem dX0_foretold_44 : decode cX0_foretold 44 = .ok (.istore 4, 2) := dk_54 4 (dk_at dksX0_foretold_1 20 rfl rfl)
theorem dX0_foretold_46 : decode cX0_foretold 46 = .ok (.iconst 0, 1) := dk_3 (dk_at dksX0_foretold_1 22 rfl rfl)
theorem dX0_foretold_47 : decode cX0_foretold 47 = .ok (.istore 5, 2) := dk_54 5 (dk_at dksX0_foretold_2 0 rfl rfl)
theorem dX0_foretold_49 : decode cX0_foretold 49 = .ok (.iload 5, 2) := dk_21 5 (dk_at dksX0_foretold_2 2 rfl rfl)
theorem dX0_foretold_51 : decode cX0_foretold 51 = .ok (.iload_n 1, 1) := dk_27 (dk_at dksX0_foretold_2 4 rfl rfl)
theorem dX0_foretold_52 : decode cX0_foretold 52 = .ok (.if_icmp .ge 34, 3) := dk_162 0 34 (dk_at dksX0_foretold_2 5 rfl rfl)
theorem dX0_foretold_55 : decode cX0_foretold 55 = .ok (.aload_n 0, 1) := dk_42 (dk_at dksX0_foretold_2 8 rfl rfl)
theorem dX0_foretold_56 : decode cX0_foretold 56 = .ok (.getfield 43, 3) := dk_180 0 43 (dk_at dksX0_foretold_2 9 rfl rfl)
theorem dX0_foretold_59 : decode cX0_foretold 59 = .ok (.iconst 0, 1) := dk_3 (dk_at dksX0_foretold_2 12 rfl rfl)
theorem dX0_foretold_60 : decode cX0_foretold 60 = .ok (.iaload, 1) := dk_46 (dk_at dksX0_foretold_2 13 rfl rfl)
theorem dX0_foretold_61 : decode cX0_foretold 61 = .ok (.sipush 9999, 3) := dk_17 39 15 (dk_at dksX0_foretold_2 14 rfl rfl)
theorem dX0_foretold_64 : decode cX0_foretold 64 = .ok (.if_icmp .ge 22, 3) := dk_162 0 22 (dk_at dksX0_foretold_2 17 rfl rfl)
theorem dX0_foretold_67 : decode cX0_foretold 67 = .ok (.iload 4, 2) := dk_21 4 (dk_at dksX0_foretold_2 20 rfl rfl)
theorem dX0_foretold_69 : decode cX0_foretold 69 = .ok (.aload_n 0, 1) := dk_42 (dk_at dksX0_foretold_2 22 rfl rfl)
theorem dX0_foretold_70 : decode cX0_foretold 70 = .ok (.aload_n 0, 1) := dk_42 (dk_at dksX0_foretold_2 23 rfl rfl)
theorem dX0_foretold_71 : decode cX0_foretold 71 = .ok (.getfield 43, 3) := dk_180 0 43 (dk_at dksX0_foretold_3 0 rfl rfl)
theorem dX0_foretold_74 : decode cX0_foretold 74 = .ok (.invokevirtual 208, 3) := dk_182 0 208 (dk_at dksX0_foretold_3 3 rfl rfl)
theorem dX0_foretold_77 : decode cX0_foretold 77 = .ok (.iadd, 1) := dk_96 (dk_at dksX0_foretold_3 6 rfl rfl)
theorem dX0_foretold_78 : decode cX0_foretold 78 = .ok (.istore 4, 2) := dk_54 4 (dk_at dksX0_foretold_3 7 rfl rfl)
theorem dX0_foretold_80 : decode cX0_foretold 80 = .ok (.iinc 5 1, 3) := dk_132 5 1 (dk_at dksX0_foretold_3 9 rfl rfl)
theorem dX0_foretold_83 : decode cX0_foretold 83 = .ok (.goto (-34), 3) := dk_167 255 222 (dk_at dksX0_foretold_3 12 rfl rfl)
theorem dX0_foretold_86 : decode cX0_foretold 86 = .ok (.aload_n 0, 1) := dk_42 (dk_at dksX0_foretold_3 15 rfl rfl)
theorem dX0_foretold_87 : decode cX0_foretold 87 = .ok (.getfield 43, 3) := dk_180 0 43 (dk_at dksX0_foretold_3 16 rfl rfl)
theorem dX0_foretold_90 : decode cX0_foretold 90 = .ok (.iload_n 2, 1) := dk_28 (dk_at dksX0_foretold_3 19 rfl rfl)
theorem dX0_foretold_91 : decode cX0_foretold 91 = .ok (.iconst 2, 1) := dk_5 (dk_at dksX0_foretold_3 20 rfl rfl)
theorem dX0_foretold_92 : decode cX0_foretold 92 = .ok (.iload_n 3, 1) := dk_29 (dk_at dksX0_foretold_3 21 rfl rfl)
theorem dX0_foretold_93 : decode cX0_foretold 93 = .ok (.iadd, 1) := dk_96 (dk_at dksX0_foretold_3 22 rfl rfl)
theorem dX0_foretold_94 : decode cX0_foretold 94 = .ok (.invokestatic 149, 3) := dk_184 0 149 (dk_at dksX0_foretold_4 0 rfl rfl)
theorem dX0_foretold_97 : decode cX0_foretold 97 = .ok (.iaload, 1) := dk_46 (dk_at dksX0_foretold_4 3 rfl rfl)
theorem dX0_foretold_98 : decode cX0_foretold 98 = .ok (.ireturn, 1) := dk_172 (dk_at dksX0_foretold_4 4 rfl rfl)
abbrev cX0_pardoned : ByteArray := prog_1_method_55_code
def yX0_pardoned : MethodName := ⟨RX0, "pardoned", "(I)I"⟩
def dkwX0_pardoned_3 : List UInt8 := [180, 0, 43, 27, 7, 184, 0, 149, 46, 4, 160, 0, 5, 29, 172, 132, 3, 1, 167, 255, 195, 2, 172]
abbrev dktX0_pardoned_3 : List UInt8 := dkwX0_pardoned_3 ++ []
def dkwX0_pardoned_2 : List UInt8 := [180, 0, 43, 27, 7, 184, 0, 149, 46, 154, 0, 36, 28, 42, 42, 180, 0, 43, 182, 0, 208, 96, 61, 42]
abbrev dktX0_pardoned_2 : List UInt8 := dkwX0_pardoned_2 ++ dktX0_pardoned_3
def dkwX0_pardoned_1 : List UInt8 := [3, 61, 4, 62, 29, 16, 60, 163, 0, 61, 42, 180, 0, 43, 3, 46, 17, 39, 15, 162, 0, 49, 42]
abbrev dktX0_pardoned_1 : List UInt8 := dkwX0_pardoned_1 ++ dktX0_pardoned_2
def dkwX0_pardoned_0 : List UInt8 := [42, 27, 182, 0, 223, 154, 0, 5, 2, 172, 42, 180, 0, 21, 180, 0, 66, 42, 180, 0, 43, 184, 1, 32]
abbrev dktX0_pardoned_0 : List UInt8 := dkwX0_pardoned_0 ++ dktX0_pardoned_1
theorem dksX0_pardoned_0 : cX0_pardoned.data.toList.drop 0 = dktX0_pardoned_0 := by decide +kernel
theorem dksX0_pardoned_1 : cX0_pardoned.data.toList.drop 24 = dktX0_pardoned_1 := dk_seg dksX0_pardoned_0 24 rfl rfl
theorem dksX0_pardoned_2 : cX0_pardoned.data.toList.drop 47 = dktX0_pardoned_2 := dk_seg dksX0_pardoned_1 23 rfl rfl
theorem dksX0_pardoned_3 : cX0_pardoned.data.toList.drop 71 = dktX0_pardoned_3 := dk_seg dksX0_pardoned_2 24 rfl rfl
theorem dX0_pardoned_0 : decode cX0_pardoned 0 = .ok (.aload_n 0, 1) := dk_42 (dk_at dksX0_pardoned_0 0 rfl rfl)
theorem dX0_pardoned_1 : decode cX0_pardoned 1 = .ok (.iload_n 1, 1) := dk_27 (dk_at dksX0_pardoned_0 1 rfl rfl)
theorem dX0_pardoned_2 : decode cX0_pardoned 2 = .ok (.invokevirtual 223, 3) := dk_182 0 223 (dk_at dksX0_pardoned_0 2 rfl rfl)
theorem dX0_pardoned_5 : decode cX0_pardoned 5 = .ok (.ifCond .ne 5, 3) := dk_154 0 5 (dk_at dksX0_pardoned_0 5 rfl rfl)
theorem dX0_pardoned_8 : decode cX0_pardoned 8 = .ok (.iconst (-1), 1) := dk_2 (dk_at dksX0_pardoned_0 8 rfl rfl)
theorem dX0_pardoned_9 : decode cX0_pardoned 9 = .ok (.ireturn, 1) := dk_172 (dk_at dksX0_pardoned_0 9 rfl rfl)
theorem dX0_pardoned_10 : decode cX0_pardoned 10 = .ok (.aload_n 0, 1) := dk_42 (dk_at dksX0_pardoned_0 10 rfl rfl)
theorem dX0_pardoned_11 : decode cX0_pardoned 11 = .ok (.getfield 21, 3) := dk_180 0 21 (dk_at dksX0_pardoned_0 11 rfl rfl)
theorem dX0_pardoned_14 : decode cX0_pardoned 14 = .ok (.getfield 66, 3) := dk_180 0 66 (dk_at dksX0_pardoned_0 14 rfl rfl)
theorem dX0_pardoned_17 : decode cX0_pardoned 17 = .ok (.aload_n 0, 1) := dk_42 (dk_at dksX0_pardoned_0 17 rfl rfl)
theorem dX0_pardoned_18 : decode cX0_pardoned 18 = .ok (.getfield 43, 3) := dk_180 0 43 (dk_at dksX0_pardoned_0 18 rfl rfl)
theorem dX0_pardoned_21 : decode cX0_pardoned 21 = .ok (.invokestatic 288, 3) := dk_184 1 32 (dk_at dksX0_pardoned_0 21 rfl rfl)
theorem dX0_pardoned_24 : decode cX0_pardoned 24 = .ok (.iconst 0, 1) := dk_3 (dk_at dksX0_pardoned_1 0 rfl rfl)
theorem dX0_pardoned_25 : decode cX0_pardoned 25 = .ok (.istore_n 2, 1) := dk_61 (dk_at dksX0_pardoned_1 1 rfl rfl)
theorem dX0_pardoned_26 : decode cX0_pardoned 26 = .ok (.iconst 1, 1) := dk_4 (dk_at dksX0_pardoned_1 2 rfl rfl)
theorem dX0_pardoned_27 : decode cX0_pardoned 27 = .ok (.istore_n 3, 1) := dk_62 (dk_at dksX0_pardoned_1 3 rfl rfl)
theorem dX0_pardoned_28 : decode cX0_pardoned 28 = .ok (.iload_n 3, 1) := dk_29 (dk_at dksX0_pardoned_1 4 rfl rfl)
theorem dX0_pardoned_29 : decode cX0_pardoned 29 = .ok (.bipush 60, 2) := dk_16 60 (dk_at dksX0_pardoned_1 5 rfl rfl)
theorem dX0_pardoned_31 : decode cX0_pardoned 31 = .ok (.if_icmp .gt 61, 3) := dk_163 0 61 (dk_at dksX0_pardoned_1 7 rfl rfl)
theorem dX0_pardoned_34 : decode cX0_pardoned 34 = .ok (.aload_n 0, 1) := dk_42 (dk_at dksX0_pardoned_1 10 rfl rfl)
theorem dX0_pardoned_35 : decode cX0_pardoned 35 = .ok (.getfield 43, 3) := dk_180 0 43 (dk_at dksX0_pardoned_1 11 rfl rfl)
theorem dX0_pardoned_38 : decode cX0_pardoned 38 = .ok (.iconst 0, 1) := dk_3 (dk_at dksX0_pardoned_1 14 rfl rfl)
theorem dX0_pardoned_39 : decode cX0_pardoned 39 = .ok (.iaload, 1) := dk_46 (dk_at dksX0_pardoned_1 15 rfl rfl)
theorem dX0_pardoned_40 : decode cX0_pardoned 40 = .ok (.sipush 9999, 3) := dk_17 39 15 (dk_at dksX0_pardoned_1 16 rfl rfl)
theorem dX0_pardoned_43 : decode cX0_pardoned 43 = .ok (.if_icmp .ge 49, 3) := dk_162 0 49 (dk_at dksX0_pardoned_1 19 rfl rfl)
theorem dX0_pardoned_46 : decode cX0_pardoned 46 = .ok (.aload_n 0, 1) := dk_42 (dk_at dksX0_pardoned_1 22 rfl rfl)
theorem dX0_pardoned_47 : decode cX0_pardoned 47 = .ok (.getfield 43, 3) := dk_180 0 43 (dk_at dksX0_pardoned_2 0 rfl rfl)
theorem dX0_pardoned_50 : decode cX0_pardoned 50 = .ok (.iload_n 1, 1) := dk_27 (dk_at dksX0_pardoned_2 3 rfl rfl)
theorem dX0_pardoned_51 : decode cX0_pardoned 51 = .ok (.iconst 4, 1) := dk_7 (dk_at dksX0_pardoned_2 4 rfl rfl)
theorem dX0_pardoned_52 : decode cX0_pardoned 52 = .ok (.invokestatic 149, 3) := dk_184 0 149 (dk_at dksX0_pardoned_2 5 rfl rfl)
theorem dX0_pardoned_55 : decode cX0_pardoned 55 = .ok (.iaload, 1) := dk_46 (dk_at dksX0_pardoned_2 8 rfl rfl)
theorem dX0_pardoned_56 : decode cX0_pardoned 56 = .ok (.ifCond .ne 36, 3) := dk_154 0 36 (dk_at dksX0_pardoned_2 9 rfl rfl)
theorem dX0_pardoned_59 : decode cX0_pardoned 59 = .ok (.iload_n 2, 1) := dk_28 (dk_at dksX0_pardoned_2 12 rfl rfl)
theorem dX0_pardoned_60 : decode cX0_pardoned 60 = .ok (.aload_n 0, 1) := dk_42 (dk_at dksX0_pardoned_2 13 rfl rfl)
theorem dX0_pardoned_61 : decode cX0_pardoned 61 = .ok (.aload_n 0, 1) := dk_42 (dk_at dksX0_pardoned_2 14 rfl rfl)
theorem dX0_pardoned_62 : decode cX0_pardoned 62 = .ok (.getfield 43, 3) := dk_180 0 43 (dk_at dksX0_pardoned_2 15 rfl rfl)
theorem dX0_pardoned_65 : decode cX0_pardoned 65 = .ok (.invokevirtual 208, 3) := dk_182 0 208 (dk_at dksX0_pardoned_2 18 rfl rfl)
theorem dX0_pardoned_68 : decode cX0_pardoned 68 = .ok (.iadd, 1) := dk_96 (dk_at dksX0_pardoned_2 21 rfl rfl)
theorem dX0_pardoned_69 : decode cX0_pardoned 69 = .ok (.istore_n 2, 1) := dk_61 (dk_at dksX0_pardoned_2 22 rfl rfl)
theorem dX0_pardoned_70 : decode cX0_pardoned 70 = .ok (.aload_n 0, 1) := dk_42 (dk_at dksX0_pardoned_2 23 rfl rfl)
theorem dX0_pardoned_71 : decode cX0_pardoned 71 = .ok (.getfield 43, 3) := dk_180 0 43 (dk_at dksX0_pardoned_3 0 rfl rfl)
theorem dX0_pardoned_74 : decode cX0_pardoned 74 = .ok (.iload_n 1, 1) := dk_27 (dk_at dksX0_pardoned_3 3 rfl rfl)
theorem dX0_pardoned_75 : decode cX0_pardoned 75 = .ok (.iconst 4, 1) := dk_7 (dk_at dksX0_pardoned_3 4 rfl rfl)
theorem dX0_pardoned_76 : decode cX0_pardoned 76 = .ok (.invokestatic 149, 3) := dk_184 0 149 (dk_at dksX0_pardoned_3 5 rfl rfl)
theorem dX0_pardoned_79 : decode cX0_pardoned 79 = .ok (.iaload, 1) := dk_46 (dk_at dksX0_pardoned_3 8 rfl rfl)
theorem dX0_pardoned_80 : decode cX0_pardoned 80 = .ok (.iconst 1, 1) := dk_4 (dk_at dksX0_pardoned_3 9 rfl rfl)
theorem dX0_pardoned_81 : decode cX0_pardoned 81 = .ok (.if_icmp .ne 5, 3) := dk_160 0 5 (dk_at dksX0_pardoned_3 10 rfl rfl)
theorem dX0_pardoned_84 : decode cX0_pardoned 84 = .ok (.iload_n 3, 1) := dk_29 (dk_at dksX0_pardoned_3 13 rfl rfl)
theorem dX0_pardoned_85 : decode cX0_pardoned 85 = .ok (.ireturn, 1) := dk_172 (dk_at dksX0_pardoned_3 14 rfl rfl)
theorem dX0_pardoned_86 : decode cX0_pardoned 86 = .ok (.iinc 3 1, 3) := dk_132 3 1 (dk_at dksX0_pardoned_3 15 rfl rfl)
theorem dX0_pardoned_89 : decode cX0_pardoned 89 = .ok (.goto (-61), 3) := dk_167 255 195 (dk_at dksX0_pardoned_3 18 rfl rfl)
theorem dX0_pardoned_92 : decode cX0_pardoned 92 = .ok (.iconst (-1), 1) := dk_2 (dk_at dksX0_pardoned_3 21 rfl rfl)
theorem dX0_pardoned_93 : decode cX0_pardoned 93 = .ok (.ireturn, 1) := dk_172 (dk_at dksX0_pardoned_3 22 rfl rfl)
abbrev cX0_meets : ByteArray := prog_1_method_57_code
def yX0_meets : MethodName := ⟨RX0, "meets", "(II)I"⟩
def dkwX0_meets_1 : List UInt8 := [167, 0, 4, 2, 172]
abbrev dktX0_meets_1 : List UInt8 := dkwX0_meets_1 ++ []
def dkwX0_meets_0 : List UInt8 := [42, 27, 182, 0, 69, 153, 0, 20, 42, 28, 182, 0, 69, 153, 0, 12, 42, 27, 28, 182, 1, 45]
abbrev dktX0_meets_0 : List UInt8 := dkwX0_meets_0 ++ dktX0_meets_1
theorem dksX0_meets_0 : cX0_meets.data.toList.drop 0 = dktX0_meets_0 := by decide +kernel
theorem dksX0_meets_1 : cX0_meets.data.toList.drop 22 = dktX0_meets_1 := dk_seg dksX0_meets_0 22 rfl rfl
theorem dX0_meets_0 : decode cX0_meets 0 = .ok (.aload_n 0, 1) := dk_42 (dk_at dksX0_meets_0 0 rfl rfl)
theorem dX0_meets_1 : decode cX0_meets 1 = .ok (.iload_n 1, 1) := dk_27 (dk_at dksX0_meets_0 1 rfl rfl)
theorem dX0_meets_2 : decode cX0_meets 2 = .ok (.invokevirtual 69, 3) := dk_182 0 69 (dk_at dksX0_meets_0 2 rfl rfl)
theorem dX0_meets_5 : decode cX0_meets 5 = .ok (.ifCond .eq 20, 3) := dk_153 0 20 (dk_at dksX0_meets_0 5 rfl rfl)
theorem dX0_meets_8 : decode cX0_meets 8 = .ok (.aload_n 0, 1) := dk_42 (dk_at dksX0_meets_0 8 rfl rfl)
theorem dX0_meets_9 : decode cX0_meets 9 = .ok (.iload_n 2, 1) := dk_28 (dk_at dksX0_meets_0 9 rfl rfl)
theorem dX0_meets_10 : decode cX0_meets 10 = .ok (.invokevirtual 69, 3) := dk_182 0 69 (dk_at dksX0_meets_0 10 rfl rfl)
theorem dX0_meets_13 : decode cX0_meets 13 = .ok (.ifCond .eq 12, 3) := dk_153 0 12 (dk_at dksX0_meets_0 13 rfl rfl)
theorem dX0_meets_16 : decode cX0_meets 16 = .ok (.aload_n 0, 1) := dk_42 (dk_at dksX0_meets_0 16 rfl rfl)
theorem dX0_meets_17 : decode cX0_meets 17 = .ok (.iload_n 1, 1) := dk_27 (dk_at dksX0_meets_0 17 rfl rfl)
theorem dX0_meets_18 : decode cX0_meets 18 = .ok (.iload_n 2, 1) := dk_28 (dk_at dksX0_meets_0 18 rfl rfl)
theorem dX0_meets_19 : decode cX0_meets 19 = .ok (.invokevirtual 301, 3) := dk_182 1 45 (dk_at dksX0_meets_0 19 rfl rfl)
theorem dX0_meets_22 : decode cX0_meets 22 = .ok (.goto 4, 3) := dk_167 0 4 (dk_at dksX0_meets_1 0 rfl rfl)
theorem dX0_meets_25 : decode cX0_meets 25 = .ok (.iconst (-1), 1) := dk_2 (dk_at dksX0_meets_1 3 rfl rfl)
theorem dX0_meets_26 : decode cX0_meets 26 = .ok (.ireturn, 1) := dk_172 (dk_at dksX0_meets_1 4 rfl rfl)
abbrev cX0_meetOf : ByteArray := prog_1_method_56_code
def yX0_meetOf : MethodName := ⟨RX0, "meetOf", "(II)I"⟩
def dkwX0_meetOf_1 : List UInt8 := [46, 62, 167, 255, 232, 29, 172]
abbrev dktX0_meetOf_1 : List UInt8 := dkwX0_meetOf_1 ++ []
def dkwX0_meetOf_0 : List UInt8 := [27, 62, 29, 28, 159, 0, 25, 42, 28, 29, 182, 0, 86, 154, 0, 16, 42, 180, 0, 21, 180, 0, 73, 29]
abbrev dktX0_meetOf_0 : List UInt8 := dkwX0_meetOf_0 ++ dktX0_meetOf_1
theorem dksX0_meetOf_0 : cX0_meetOf.data.toList.drop 0 = dktX0_meetOf_0 := by decide +kernel
theorem dksX0_meetOf_1 : cX0_meetOf.data.toList.drop 24 = dktX0_meetOf_1 := dk_seg dksX0_meetOf_0 24 rfl rfl
theorem dX0_meetOf_0 : decode cX0_meetOf 0 = .ok (.iload_n 1, 1) := dk_27 (dk_at dksX0_meetOf_0 0 rfl rfl)
theorem dX0_meetOf_1 : decode cX0_meetOf 1 = .ok (.istore_n 3, 1) := dk_62 (dk_at dksX0_meetOf_0 1 rfl rfl)
theorem dX0_meetOf_2 : decode cX0_meetOf 2 = .ok (.iload_n 3, 1) := dk_29 (dk_at dksX0_meetOf_0 2 rfl rfl)
theorem dX0_meetOf_3 : decode cX0_meetOf 3 = .ok (.iload_n 2, 1) := dk_28 (dk_at dksX0_meetOf_0 3 rfl rfl)
theorem dX0_meetOf_4 : decode cX0_meetOf 4 = .ok (.if_icmp .eq 25, 3) := dk_159 0 25 (dk_at dksX0_meetOf_0 4 rfl rfl)
theorem dX0_meetOf_7 : decode cX0_meetOf 7 = .ok (.aload_n 0, 1) := dk_42 (dk_at dksX0_meetOf_0 7 rfl rfl)
theorem dX0_meetOf_8 : decode cX0_meetOf 8 = .ok (.iload_n 2, 1) := dk_28 (dk_at dksX0_meetOf_0 8 rfl rfl)
theorem dX0_meetOf_9 : decode cX0_meetOf 9 = .ok (.iload_n 3, 1) := dk_29 (dk_at dksX0_meetOf_0 9 rfl rfl)
theorem dX0_meetOf_10 : decode cX0_meetOf 10 = .ok (.invokevirtual 86, 3) := dk_182 0 86 (dk_at dksX0_meetOf_0 10 rfl rfl)
theorem dX0_meetOf_13 : decode cX0_meetOf 13 = .ok (.ifCond .ne 16, 3) := dk_154 0 16 (dk_at dksX0_meetOf_0 13 rfl rfl)
theorem dX0_meetOf_16 : decode cX0_meetOf 16 = .ok (.aload_n 0, 1) := dk_42 (dk_at dksX0_meetOf_0 16 rfl rfl)
theorem dX0_meetOf_17 : decode cX0_meetOf 17 = .ok (.getfield 21, 3) := dk_180 0 21 (dk_at dksX0_meetOf_0 17 rfl rfl)
theorem dX0_meetOf_20 : decode cX0_meetOf 20 = .ok (.getfield 73, 3) := dk_180 0 73 (dk_at dksX0_meetOf_0 20 rfl rfl)
theorem dX0_meetOf_23 : decode cX0_meetOf 23 = .ok (.iload_n 3, 1) := dk_29 (dk_at dksX0_meetOf_0 23 rfl rfl)
theorem dX0_meetOf_24 : decode cX0_meetOf 24 = .ok (.iaload, 1) := dk_46 (dk_at dksX0_meetOf_1 0 rfl rfl)
theorem dX0_meetOf_25 : decode cX0_meetOf 25 = .ok (.istore_n 3, 1) := dk_62 (dk_at dksX0_meetOf_1 1 rfl rfl)
theorem dX0_meetOf_26 : decode cX0_meetOf 26 = .ok (.goto (-24), 3) := dk_167 255 232 (dk_at dksX0_meetOf_1 2 rfl rfl)
theorem dX0_meetOf_29 : decode cX0_meetOf 29 = .ok (.iload_n 3, 1) := dk_29 (dk_at dksX0_meetOf_1 5 rfl rfl)
theorem dX0_meetOf_30 : decode cX0_meetOf 30 = .ok (.ireturn, 1) := dk_172 (dk_at dksX0_meetOf_1 6 rfl rfl)
abbrev cX0_steps : ByteArray := prog_1_method_59_code
def yX0_steps : MethodName := ⟨RX0, "steps", "(II)I"⟩
def dkwX0_steps_1 : List UInt8 := [167, 0, 4, 2, 172]
abbrev dktX0_steps_1 : List UInt8 := dkwX0_steps_1 ++ []
def dkwX0_steps_0 : List UInt8 := [42, 27, 182, 0, 69, 153, 0, 20, 42, 28, 182, 0, 69, 153, 0, 12, 42, 27, 28, 182, 1, 48]
abbrev dktX0_steps_0 : List UInt8 := dkwX0_steps_0 ++ dktX0_steps_1
theorem dksX0_steps_0 : cX0_steps.data.toList.drop 0 = dktX0_steps_0 := by decide +kernel
theorem dksX0_steps_1 : cX0_steps.data.toList.drop 22 = dktX0_steps_1 := dk_seg dksX0_steps_0 22 rfl rfl
theorem dX0_steps_0 : decode cX0_steps 0 = .ok (.aload_n 0, 1) := dk_42 (dk_at dksX0_steps_0 0 rfl rfl)
theorem dX0_steps_1 : decode cX0_steps 1 = .ok (.iload_n 1, 1) := dk_27 (dk_at dksX0_steps_0 1 rfl rfl)
theorem dX0_steps_2 : decode cX0_steps 2 = .ok (.invokevirtual 69, 3) := dk_182 0 69 (dk_at dksX0_steps_0 2 rfl rfl)
theorem dX0_steps_5 : decode cX0_steps 5 = .ok (.ifCond .eq 20, 3) := dk_153 0 20 (dk_at dksX0_steps_0 5 rfl rfl)
theorem dX0_steps_8 : decode cX0_steps 8 = .ok (.aload_n 0, 1) := dk_42 (dk_at dksX0_steps_0 8 rfl rfl)
theorem dX0_steps_9 : decode cX0_steps 9 = .ok (.iload_n 2, 1) := dk_28 (dk_at dksX0_steps_0 9 rfl rfl)
theorem dX0_steps_10 : decode cX0_steps 10 = .ok (.invokevirtual 69, 3) := dk_182 0 69 (dk_at dksX0_steps_0 10 rfl rfl)
theorem dX0_steps_13 : decode cX0_steps 13 = .ok (.ifCond .eq 12, 3) := dk_153 0 12 (dk_at dksX0_steps_0 13 rfl rfl)
theorem dX0_steps_16 : decode cX0_steps 16 = .ok (.aload_n 0, 1) := dk_42 (dk_at dksX0_steps_0 16 rfl rfl)
theorem dX0_steps_17 : decode cX0_steps 17 = .ok (.iload_n 1, 1) := dk_27 (dk_at dksX0_steps_0 17 rfl rfl)
theorem dX0_steps_18 : decode cX0_steps 18 = .ok (.iload_n 2, 1) := dk_28 (dk_at dksX0_steps_0 18 rfl rfl)
theorem dX0_steps_19 : decode cX0_steps 19 = .ok (.invokevirtual 304, 3) := dk_182 1 48 (dk_at dksX0_steps_0 19 rfl rfl)
theorem dX0_steps_22 : decode cX0_steps 22 = .ok (.goto 4, 3) := dk_167 0 4 (dk_at dksX0_steps_1 0 rfl rfl)
theorem dX0_steps_25 : decode cX0_steps 25 = .ok (.iconst (-1), 1) := dk_2 (dk_at dksX0_steps_1 3 rfl rfl)
theorem dX0_steps_26 : decode cX0_steps 26 = .ok (.ireturn, 1) := dk_172 (dk_at dksX0_steps_1 4 rfl rfl)
abbrev cX0_stepsOf : ByteArray := prog_1_method_58_code
def yX0_stepsOf : MethodName := ⟨RX0, "stepsOf", "(II)I"⟩
def dkwX0_stepsOf_1 : List UInt8 := [172]
abbrev dktX0_stepsOf_1 : List UInt8 := dkwX0_stepsOf_1 ++ []
def dkwX0_stepsOf_0 : List UInt8 := [42, 27, 182, 0, 138, 42, 28, 182, 0, 138, 96, 5, 42, 42, 27, 28, 182, 1, 45, 182, 0, 138, 104, 100]
abbrev dktX0_stepsOf_0 : List UInt8 := dkwX0_stepsOf_0 ++ dktX0_stepsOf_1
theorem dksX0_stepsOf_0 : cX0_stepsOf.data.toList.drop 0 = dktX0_stepsOf_0 := by decide +kernel
theorem dksX0_stepsOf_1 : cX0_stepsOf.data.toList.drop 24 = dktX0_stepsOf_1 := dk_seg dksX0_stepsOf_0 24 rfl rfl
theorem dX0_stepsOf_0 : decode cX0_stepsOf 0 = .ok (.aload_n 0, 1) := dk_42 (dk_at dksX0_stepsOf_0 0 rfl rfl)
theorem dX0_stepsOf_1 : decode cX0_stepsOf 1 = .ok (.iload_n 1, 1) := dk_27 (dk_at dksX0_stepsOf_0 1 rfl rfl)
theorem dX0_stepsOf_2 : decode cX0_stepsOf 2 = .ok (.invokevirtual 138, 3) := dk_182 0 138 (dk_at dksX0_stepsOf_0 2 rfl rfl)
theorem dX0_stepsOf_5 : decode cX0_stepsOf 5 = .ok (.aload_n 0, 1) := dk_42 (dk_at dksX0_stepsOf_0 5 rfl rfl)
theorem dX0_stepsOf_6 : decode cX0_stepsOf 6 = .ok (.iload_n 2, 1) := dk_28 (dk_at dksX0_stepsOf_0 6 rfl rfl)
theorem dX0_stepsOf_7 : decode cX0_stepsOf 7 = .ok (.invokevirtual 138, 3) := dk_182 0 138 (dk_at dksX0_stepsOf_0 7 rfl rfl)
theorem dX0_stepsOf_10 : decode cX0_stepsOf 10 = .ok (.iadd, 1) := dk_96 (dk_at dksX0_stepsOf_0 10 rfl rfl)
theorem dX0_stepsOf_11 : decode cX0_stepsOf 11 = .ok (.iconst 2, 1) := dk_5 (dk_at dksX0_stepsOf_0 11 rfl rfl)
theorem dX0_stepsOf_12 : decode cX0_stepsOf 12 = .ok (.aload_n 0, 1) := dk_42 (dk_at dksX0_stepsOf_0 12 rfl rfl)
theorem dX0_stepsOf_13 : decode cX0_stepsOf 13 = .ok (.aload_n 0, 1) := dk_42 (dk_at dksX0_stepsOf_0 13 rfl rfl)
theorem dX0_stepsOf_14 : decode cX0_stepsOf 14 = .ok (.iload_n 1, 1) := dk_27 (dk_at dksX0_stepsOf_0 14 rfl rfl)
theorem dX0_stepsOf_15 : decode cX0_stepsOf 15 = .ok (.iload_n 2, 1) := dk_28 (dk_at dksX0_stepsOf_0 15 rfl rfl)
theorem dX0_stepsOf_16 : decode cX0_stepsOf 16 = .ok (.invokevirtual 301, 3) := dk_182 1 45 (dk_at dksX0_stepsOf_0 16 rfl rfl)
theorem dX0_stepsOf_19 : decode cX0_stepsOf 19 = .ok (.invokevirtual 138, 3) := dk_182 0 138 (dk_at dksX0_stepsOf_0 19 rfl rfl)
theorem dX0_stepsOf_22 : decode cX0_stepsOf 22 = .ok (.imul, 1) := dk_104 (dk_at dksX0_stepsOf_0 22 rfl rfl)
theorem dX0_stepsOf_23 : decode cX0_stepsOf 23 = .ok (.isub, 1) := dk_100 (dk_at dksX0_stepsOf_0 23 rfl rfl)
theorem dX0_stepsOf_24 : decode cX0_stepsOf 24 = .ok (.ireturn, 1) := dk_172 (dk_at dksX0_stepsOf_1 0 rfl rfl)
abbrev cX0_route : ByteArray := prog_1_method_61_code
def yX0_route : MethodName := ⟨RX0, "route", "(III)I"⟩
def dkwX0_route_4 : List UInt8 := [162, 0, 12, 42, 180, 0, 49, 29, 46, 167, 0, 5, 16, 252, 172]
abbrev dktX0_route_4 : List UInt8 := dkwX0_route_4 ++ []
def dkwX0_route_3 : List UInt8 := [42, 180, 1, 54, 172, 29, 2, 160, 0, 10, 42, 180, 1, 57, 167, 0, 22, 29, 42, 180, 1, 57]
abbrev dktX0_route_3 : List UInt8 := dkwX0_route_3 ++ dktX0_route_4
def dkwX0_route_2 : List UInt8 := [3, 16, 10, 3, 182, 1, 60, 29, 16, 254, 160, 0, 8, 42, 180, 1, 51, 172, 29, 16, 253, 160, 0, 8]
abbrev dktX0_route_2 : List UInt8 := dkwX0_route_2 ++ dktX0_route_3
def dkwX0_route_1 : List UInt8 := [153, 0, 9, 29, 16, 253, 162, 0, 6, 16, 252, 172, 42, 2, 181, 1, 51, 42, 27, 27, 28, 4, 27, 120]
abbrev dktX0_route_1 : List UInt8 := dkwX0_route_1 ++ dktX0_route_2
def dkwX0_route_0 : List UInt8 := [42, 27, 182, 0, 69, 153, 0, 26, 42, 28, 182, 0, 69, 153, 0, 18, 42, 27, 28, 182, 0, 86]
abbrev dktX0_route_0 : List UInt8 := dkwX0_route_0 ++ dktX0_route_1
theorem dksX0_route_0 : cX0_route.data.toList.drop 0 = dktX0_route_0 := by decide +kernel
theorem dksX0_route_1 : cX0_route.data.toList.drop 22 = dktX0_route_1 := dk_seg dksX0_route_0 22 rfl rfl
theorem dksX0_route_2 : cX0_route.data.toList.drop 46 = dktX0_route_2 := dk_seg dksX0_route_1 24 rfl rfl
theorem dksX0_route_3 : cX0_route.data.toList.drop 70 = dktX0_route_3 := dk_seg dksX0_route_2 24 rfl rfl
theorem dksX0_route_4 : cX0_route.data.toList.drop 92 = dktX0_route_4 := dk_seg dksX0_route_3 22 rfl rfl
theorem dX0_route_0 : decode cX0_route 0 = .ok (.aload_n 0, 1) := dk_42 (dk_at dksX0_route_0 0 rfl rfl)
theorem dX0_route_1 : decode cX0_route 1 = .ok (.iload_n 1, 1) := dk_27 (dk_at dksX0_route_0 1 rfl rfl)
theorem dX0_route_2 : decode cX0_route 2 = .ok (.invokevirtual 69, 3) := dk_182 0 69 (dk_at dksX0_route_0 2 rfl rfl)
theorem dX0_route_5 : decode cX0_route 5 = .ok (.ifCond .eq 26, 3) := dk_153 0 26 (dk_at dksX0_route_0 5 rfl rfl)
theorem dX0_route_8 : decode cX0_route 8 = .ok (.aload_n 0, 1) := dk_42 (dk_at dksX0_route_0 8 rfl rfl)
theorem dX0_route_9 : decode cX0_route 9 = .ok (.iload_n 2, 1) := dk_28 (dk_at dksX0_route_0 9 rfl rfl)
theorem dX0_route_10 : decode cX0_route 10 = .ok (.invokevirtual 69, 3) := dk_182 0 69 (dk_at dksX0_route_0 10 rfl rfl)
theorem dX0_route_13 : decode cX0_route 13 = .ok (.ifCond .eq 18, 3) := dk_153 0 18 (dk_at dksX0_route_0 13 rfl rfl)
theorem dX0_route_16 : decode cX0_route 16 = .ok (.aload_n 0, 1) := dk_42 (dk_at dksX0_route_0 16 rfl rfl)
theorem dX0_route_17 : decode cX0_route 17 = .ok (.iload_n 1, 1) := dk_27 (dk_at dksX0_route_0 17 rfl rfl)
theorem dX0_route_18 : decode cX0_route 18 = .ok (.iload_n 2, 1) := dk_28 (dk_at dksX0_route_0 18 rfl rfl)
theorem dX0_route_19 : decode cX0_route 19 = .ok (.invokevirtual 86, 3) := dk_182 0 86 (dk_at dksX0_route_0 19 rfl rfl)
theorem dX0_route_22 : decode cX0_route 22 = .ok (.ifCond .eq 9, 3) := dk_153 0 9 (dk_at dksX0_route_1 0 rfl rfl)
theorem dX0_route_25 : decode cX0_route 25 = .ok (.iload_n 3, 1) := dk_29 (dk_at dksX0_route_1 3 rfl rfl)
theorem dX0_route_26 : decode cX0_route 26 = .ok (.bipush (-3), 2) := dk_16 253 (dk_at dksX0_route_1 4 rfl rfl)
theorem dX0_route_28 : decode cX0_route 28 = .ok (.if_icmp .ge 6, 3) := dk_162 0 6 (dk_at dksX0_route_1 6 rfl rfl)
theorem dX0_route_31 : decode cX0_route 31 = .ok (.bipush (-4), 2) := dk_16 252 (dk_at dksX0_route_1 9 rfl rfl)
theorem dX0_route_33 : decode cX0_route 33 = .ok (.ireturn, 1) := dk_172 (dk_at dksX0_route_1 11 rfl rfl)
theorem dX0_route_34 : decode cX0_route 34 = .ok (.aload_n 0, 1) := dk_42 (dk_at dksX0_route_1 12 rfl rfl)
theorem dX0_route_35 : decode cX0_route 35 = .ok (.iconst (-1), 1) := dk_2 (dk_at dksX0_route_1 13 rfl rfl)
theorem dX0_route_36 : decode cX0_route 36 = .ok (.putfield 307, 3) := dk_181 1 51 (dk_at dksX0_route_1 14 rfl rfl)
theorem dX0_route_39 : decode cX0_route 39 = .ok (.aload_n 0, 1) := dk_42 (dk_at dksX0_route_1 17 rfl rfl)
theorem dX0_route_40 : decode cX0_route 40 = .ok (.iload_n 1, 1) := dk_27 (dk_at dksX0_route_1 18 rfl rfl)
theorem dX0_route_41 : decode cX0_route 41 = .ok (.iload_n 1, 1) := dk_27 (dk_at dksX0_route_1 19 rfl rfl)
theorem dX0_route_42 : decode cX0_route 42 = .ok (.iload_n 2, 1) := dk_28 (dk_at dksX0_route_1 20 rfl rfl)
theorem dX0_route_43 : decode cX0_route 43 = .ok (.iconst 1, 1) := dk_4 (dk_at dksX0_route_1 21 rfl rfl)
theorem dX0_route_44 : decode cX0_route 44 = .ok (.iload_n 1, 1) := dk_27 (dk_at dksX0_route_1 22 rfl rfl)
theorem dX0_route_45 : decode cX0_route 45 = .ok (.ishl, 1) := dk_120 (dk_at dksX0_route_1 23 rfl rfl)
theorem dX0_route_46 : decode cX0_route 46 = .ok (.iconst 0, 1) := dk_3 (dk_at dksX0_route_2 0 rfl rfl)
theorem dX0_route_47 : decode cX0_route 47 = .ok (.bipush 10, 2) := dk_16 10 (dk_at dksX0_route_2 1 rfl rfl)
theorem dX0_route_49 : decode cX0_route 49 = .ok (.iconst 0, 1) := dk_3 (dk_at dksX0_route_2 3 rfl rfl)
theorem dX0_route_50 : decode cX0_route 50 = .ok (.invokevirtual 316, 3) := dk_182 1 60 (dk_at dksX0_route_2 4 rfl rfl)
theorem dX0_route_53 : decode cX0_route 53 = .ok (.iload_n 3, 1) := dk_29 (dk_at dksX0_route_2 7 rfl rfl)
theorem dX0_route_54 : decode cX0_route 54 = .ok (.bipush (-2), 2) := dk_16 254 (dk_at dksX0_route_2 8 rfl rfl)
theorem dX0_route_56 : decode cX0_route 56 = .ok (.if_icmp .ne 8, 3) := dk_160 0 8 (dk_at dksX0_route_2 10 rfl rfl)
theorem dX0_route_59 : decode cX0_route 59 = .ok (.aload_n 0, 1) := dk_42 (dk_at dksX0_route_2 13 rfl rfl)
theorem dX0_route_60 : decode cX0_route 60 = .ok (.getfield 307, 3) := dk_180 1 51 (dk_at dksX0_route_2 14 rfl rfl)
theorem dX0_route_63 : decode cX0_route 63 = .ok (.ireturn, 1) := dk_172 (dk_at dksX0_route_2 17 rfl rfl)
theorem dX0_route_64 : decode cX0_route 64 = .ok (.iload_n 3, 1) := dk_29 (dk_at dksX0_route_2 18 rfl rfl)
theorem dX0_route_65 : decode cX0_route 65 = .ok (.bipush (-3), 2) := dk_16 253 (dk_at dksX0_route_2 19 rfl rfl)
theorem dX0_route_67 : decode cX0_route 67 = .ok (.if_icmp .ne 8, 3) := dk_160 0 8 (dk_at dksX0_route_2 21 rfl rfl)
theorem dX0_route_70 : decode cX0_route 70 = .ok (.aload_n 0, 1) := dk_42 (dk_at dksX0_route_3 0 rfl rfl)
theorem dX0_route_71 : decode cX0_route 71 = .ok (.getfield 310, 3) := dk_180 1 54 (dk_at dksX0_route_3 1 rfl rfl)
theorem dX0_route_74 : decode cX0_route 74 = .ok (.ireturn, 1) := dk_172 (dk_at dksX0_route_3 4 rfl rfl)
theorem dX0_route_75 : decode cX0_route 75 = .ok (.iload_n 3, 1) := dk_29 (dk_at dksX0_route_3 5 rfl rfl)
theorem dX0_route_76 : decode cX0_route 76 = .ok (.iconst (-1), 1) := dk_2 (dk_at dksX0_route_3 6 rfl rfl)
theorem dX0_route_77 : decode cX0_route 77 = .ok (.if_icmp .ne 10, 3) := dk_160 0 10 (dk_at dksX0_route_3 7 rfl rfl)
theorem dX0_route_80 : decode cX0_route 80 = .ok (.aload_n 0, 1) := dk_42 (dk_at dksX0_route_3 10 rfl rfl)
theorem dX0_route_81 : decode cX0_route 81 = .ok (.getfield 313, 3) := dk_180 1 57 (dk_at dksX0_route_3 11 rfl rfl)
theorem dX0_route_84 : decode cX0_route 84 = .ok (.goto 22, 3) := dk_167 0 22 (dk_at dksX0_route_3 14 rfl rfl)
theorem dX0_route_87 : decode cX0_route 87 = .ok (.iload_n 3, 1) := dk_29 (dk_at dksX0_route_3 17 rfl rfl)
theorem dX0_route_88 : decode cX0_route 88 = .ok (.aload_n 0, 1) := dk_42 (dk_at dksX0_route_3 18 rfl rfl)
theorem dX0_route_89 : decode cX0_route 89 = .ok (.getfield 313, 3) := dk_180 1 57 (dk_at dksX0_route_3 19 rfl rfl)
theorem dX0_route_92 : decode cX0_route 92 = .ok (.if_icmp .ge 12, 3) := dk_162 0 12 (dk_at dksX0_route_4 0 rfl rfl)
theorem dX0_route_95 : decode cX0_route 95 = .ok (.aload_n 0, 1) := dk_42 (dk_at dksX0_route_4 3 rfl rfl)
theorem dX0_route_96 : decode cX0_route 96 = .ok (.getfield 49, 3) := dk_180 0 49 (dk_at dksX0_route_4 4 rfl rfl)
theorem dX0_route_99 : decode cX0_route 99 = .ok (.iload_n 3, 1) := dk_29 (dk_at dksX0_route_4 7 rfl rfl)
theorem dX0_route_100 : decode cX0_route 100 = .ok (.iaload, 1) := dk_46 (dk_at dksX0_route_4 8 rfl rfl)
theorem dX0_route_101 : decode cX0_route 101 = .ok (.goto 5, 3) := dk_167 0 5 (dk_at dksX0_route_4 9 rfl rfl)
theorem dX0_route_104 : decode cX0_route 104 = .ok (.bipush (-4), 2) := dk_16 252 (dk_at dksX0_route_4 12 rfl rfl)
theorem dX0_route_106 : decode cX0_route 106 = .ok (.ireturn, 1) := dk_172 (dk_at dksX0_route_4 14 rfl rfl)
abbrev cX0_wanders : ByteArray := prog_1_method_60_code
def yX0_wanders : MethodName := ⟨RX0, "wanders", "(IIIIIII)V"⟩
def dkwX0_wanders_10 : List UInt8 := [21, 8, 120, 128, 21, 5, 5, 96, 21, 6, 21, 7, 4, 96, 182, 1, 60, 132, 8, 1, 167, 255, 90, 177]
abbrev dktX0_wanders_10 : List UInt8 := dkwX0_wanders_10 ++ []
def dkwX0_wanders_9 : List UInt8 := [184, 0, 82, 153, 0, 38, 42, 21, 8, 29, 182, 0, 86, 153, 0, 28, 42, 21, 8, 28, 29, 21, 4, 4]
abbrev dktX0_wanders_9 : List UInt8 := dkwX0_wanders_9 ++ dktX0_wanders_10
def dkwX0_wanders_8 : List UInt8 := [184, 0, 162, 21, 7, 4, 96, 182, 1, 60, 167, 0, 55, 42, 180, 0, 21, 180, 0, 79, 27, 46, 21, 8]
abbrev dktX0_wanders_8 : List UInt8 := dkwX0_wanders_8 ++ dktX0_wanders_9
def dkwX0_wanders_7 : List UInt8 := [21, 5, 4, 96, 17, 39, 15, 21, 6, 42, 42, 182, 0, 153, 21, 8, 21, 6, 28, 29, 182, 1, 36, 96]
abbrev dktX0_wanders_7 : List UInt8 := dkwX0_wanders_7 ++ dktX0_wanders_8
def dkwX0_wanders_6 : List UInt8 := [167, 0, 4, 3, 54, 9, 21, 9, 153, 0, 52, 42, 21, 8, 28, 29, 21, 4, 4, 21, 8, 120, 128]
abbrev dktX0_wanders_6 : List UInt8 := dkwX0_wanders_6 ++ dktX0_wanders_7
def dkwX0_wanders_5 : List UInt8 := [42, 180, 0, 46, 21, 7, 21, 8, 79, 42, 180, 0, 21, 180, 0, 73, 27, 46, 21, 8, 160, 0, 7, 4]
abbrev dktX0_wanders_5 : List UInt8 := dkwX0_wanders_5 ++ dktX0_wanders_6
def dkwX0_wanders_4 : List UInt8 := [180, 0, 21, 180, 0, 59, 3, 46, 162, 0, 158, 21, 4, 21, 8, 184, 0, 82, 153, 0, 6, 167, 0, 139]
abbrev dktX0_wanders_4 : List UInt8 := dkwX0_wanders_4 ++ dktX0_wanders_5
def dkwX0_wanders_3 : List UInt8 := [180, 1, 51, 2, 159, 0, 13, 21, 5, 42, 180, 1, 51, 161, 0, 4, 177, 3, 54, 8, 21, 8, 42]
abbrev dktX0_wanders_3 : List UInt8 := dkwX0_wanders_3 ++ dktX0_wanders_4
def dkwX0_wanders_2 : List UInt8 := [21, 6, 181, 1, 54, 42, 21, 7, 181, 1, 57, 42, 180, 0, 46, 42, 180, 0, 49, 184, 1, 32, 177, 42]
abbrev dktX0_wanders_2 : List UInt8 := dkwX0_wanders_2 ++ dktX0_wanders_3
def dkwX0_wanders_1 : List UInt8 := [42, 180, 1, 51, 160, 0, 13, 21, 6, 42, 180, 1, 54, 161, 0, 4, 177, 42, 21, 5, 181, 1, 51, 42]
abbrev dktX0_wanders_1 : List UInt8 := dkwX0_wanders_1 ++ dktX0_wanders_2
def dkwX0_wanders_0 : List UInt8 := [27, 29, 160, 0, 69, 42, 180, 1, 51, 2, 159, 0, 31, 21, 5, 42, 180, 1, 51, 163, 0, 21, 21, 5]
abbrev dktX0_wanders_0 : List UInt8 := dkwX0_wanders_0 ++ dktX0_wanders_1
theorem dksX0_wanders_0 : cX0_wanders.data.toList.drop 0 = dktX0_wanders_0 := by decide +kernel
theorem dksX0_wanders_1 : cX0_wanders.data.toList.drop 24 = dktX0_wanders_1 := dk_seg dksX0_wanders_0 24 rfl rfl
theorem dksX0_wanders_2 : cX0_wanders.data.toList.drop 48 = dktX0_wanders_2 := dk_seg dksX0_wanders_1 24 rfl rfl
theorem dksX0_wanders_3 : cX0_wanders.data.toList.drop 72 = dktX0_wanders_3 := dk_seg dksX0_wanders_2 24 rfl rfl
theorem dksX0_wanders_4 : cX0_wanders.data.toList.drop 95 = dktX0_wanders_4 := dk_seg dksX0_wanders_3 23 rfl rfl
theorem dksX0_wanders_5 : cX0_wanders.data.toList.drop 119 = dktX0_wanders_5 := dk_seg dksX0_wanders_4 24 rfl rfl
theorem dksX0_wanders_6 : cX0_wanders.data.toList.drop 143 = dktX0_wanders_6 := dk_seg dksX0_wanders_5 24 rfl rfl
theorem dksX0_wanders_7 : cX0_wanders.data.toList.drop 166 = dktX0_wanders_7 := dk_seg dksX0_wanders_6 23 rfl rfl
theorem dksX0_wanders_8 : cX0_wanders.data.toList.drop 190 = dktX0_wanders_8 := dk_seg dksX0_wanders_7 24 rfl rfl
theorem dksX0_wanders_9 : cX0_wanders.data.toList.drop 214 = dktX0_wanders_9 := dk_seg dksX0_wanders_8 24 rfl rfl
theorem dksX0_wanders_10 : cX0_wanders.data.toList.drop 238 = dktX0_wanders_10 := dk_seg dksX0_wanders_9 24 rfl rfl
theorem dX0_wanders_0 : decode cX0_wanders 0 = .ok (.iload_n 1, 1) := dk_27 (dk_at dksX0_wanders_0 0 rfl rfl)
theorem dX0_wanders_1 : decode cX0_wanders 1 = .ok (.iload_n 3, 1) := dk_29 (dk_at dksX0_wanders_0 1 rfl rfl)
theorem dX0_wanders_2 : decode cX0_wanders 2 = .ok (.if_icmp .ne 69, 3) := dk_160 0 69 (dk_at dksX0_wanders_0 2 rfl rfl)
theorem dX0_wanders_5 : decode cX0_wanders 5 = .ok (.aload_n 0, 1) := dk_42 (dk_at dksX0_wanders_0 5 rfl rfl)
theorem dX0_wanders_6 : decode cX0_wanders 6 = .ok (.getfield 307, 3) := dk_180 1 51 (dk_at dksX0_wanders_0 6 rfl rfl)
theorem dX0_wanders_9 : decode cX0_wanders 9 = .ok (.iconst (-1), 1) := dk_2 (dk_at dksX0_wanders_0 9 rfl rfl)
theorem dX0_wanders_10 : decode cX0_wanders 10 = .ok (.if_icmp .eq 31, 3) := dk_159 0 31 (dk_at dksX0_wanders_0 10 rfl rfl)
theorem dX0_wanders_13 : decode cX0_wanders 13 = .ok (.iload 5, 2) := dk_21 5 (dk_at dksX0_wanders_0 13 rfl rfl)
theorem dX0_wanders_15 : decode cX0_wanders 15 = .ok (.aload_n 0, 1) := dk_42 (dk_at dksX0_wanders_0 15 rfl rfl)
theorem dX0_wanders_16 : decode cX0_wanders 16 = .ok (.getfield 307, 3) := dk_180 1 51 (dk_at dksX0_wanders_0 16 rfl rfl)
theorem dX0_wanders_19 : decode cX0_wanders 19 = .ok (.if_icmp .gt 21, 3) := dk_163 0 21 (dk_at dksX0_wanders_0 19 rfl rfl)
theorem dX0_wanders_22 : decode cX0_wanders 22 = .ok (.iload 5, 2) := dk_21 5 (dk_at dksX0_wanders_0 22 rfl rfl)
theorem dX0_wanders_24 : decode cX0_wanders 24 = .ok (.aload_n 0, 1) := dk_42 (dk_at dksX0_wanders_1 0 rfl rfl)
theorem dX0_wanders_25 : decode cX0_wanders 25 = .ok (.getfield 307, 3) := dk_180 1 51 (dk_at dksX0_wanders_1 1 rfl rfl)
theorem dX0_wanders_28 : decode cX0_wanders 28 = .ok (.if_icmp .ne 13, 3) := dk_160 0 13 (dk_at dksX0_wanders_1 4 rfl rfl)
theorem dX0_wanders_31 : decode cX0_wanders 31 = .ok (.iload 6, 2) := dk_21 6 (dk_at dksX0_wanders_1 7 rfl rfl)
theorem dX0_wanders_33 : decode cX0_wanders 33 = .ok (.aload_n 0, 1) := dk_42 (dk_at dksX0_wanders_1 9 rfl rfl)
theorem dX0_wanders_34 : decode cX0_wanders 34 = .ok (.getfield 310, 3) := dk_180 1 54 (dk_at dksX0_wanders_1 10 rfl rfl)
theorem dX0_wanders_37 : decode cX0_wanders 37 = .ok (.if_icmp .lt 4, 3) := dk_161 0 4 (dk_at dksX0_wanders_1 13 rfl rfl)
theorem dX0_wanders_40 : decode cX0_wanders 40 = .ok (.return_, 1) := dk_177 (dk_at dksX0_wanders_1 16 rfl rfl)
theorem dX0_wanders_41 : decode cX0_wanders 41 = .ok (.aload_n 0, 1) := dk_42 (dk_at dksX0_wanders_1 17 rfl rfl)
theorem dX0_wanders_42 : decode cX0_wanders 42 = .ok (.iload 5, 2) := dk_21 5 (dk_at dksX0_wanders_1 18 rfl rfl)
theorem dX0_wanders_44 : decode cX0_wanders 44 = .ok (.putfield 307, 3) := dk_181 1 51 (dk_at dksX0_wanders_1 20 rfl rfl)
theorem dX0_wanders_47 : decode cX0_wanders 47 = .ok (.aload_n 0, 1) := dk_42 (dk_at dksX0_wanders_1 23 rfl rfl)
theorem dX0_wanders_48 : decode cX0_wanders 48 = .ok (.iload 6, 2) := dk_21 6 (dk_at dksX0_wanders_2 0 rfl rfl)
theorem dX0_wanders_50 : decode cX0_wanders 50 = .ok (.putfield 310, 3) := dk_181 1 54 (dk_at dksX0_wanders_2 2 rfl rfl)
theorem dX0_wanders_53 : decode cX0_wanders 53 = .ok (.aload_n 0, 1) := dk_42 (dk_at dksX0_wanders_2 5 rfl rfl)
theorem dX0_wanders_54 : decode cX0_wanders 54 = .ok (.iload 7, 2) := dk_21 7 (dk_at dksX0_wanders_2 6 rfl rfl)
theorem dX0_wanders_56 : decode cX0_wanders 56 = .ok (.putfield 313, 3) := dk_181 1 57 (dk_at dksX0_wanders_2 8 rfl rfl)
theorem dX0_wanders_59 : decode cX0_wanders 59 = .ok (.aload_n 0, 1) := dk_42 (dk_at dksX0_wanders_2 11 rfl rfl)
theorem dX0_wanders_60 : decode cX0_wanders 60 = .ok (.getfield 46, 3) := dk_180 0 46 (dk_at dksX0_wanders_2 12 rfl rfl)
theorem dX0_wanders_63 : decode cX0_wanders 63 = .ok (.aload_n 0, 1) := dk_42 (dk_at dksX0_wanders_2 15 rfl rfl)
theorem dX0_wanders_64 : decode cX0_wanders 64 = .ok (.getfield 49, 3) := dk_180 0 49 (dk_at dksX0_wanders_2 16 rfl rfl)
theorem dX0_wanders_67 : decode cX0_wanders 67 = .ok (.invokestatic 288, 3) := dk_184 1 32 (dk_at dksX0_wanders_2 19 rfl rfl)
theorem dX0_wanders_70 : decode cX0_wanders 70 = .ok (.return_, 1) := dk_177 (dk_at dksX0_wanders_2 22 rfl rfl)
theorem dX0_wanders_71 : decode cX0_wanders 71 = .ok (.aload_n 0, 1) := dk_42 (dk_at dksX0_wanders_2 23 rfl rfl)
theorem dX0_wanders_72 : decode cX0_wanders 72 = .ok (.getfield 307, 3) := dk_180 1 51 (dk_at dksX0_wanders_3 0 rfl rfl)
theorem dX0_wanders_75 : decode cX0_wanders 75 = .ok (.iconst (-1), 1) := dk_2 (dk_at dksX0_wanders_3 3 rfl rfl)
theorem dX0_wanders_76 : decode cX0_wanders 76 = .ok (.if_icmp .eq 13, 3) := dk_159 0 13 (dk_at dksX0_wanders_3 4 rfl rfl)
theorem dX0_wanders_79 : decode cX0_wanders 79 = .ok (.iload 5, 2) := dk_21 5 (dk_at dksX0_wanders_3 7 rfl rfl)
theorem dX0_wanders_81 : decode cX0_wanders 81 = .ok (.aload_n 0, 1) := dk_42 (dk_at dksX0_wanders_3 9 rfl rfl)
theorem dX0_wanders_82 : decode cX0_wanders 82 = .ok (.getfield 307, 3) := dk_180 1 51 (dk_at dksX0_wanders_3 10 rfl rfl)
theorem dX0_wanders_85 : decode cX0_wanders 85 = .ok (.if_icmp .lt 4, 3) := dk_161 0 4 (dk_at dksX0_wanders_3 13 rfl rfl)
theorem dX0_wanders_88 : decode cX0_wanders 88 = .ok (.return_, 1) := dk_177 (dk_at dksX0_wanders_3 16 rfl rfl)
theorem dX0_wanders_89 : decode cX0_wanders 89 = .ok (.iconst 0, 1) := dk_3 (dk_at dksX0_wanders_3 17 rfl rfl)
theorem dX0_wanders_90 : decode cX0_wanders 90 = .ok (.istore 8, 2) := dk_54 8 (dk_at dksX0_wanders_3 18 rfl rfl)
theorem dX0_wanders_92 : decode cX0_wanders 92 = .ok (.iload 8, 2) := dk_21 8 (dk_at dksX0_wanders_3 20 rfl rfl)
theorem dX0_wanders_94 : decode cX0_wanders 94 = .ok (.aload_n 0, 1) := dk_42 (dk_at dksX0_wanders_3 22 rfl rfl)
theorem dX0_wanders_95 : decode cX0_wanders 95 = .ok (.getfield 21, 3) := dk_180 0 21 (dk_at dksX0_wanders_4 0 rfl rfl)
theorem dX0_wanders_98 : decode cX0_wanders 98 = .ok (.getfield 59, 3) := dk_180 0 59 (dk_at dksX0_wanders_4 3 rfl rfl)
theorem dX0_wanders_101 : decode cX0_wanders 101 = .ok (.iconst 0, 1) := dk_3 (dk_at dksX0_wanders_4 6 rfl rfl)
theorem dX0_wanders_102 : decode cX0_wanders 102 = .ok (.iaload, 1) := dk_46 (dk_at dksX0_wanders_4 7 rfl rfl)
theorem dX0_wanders_103 : decode cX0_wanders 103 = .ok (.if_icmp .ge 158, 3) := dk_162 0 158 (dk_at dksX0_wanders_4 8 rfl rfl)
theorem dX0_wanders_106 : decode cX0_wanders 106 = .ok (.iload 4, 2) := dk_21 4 (dk_at dksX0_wanders_4 11 rfl rfl)
theorem dX0_wanders_108 : decode cX0_wanders 108 = .ok (.iload 8, 2) := dk_21 8 (dk_at dksX0_wanders_4 13 rfl rfl)
theorem dX0_wanders_110 : decode cX0_wanders 110 = .ok (.invokestatic 82, 3) := dk_184 0 82 (dk_at dksX0_wanders_4 15 rfl rfl)
theorem dX0_wanders_113 : decode cX0_wanders 113 = .ok (.ifCond .eq 6, 3) := dk_153 0 6 (dk_at dksX0_wanders_4 18 rfl rfl)
theorem dX0_wanders_116 : decode cX0_wanders 116 = .ok (.goto 139, 3) := dk_167 0 139 (dk_at dksX0_wanders_4 21 rfl rfl)
theorem dX0_wanders_119 : decode cX0_wanders 119 = .ok (.aload_n 0, 1) := dk_42 (dk_at dksX0_wanders_5 0 rfl rfl)
theorem dX0_wanders_120 : decode cX0_wanders 120 = .ok (.getfield 46, 3) := dk_180 0 46 (dk_at dksX0_wanders_5 1 rfl rfl)
theorem dX0_wanders_123 : decode cX0_wanders 123 = .ok (.iload 7, 2) := dk_21 7 (dk_at dksX0_wanders_5 4 rfl rfl)
theorem dX0_wanders_125 : decode cX0_wanders 125 = .ok (.iload 8, 2) := dk_21 8 (dk_at dksX0_wanders_5 6 rfl rfl)
theorem dX0_wanders_127 : decode cX0_wanders 127 = .ok (.iastore, 1) := dk_79 (dk_at dksX0_wanders_5 8 rfl rfl)
theorem dX0_wanders_128 : decode cX0_wanders 128 = .ok (.aload_n 0, 1) := dk_42 (dk_at dksX0_wanders_5 9 rfl rfl)
theorem dX0_wanders_129 : decode cX0_wanders 129 = .ok (.getfield 21, 3) := dk_180 0 21 (dk_at dksX0_wanders_5 10 rfl rfl)
theorem dX0_wanders_132 : decode cX0_wanders 132 = .ok (.getfield 73, 3) := dk_180 0 73 (dk_at dksX0_wanders_5 13 rfl rfl)
theorem dX0_wanders_135 : decode cX0_wanders 135 = .ok (.iload_n 1, 1) := dk_27 (dk_at dksX0_wanders_5 16 rfl rfl)
theorem dX0_wanders_136 : decode cX0_wanders 136 = .ok (.iaload, 1) := dk_46 (dk_at dksX0_wanders_5 17 rfl rfl)
theorem dX0_wanders_137 : decode cX0_wanders 137 = .ok (.iload 8, 2) := dk_21 8 (dk_at dksX0_wanders_5 18 rfl rfl)
theorem dX0_wanders_139 : decode cX0_wanders 139 = .ok (.if_icmp .ne 7, 3) := dk_160 0 7 (dk_at dksX0_wanders_5 20 rfl rfl)
theorem dX0_wanders_142 : decode cX0_wanders 142 = .ok (.iconst 1, 1) := dk_4 (dk_at dksX0_wanders_5 23 rfl rfl)
theorem dX0_wanders_143 : decode cX0_wanders 143 = .ok (.goto 4, 3) := dk_167 0 4 (dk_at dksX0_wanders_6 0 rfl rfl)
theorem dX0_wanders_146 : decode cX0_wanders 146 = .ok (.iconst 0, 1) := dk_3 (dk_at dksX0_wanders_6 3 rfl rfl)
theorem dX0_wanders_147 : decode cX0_wanders 147 = .ok (.istore 9, 2) := dk_54 9 (dk_at dksX0_wanders_6 4 rfl rfl)
theorem dX0_wanders_149 : decode cX0_wanders 149 = .ok (.iload 9, 2) := dk_21 9 (dk_at dksX0_wanders_6 6 rfl rfl)
theorem dX0_wanders_151 : decode cX0_wanders 151 = .ok (.ifCond .eq 52, 3) := dk_153 0 52 (dk_at dksX0_wanders_6 8 rfl rfl)
theorem dX0_wanders_154 : decode cX0_wanders 154 = .ok (.aload_n 0, 1) := dk_42 (dk_at dksX0_wanders_6 11 rfl rfl)
theorem dX0_wanders_155 : decode cX0_wanders 155 = .ok (.iload 8, 2) := dk_21 8 (dk_at dksX0_wanders_6 12 rfl rfl)
theorem dX0_wanders_157 : decode cX0_wanders 157 = .ok (.iload_n 2, 1) := dk_28 (dk_at dksX0_wanders_6 14 rfl rfl)
theorem dX0_wanders_158 : decode cX0_wanders 158 = .ok (.iload_n 3, 1) := dk_29 (dk_at dksX0_wanders_6 15 rfl rfl)
theorem dX0_wanders_159 : decode cX0_wanders 159 = .ok (.iload 4, 2) := dk_21 4 (dk_at dksX0_wanders_6 16 rfl rfl)
theorem dX0_wanders_161 : decode cX0_wanders 161 = .ok (.iconst 1, 1) := dk_4 (dk_at dksX0_wanders_6 18 rfl rfl)
theorem dX0_wanders_162 : decode cX0_wanders 162 = .ok (.iload 8, 2) := dk_21 8 (dk_at dksX0_wanders_6 19 rfl rfl)
theorem dX0_wanders_164 : decode cX0_wanders 164 = .ok (.ishl, 1) := dk_120 (dk_at dksX0_wanders_6 21 rfl rfl)
theorem dX0_wanders_165 : decode cX0_wanders 165 = .ok (.ior, 1) := dk_128 (dk_at dksX0_wanders_6 22 rfl rfl)
theorem dX0_wanders_166 : decode cX0_wanders 166 = .ok (.iload 5, 2) := dk_21 5 (dk_at dksX0_wanders_7 0 rfl rfl)
theorem dX0_wanders_168 : decode cX0_wanders 168 = .ok (.iconst 1, 1) := dk_4 (dk_at dksX0_wanders_7 2 rfl rfl)
theorem dX0_wanders_169 : decode cX0_wanders 169 = .ok (.iadd, 1) := dk_96 (dk_at dksX0_wanders_7 3 rfl rfl)
theorem dX0_wanders_170 : decode cX0_wanders 170 = .ok (.sipush 9999, 3) := dk_17 39 15 (dk_at dksX0_wanders_7 4 rfl rfl)
theorem dX0_wanders_173 : decode cX0_wanders 173 = .ok (.iload 6, 2) := dk_21 6 (dk_at dksX0_wanders_7 7 rfl rfl)
theorem dX0_wanders_175 : decode cX0_wanders 175 = .ok (.aload_n 0, 1) := dk_42 (dk_at dksX0_wanders_7 9 rfl rfl)
theorem dX0_wanders_176 : decode cX0_wanders 176 = .ok (.aload_n 0, 1) := dk_42 (dk_at dksX0_wanders_7 10 rfl rfl)
theorem dX0_wanders_177 : decode cX0_wanders 177 = .ok (.invokevirtual 153, 3) := dk_182 0 153 (dk_at dksX0_wanders_7 11 rfl rfl)
theorem dX0_wanders_180 : decode cX0_wanders 180 = .ok (.iload 8, 2) := dk_21 8 (dk_at dksX0_wanders_7 14 rfl rfl)
theorem dX0_wanders_182 : decode cX0_wanders 182 = .ok (.iload 6, 2) := dk_21 6 (dk_at dksX0_wanders_7 16 rfl rfl)
theorem dX0_wanders_184 : decode cX0_wanders 184 = .ok (.iload_n 2, 1) := dk_28 (dk_at dksX0_wanders_7 18 rfl rfl)
theorem dX0_wanders_185 : decode cX0_wanders 185 = .ok (.iload_n 3, 1) := dk_29 (dk_at dksX0_wanders_7 19 rfl rfl)
theorem dX0_wanders_186 : decode cX0_wanders 186 = .ok (.invokevirtual 292, 3) := dk_182 1 36 (dk_at dksX0_wanders_7 20 rfl rfl)
theorem dX0_wanders_189 : decode cX0_wanders 189 = .ok (.iadd, 1) := dk_96 (dk_at dksX0_wanders_7 23 rfl rfl)
theorem dX0_wanders_190 : decode cX0_wanders 190 = .ok (.invokestatic 162, 3) := dk_184 0 162 (dk_at dksX0_wanders_8 0 rfl rfl)
theorem dX0_wanders_193 : decode cX0_wanders 193 = .ok (.iload 7, 2) := dk_21 7 (dk_at dksX0_wanders_8 3 rfl rfl)
theorem dX0_wanders_195 : decode cX0_wanders 195 = .ok (.iconst 1, 1) := dk_4 (dk_at dksX0_wanders_8 5 rfl rfl)
theorem dX0_wanders_196 : decode cX0_wanders 196 = .ok (.iadd, 1) := dk_96 (dk_at dksX0_wanders_8 6 rfl rfl)
theorem dX0_wanders_197 : decode cX0_wanders 197 = .ok (.invokevirtual 316, 3) := dk_182 1 60 (dk_at dksX0_wanders_8 7 rfl rfl)
theorem dX0_wanders_200 : decode cX0_wanders 200 = .ok (.goto 55, 3) := dk_167 0 55 (dk_at dksX0_wanders_8 10 rfl rfl)
theorem dX0_wanders_203 : decode cX0_wanders 203 = .ok (.aload_n 0, 1) := dk_42 (dk_at dksX0_wanders_8 13 rfl rfl)
theorem dX0_wanders_204 : decode cX0_wanders 204 = .ok (.getfield 21, 3) := dk_180 0 21 (dk_at dksX0_wanders_8 14 rfl rfl)
theorem dX0_wanders_207 : decode cX0_wanders 207 = .ok (.getfield 79, 3) := dk_180 0 79 (dk_at dksX0_wanders_8 17 rfl rfl)
theorem dX0_wanders_210 : decode cX0_wanders 210 = .ok (.iload_n 1, 1) := dk_27 (dk_at dksX0_wanders_8 20 rfl rfl)
theorem dX0_wanders_211 : decode cX0_wanders 211 = .ok (.iaload, 1) := dk_46 (dk_at dksX0_wanders_8 21 rfl rfl)
theorem dX0_wanders_212 : decode cX0_wanders 212 = .ok (.iload 8, 2) := dk_21 8 (dk_at dksX0_wanders_8 22 rfl rfl)
theorem dX0_wanders_214 : decode cX0_wanders 214 = .ok (.invokestatic 82, 3) := dk_184 0 82 (dk_at dksX0_wanders_9 0 rfl rfl)
theorem dX0_wanders_217 : decode cX0_wanders 217 = .ok (.ifCond .eq 38, 3) := dk_153 0 38 (dk_at dksX0_wanders_9 3 rfl rfl)
theorem dX0_wanders_220 : decode cX0_wanders 220 = .ok (.aload_n 0, 1) := dk_42 (dk_at dksX0_wanders_9 6 rfl rfl)
theorem dX0_wanders_221 : decode cX0_wanders 221 = .ok (.iload 8, 2) := dk_21 8 (dk_at dksX0_wanders_9 7 rfl rfl)
theorem dX0_wanders_223 : decode cX0_wanders 223 = .ok (.iload_n 3, 1) := dk_29 (dk_at dksX0_wanders_9 9 rfl rfl)
theorem dX0_wanders_224 : decode cX0_wanders 224 = .ok (.invokevirtual 86, 3) := dk_182 0 86 (dk_at dksX0_wanders_9 10 rfl rfl)
theorem dX0_wanders_227 : decode cX0_wanders 227 = .ok (.ifCond .eq 28, 3) := dk_153 0 28 (dk_at dksX0_wanders_9 13 rfl rfl)
theorem dX0_wanders_230 : decode cX0_wanders 230 = .ok (.aload_n 0, 1) := dk_42 (dk_at dksX0_wanders_9 16 rfl rfl)
theorem dX0_wanders_231 : decode cX0_wanders 231 = .ok (.iload 8, 2) := dk_21 8 (dk_at dksX0_wanders_9 17 rfl rfl)
theorem dX0_wanders_233 : decode cX0_wanders 233 = .ok (.iload_n 2, 1) := dk_28 (dk_at dksX0_wanders_9 19 rfl rfl)
theorem dX0_wanders_234 : decode cX0_wanders 234 = .ok (.iload_n 3, 1) := dk_29 (dk_at dksX0_wanders_9 20 rfl rfl)
theorem dX0_wanders_235 : decode cX0_wanders 235 = .ok (.iload 4, 2) := dk_21 4 (dk_at dksX0_wanders_9 21 rfl rfl)
theorem dX0_wanders_237 : decode cX0_wanders 237 = .ok (.iconst 1, 1) := dk_4 (dk_at dksX0_wanders_9 23 rfl rfl)
theorem dX0_wanders_238 : decode cX0_wanders 238 = .ok (.iload 8, 2) := dk_21 8 (dk_at dksX0_wanders_10 0 rfl rfl)
theorem dX0_wanders_240 : decode cX0_wanders 240 = .ok (.ishl, 1) := dk_120 (dk_at dksX0_wanders_10 2 rfl rfl)
theorem dX0_wanders_241 : decode cX0_wanders 241 = .ok (.ior, 1) := dk_128 (dk_at dksX0_wanders_10 3 rfl rfl)
theorem dX0_wanders_242 : decode cX0_wanders 242 = .ok (.iload 5, 2) := dk_21 5 (dk_at dksX0_wanders_10 4 rfl rfl)
theorem dX0_wanders_244 : decode cX0_wanders 244 = .ok (.iconst 2, 1) := dk_5 (dk_at dksX0_wanders_10 6 rfl rfl)
theorem dX0_wanders_245 : decode cX0_wanders 245 = .ok (.iadd, 1) := dk_96 (dk_at dksX0_wanders_10 7 rfl rfl)
theorem dX0_wanders_246 : decode cX0_wanders 246 = .ok (.iload 6, 2) := dk_21 6 (dk_at dksX0_wanders_10 8 rfl rfl)
theorem dX0_wanders_248 : decode cX0_wanders 248 = .ok (.iload 7, 2) := dk_21 7 (dk_at dksX0_wanders_10 10 rfl rfl)
theorem dX0_wanders_250 : decode cX0_wanders 250 = .ok (.iconst 1, 1) := dk_4 (dk_at dksX0_wanders_10 12 rfl rfl)
theorem dX0_wanders_251 : decode cX0_wanders 251 = .ok (.iadd, 1) := dk_96 (dk_at dksX0_wanders_10 13 rfl rfl)
theorem dX0_wanders_252 : decode cX0_wanders 252 = .ok (.invokevirtual 316, 3) := dk_182 1 60 (dk_at dksX0_wanders_10 14 rfl rfl)
theorem dX0_wanders_255 : decode cX0_wanders 255 = .ok (.iinc 8 1, 3) := dk_132 8 1 (dk_at dksX0_wanders_10 17 rfl rfl)
theorem dX0_wanders_258 : decode cX0_wanders 258 = .ok (.goto (-166), 3) := dk_167 255 90 (dk_at dksX0_wanders_10 20 rfl rfl)
theorem dX0_wanders_261 : decode cX0_wanders 261 = .ok (.return_, 1) := dk_177 (dk_at dksX0_wanders_10 23 rfl rfl)
abbrev cX0_pile : ByteArray := prog_1_method_62_code
def yX0_pile : MethodName := ⟨RX0, "pile", "(I)I"⟩
def dkwX0_pile_3 : List UInt8 := [4, 96, 79, 42, 180, 0, 21, 180, 0, 59, 7, 46, 172]
abbrev dktX0_pile_3 : List UInt8 := dkwX0_pile_3 ++ []
def dkwX0_pile_2 : List UInt8 := [180, 1, 67, 42, 180, 0, 21, 180, 0, 59, 7, 46, 27, 79, 42, 180, 0, 21, 180, 0, 59, 7, 92, 46]
abbrev dktX0_pile_2 : List UInt8 := dkwX0_pile_2 ++ dktX0_pile_3
def dkwX0_pile_1 : List UInt8 := [153, 0, 17, 42, 180, 0, 21, 180, 0, 59, 7, 46, 16, 8, 160, 0, 6, 16, 254, 172, 42, 180, 0, 21]
abbrev dktX0_pile_1 : List UInt8 := dkwX0_pile_1 ++ dktX0_pile_2
def dkwX0_pile_0 : List UInt8 := [27, 2, 160, 0, 12, 42, 180, 0, 21, 7, 182, 1, 64, 172, 27, 4, 17, 3, 231, 184, 0, 62]
abbrev dktX0_pile_0 : List UInt8 := dkwX0_pile_0 ++ dktX0_pile_1
theorem dksX0_pile_0 : cX0_pile.data.toList.drop 0 = dktX0_pile_0 := by decide +kernel
theorem dksX0_pile_1 : cX0_pile.data.toList.drop 22 = dktX0_pile_1 := dk_seg dksX0_pile_0 22 rfl rfl
theorem dksX0_pile_2 : cX0_pile.data.toList.drop 46 = dktX0_pile_2 := dk_seg dksX0_pile_1 24 rfl rfl
theorem dksX0_pile_3 : cX0_pile.data.toList.drop 70 = dktX0_pile_3 := dk_seg dksX0_pile_2 24 rfl rfl
theorem dX0_pile_0 : decode cX0_pile 0 = .ok (.iload_n 1, 1) := dk_27 (dk_at dksX0_pile_0 0 rfl rfl)
theorem dX0_pile_1 : decode cX0_pile 1 = .ok (.iconst (-1), 1) := dk_2 (dk_at dksX0_pile_0 1 rfl rfl)
theorem dX0_pile_2 : decode cX0_pile 2 = .ok (.if_icmp .ne 12, 3) := dk_160 0 12 (dk_at dksX0_pile_0 2 rfl rfl)
theorem dX0_pile_5 : decode cX0_pile 5 = .ok (.aload_n 0, 1) := dk_42 (dk_at dksX0_pile_0 5 rfl rfl)
theorem dX0_pile_6 : decode cX0_pile 6 = .ok (.getfield 21, 3) := dk_180 0 21 (dk_at dksX0_pile_0 6 rfl rfl)
theorem dX0_pile_9 : decode cX0_pile 9 = .ok (.iconst 4, 1) := dk_7 (dk_at dksX0_pile_0 9 rfl rfl)
theorem dX0_pile_10 : decode cX0_pile 10 = .ok (.invokevirtual 320, 3) := dk_182 1 64 (dk_at dksX0_pile_0 10 rfl rfl)
theorem dX0_pile_13 : decode cX0_pile 13 = .ok (.ireturn, 1) := dk_172 (dk_at dksX0_pile_0 13 rfl rfl)
theorem dX0_pile_14 : decode cX0_pile 14 = .ok (.iload_n 1, 1) := dk_27 (dk_at dksX0_pile_0 14 rfl rfl)
theorem dX0_pile_15 : decode cX0_pile 15 = .ok (.iconst 1, 1) := dk_4 (dk_at dksX0_pile_0 15 rfl rfl)
theorem dX0_pile_16 : decode cX0_pile 16 = .ok (.sipush 999, 3) := dk_17 3 231 (dk_at dksX0_pile_0 16 rfl rfl)
theorem dX0_pile_19 : decode cX0_pile 19 = .ok (.invokestatic 62, 3) := dk_184 0 62 (dk_at dksX0_pile_0 19 rfl rfl)
theorem dX0_pile_22 : decode cX0_pile 22 = .ok (.ifCond .eq 17, 3) := dk_153 0 17 (dk_at dksX0_pile_1 0 rfl rfl)
theorem dX0_pile_25 : decode cX0_pile 25 = .ok (.aload_n 0, 1) := dk_42 (dk_at dksX0_pile_1 3 rfl rfl)
theorem dX0_pile_26 : decode cX0_pile 26 = .ok (.getfield 21, 3) := dk_180 0 21 (dk_at dksX0_pile_1 4 rfl rfl)
theorem dX0_pile_29 : decode cX0_pile 29 = .ok (.getfield 59, 3) := dk_180 0 59 (dk_at dksX0_pile_1 7 rfl rfl)
theorem dX0_pile_32 : decode cX0_pile 32 = .ok (.iconst 4, 1) := dk_7 (dk_at dksX0_pile_1 10 rfl rfl)
theorem dX0_pile_33 : decode cX0_pile 33 = .ok (.iaload, 1) := dk_46 (dk_at dksX0_pile_1 11 rfl rfl)
theorem dX0_pile_34 : decode cX0_pile 34 = .ok (.bipush 8, 2) := dk_16 8 (dk_at dksX0_pile_1 12 rfl rfl)
theorem dX0_pile_36 : decode cX0_pile 36 = .ok (.if_icmp .ne 6, 3) := dk_160 0 6 (dk_at dksX0_pile_1 14 rfl rfl)
theorem dX0_pile_39 : decode cX0_pile 39 = .ok (.bipush (-2), 2) := dk_16 254 (dk_at dksX0_pile_1 17 rfl rfl)
theorem dX0_pile_41 : decode cX0_pile 41 = .ok (.ireturn, 1) := dk_172 (dk_at dksX0_pile_1 19 rfl rfl)
theorem dX0_pile_42 : decode cX0_pile 42 = .ok (.aload_n 0, 1) := dk_42 (dk_at dksX0_pile_1 20 rfl rfl)
theorem dX0_pile_43 : decode cX0_pile 43 = .ok (.getfield 21, 3) := dk_180 0 21 (dk_at dksX0_pile_1 21 rfl rfl)
theorem dX0_pile_46 : decode cX0_pile 46 = .ok (.getfield 323, 3) := dk_180 1 67 (dk_at dksX0_pile_2 0 rfl rfl)
theorem dX0_pile_49 : decode cX0_pile 49 = .ok (.aload_n 0, 1) := dk_42 (dk_at dksX0_pile_2 3 rfl rfl)
theorem dX0_pile_50 : decode cX0_pile 50 = .ok (.getfield 21, 3) := dk_180 0 21 (dk_at dksX0_pile_2 4 rfl rfl)
theorem dX0_pile_53 : decode cX0_pile 53 = .ok (.getfield 59, 3) := dk_180 0 59 (dk_at dksX0_pile_2 7 rfl rfl)
theorem dX0_pile_56 : decode cX0_pile 56 = .ok (.iconst 4, 1) := dk_7 (dk_at dksX0_pile_2 10 rfl rfl)
theorem dX0_pile_57 : decode cX0_pile 57 = .ok (.iaload, 1) := dk_46 (dk_at dksX0_pile_2 11 rfl rfl)
theorem dX0_pile_58 : decode cX0_pile 58 = .ok (.iload_n 1, 1) := dk_27 (dk_at dksX0_pile_2 12 rfl rfl)
theorem dX0_pile_59 : decode cX0_pile 59 = .ok (.iastore, 1) := dk_79 (dk_at dksX0_pile_2 13 rfl rfl)
theorem dX0_pile_60 : decode cX0_pile 60 = .ok (.aload_n 0, 1) := dk_42 (dk_at dksX0_pile_2 14 rfl rfl)
theorem dX0_pile_61 : decode cX0_pile 61 = .ok (.getfield 21, 3) := dk_180 0 21 (dk_at dksX0_pile_2 15 rfl rfl)
theorem dX0_pile_64 : decode cX0_pile 64 = .ok (.getfield 59, 3) := dk_180 0 59 (dk_at dksX0_pile_2 18 rfl rfl)
theorem dX0_pile_67 : decode cX0_pile 67 = .ok (.iconst 4, 1) := dk_7 (dk_at dksX0_pile_2 21 rfl rfl)
theorem dX0_pile_68 : decode cX0_pile 68 = .ok (.dup2, 1) := dk_92 (dk_at dksX0_pile_2 22 rfl rfl)
theorem dX0_pile_69 : decode cX0_pile 69 = .ok (.iaload, 1) := dk_46 (dk_at dksX0_pile_2 23 rfl rfl)
theorem dX0_pile_70 : decode cX0_pile 70 = .ok (.iconst 1, 1) := dk_4 (dk_at dksX0_pile_3 0 rfl rfl)
theorem dX0_pile_71 : decode cX0_pile 71 = .ok (.iadd, 1) := dk_96 (dk_at dksX0_pile_3 1 rfl rfl)
theorem dX0_pile_72 : decode cX0_pile 72 = .ok (.iastore, 1) := dk_79 (dk_at dksX0_pile_3 2 rfl rfl)
theorem dX0_pile_73 : decode cX0_pile 73 = .ok (.aload_n 0, 1) := dk_42 (dk_at dksX0_pile_3 3 rfl rfl)
theorem dX0_pile_74 : decode cX0_pile 74 = .ok (.getfield 21, 3) := dk_180 0 21 (dk_at dksX0_pile_3 4 rfl rfl)
theorem dX0_pile_77 : decode cX0_pile 77 = .ok (.getfield 59, 3) := dk_180 0 59 (dk_at dksX0_pile_3 7 rfl rfl)
theorem dX0_pile_80 : decode cX0_pile 80 = .ok (.iconst 4, 1) := dk_7 (dk_at dksX0_pile_3 10 rfl rfl)
theorem dX0_pile_81 : decode cX0_pile 81 = .ok (.iaload, 1) := dk_46 (dk_at dksX0_pile_3 11 rfl rfl)
theorem dX0_pile_82 : decode cX0_pile 82 = .ok (.ireturn, 1) := dk_172 (dk_at dksX0_pile_3 12 rfl rfl)
abbrev cX0_piles : ByteArray := prog_1_method_64_code
def yX0_piles : MethodName := ⟨RX0, "piles", "(II)I"⟩
def dkwX0_piles_4 : List UInt8 := [62, 132, 4, 1, 167, 255, 198, 29, 172]
abbrev dktX0_piles_4 : List UInt8 := dkwX0_piles_4 ++ []
def dkwX0_piles_3 : List UInt8 := [4, 160, 0, 10, 42, 180, 1, 75, 167, 0, 4, 3, 160, 0, 10, 4, 21, 4, 120, 167, 0, 4, 3, 128]
abbrev dktX0_piles_3 : List UInt8 := dkwX0_piles_3 ++ dktX0_piles_4
def dkwX0_piles_2 : List UInt8 := [180, 0, 59, 7, 46, 162, 0, 50, 29, 42, 180, 1, 75, 158, 0, 33, 42, 180, 0, 52, 21, 4, 46, 28]
abbrev dktX0_piles_2 : List UInt8 := dkwX0_piles_2 ++ dktX0_piles_3
def dkwX0_piles_1 : List UInt8 := [182, 1, 78, 28, 154, 0, 8, 42, 180, 1, 75, 172, 3, 62, 3, 54, 4, 21, 4, 42, 180, 0, 21]
abbrev dktX0_piles_1 : List UInt8 := dkwX0_piles_1 ++ dktX0_piles_2
def dkwX0_piles_0 : List UInt8 := [27, 3, 17, 39, 15, 184, 0, 62, 153, 0, 12, 28, 3, 5, 184, 0, 62, 154, 0, 5, 2, 172, 42, 27]
abbrev dktX0_piles_0 : List UInt8 := dkwX0_piles_0 ++ dktX0_piles_1
theorem dksX0_piles_0 : cX0_piles.data.toList.drop 0 = dktX0_piles_0 := by decide +kernel
theorem dksX0_piles_1 : cX0_piles.data.toList.drop 24 = dktX0_piles_1 := dk_seg dksX0_piles_0 24 rfl rfl
theorem dksX0_piles_2 : cX0_piles.data.toList.drop 47 = dktX0_piles_2 := dk_seg dksX0_piles_1 23 rfl rfl
theorem dksX0_piles_3 : cX0_piles.data.toList.drop 71 = dktX0_piles_3 := dk_seg dksX0_piles_2 24 rfl rfl
theorem dksX0_piles_4 : cX0_piles.data.toList.drop 95 = dktX0_piles_4 := dk_seg dksX0_piles_3 24 rfl rfl
theorem dX0_piles_0 : decode cX0_piles 0 = .ok (.iload_n 1, 1) := dk_27 (dk_at dksX0_piles_0 0 rfl rfl)
theorem dX0_piles_1 : decode cX0_piles 1 = .ok (.iconst 0, 1) := dk_3 (dk_at dksX0_piles_0 1 rfl rfl)
theorem dX0_piles_2 : decode cX0_piles 2 = .ok (.sipush 9999, 3) := dk_17 39 15 (dk_at dksX0_piles_0 2 rfl rfl)
theorem dX0_piles_5 : decode cX0_piles 5 = .ok (.invokestatic 62, 3) := dk_184 0 62 (dk_at dksX0_piles_0 5 rfl rfl)
theorem dX0_piles_8 : decode cX0_piles 8 = .ok (.ifCond .eq 12, 3) := dk_153 0 12 (dk_at dksX0_piles_0 8 rfl rfl)
theorem dX0_piles_11 : decode cX0_piles 11 = .ok (.iload_n 2, 1) := dk_28 (dk_at dksX0_piles_0 11 rfl rfl)
theorem dX0_piles_12 : decode cX0_piles 12 = .ok (.iconst 0, 1) := dk_3 (dk_at dksX0_piles_0 12 rfl rfl)
theorem dX0_piles_13 : decode cX0_piles 13 = .ok (.iconst 2, 1) := dk_5 (dk_at dksX0_piles_0 13 rfl rfl)
theorem dX0_piles_14 : decode cX0_piles 14 = .ok (.invokestatic 62, 3) := dk_184 0 62 (dk_at dksX0_piles_0 14 rfl rfl)
theorem dX0_piles_17 : decode cX0_piles 17 = .ok (.ifCond .ne 5, 3) := dk_154 0 5 (dk_at dksX0_piles_0 17 rfl rfl)
theorem dX0_piles_20 : decode cX0_piles 20 = .ok (.iconst (-1), 1) := dk_2 (dk_at dksX0_piles_0 20 rfl rfl)
theorem dX0_piles_21 : decode cX0_piles 21 = .ok (.ireturn, 1) := dk_172 (dk_at dksX0_piles_0 21 rfl rfl)
theorem dX0_piles_22 : decode cX0_piles 22 = .ok (.aload_n 0, 1) := dk_42 (dk_at dksX0_piles_0 22 rfl rfl)
theorem dX0_piles_23 : decode cX0_piles 23 = .ok (.iload_n 1, 1) := dk_27 (dk_at dksX0_piles_0 23 rfl rfl)
theorem dX0_piles_24 : decode cX0_piles 24 = .ok (.invokevirtual 334, 3) := dk_182 1 78 (dk_at dksX0_piles_1 0 rfl rfl)
theorem dX0_piles_27 : decode cX0_piles 27 = .ok (.iload_n 2, 1) := dk_28 (dk_at dksX0_piles_1 3 rfl rfl)
theorem dX0_piles_28 : decode cX0_piles 28 = .ok (.ifCond .ne 8, 3) := dk_154 0 8 (dk_at dksX0_piles_1 4 rfl rfl)
theorem dX0_piles_31 : decode cX0_piles 31 = .ok (.aload_n 0, 1) := dk_42 (dk_at dksX0_piles_1 7 rfl rfl)
theorem dX0_piles_32 : decode cX0_piles 32 = .ok (.getfield 331, 3) := dk_180 1 75 (dk_at dksX0_piles_1 8 rfl rfl)
theorem dX0_piles_35 : decode cX0_piles 35 = .ok (.ireturn, 1) := dk_172 (dk_at dksX0_piles_1 11 rfl rfl)
theorem dX0_piles_36 : decode cX0_piles 36 = .ok (.iconst 0, 1) := dk_3 (dk_at dksX0_piles_1 12 rfl rfl)
theorem dX0_piles_37 : decode cX0_piles 37 = .ok (.istore_n 3, 1) := dk_62 (dk_at dksX0_piles_1 13 rfl rfl)
theorem dX0_piles_38 : decode cX0_piles 38 = .ok (.iconst 0, 1) := dk_3 (dk_at dksX0_piles_1 14 rfl rfl)
theorem dX0_piles_39 : decode cX0_piles 39 = .ok (.istore 4, 2) := dk_54 4 (dk_at dksX0_piles_1 15 rfl rfl)
theorem dX0_piles_41 : decode cX0_piles 41 = .ok (.iload 4, 2) := dk_21 4 (dk_at dksX0_piles_1 17 rfl rfl)
theorem dX0_piles_43 : decode cX0_piles 43 = .ok (.aload_n 0, 1) := dk_42 (dk_at dksX0_piles_1 19 rfl rfl)
theorem dX0_piles_44 : decode cX0_piles 44 = .ok (.getfield 21, 3) := dk_180 0 21 (dk_at dksX0_piles_1 20 rfl rfl)
theorem dX0_piles_47 : decode cX0_piles 47 = .ok (.getfield 59, 3) := dk_180 0 59 (dk_at dksX0_piles_2 0 rfl rfl)
theorem dX0_piles_50 : decode cX0_piles 50 = .ok (.iconst 4, 1) := dk_7 (dk_at dksX0_piles_2 3 rfl rfl)
theorem dX0_piles_51 : decode cX0_piles 51 = .ok (.iaload, 1) := dk_46 (dk_at dksX0_piles_2 4 rfl rfl)
theorem dX0_piles_52 : decode cX0_piles 52 = .ok (.if_icmp .ge 50, 3) := dk_162 0 50 (dk_at dksX0_piles_2 5 rfl rfl)
theorem dX0_piles_55 : decode cX0_piles 55 = .ok (.iload_n 3, 1) := dk_29 (dk_at dksX0_piles_2 8 rfl rfl)
theorem dX0_piles_56 : decode cX0_piles 56 = .ok (.aload_n 0, 1) := dk_42 (dk_at dksX0_piles_2 9 rfl rfl)
theorem dX0_piles_57 : decode cX0_piles 57 = .ok (.getfield 331, 3) := dk_180 1 75 (dk_at dksX0_piles_2 10 rfl rfl)
theorem dX0_piles_60 : decode cX0_piles 60 = .ok (.ifCond .le 33, 3) := dk_158 0 33 (dk_at dksX0_piles_2 13 rfl rfl)
theorem dX0_piles_63 : decode cX0_piles 63 = .ok (.aload_n 0, 1) := dk_42 (dk_at dksX0_piles_2 16 rfl rfl)
theorem dX0_piles_64 : decode cX0_piles 64 = .ok (.getfield 52, 3) := dk_180 0 52 (dk_at dksX0_piles_2 17 rfl rfl)
theorem dX0_piles_67 : decode cX0_piles 67 = .ok (.iload 4, 2) := dk_21 4 (dk_at dksX0_piles_2 20 rfl rfl)
theorem dX0_piles_69 : decode cX0_piles 69 = .ok (.iaload, 1) := dk_46 (dk_at dksX0_piles_2 22 rfl rfl)
theorem dX0_piles_70 : decode cX0_piles 70 = .ok (.iload_n 2, 1) := dk_28 (dk_at dksX0_piles_2 23 rfl rfl)
theorem dX0_piles_71 : decode cX0_piles 71 = .ok (.iconst 1, 1) := dk_4 (dk_at dksX0_piles_3 0 rfl rfl)
theorem dX0_piles_72 : decode cX0_piles 72 = .ok (.if_icmp .ne 10, 3) := dk_160 0 10 (dk_at dksX0_piles_3 1 rfl rfl)
theorem dX0_piles_75 : decode cX0_piles 75 = .ok (.aload_n 0, 1) := dk_42 (dk_at dksX0_piles_3 4 rfl rfl)
theorem dX0_piles_76 : decode cX0_piles 76 = .ok (.getfield 331, 3) := dk_180 1 75 (dk_at dksX0_piles_3 5 rfl rfl)
theorem dX0_piles_79 : decode cX0_piles 79 = .ok (.goto 4, 3) := dk_167 0 4 (dk_at dksX0_piles_3 8 rfl rfl)
theorem dX0_piles_82 : decode cX0_piles 82 = .ok (.iconst 0, 1) := dk_3 (dk_at dksX0_piles_3 11 rfl rfl)
theorem dX0_piles_83 : decode cX0_piles 83 = .ok (.if_icmp .ne 10, 3) := dk_160 0 10 (dk_at dksX0_piles_3 12 rfl rfl)
theorem dX0_piles_86 : decode cX0_piles 86 = .ok (.iconst 1, 1) := dk_4 (dk_at dksX0_piles_3 15 rfl rfl)
theorem dX0_piles_87 : decode cX0_piles 87 = .ok (.iload 4, 2) := dk_21 4 (dk_at dksX0_piles_3 16 rfl rfl)
theorem dX0_piles_89 : decode cX0_piles 89 = .ok (.ishl, 1) := dk_120 (dk_at dksX0_piles_3 18 rfl rfl)
theorem dX0_piles_90 : decode cX0_piles 90 = .ok (.goto 4, 3) := dk_167 0 4 (dk_at dksX0_piles_3 19 rfl rfl)
theorem dX0_piles_93 : decode cX0_piles 93 = .ok (.iconst 0, 1) := dk_3 (dk_at dksX0_piles_3 22 rfl rfl)
theorem dX0_piles_94 : decode cX0_piles 94 = .ok (.ior, 1) := dk_128 (dk_at dksX0_piles_3 23 rfl rfl)
theorem dX0_piles_95 : decode cX0_piles 95 = .ok (.istore_n 3, 1) := dk_62 (dk_at dksX0_piles_4 0 rfl rfl)
theorem dX0_piles_96 : decode cX0_piles 96 = .ok (.iinc 4 1, 3) := dk_132 4 1 (dk_at dksX0_piles_4 1 rfl rfl)
theorem dX0_piles_99 : decode cX0_piles 99 = .ok (.goto (-58), 3) := dk_167 255 198 (dk_at dksX0_piles_4 4 rfl rfl)
theorem dX0_piles_102 : decode cX0_piles 102 = .ok (.iload_n 3, 1) := dk_29 (dk_at dksX0_piles_4 7 rfl rfl)
theorem dX0_piles_103 : decode cX0_piles 103 = .ok (.ireturn, 1) := dk_172 (dk_at dksX0_piles_4 8 rfl rfl)
abbrev cX0_laysPiles : ByteArray := prog_1_method_63_code
def yX0_laysPiles : MethodName := ⟨RX0, "laysPiles", "(I)V"⟩
def dkwX0_laysPiles_6 : List UInt8 := [167, 255, 223, 132, 2, 1, 167, 255, 130, 177]
abbrev dktX0_laysPiles_6 : List UInt8 := dkwX0_laysPiles_6 ++ []
def dkwX0_laysPiles_5 : List UInt8 := [162, 0, 25, 42, 180, 0, 52, 21, 4, 92, 46, 28, 21, 4, 122, 4, 126, 96, 79, 132, 4, 1]
abbrev dktX0_laysPiles_5 : List UInt8 := dkwX0_laysPiles_5 ++ dktX0_laysPiles_6
def dkwX0_laysPiles_4 : List UInt8 := [180, 1, 75, 4, 96, 181, 1, 75, 3, 54, 4, 21, 4, 42, 180, 0, 21, 180, 0, 59, 7, 46]
abbrev dktX0_laysPiles_4 : List UInt8 := dkwX0_laysPiles_4 ++ dktX0_laysPiles_5
def dkwX0_laysPiles_3 : List UInt8 := [167, 0, 4, 3, 96, 62, 132, 4, 1, 167, 255, 213, 29, 27, 159, 0, 6, 167, 0, 52, 42, 89]
abbrev dktX0_laysPiles_3 : List UInt8 := dkwX0_laysPiles_3 ++ dktX0_laysPiles_4
def dkwX0_laysPiles_2 : List UInt8 := [162, 0, 35, 29, 28, 21, 4, 184, 0, 82, 153, 0, 16, 42, 180, 0, 21, 180, 1, 67, 21, 4, 46]
abbrev dktX0_laysPiles_2 : List UInt8 := dkwX0_laysPiles_2 ++ dktX0_laysPiles_3
def dkwX0_laysPiles_1 : List UInt8 := [7, 46, 120, 162, 0, 117, 3, 62, 3, 54, 4, 21, 4, 42, 180, 0, 21, 180, 0, 59, 7, 46]
abbrev dktX0_laysPiles_1 : List UInt8 := dkwX0_laysPiles_1 ++ dktX0_laysPiles_2
def dkwX0_laysPiles_0 : List UInt8 := [42, 180, 0, 52, 3, 184, 1, 70, 42, 3, 181, 1, 75, 3, 61, 28, 4, 42, 180, 0, 21, 180, 0, 59]
abbrev dktX0_laysPiles_0 : List UInt8 := dkwX0_laysPiles_0 ++ dktX0_laysPiles_1
theorem dksX0_laysPiles_0 : cX0_laysPiles.data.toList.drop 0 = dktX0_laysPiles_0 := by decide +kernel
theorem dksX0_laysPiles_1 : cX0_laysPiles.data.toList.drop 24 = dktX0_laysPiles_1 := dk_seg dksX0_laysPiles_0 24 rfl rfl
theorem dksX0_laysPiles_2 : cX0_laysPiles.data.toList.drop 46 = dktX0_laysPiles_2 := dk_seg dksX0_laysPiles_1 22 rfl rfl
theorem dksX0_laysPiles_3 : cX0_laysPiles.data.toList.drop 69 = dktX0_laysPiles_3 := dk_seg dksX0_laysPiles_2 23 rfl rfl
theorem dksX0_laysPiles_4 : cX0_laysPiles.data.toList.drop 91 = dktX0_laysPiles_4 := dk_seg dksX0_laysPiles_3 22 rfl rfl
theorem dksX0_laysPiles_5 : cX0_laysPiles.data.toList.drop 113 = dktX0_laysPiles_5 := dk_seg dksX0_laysPiles_4 22 rfl rfl
theorem dksX0_laysPiles_6 : cX0_laysPiles.data.toList.drop 135 = dktX0_laysPiles_6 := dk_seg dksX0_laysPiles_5 22 rfl rfl
theorem dX0_laysPiles_0 : decode cX0_laysPiles 0 = .ok (.aload_n 0, 1) := dk_42 (dk_at dksX0_laysPiles_0 0 rfl rfl)
theorem dX0_laysPiles_1 : decode cX0_laysPiles 1 = .ok (.getfield 52, 3) := dk_180 0 52 (dk_at dksX0_laysPiles_0 1 rfl rfl)
theorem dX0_laysPiles_4 : decode cX0_laysPiles 4 = .ok (.iconst 0, 1) := dk_3 (dk_at dksX0_laysPiles_0 4 rfl rfl)
theorem dX0_laysPiles_5 : decode cX0_laysPiles 5 = .ok (.invokestatic 326, 3) := dk_184 1 70 (dk_at dksX0_laysPiles_0 5 rfl rfl)
theorem dX0_laysPiles_8 : decode cX0_laysPiles 8 = .ok (.aload_n 0, 1) := dk_42 (dk_at dksX0_laysPiles_0 8 rfl rfl)
theorem dX0_laysPiles_9 : decode cX0_laysPiles 9 = .ok (.iconst 0, 1) := dk_3 (dk_at dksX0_laysPiles_0 9 rfl rfl)
theorem dX0_laysPiles_10 : decode cX0_laysPiles 10 = .ok (.putfield 331, 3) := dk_181 1 75 (dk_at dksX0_laysPiles_0 10 rfl rfl)
theorem dX0_laysPiles_13 : decode cX0_laysPiles 13 = .ok (.iconst 0, 1) := dk_3 (dk_at dksX0_laysPiles_0 13 rfl rfl)
theorem dX0_laysPiles_14 : decode cX0_laysPiles 14 = .ok (.istore_n 2, 1) := dk_61 (dk_at dksX0_laysPiles_0 14 rfl rfl)
theorem dX0_laysPiles_15 : decode cX0_laysPiles 15 = .ok (.iload_n 2, 1) := dk_28 (dk_at dksX0_laysPiles_0 15 rfl rfl)
theorem dX0_laysPiles_16 : decode cX0_laysPiles 16 = .ok (.iconst 1, 1) := dk_4 (dk_at dksX0_laysPiles_0 16 rfl rfl)
theorem dX0_laysPiles_17 : decode cX0_laysPiles 17 = .ok (.aload_n 0, 1) := dk_42 (dk_at dksX0_laysPiles_0 17 rfl rfl)
theorem dX0_laysPiles_18 : decode cX0_laysPiles 18 = .ok (.getfield 21, 3) := dk_180 0 21 (dk_at dksX0_laysPiles_0 18 rfl rfl)
theorem dX0_laysPiles_21 : decode cX0_laysPiles 21 = .ok (.getfield 59, 3) := dk_180 0 59 (dk_at dksX0_laysPiles_0 21 rfl rfl)
theorem dX0_laysPiles_24 : decode cX0_laysPiles 24 = .ok (.iconst 4, 1) := dk_7 (dk_at dksX0_laysPiles_1 0 rfl rfl)
theorem dX0_laysPiles_25 : decode cX0_laysPiles 25 = .ok (.iaload, 1) := dk_46 (dk_at dksX0_laysPiles_1 1 rfl rfl)
theorem dX0_laysPiles_26 : decode cX0_laysPiles 26 = .ok (.ishl, 1) := dk_120 (dk_at dksX0_laysPiles_1 2 rfl rfl)
theorem dX0_laysPiles_27 : decode cX0_laysPiles 27 = .ok (.if_icmp .ge 117, 3) := dk_162 0 117 (dk_at dksX0_laysPiles_1 3 rfl rfl)
theorem dX0_laysPiles_30 : decode cX0_laysPiles 30 = .ok (.iconst 0, 1) := dk_3 (dk_at dksX0_laysPiles_1 6 rfl rfl)
theorem dX0_laysPiles_31 : decode cX0_laysPiles 31 = .ok (.istore_n 3, 1) := dk_62 (dk_at dksX0_laysPiles_1 7 rfl rfl)
theorem dX0_laysPiles_32 : decode cX0_laysPiles 32 = .ok (.iconst 0, 1) := dk_3 (dk_at dksX0_laysPiles_1 8 rfl rfl)
theorem dX0_laysPiles_33 : decode cX0_laysPiles 33 = .ok (.istore 4, 2) := dk_54 4 (dk_at dksX0_laysPiles_1 9 rfl rfl)
theorem dX0_laysPiles_35 : decode cX0_laysPiles 35 = .ok (.iload 4, 2) := dk_21 4 (dk_at dksX0_laysPiles_1 11 rfl rfl)
theorem dX0_laysPiles_37 : decode cX0_laysPiles 37 = .ok (.aload_n 0, 1) := dk_42 (dk_at dksX0_laysPiles_1 13 rfl rfl)
theorem dX0_laysPiles_38 : decode cX0_laysPiles 38 = .ok (.getfield 21, 3) := dk_180 0 21 (dk_at dksX0_laysPiles_1 14 rfl rfl)
theorem dX0_laysPiles_41 : decode cX0_laysPiles 41 = .ok (.getfield 59, 3) := dk_180 0 59 (dk_at dksX0_laysPiles_1 17 rfl rfl)
theorem dX0_laysPiles_44 : decode cX0_laysPiles 44 = .ok (.iconst 4, 1) := dk_7 (dk_at dksX0_laysPiles_1 20 rfl rfl)
theorem dX0_laysPiles_45 : decode cX0_laysPiles 45 = .ok (.iaload, 1) := dk_46 (dk_at dksX0_laysPiles_1 21 rfl rfl)
theorem dX0_laysPiles_46 : decode cX0_laysPiles 46 = .ok (.if_icmp .ge 35, 3) := dk_162 0 35 (dk_at dksX0_laysPiles_2 0 rfl rfl)
theorem dX0_laysPiles_49 : decode cX0_laysPiles 49 = .ok (.iload_n 3, 1) := dk_29 (dk_at dksX0_laysPiles_2 3 rfl rfl)
theorem dX0_laysPiles_50 : decode cX0_laysPiles 50 = .ok (.iload_n 2, 1) := dk_28 (dk_at dksX0_laysPiles_2 4 rfl rfl)
theorem dX0_laysPiles_51 : decode cX0_laysPiles 51 = .ok (.iload 4, 2) := dk_21 4 (dk_at dksX0_laysPiles_2 5 rfl rfl)
theorem dX0_laysPiles_53 : decode cX0_laysPiles 53 = .ok (.invokestatic 82, 3) := dk_184 0 82 (dk_at dksX0_laysPiles_2 7 rfl rfl)
theorem dX0_laysPiles_56 : decode cX0_laysPiles 56 = .ok (.ifCond .eq 16, 3) := dk_153 0 16 (dk_at dksX0_laysPiles_2 10 rfl rfl)
theorem dX0_laysPiles_59 : decode cX0_laysPiles 59 = .ok (.aload_n 0, 1) := dk_42 (dk_at dksX0_laysPiles_2 13 rfl rfl)
theorem dX0_laysPiles_60 : decode cX0_laysPiles 60 = .ok (.getfield 21, 3) := dk_180 0 21 (dk_at dksX0_laysPiles_2 14 rfl rfl)
theorem dX0_laysPiles_63 : decode cX0_laysPiles 63 = .ok (.getfield 323, 3) := dk_180 1 67 (dk_at dksX0_laysPiles_2 17 rfl rfl)
theorem dX0_laysPiles_66 : decode cX0_laysPiles 66 = .ok (.iload 4, 2) := dk_21 4 (dk_at dksX0_laysPiles_2 20 rfl rfl)
theorem dX0_laysPiles_68 : decode cX0_laysPiles 68 = .ok (.iaload, 1) := dk_46 (dk_at dksX0_laysPiles_2 22 rfl rfl)
theorem dX0_laysPiles_69 : decode cX0_laysPiles 69 = .ok (.goto 4, 3) := dk_167 0 4 (dk_at dksX0_laysPiles_3 0 rfl rfl)
theorem dX0_laysPiles_72 : decode cX0_laysPiles 72 = .ok (.iconst 0, 1) := dk_3 (dk_at dksX0_laysPiles_3 3 rfl rfl)
theorem dX0_laysPiles_73 : decode cX0_laysPiles 73 = .ok (.iadd, 1) := dk_96 (dk_at dksX0_laysPiles_3 4 rfl rfl)
theorem dX0_laysPiles_74 : decode cX0_laysPiles 74 = .ok (.istore_n 3, 1) := dk_62 (dk_at dksX0_laysPiles_3 5 rfl rfl)
theorem dX0_laysPiles_75 : decode cX0_laysPiles 75 = .ok (.iinc 4 1, 3) := dk_132 4 1 (dk_at dksX0_laysPiles_3 6 rfl rfl)
theorem dX0_laysPiles_78 : decode cX0_laysPiles 78 = .ok (.goto (-43), 3) := dk_167 255 213 (dk_at dksX0_laysPiles_3 9 rfl rfl)
theorem dX0_laysPiles_81 : decode cX0_laysPiles 81 = .ok (.iload_n 3, 1) := dk_29 (dk_at dksX0_laysPiles_3 12 rfl rfl)
theorem dX0_laysPiles_82 : decode cX0_laysPiles 82 = .ok (.iload_n 1, 1) := dk_27 (dk_at dksX0_laysPiles_3 13 rfl rfl)
theorem dX0_laysPiles_83 : decode cX0_laysPiles 83 = .ok (.if_icmp .eq 6, 3) := dk_159 0 6 (dk_at dksX0_laysPiles_3 14 rfl rfl)
theorem dX0_laysPiles_86 : decode cX0_laysPiles 86 = .ok (.goto 52, 3) := dk_167 0 52 (dk_at dksX0_laysPiles_3 17 rfl rfl)
theorem dX0_laysPiles_89 : decode cX0_laysPiles 89 = .ok (.aload_n 0, 1) := dk_42 (dk_at dksX0_laysPiles_3 20 rfl rfl)
theorem dX0_laysPiles_90 : decode cX0_laysPiles 90 = .ok (.dup, 1) := dk_89 (dk_at dksX0_laysPiles_3 21 rfl rfl)
theorem dX0_laysPiles_91 : decode cX0_laysPiles 91 = .ok (.getfield 331, 3) := dk_180 1 75 (dk_at dksX0_laysPiles_4 0 rfl rfl)
theorem dX0_laysPiles_94 : decode cX0_laysPiles 94 = .ok (.iconst 1, 1) := dk_4 (dk_at dksX0_laysPiles_4 3 rfl rfl)
theorem dX0_laysPiles_95 : decode cX0_laysPiles 95 = .ok (.iadd, 1) := dk_96 (dk_at dksX0_laysPiles_4 4 rfl rfl)
theorem dX0_laysPiles_96 : decode cX0_laysPiles 96 = .ok (.putfield 331, 3) := dk_181 1 75 (dk_at dksX0_laysPiles_4 5 rfl rfl)
theorem dX0_laysPiles_99 : decode cX0_laysPiles 99 = .ok (.iconst 0, 1) := dk_3 (dk_at dksX0_laysPiles_4 8 rfl rfl)
theorem dX0_laysPiles_100 : decode cX0_laysPiles 100 = .ok (.istore 4, 2) := dk_54 4 (dk_at dksX0_laysPiles_4 9 rfl rfl)
theorem dX0_laysPiles_102 : decode cX0_laysPiles 102 = .ok (.iload 4, 2) := dk_21 4 (dk_at dksX0_laysPiles_4 11 rfl rfl)
theorem dX0_laysPiles_104 : decode cX0_laysPiles 104 = .ok (.aload_n 0, 1) := dk_42 (dk_at dksX0_laysPiles_4 13 rfl rfl)
theorem dX0_laysPiles_105 : decode cX0_laysPiles 105 = .ok (.getfield 21, 3) := dk_180 0 21 (dk_at dksX0_laysPiles_4 14 rfl rfl)
theorem dX0_laysPiles_108 : decode cX0_laysPiles 108 = .ok (.getfield 59, 3) := dk_180 0 59 (dk_at dksX0_laysPiles_4 17 rfl rfl)
theorem dX0_laysPiles_111 : decode cX0_laysPiles 111 = .ok (.iconst 4, 1) := dk_7 (dk_at dksX0_laysPiles_4 20 rfl rfl)
theorem dX0_laysPiles_112 : decode cX0_laysPiles 112 = .ok (.iaload, 1) := dk_46 (dk_at dksX0_laysPiles_4 21 rfl rfl)
theorem dX0_laysPiles_113 : decode cX0_laysPiles 113 = .ok (.if_icmp .ge 25, 3) := dk_162 0 25 (dk_at dksX0_laysPiles_5 0 rfl rfl)
theorem dX0_laysPiles_116 : decode cX0_laysPiles 116 = .ok (.aload_n 0, 1) := dk_42 (dk_at dksX0_laysPiles_5 3 rfl rfl)
theorem dX0_laysPiles_117 : decode cX0_laysPiles 117 = .ok (.getfield 52, 3) := dk_180 0 52 (dk_at dksX0_laysPiles_5 4 rfl rfl)
theorem dX0_laysPiles_120 : decode cX0_laysPiles 120 = .ok (.iload 4, 2) := dk_21 4 (dk_at dksX0_laysPiles_5 7 rfl rfl)
theorem dX0_laysPiles_122 : decode cX0_laysPiles 122 = .ok (.dup2, 1) := dk_92 (dk_at dksX0_laysPiles_5 9 rfl rfl)
theorem dX0_laysPiles_123 : decode cX0_laysPiles 123 = .ok (.iaload, 1) := dk_46 (dk_at dksX0_laysPiles_5 10 rfl rfl)
theorem dX0_laysPiles_124 : decode cX0_laysPiles 124 = .ok (.iload_n 2, 1) := dk_28 (dk_at dksX0_laysPiles_5 11 rfl rfl)
theorem dX0_laysPiles_125 : decode cX0_laysPiles 125 = .ok (.iload 4, 2) := dk_21 4 (dk_at dksX0_laysPiles_5 12 rfl rfl)
theorem dX0_laysPiles_127 : decode cX0_laysPiles 127 = .ok (.ishr, 1) := dk_122 (dk_at dksX0_laysPiles_5 14 rfl rfl)
theorem dX0_laysPiles_128 : decode cX0_laysPiles 128 = .ok (.iconst 1, 1) := dk_4 (dk_at dksX0_laysPiles_5 15 rfl rfl)
theorem dX0_laysPiles_129 : decode cX0_laysPiles 129 = .ok (.iand, 1) := dk_126 (dk_at dksX0_laysPiles_5 16 rfl rfl)
theorem dX0_laysPiles_130 : decode cX0_laysPiles 130 = .ok (.iadd, 1) := dk_96 (dk_at dksX0_laysPiles_5 17 rfl rfl)
theorem dX0_laysPiles_131 : decode cX0_laysPiles 131 = .ok (.iastore, 1) := dk_79 (dk_at dksX0_laysPiles_5 18 rfl rfl)
theorem dX0_laysPiles_132 : decode cX0_laysPiles 132 = .ok (.iinc 4 1, 3) := dk_132 4 1 (dk_at dksX0_laysPiles_5 19 rfl rfl)
theorem dX0_laysPiles_135 : decode cX0_laysPiles 135 = .ok (.goto (-33), 3) := dk_167 255 223 (dk_at dksX0_laysPiles_6 0 rfl rfl)
theorem dX0_laysPiles_138 : decode cX0_laysPiles 138 = .ok (.iinc 2 1, 3) := dk_132 2 1 (dk_at dksX0_laysPiles_6 3 rfl rfl)
theorem dX0_laysPiles_141 : decode cX0_laysPiles 141 = .ok (.goto (-126), 3) := dk_167 255 130 (dk_at dksX0_laysPiles_6 6 rfl rfl)
theorem dX0_laysPiles_144 : decode cX0_laysPiles 144 = .ok (.return_, 1) := dk_177 (dk_at dksX0_laysPiles_6 9 rfl rfl)
abbrev cX0_ask : ByteArray := prog_1_method_65_code
def yX0_ask : MethodName := ⟨RX0, "ask", "(I)I"⟩
def dkwX0_ask_3 : List UInt8 := [180, 0, 52, 21, 4, 46, 104, 42, 180, 1, 75, 100, 184, 1, 81, 62, 132, 4, 1, 167, 255, 194, 28, 172]
abbrev dktX0_ask_3 : List UInt8 := dkwX0_ask_3 ++ []
def dkwX0_ask_2 : List UInt8 := [21, 4, 46, 104, 42, 180, 1, 75, 100, 184, 1, 81, 29, 161, 0, 6, 167, 0, 24, 21, 4, 61, 5, 42]
abbrev dktX0_ask_2 : List UInt8 := dkwX0_ask_2 ++ dktX0_ask_3
def dkwX0_ask_1 : List UInt8 := [62, 3, 54, 4, 21, 4, 42, 180, 0, 21, 180, 0, 59, 7, 46, 162, 0, 54, 5, 42, 180, 0, 52]
abbrev dktX0_ask_1 : List UInt8 := dkwX0_ask_1 ++ dktX0_ask_2
def dkwX0_ask_0 : List UInt8 := [27, 3, 17, 39, 15, 184, 0, 62, 154, 0, 5, 2, 172, 42, 27, 182, 1, 78, 2, 61, 42, 180, 1, 75]
abbrev dktX0_ask_0 : List UInt8 := dkwX0_ask_0 ++ dktX0_ask_1
theorem dksX0_ask_0 : cX0_ask.data.toList.drop 0 = dktX0_ask_0 := by decide +kernel
theorem dksX0_ask_1 : cX0_ask.data.toList.drop 24 = dktX0_ask_1 := dk_seg dksX0_ask_0 24 rfl rfl
theorem dksX0_ask_2 : cX0_ask.data.toList.drop 47 = dktX0_ask_2 := dk_seg dksX0_ask_1 23 rfl rfl
theorem dksX0_ask_3 : cX0_ask.data.toList.drop 71 = dktX0_ask_3 := dk_seg dksX0_ask_2 24 rfl rfl
theorem dX0_ask_0 : decode cX0_ask 0 = .ok (.iload_n 1, 1) := dk_27 (dk_at dksX0_ask_0 0 rfl rfl)
theorem dX0_ask_1 : decode cX0_ask 1 = .ok (.iconst 0, 1) := dk_3 (dk_at dksX0_ask_0 1 rfl rfl)
theorem dX0_ask_2 : decode cX0_ask 2 = .ok (.sipush 9999, 3) := dk_17 39 15 (dk_at dksX0_ask_0 2 rfl rfl)
theorem dX0_ask_5 : decode cX0_ask 5 = .ok (.invokestatic 62, 3) := dk_184 0 62 (dk_at dksX0_ask_0 5 rfl rfl)
theorem dX0_ask_8 : decode cX0_ask 8 = .ok (.ifCond .ne 5, 3) := dk_154 0 5 (dk_at dksX0_ask_0 8 rfl rfl)
theorem dX0_ask_11 : decode cX0_ask 11 = .ok (.iconst (-1), 1) := dk_2 (dk_at dksX0_ask_0 11 rfl rfl)
theorem dX0_ask_12 : decode cX0_ask 12 = .ok (.ireturn, 1) := dk_172 (dk_at dksX0_ask_0 12 rfl rfl)
theorem dX0_ask_13 : decode cX0_ask 13 = .ok (.aload_n 0, 1) := dk_42 (dk_at dksX0_ask_0 13 rfl rfl)
theorem dX0_ask_14 : decode cX0_ask 14 = .ok (.iload_n 1, 1) := dk_27 (dk_at dksX0_ask_0 14 rfl rfl)
theorem dX0_ask_15 : decode cX0_ask 15 = .ok (.invokevirtual 334, 3) := dk_182 1 78 (dk_at dksX0_ask_0 15 rfl rfl)
theorem dX0_ask_18 : decode cX0_ask 18 = .ok (.iconst (-1), 1) := dk_2 (dk_at dksX0_ask_0 18 rfl rfl)
theorem dX0_ask_19 : decode cX0_ask 19 = .ok (.istore_n 2, 1) := dk_61 (dk_at dksX0_ask_0 19 rfl rfl)
theorem dX0_ask_20 : decode cX0_ask 20 = .ok (.aload_n 0, 1) := dk_42 (dk_at dksX0_ask_0 20 rfl rfl)
theorem dX0_ask_21 : decode cX0_ask 21 = .ok (.getfield 331, 3) := dk_180 1 75 (dk_at dksX0_ask_0 21 rfl rfl)
theorem dX0_ask_24 : decode cX0_ask 24 = .ok (.istore_n 3, 1) := dk_62 (dk_at dksX0_ask_1 0 rfl rfl)
theorem dX0_ask_25 : decode cX0_ask 25 = .ok (.iconst 0, 1) := dk_3 (dk_at dksX0_ask_1 1 rfl rfl)
theorem dX0_ask_26 : decode cX0_ask 26 = .ok (.istore 4, 2) := dk_54 4 (dk_at dksX0_ask_1 2 rfl rfl)
theorem dX0_ask_28 : decode cX0_ask 28 = .ok (.iload 4, 2) := dk_21 4 (dk_at dksX0_ask_1 4 rfl rfl)
theorem dX0_ask_30 : decode cX0_ask 30 = .ok (.aload_n 0, 1) := dk_42 (dk_at dksX0_ask_1 6 rfl rfl)
theorem dX0_ask_31 : decode cX0_ask 31 = .ok (.getfield 21, 3) := dk_180 0 21 (dk_at dksX0_ask_1 7 rfl rfl)
theorem dX0_ask_34 : decode cX0_ask 34 = .ok (.getfield 59, 3) := dk_180 0 59 (dk_at dksX0_ask_1 10 rfl rfl)
theorem dX0_ask_37 : decode cX0_ask 37 = .ok (.iconst 4, 1) := dk_7 (dk_at dksX0_ask_1 13 rfl rfl)
theorem dX0_ask_38 : decode cX0_ask 38 = .ok (.iaload, 1) := dk_46 (dk_at dksX0_ask_1 14 rfl rfl)
theorem dX0_ask_39 : decode cX0_ask 39 = .ok (.if_icmp .ge 54, 3) := dk_162 0 54 (dk_at dksX0_ask_1 15 rfl rfl)
theorem dX0_ask_42 : decode cX0_ask 42 = .ok (.iconst 2, 1) := dk_5 (dk_at dksX0_ask_1 18 rfl rfl)
theorem dX0_ask_43 : decode cX0_ask 43 = .ok (.aload_n 0, 1) := dk_42 (dk_at dksX0_ask_1 19 rfl rfl)
theorem dX0_ask_44 : decode cX0_ask 44 = .ok (.getfield 52, 3) := dk_180 0 52 (dk_at dksX0_ask_1 20 rfl rfl)
theorem dX0_ask_47 : decode cX0_ask 47 = .ok (.iload 4, 2) := dk_21 4 (dk_at dksX0_ask_2 0 rfl rfl)
theorem dX0_ask_49 : decode cX0_ask 49 = .ok (.iaload, 1) := dk_46 (dk_at dksX0_ask_2 2 rfl rfl)
theorem dX0_ask_50 : decode cX0_ask 50 = .ok (.imul, 1) := dk_104 (dk_at dksX0_ask_2 3 rfl rfl)
theorem dX0_ask_51 : decode cX0_ask 51 = .ok (.aload_n 0, 1) := dk_42 (dk_at dksX0_ask_2 4 rfl rfl)
theorem dX0_ask_52 : decode cX0_ask 52 = .ok (.getfield 331, 3) := dk_180 1 75 (dk_at dksX0_ask_2 5 rfl rfl)
theorem dX0_ask_55 : decode cX0_ask 55 = .ok (.isub, 1) := dk_100 (dk_at dksX0_ask_2 8 rfl rfl)
theorem dX0_ask_56 : decode cX0_ask 56 = .ok (.invokestatic 337, 3) := dk_184 1 81 (dk_at dksX0_ask_2 9 rfl rfl)
theorem dX0_ask_59 : decode cX0_ask 59 = .ok (.iload_n 3, 1) := dk_29 (dk_at dksX0_ask_2 12 rfl rfl)
theorem dX0_ask_60 : decode cX0_ask 60 = .ok (.if_icmp .lt 6, 3) := dk_161 0 6 (dk_at dksX0_ask_2 13 rfl rfl)
theorem dX0_ask_63 : decode cX0_ask 63 = .ok (.goto 24, 3) := dk_167 0 24 (dk_at dksX0_ask_2 16 rfl rfl)
theorem dX0_ask_66 : decode cX0_ask 66 = .ok (.iload 4, 2) := dk_21 4 (dk_at dksX0_ask_2 19 rfl rfl)
theorem dX0_ask_68 : decode cX0_ask 68 = .ok (.istore_n 2, 1) := dk_61 (dk_at dksX0_ask_2 21 rfl rfl)
theorem dX0_ask_69 : decode cX0_ask 69 = .ok (.iconst 2, 1) := dk_5 (dk_at dksX0_ask_2 22 rfl rfl)
theorem dX0_ask_70 : decode cX0_ask 70 = .ok (.aload_n 0, 1) := dk_42 (dk_at dksX0_ask_2 23 rfl rfl)
theorem dX0_ask_71 : decode cX0_ask 71 = .ok (.getfield 52, 3) := dk_180 0 52 (dk_at dksX0_ask_3 0 rfl rfl)
theorem dX0_ask_74 : decode cX0_ask 74 = .ok (.iload 4, 2) := dk_21 4 (dk_at dksX0_ask_3 3 rfl rfl)
theorem dX0_ask_76 : decode cX0_ask 76 = .ok (.iaload, 1) := dk_46 (dk_at dksX0_ask_3 5 rfl rfl)
theorem dX0_ask_77 : decode cX0_ask 77 = .ok (.imul, 1) := dk_104 (dk_at dksX0_ask_3 6 rfl rfl)
theorem dX0_ask_78 : decode cX0_ask 78 = .ok (.aload_n 0, 1) := dk_42 (dk_at dksX0_ask_3 7 rfl rfl)
theorem dX0_ask_79 : decode cX0_ask 79 = .ok (.getfield 331, 3) := dk_180 1 75 (dk_at dksX0_ask_3 8 rfl rfl)
theorem dX0_ask_82 : decode cX0_ask 82 = .ok (.isub, 1) := dk_100 (dk_at dksX0_ask_3 11 rfl rfl)
theorem dX0_ask_83 : decode cX0_ask 83 = .ok (.invokestatic 337, 3) := dk_184 1 81 (dk_at dksX0_ask_3 12 rfl rfl)
theorem dX0_ask_86 : decode cX0_ask 86 = .ok (.istore_n 3, 1) := dk_62 (dk_at dksX0_ask_3 15 rfl rfl)
theorem dX0_ask_87 : decode cX0_ask 87 = .ok (.iinc 4 1, 3) := dk_132 4 1 (dk_at dksX0_ask_3 16 rfl rfl)
theorem dX0_ask_90 : decode cX0_ask 90 = .ok (.goto (-62), 3) := dk_167 255 194 (dk_at dksX0_ask_3 19 rfl rfl)
theorem dX0_ask_93 : decode cX0_ask 93 = .ok (.iload_n 2, 1) := dk_28 (dk_at dksX0_ask_3 22 rfl rfl)
theorem dX0_ask_94 : decode cX0_ask 94 = .ok (.ireturn, 1) := dk_172 (dk_at dksX0_ask_3 23 rfl rfl)
abbrev cX0_orders : ByteArray := prog_1_method_66_code
def yX0_orders : MethodName := ⟨RX0, "orders", "()J"⟩
def dkwX0_orders_2 : List UInt8 := [31, 33, 109, 173]
abbrev dktX0_orders_2 : List UInt8 := dkwX0_orders_2 ++ []
def dkwX0_orders_1 : List UInt8 := [4, 96, 133, 105, 64, 33, 42, 21, 5, 182, 1, 42, 184, 1, 84, 133, 105, 66, 132, 5, 1, 167, 255, 218]
abbrev dktX0_orders_1 : List UInt8 := dkwX0_orders_1 ++ dktX0_orders_2
def dkwX0_orders_0 : List UInt8 := [10, 64, 10, 66, 3, 54, 5, 21, 5, 42, 180, 0, 21, 180, 0, 59, 3, 46, 162, 0, 30, 31, 21, 5]
abbrev dktX0_orders_0 : List UInt8 := dkwX0_orders_0 ++ dktX0_orders_1
theorem dksX0_orders_0 : cX0_orders.data.toList.drop 0 = dktX0_orders_0 := by decide +kernel
theorem dksX0_orders_1 : cX0_orders.data.toList.drop 24 = dktX0_orders_1 := dk_seg dksX0_orders_0 24 rfl rfl
theorem dksX0_orders_2 : cX0_orders.data.toList.drop 48 = dktX0_orders_2 := dk_seg dksX0_orders_1 24 rfl rfl
theorem dX0_orders_0 : decode cX0_orders 0 = .ok (.lconst 1, 1) := dk_10 (dk_at dksX0_orders_0 0 rfl rfl)
theorem dX0_orders_1 : decode cX0_orders 1 = .ok (.lstore_n 1, 1) := dk_64 (dk_at dksX0_orders_0 1 rfl rfl)
theorem dX0_orders_2 : decode cX0_orders 2 = .ok (.lconst 1, 1) := dk_10 (dk_at dksX0_orders_0 2 rfl rfl)
theorem dX0_orders_3 : decode cX0_orders 3 = .ok (.lstore_n 3, 1) := dk_66 (dk_at dksX0_orders_0 3 rfl rfl)
theorem dX0_orders_4 : decode cX0_orders 4 = .ok (.iconst 0, 1) := dk_3 (dk_at dksX0_orders_0 4 rfl rfl)
theorem dX0_orders_5 : decode cX0_orders 5 = .ok (.istore 5, 2) := dk_54 5 (dk_at dksX0_orders_0 5 rfl rfl)
theorem dX0_orders_7 : decode cX0_orders 7 = .ok (.iload 5, 2) := dk_21 5 (dk_at dksX0_orders_0 7 rfl rfl)
theorem dX0_orders_9 : decode cX0_orders 9 = .ok (.aload_n 0, 1) := dk_42 (dk_at dksX0_orders_0 9 rfl rfl)
theorem dX0_orders_10 : decode cX0_orders 10 = .ok (.getfield 21, 3) := dk_180 0 21 (dk_at dksX0_orders_0 10 rfl rfl)
theorem dX0_orders_13 : decode cX0_orders 13 = .ok (.getfield 59, 3) := dk_180 0 59 (dk_at dksX0_orders_0 13 rfl rfl)
theorem dX0_orders_16 : decode cX0_orders 16 = .ok (.iconst 0, 1) := dk_3 (dk_at dksX0_orders_0 16 rfl rfl)
theorem dX0_orders_17 : decode cX0_orders 17 = .ok (.iaload, 1) := dk_46 (dk_at dksX0_orders_0 17 rfl rfl)
theorem dX0_orders_18 : decode cX0_orders 18 = .ok (.if_icmp .ge 30, 3) := dk_162 0 30 (dk_at dksX0_orders_0 18 rfl rfl)
theorem dX0_orders_21 : decode cX0_orders 21 = .ok (.lload_n 1, 1) := dk_31 (dk_at dksX0_orders_0 21 rfl rfl)
theorem dX0_orders_22 : decode cX0_orders 22 = .ok (.iload 5, 2) := dk_21 5 (dk_at dksX0_orders_0 22 rfl rfl)
theorem dX0_orders_24 : decode cX0_orders 24 = .ok (.iconst 1, 1) := dk_4 (dk_at dksX0_orders_1 0 rfl rfl)
theorem dX0_orders_25 : decode cX0_orders 25 = .ok (.iadd, 1) := dk_96 (dk_at dksX0_orders_1 1 rfl rfl)
theorem dX0_orders_26 : decode cX0_orders 26 = .ok (.i2l, 1) := dk_133 (dk_at dksX0_orders_1 2 rfl rfl)
theorem dX0_orders_27 : decode cX0_orders 27 = .ok (.lmul, 1) := dk_105 (dk_at dksX0_orders_1 3 rfl rfl)
theorem dX0_orders_28 : decode cX0_orders 28 = .ok (.lstore_n 1, 1) := dk_64 (dk_at dksX0_orders_1 4 rfl rfl)
theorem dX0_orders_29 : decode cX0_orders 29 = .ok (.lload_n 3, 1) := dk_33 (dk_at dksX0_orders_1 5 rfl rfl)
theorem dX0_orders_30 : decode cX0_orders 30 = .ok (.aload_n 0, 1) := dk_42 (dk_at dksX0_orders_1 6 rfl rfl)
theorem dX0_orders_31 : decode cX0_orders 31 = .ok (.iload 5, 2) := dk_21 5 (dk_at dksX0_orders_1 7 rfl rfl)
theorem dX0_orders_33 : decode cX0_orders 33 = .ok (.invokevirtual 298, 3) := dk_182 1 42 (dk_at dksX0_orders_1 9 rfl rfl)
theorem dX0_orders_36 : decode cX0_orders 36 = .ok (.invokestatic 340, 3) := dk_184 1 84 (dk_at dksX0_orders_1 12 rfl rfl)
theorem dX0_orders_39 : decode cX0_orders 39 = .ok (.i2l, 1) := dk_133 (dk_at dksX0_orders_1 15 rfl rfl)
theorem dX0_orders_40 : decode cX0_orders 40 = .ok (.lmul, 1) := dk_105 (dk_at dksX0_orders_1 16 rfl rfl)
theorem dX0_orders_41 : decode cX0_orders 41 = .ok (.lstore_n 3, 1) := dk_66 (dk_at dksX0_orders_1 17 rfl rfl)
theorem dX0_orders_42 : decode cX0_orders 42 = .ok (.iinc 5 1, 3) := dk_132 5 1 (dk_at dksX0_orders_1 18 rfl rfl)
theorem dX0_orders_45 : decode cX0_orders 45 = .ok (.goto (-38), 3) := dk_167 255 218 (dk_at dksX0_orders_1 21 rfl rfl)
theorem dX0_orders_48 : decode cX0_orders 48 = .ok (.lload_n 1, 1) := dk_31 (dk_at dksX0_orders_2 0 rfl rfl)
theorem dX0_orders_49 : decode cX0_orders 49 = .ok (.lload_n 3, 1) := dk_33 (dk_at dksX0_orders_2 1 rfl rfl)
theorem dX0_orders_50 : decode cX0_orders 50 = .ok (.ldiv, 1) := dk_109 (dk_at dksX0_orders_2 2 rfl rfl)
theorem dX0_orders_51 : decode cX0_orders 51 = .ok (.lreturn, 1) := dk_173 (dk_at dksX0_orders_2 3 rfl rfl)
abbrev cX0_first : ByteArray := prog_1_method_68_code
def yX0_first : MethodName := ⟨RX0, "first", "(I)I"⟩
def dkwX0_first_1 : List UInt8 := [182, 1, 89, 120, 128, 61, 132, 3, 1, 167, 255, 238, 42, 28, 182, 1, 89, 172]
abbrev dktX0_first_1 : List UInt8 := dkwX0_first_1 ++ []
def dkwX0_first_0 : List UInt8 := [42, 27, 182, 0, 69, 154, 0, 5, 2, 172, 3, 61, 3, 62, 29, 27, 162, 0, 19, 28, 4, 42, 28]
abbrev dktX0_first_0 : List UInt8 := dkwX0_first_0 ++ dktX0_first_1
theorem dksX0_first_0 : cX0_first.data.toList.drop 0 = dktX0_first_0 := by decide +kernel
theorem dksX0_first_1 : cX0_first.data.toList.drop 23 = dktX0_first_1 := dk_seg dksX0_first_0 23 rfl rfl
theorem dX0_first_0 : decode cX0_first 0 = .ok (.aload_n 0, 1) := dk_42 (dk_at dksX0_first_0 0 rfl rfl)
theorem dX0_first_1 : decode cX0_first 1 = .ok (.iload_n 1, 1) := dk_27 (dk_at dksX0_first_0 1 rfl rfl)
theorem dX0_first_2 : decode cX0_first 2 = .ok (.invokevirtual 69, 3) := dk_182 0 69 (dk_at dksX0_first_0 2 rfl rfl)
theorem dX0_first_5 : decode cX0_first 5 = .ok (.ifCond .ne 5, 3) := dk_154 0 5 (dk_at dksX0_first_0 5 rfl rfl)
theorem dX0_first_8 : decode cX0_first 8 = .ok (.iconst (-1), 1) := dk_2 (dk_at dksX0_first_0 8 rfl rfl)
theorem dX0_first_9 : decode cX0_first 9 = .ok (.ireturn, 1) := dk_172 (dk_at dksX0_first_0 9 rfl rfl)
theorem dX0_first_10 : decode cX0_first 10 = .ok (.iconst 0, 1) := dk_3 (dk_at dksX0_first_0 10 rfl rfl)
theorem dX0_first_11 : decode cX0_first 11 = .ok (.istore_n 2, 1) := dk_61 (dk_at dksX0_first_0 11 rfl rfl)
theorem dX0_first_12 : decode cX0_first 12 = .ok (.iconst 0, 1) := dk_3 (dk_at dksX0_first_0 12 rfl rfl)
theorem dX0_first_13 : decode cX0_first 13 = .ok (.istore_n 3, 1) := dk_62 (dk_at dksX0_first_0 13 rfl rfl)
theorem dX0_first_14 : decode cX0_first 14 = .ok (.iload_n 3, 1) := dk_29 (dk_at dksX0_first_0 14 rfl rfl)
theorem dX0_first_15 : decode cX0_first 15 = .ok (.iload_n 1, 1) := dk_27 (dk_at dksX0_first_0 15 rfl rfl)
theorem dX0_first_16 : decode cX0_first 16 = .ok (.if_icmp .ge 19, 3) := dk_162 0 19 (dk_at dksX0_first_0 16 rfl rfl)
theorem dX0_first_19 : decode cX0_first 19 = .ok (.iload_n 2, 1) := dk_28 (dk_at dksX0_first_0 19 rfl rfl)
theorem dX0_first_20 : decode cX0_first 20 = .ok (.iconst 1, 1) := dk_4 (dk_at dksX0_first_0 20 rfl rfl)
theorem dX0_first_21 : decode cX0_first 21 = .ok (.aload_n 0, 1) := dk_42 (dk_at dksX0_first_0 21 rfl rfl)
theorem dX0_first_22 : decode cX0_first 22 = .ok (.iload_n 2, 1) := dk_28 (dk_at dksX0_first_0 22 rfl rfl)
theorem dX0_first_23 : decode cX0_first 23 = .ok (.invokevirtual 345, 3) := dk_182 1 89 (dk_at dksX0_first_1 0 rfl rfl)
theorem dX0_first_26 : decode cX0_first 26 = .ok (.ishl, 1) := dk_120 (dk_at dksX0_first_1 3 rfl rfl)
theorem dX0_first_27 : decode cX0_first 27 = .ok (.ior, 1) := dk_128 (dk_at dksX0_first_1 4 rfl rfl)
theorem dX0_first_28 : decode cX0_first 28 = .ok (.istore_n 2, 1) := dk_61 (dk_at dksX0_first_1 5 rfl rfl)
theorem dX0_first_29 : decode cX0_first 29 = .ok (.iinc 3 1, 3) := dk_132 3 1 (dk_at dksX0_first_1 6 rfl rfl)
theorem dX0_first_32 : decode cX0_first 32 = .ok (.goto (-18), 3) := dk_167 255 238 (dk_at dksX0_first_1 9 rfl rfl)
theorem dX0_first_35 : decode cX0_first 35 = .ok (.aload_n 0, 1) := dk_42 (dk_at dksX0_first_1 12 rfl rfl)
theorem dX0_first_36 : decode cX0_first 36 = .ok (.iload_n 2, 1) := dk_28 (dk_at dksX0_first_1 13 rfl rfl)
theorem dX0_first_37 : decode cX0_first 37 = .ok (.invokevirtual 345, 3) := dk_182 1 89 (dk_at dksX0_first_1 14 rfl rfl)
theorem dX0_first_40 : decode cX0_first 40 = .ok (.ireturn, 1) := dk_172 (dk_at dksX0_first_1 17 rfl rfl)
abbrev cX0_nextBehind : ByteArray := prog_1_method_67_code
def yX0_nextBehind : MethodName := ⟨RX0, "nextBehind", "(I)I"⟩
def dkwX0_nextBehind_4 : List UInt8 := [29, 61, 132, 3, 1, 167, 255, 163, 28, 172]
abbrev dktX0_nextBehind_4 : List UInt8 := dkwX0_nextBehind_4 ++ []
def dkwX0_nextBehind_3 : List UInt8 := [159, 0, 24, 42, 180, 0, 21, 180, 0, 76, 29, 46, 42, 180, 0, 21, 180, 0, 76, 28, 46, 164, 0, 5]
abbrev dktX0_nextBehind_3 : List UInt8 := dkwX0_nextBehind_3 ++ dktX0_nextBehind_4
def dkwX0_nextBehind_2 : List UInt8 := [29, 46, 184, 0, 82, 153, 0, 7, 4, 167, 0, 4, 3, 54, 4, 21, 4, 153, 0, 31, 28, 2]
abbrev dktX0_nextBehind_2 : List UInt8 := dkwX0_nextBehind_2 ++ dktX0_nextBehind_3
def dkwX0_nextBehind_1 : List UInt8 := [154, 0, 36, 42, 180, 0, 21, 180, 0, 73, 29, 46, 2, 159, 0, 19, 27, 42, 180, 0, 21, 180, 0, 73]
abbrev dktX0_nextBehind_1 : List UInt8 := dkwX0_nextBehind_1 ++ dktX0_nextBehind_2
def dkwX0_nextBehind_0 : List UInt8 := [2, 61, 3, 62, 29, 42, 180, 0, 21, 180, 0, 59, 3, 46, 162, 0, 86, 27, 29, 184, 0, 82]
abbrev dktX0_nextBehind_0 : List UInt8 := dkwX0_nextBehind_0 ++ dktX0_nextBehind_1
theorem dksX0_nextBehind_0 : cX0_nextBehind.data.toList.drop 0 = dktX0_nextBehind_0 := by decide +kernel
theorem dksX0_nextBehind_1 : cX0_nextBehind.data.toList.drop 22 = dktX0_nextBehind_1 := dk_seg dksX0_nextBehind_0 22 rfl rfl
theorem dksX0_nextBehind_2 : cX0_nextBehind.data.toList.drop 46 = dktX0_nextBehind_2 := dk_seg dksX0_nextBehind_1 24 rfl rfl
theorem dksX0_nextBehind_3 : cX0_nextBehind.data.toList.drop 68 = dktX0_nextBehind_3 := dk_seg dksX0_nextBehind_2 22 rfl rfl
theorem dksX0_nextBehind_4 : cX0_nextBehind.data.toList.drop 92 = dktX0_nextBehind_4 := dk_seg dksX0_nextBehind_3 24 rfl rfl
theorem dX0_nextBehind_0 : decode cX0_nextBehind 0 = .ok (.iconst (-1), 1) := dk_2 (dk_at dksX0_nextBehind_0 0 rfl rfl)
theorem dX0_nextBehind_1 : decode cX0_nextBehind 1 = .ok (.istore_n 2, 1) := dk_61 (dk_at dksX0_nextBehind_0 1 rfl rfl)
theorem dX0_nextBehind_2 : decode cX0_nextBehind 2 = .ok (.iconst 0, 1) := dk_3 (dk_at dksX0_nextBehind_0 2 rfl rfl)
theorem dX0_nextBehind_3 : decode cX0_nextBehind 3 = .ok (.istore_n 3, 1) := dk_62 (dk_at dksX0_nextBehind_0 3 rfl rfl)
theorem dX0_nextBehind_4 : decode cX0_nextBehind 4 = .ok (.iload_n 3, 1) := dk_29 (dk_at dksX0_nextBehind_0 4 rfl rfl)
theorem dX0_nextBehind_5 : decode cX0_nextBehind 5 = .ok (.aload_n 0, 1) := dk_42 (dk_at dksX0_nextBehind_0 5 rfl rfl)
theorem dX0_nextBehind_6 : decode cX0_nextBehind 6 = .ok (.getfield 21, 3) := dk_180 0 21 (dk_at dksX0_nextBehind_0 6 rfl rfl)
theorem dX0_nextBehind_9 : decode cX0_nextBehind 9 = .ok (.getfield 59, 3) := dk_180 0 59 (dk_at dksX0_nextBehind_0 9 rfl rfl)
theorem dX0_nextBehind_12 : decode cX0_nextBehind 12 = .ok (.iconst 0, 1) := dk_3 (dk_at dksX0_nextBehind_0 12 rfl rfl)
theorem dX0_nextBehind_13 : decode cX0_nextBehind 13 = .ok (.iaload, 1) := dk_46 (dk_at dksX0_nextBehind_0 13 rfl rfl)
theorem dX0_nextBehind_14 : decode cX0_nextBehind 14 = .ok (.if_icmp .ge 86, 3) := dk_162 0 86 (dk_at dksX0_nextBehind_0 14 rfl rfl)
theorem dX0_nextBehind_17 : decode cX0_nextBehind 17 = .ok (.iload_n 1, 1) := dk_27 (dk_at dksX0_nextBehind_0 17 rfl rfl)
theorem dX0_nextBehind_18 : decode cX0_nextBehind 18 = .ok (.iload_n 3, 1) := dk_29 (dk_at dksX0_nextBehind_0 18 rfl rfl)
theorem dX0_nextBehind_19 : decode cX0_nextBehind 19 = .ok (.invokestatic 82, 3) := dk_184 0 82 (dk_at dksX0_nextBehind_0 19 rfl rfl)
theorem dX0_nextBehind_22 : decode cX0_nextBehind 22 = .ok (.ifCond .ne 36, 3) := dk_154 0 36 (dk_at dksX0_nextBehind_1 0 rfl rfl)
theorem dX0_nextBehind_25 : decode cX0_nextBehind 25 = .ok (.aload_n 0, 1) := dk_42 (dk_at dksX0_nextBehind_1 3 rfl rfl)
theorem dX0_nextBehind_26 : decode cX0_nextBehind 26 = .ok (.getfield 21, 3) := dk_180 0 21 (dk_at dksX0_nextBehind_1 4 rfl rfl)
theorem dX0_nextBehind_29 : decode cX0_nextBehind 29 = .ok (.getfield 73, 3) := dk_180 0 73 (dk_at dksX0_nextBehind_1 7 rfl rfl)
theorem dX0_nextBehind_32 : decode cX0_nextBehind 32 = .ok (.iload_n 3, 1) := dk_29 (dk_at dksX0_nextBehind_1 10 rfl rfl)
theorem dX0_nextBehind_33 : decode cX0_nextBehind 33 = .ok (.iaload, 1) := dk_46 (dk_at dksX0_nextBehind_1 11 rfl rfl)
theorem dX0_nextBehind_34 : decode cX0_nextBehind 34 = .ok (.iconst (-1), 1) := dk_2 (dk_at dksX0_nextBehind_1 12 rfl rfl)
theorem dX0_nextBehind_35 : decode cX0_nextBehind 35 = .ok (.if_icmp .eq 19, 3) := dk_159 0 19 (dk_at dksX0_nextBehind_1 13 rfl rfl)
theorem dX0_nextBehind_38 : decode cX0_nextBehind 38 = .ok (.iload_n 1, 1) := dk_27 (dk_at dksX0_nextBehind_1 16 rfl rfl)
theorem dX0_nextBehind_39 : decode cX0_nextBehind 39 = .ok (.aload_n 0, 1) := dk_42 (dk_at dksX0_nextBehind_1 17 rfl rfl)
theorem dX0_nextBehind_40 : decode cX0_nextBehind 40 = .ok (.getfield 21, 3) := dk_180 0 21 (dk_at dksX0_nextBehind_1 18 rfl rfl)
theorem dX0_nextBehind_43 : decode cX0_nextBehind 43 = .ok (.getfield 73, 3) := dk_180 0 73 (dk_at dksX0_nextBehind_1 21 rfl rfl)
theorem dX0_nextBehind_46 : decode cX0_nextBehind 46 = .ok (.iload_n 3, 1) := dk_29 (dk_at dksX0_nextBehind_2 0 rfl rfl)
theorem dX0_nextBehind_47 : decode cX0_nextBehind 47 = .ok (.iaload, 1) := dk_46 (dk_at dksX0_nextBehind_2 1 rfl rfl)
theorem dX0_nextBehind_48 : decode cX0_nextBehind 48 = .ok (.invokestatic 82, 3) := dk_184 0 82 (dk_at dksX0_nextBehind_2 2 rfl rfl)
theorem dX0_nextBehind_51 : decode cX0_nextBehind 51 = .ok (.ifCond .eq 7, 3) := dk_153 0 7 (dk_at dksX0_nextBehind_2 5 rfl rfl)
theorem dX0_nextBehind_54 : decode cX0_nextBehind 54 = .ok (.iconst 1, 1) := dk_4 (dk_at dksX0_nextBehind_2 8 rfl rfl)
theorem dX0_nextBehind_55 : decode cX0_nextBehind 55 = .ok (.goto 4, 3) := dk_167 0 4 (dk_at dksX0_nextBehind_2 9 rfl rfl)
theorem dX0_nextBehind_58 : decode cX0_nextBehind 58 = .ok (.iconst 0, 1) := dk_3 (dk_at dksX0_nextBehind_2 12 rfl rfl)
theorem dX0_nextBehind_59 : decode cX0_nextBehind 59 = .ok (.istore 4, 2) := dk_54 4 (dk_at dksX0_nextBehind_2 13 rfl rfl)
theorem dX0_nextBehind_61 : decode cX0_nextBehind 61 = .ok (.iload 4, 2) := dk_21 4 (dk_at dksX0_nextBehind_2 15 rfl rfl)
theorem dX0_nextBehind_63 : decode cX0_nextBehind 63 = .ok (.ifCond .eq 31, 3) := dk_153 0 31 (dk_at dksX0_nextBehind_2 17 rfl rfl)
theorem dX0_nextBehind_66 : decode cX0_nextBehind 66 = .ok (.iload_n 2, 1) := dk_28 (dk_at dksX0_nextBehind_2 20 rfl rfl)
theorem dX0_nextBehind_67 : decode cX0_nextBehind 67 = .ok (.iconst (-1), 1) := dk_2 (dk_at dksX0_nextBehind_2 21 rfl rfl)
theorem dX0_nextBehind_68 : decode cX0_nextBehind 68 = .ok (.if_icmp .eq 24, 3) := dk_159 0 24 (dk_at dksX0_nextBehind_3 0 rfl rfl)
theorem dX0_nextBehind_71 : decode cX0_nextBehind 71 = .ok (.aload_n 0, 1) := dk_42 (dk_at dksX0_nextBehind_3 3 rfl rfl)
theorem dX0_nextBehind_72 : decode cX0_nextBehind 72 = .ok (.getfield 21, 3) := dk_180 0 21 (dk_at dksX0_nextBehind_3 4 rfl rfl)
theorem dX0_nextBehind_75 : decode cX0_nextBehind 75 = .ok (.getfield 76, 3) := dk_180 0 76 (dk_at dksX0_nextBehind_3 7 rfl rfl)
theorem dX0_nextBehind_78 : decode cX0_nextBehind 78 = .ok (.iload_n 3, 1) := dk_29 (dk_at dksX0_nextBehind_3 10 rfl rfl)
theorem dX0_nextBehind_79 : decode cX0_nextBehind 79 = .ok (.iaload, 1) := dk_46 (dk_at dksX0_nextBehind_3 11 rfl rfl)
theorem dX0_nextBehind_80 : decode cX0_nextBehind 80 = .ok (.aload_n 0, 1) := dk_42 (dk_at dksX0_nextBehind_3 12 rfl rfl)
theorem dX0_nextBehind_81 : decode cX0_nextBehind 81 = .ok (.getfield 21, 3) := dk_180 0 21 (dk_at dksX0_nextBehind_3 13 rfl rfl)
theorem dX0_nextBehind_84 : decode cX0_nextBehind 84 = .ok (.getfield 76, 3) := dk_180 0 76 (dk_at dksX0_nextBehind_3 16 rfl rfl)
theorem dX0_nextBehind_87 : decode cX0_nextBehind 87 = .ok (.iload_n 2, 1) := dk_28 (dk_at dksX0_nextBehind_3 19 rfl rfl)
theorem dX0_nextBehind_88 : decode cX0_nextBehind 88 = .ok (.iaload, 1) := dk_46 (dk_at dksX0_nextBehind_3 20 rfl rfl)
theorem dX0_nextBehind_89 : decode cX0_nextBehind 89 = .ok (.if_icmp .le 5, 3) := dk_164 0 5 (dk_at dksX0_nextBehind_3 21 rfl rfl)
theorem dX0_nextBehind_92 : decode cX0_nextBehind 92 = .ok (.iload_n 3, 1) := dk_29 (dk_at dksX0_nextBehind_4 0 rfl rfl)
theorem dX0_nextBehind_93 : decode cX0_nextBehind 93 = .ok (.istore_n 2, 1) := dk_61 (dk_at dksX0_nextBehind_4 1 rfl rfl)
theorem dX0_nextBehind_94 : decode cX0_nextBehind 94 = .ok (.iinc 3 1, 3) := dk_132 3 1 (dk_at dksX0_nextBehind_4 2 rfl rfl)
theorem dX0_nextBehind_97 : decode cX0_nextBehind 97 = .ok (.goto (-93), 3) := dk_167 255 163 (dk_at dksX0_nextBehind_4 5 rfl rfl)
theorem dX0_nextBehind_100 : decode cX0_nextBehind 100 = .ok (.iload_n 2, 1) := dk_28 (dk_at dksX0_nextBehind_4 8 rfl rfl)
theorem dX0_nextBehind_101 : decode cX0_nextBehind 101 = .ok (.ireturn, 1) := dk_172 (dk_at dksX0_nextBehind_4 9 rfl rfl)
abbrev cX0_weigh : ByteArray := prog_1_method_69_code
def yX0_weigh : MethodName := ⟨RX0, "weigh", "(II)Z"⟩
def dkwX0_weigh_1 : List UInt8 := [180, 1, 92, 27, 28, 79, 4, 172]
abbrev dktX0_weigh_1 : List UInt8 := dkwX0_weigh_1 ++ []
def dkwX0_weigh_0 : List UInt8 := [42, 27, 182, 0, 69, 153, 0, 13, 28, 3, 16, 99, 184, 0, 62, 154, 0, 5, 3, 172, 42, 180, 0, 21]
abbrev dktX0_weigh_0 : List UInt8 := dkwX0_weigh_0 ++ dktX0_weigh_1
theorem dksX0_weigh_0 : cX0_weigh.data.toList.drop 0 = dktX0_weigh_0 := by decide +kernel
theorem dksX0_weigh_1 : cX0_weigh.data.toList.drop 24 = dktX0_weigh_1 := dk_seg dksX0_weigh_0 24 rfl rfl
theorem dX0_weigh_0 : decode cX0_weigh 0 = .ok (.aload_n 0, 1) := dk_42 (dk_at dksX0_weigh_0 0 rfl rfl)
theorem dX0_weigh_1 : decode cX0_weigh 1 = .ok (.iload_n 1, 1) := dk_27 (dk_at dksX0_weigh_0 1 rfl rfl)
theorem dX0_weigh_2 : decode cX0_weigh 2 = .ok (.invokevirtual 69, 3) := dk_182 0 69 (dk_at dksX0_weigh_0 2 rfl rfl)
theorem dX0_weigh_5 : decode cX0_weigh 5 = .ok (.ifCond .eq 13, 3) := dk_153 0 13 (dk_at dksX0_weigh_0 5 rfl rfl)
theorem dX0_weigh_8 : decode cX0_weigh 8 = .ok (.iload_n 2, 1) := dk_28 (dk_at dksX0_weigh_0 8 rfl rfl)
theorem dX0_weigh_9 : decode cX0_weigh 9 = .ok (.iconst 0, 1) := dk_3 (dk_at dksX0_weigh_0 9 rfl rfl)
theorem dX0_weigh_10 : decode cX0_weigh 10 = .ok (.bipush 99, 2) := dk_16 99 (dk_at dksX0_weigh_0 10 rfl rfl)
theorem dX0_weigh_12 : decode cX0_weigh 12 = .ok (.invokestatic 62, 3) := dk_184 0 62 (dk_at dksX0_weigh_0 12 rfl rfl)
theorem dX0_weigh_15 : decode cX0_weigh 15 = .ok (.ifCond .ne 5, 3) := dk_154 0 5 (dk_at dksX0_weigh_0 15 rfl rfl)
theorem dX0_weigh_18 : decode cX0_weigh 18 = .ok (.iconst 0, 1) := dk_3 (dk_at dksX0_weigh_0 18 rfl rfl)
theorem dX0_weigh_19 : decode cX0_weigh 19 = .ok (.ireturn, 1) := dk_172 (dk_at dksX0_weigh_0 19 rfl rfl)
theorem dX0_weigh_20 : decode cX0_weigh 20 = .ok (.aload_n 0, 1) := dk_42 (dk_at dksX0_weigh_0 20 rfl rfl)
theorem dX0_weigh_21 : decode cX0_weigh 21 = .ok (.getfield 21, 3) := dk_180 0 21 (dk_at dksX0_weigh_0 21 rfl rfl)
theorem dX0_weigh_24 : decode cX0_weigh 24 = .ok (.getfield 348, 3) := dk_180 1 92 (dk_at dksX0_weigh_1 0 rfl rfl)
theorem dX0_weigh_27 : decode cX0_weigh 27 = .ok (.iload_n 1, 1) := dk_27 (dk_at dksX0_weigh_1 3 rfl rfl)
theorem dX0_weigh_28 : decode cX0_weigh 28 = .ok (.iload_n 2, 1) := dk_28 (dk_at dksX0_weigh_1 4 rfl rfl)
theorem dX0_weigh_29 : decode cX0_weigh 29 = .ok (.iastore, 1) := dk_79 (dk_at dksX0_weigh_1 5 rfl rfl)
theorem dX0_weigh_30 : decode cX0_weigh 30 = .ok (.iconst 1, 1) := dk_4 (dk_at dksX0_weigh_1 6 rfl rfl)
theorem dX0_weigh_31 : decode cX0_weigh 31 = .ok (.ireturn, 1) := dk_172 (dk_at dksX0_weigh_1 7 rfl rfl)
abbrev cX0_apart : ByteArray := prog_1_method_72_code
def yX0_apart : MethodName := ⟨RX0, "apart", "(Z)I"⟩
def dkwX0_apart_2 : List UInt8 := [27, 153, 0, 11, 42, 28, 182, 1, 95, 167, 0, 4, 28, 172]
abbrev dktX0_apart_2 : List UInt8 := dkwX0_apart_2 ++ []
def dkwX0_apart_1 : List UInt8 := [42, 28, 182, 1, 95, 164, 0, 13, 42, 29, 182, 1, 98, 153, 0, 5, 29, 61, 132, 3, 1, 167, 255, 215]
abbrev dktX0_apart_1 : List UInt8 := dkwX0_apart_1 ++ dktX0_apart_2
def dkwX0_apart_0 : List UInt8 := [3, 61, 4, 62, 29, 4, 42, 180, 0, 21, 180, 0, 59, 3, 46, 120, 162, 0, 32, 42, 29, 182, 1, 95]
abbrev dktX0_apart_0 : List UInt8 := dkwX0_apart_0 ++ dktX0_apart_1
theorem dksX0_apart_0 : cX0_apart.data.toList.drop 0 = dktX0_apart_0 := by decide +kernel
theorem dksX0_apart_1 : cX0_apart.data.toList.drop 24 = dktX0_apart_1 := dk_seg dksX0_apart_0 24 rfl rfl
theorem dksX0_apart_2 : cX0_apart.data.toList.drop 48 = dktX0_apart_2 := dk_seg dksX0_apart_1 24 rfl rfl
theorem dX0_apart_0 : decode cX0_apart 0 = .ok (.iconst 0, 1) := dk_3 (dk_at dksX0_apart_0 0 rfl rfl)
theorem dX0_apart_1 : decode cX0_apart 1 = .ok (.istore_n 2, 1) := dk_61 (dk_at dksX0_apart_0 1 rfl rfl)
theorem dX0_apart_2 : decode cX0_apart 2 = .ok (.iconst 1, 1) := dk_4 (dk_at dksX0_apart_0 2 rfl rfl)
theorem dX0_apart_3 : decode cX0_apart 3 = .ok (.istore_n 3, 1) := dk_62 (dk_at dksX0_apart_0 3 rfl rfl)
theorem dX0_apart_4 : decode cX0_apart 4 = .ok (.iload_n 3, 1) := dk_29 (dk_at dksX0_apart_0 4 rfl rfl)
theorem dX0_apart_5 : decode cX0_apart 5 = .ok (.iconst 1, 1) := dk_4 (dk_at dksX0_apart_0 5 rfl rfl)
theorem dX0_apart_6 : decode cX0_apart 6 = .ok (.aload_n 0, 1) := dk_42 (dk_at dksX0_apart_0 6 rfl rfl)
theorem dX0_apart_7 : decode cX0_apart 7 = .ok (.getfield 21, 3) := dk_180 0 21 (dk_at dksX0_apart_0 7 rfl rfl)
theorem dX0_apart_10 : decode cX0_apart 10 = .ok (.getfield 59, 3) := dk_180 0 59 (dk_at dksX0_apart_0 10 rfl rfl)
theorem dX0_apart_13 : decode cX0_apart 13 = .ok (.iconst 0, 1) := dk_3 (dk_at dksX0_apart_0 13 rfl rfl)
theorem dX0_apart_14 : decode cX0_apart 14 = .ok (.iaload, 1) := dk_46 (dk_at dksX0_apart_0 14 rfl rfl)
theorem dX0_apart_15 : decode cX0_apart 15 = .ok (.ishl, 1) := dk_120 (dk_at dksX0_apart_0 15 rfl rfl)
theorem dX0_apart_16 : decode cX0_apart 16 = .ok (.if_icmp .ge 32, 3) := dk_162 0 32 (dk_at dksX0_apart_0 16 rfl rfl)
theorem dX0_apart_19 : decode cX0_apart 19 = .ok (.aload_n 0, 1) := dk_42 (dk_at dksX0_apart_0 19 rfl rfl)
theorem dX0_apart_20 : decode cX0_apart 20 = .ok (.iload_n 3, 1) := dk_29 (dk_at dksX0_apart_0 20 rfl rfl)
theorem dX0_apart_21 : decode cX0_apart 21 = .ok (.invokevirtual 351, 3) := dk_182 1 95 (dk_at dksX0_apart_0 21 rfl rfl)
theorem dX0_apart_24 : decode cX0_apart 24 = .ok (.aload_n 0, 1) := dk_42 (dk_at dksX0_apart_1 0 rfl rfl)
theorem dX0_apart_25 : decode cX0_apart 25 = .ok (.iload_n 2, 1) := dk_28 (dk_at dksX0_apart_1 1 rfl rfl)
theorem dX0_apart_26 : decode cX0_apart 26 = .ok (.invokevirtual 351, 3) := dk_182 1 95 (dk_at dksX0_apart_1 2 rfl rfl)
theorem dX0_apart_29 : decode cX0_apart 29 = .ok (.if_icmp .le 13, 3) := dk_164 0 13 (dk_at dksX0_apart_1 5 rfl rfl)
theorem dX0_apart_32 : decode cX0_apart 32 = .ok (.aload_n 0, 1) := dk_42 (dk_at dksX0_apart_1 8 rfl rfl)
theorem dX0_apart_33 : decode cX0_apart 33 = .ok (.iload_n 3, 1) := dk_29 (dk_at dksX0_apart_1 9 rfl rfl)
theorem dX0_apart_34 : decode cX0_apart 34 = .ok (.invokevirtual 354, 3) := dk_182 1 98 (dk_at dksX0_apart_1 10 rfl rfl)
theorem dX0_apart_37 : decode cX0_apart 37 = .ok (.ifCond .eq 5, 3) := dk_153 0 5 (dk_at dksX0_apart_1 13 rfl rfl)
theorem dX0_apart_40 : decode cX0_apart 40 = .ok (.iload_n 3, 1) := dk_29 (dk_at dksX0_apart_1 16 rfl rfl)
theorem dX0_apart_41 : decode cX0_apart 41 = .ok (.istore_n 2, 1) := dk_61 (dk_at dksX0_apart_1 17 rfl rfl)
theorem dX0_apart_42 : decode cX0_apart 42 = .ok (.iinc 3 1, 3) := dk_132 3 1 (dk_at dksX0_apart_1 18 rfl rfl)
theorem dX0_apart_45 : decode cX0_apart 45 = .ok (.goto (-41), 3) := dk_167 255 215 (dk_at dksX0_apart_1 21 rfl rfl)
theorem dX0_apart_48 : decode cX0_apart 48 = .ok (.iload_n 1, 1) := dk_27 (dk_at dksX0_apart_2 0 rfl rfl)
theorem dX0_apart_49 : decode cX0_apart 49 = .ok (.ifCond .eq 11, 3) := dk_153 0 11 (dk_at dksX0_apart_2 1 rfl rfl)
theorem dX0_apart_52 : decode cX0_apart 52 = .ok (.aload_n 0, 1) := dk_42 (dk_at dksX0_apart_2 4 rfl rfl)
theorem dX0_apart_53 : decode cX0_apart 53 = .ok (.iload_n 2, 1) := dk_28 (dk_at dksX0_apart_2 5 rfl rfl)
theorem dX0_apart_54 : decode cX0_apart 54 = .ok (.invokevirtual 351, 3) := dk_182 1 95 (dk_at dksX0_apart_2 6 rfl rfl)
theorem dX0_apart_57 : decode cX0_apart 57 = .ok (.goto 4, 3) := dk_167 0 4 (dk_at dksX0_apart_2 9 rfl rfl)
theorem dX0_apart_60 : decode cX0_apart 60 = .ok (.iload_n 2, 1) := dk_28 (dk_at dksX0_apart_2 12 rfl rfl)
theorem dX0_apart_61 : decode cX0_apart 61 = .ok (.ireturn, 1) := dk_172 (dk_at dksX0_apart_2 13 rfl rfl)
abbrev cX0_weightOf : ByteArray := prog_1_method_71_code
def yX0_weightOf : MethodName := ⟨RX0, "weightOf", "(I)I"⟩
def dkwX0_weightOf_2 : List UInt8 := [28, 172]
abbrev dktX0_weightOf_2 : List UInt8 := dkwX0_weightOf_2 ++ []
def dkwX0_weightOf_1 : List UInt8 := [153, 0, 15, 42, 180, 0, 21, 180, 1, 92, 29, 46, 167, 0, 4, 3, 96, 61, 132, 3, 1, 167, 255, 216]
abbrev dktX0_weightOf_1 : List UInt8 := dkwX0_weightOf_1 ++ dktX0_weightOf_2
def dkwX0_weightOf_0 : List UInt8 := [3, 61, 3, 62, 29, 42, 180, 0, 21, 180, 0, 59, 3, 46, 162, 0, 33, 28, 27, 29, 184, 0, 82]
abbrev dktX0_weightOf_0 : List UInt8 := dkwX0_weightOf_0 ++ dktX0_weightOf_1
theorem dksX0_weightOf_0 : cX0_weightOf.data.toList.drop 0 = dktX0_weightOf_0 := by decide +kernel
theorem dksX0_weightOf_1 : cX0_weightOf.data.toList.drop 23 = dktX0_weightOf_1 := dk_seg dksX0_weightOf_0 23 rfl rfl
theorem dksX0_weightOf_2 : cX0_weightOf.data.toList.drop 47 = dktX0_weightOf_2 := dk_seg dksX0_weightOf_1 24 rfl rfl
theorem dX0_weightOf_0 : decode cX0_weightOf 0 = .ok (.iconst 0, 1) := dk_3 (dk_at dksX0_weightOf_0 0 rfl rfl)
theorem dX0_weightOf_1 : decode cX0_weightOf 1 = .ok (.istore_n 2, 1) := dk_61 (dk_at dksX0_weightOf_0 1 rfl rfl)
theorem dX0_weightOf_2 : decode cX0_weightOf 2 = .ok (.iconst 0, 1) := dk_3 (dk_at dksX0_weightOf_0 2 rfl rfl)
theorem dX0_weightOf_3 : decode cX0_weightOf 3 = .ok (.istore_n 3, 1) := dk_62 (dk_at dksX0_weightOf_0 3 rfl rfl)
theorem dX0_weightOf_4 : decode cX0_weightOf 4 = .ok (.iload_n 3, 1) := dk_29 (dk_at dksX0_weightOf_0 4 rfl rfl)
theorem dX0_weightOf_5 : decode cX0_weightOf 5 = .ok (.aload_n 0, 1) := dk_42 (dk_at dksX0_weightOf_0 5 rfl rfl)
theorem dX0_weightOf_6 : decode cX0_weightOf 6 = .ok (.getfield 21, 3) := dk_180 0 21 (dk_at dksX0_weightOf_0 6 rfl rfl)
theorem dX0_weightOf_9 : decode cX0_weightOf 9 = .ok (.getfield 59, 3) := dk_180 0 59 (dk_at dksX0_weightOf_0 9 rfl rfl)
theorem dX0_weightOf_12 : decode cX0_weightOf 12 = .ok (.iconst 0, 1) := dk_3 (dk_at dksX0_weightOf_0 12 rfl rfl)
theorem dX0_weightOf_13 : decode cX0_weightOf 13 = .ok (.iaload, 1) := dk_46 (dk_at dksX0_weightOf_0 13 rfl rfl)
theorem dX0_weightOf_14 : decode cX0_weightOf 14 = .ok (.if_icmp .ge 33, 3) := dk_162 0 33 (dk_at dksX0_weightOf_0 14 rfl rfl)
theorem dX0_weightOf_17 : decode cX0_weightOf 17 = .ok (.iload_n 2, 1) := dk_28 (dk_at dksX0_weightOf_0 17 rfl rfl)
theorem dX0_weightOf_18 : decode cX0_weightOf 18 = .ok (.iload_n 1, 1) := dk_27 (dk_at dksX0_weightOf_0 18 rfl rfl)
theorem dX0_weightOf_19 : decode cX0_weightOf 19 = .ok (.iload_n 3, 1) := dk_29 (dk_at dksX0_weightOf_0 19 rfl rfl)
theorem dX0_weightOf_20 : decode cX0_weightOf 20 = .ok (.invokestatic 82, 3) := dk_184 0 82 (dk_at dksX0_weightOf_0 20 rfl rfl)
theorem dX0_weightOf_23 : decode cX0_weightOf 23 = .ok (.ifCond .eq 15, 3) := dk_153 0 15 (dk_at dksX0_weightOf_1 0 rfl rfl)
theorem dX0_weightOf_26 : decode cX0_weightOf 26 = .ok (.aload_n 0, 1) := dk_42 (dk_at dksX0_weightOf_1 3 rfl rfl)
theorem dX0_weightOf_27 : decode cX0_weightOf 27 = .ok (.getfield 21, 3) := dk_180 0 21 (dk_at dksX0_weightOf_1 4 rfl rfl)
theorem dX0_weightOf_30 : decode cX0_weightOf 30 = .ok (.getfield 348, 3) := dk_180 1 92 (dk_at dksX0_weightOf_1 7 rfl rfl)
theorem dX0_weightOf_33 : decode cX0_weightOf 33 = .ok (.iload_n 3, 1) := dk_29 (dk_at dksX0_weightOf_1 10 rfl rfl)
theorem dX0_weightOf_34 : decode cX0_weightOf 34 = .ok (.iaload, 1) := dk_46 (dk_at dksX0_weightOf_1 11 rfl rfl)
theorem dX0_weightOf_35 : decode cX0_weightOf 35 = .ok (.goto 4, 3) := dk_167 0 4 (dk_at dksX0_weightOf_1 12 rfl rfl)
theorem dX0_weightOf_38 : decode cX0_weightOf 38 = .ok (.iconst 0, 1) := dk_3 (dk_at dksX0_weightOf_1 15 rfl rfl)
theorem dX0_weightOf_39 : decode cX0_weightOf 39 = .ok (.iadd, 1) := dk_96 (dk_at dksX0_weightOf_1 16 rfl rfl)
theorem dX0_weightOf_40 : decode cX0_weightOf 40 = .ok (.istore_n 2, 1) := dk_61 (dk_at dksX0_weightOf_1 17 rfl rfl)
theorem dX0_weightOf_41 : decode cX0_weightOf 41 = .ok (.iinc 3 1, 3) := dk_132 3 1 (dk_at dksX0_weightOf_1 18 rfl rfl)
theorem dX0_weightOf_44 : decode cX0_weightOf 44 = .ok (.goto (-40), 3) := dk_167 255 216 (dk_at dksX0_weightOf_1 21 rfl rfl)
theorem dX0_weightOf_47 : decode cX0_weightOf 47 = .ok (.iload_n 2, 1) := dk_28 (dk_at dksX0_weightOf_2 0 rfl rfl)
theorem dX0_weightOf_48 : decode cX0_weightOf 48 = .ok (.ireturn, 1) := dk_172 (dk_at dksX0_weightOf_2 1 rfl rfl)
abbrev cX0_areApart : ByteArray := prog_1_method_70_code
def yX0_areApart : MethodName := ⟨RX0, "areApart", "(I)Z"⟩
def dkwX0_areApart_2 : List UInt8 := [172]
abbrev dktX0_areApart_2 : List UInt8 := dkwX0_areApart_2 ++ []
def dkwX0_areApart_1 : List UInt8 := [42, 180, 0, 21, 180, 0, 73, 28, 46, 184, 0, 82, 153, 0, 5, 3, 172, 132, 2, 1, 167, 255, 214, 4]
abbrev dktX0_areApart_1 : List UInt8 := dkwX0_areApart_1 ++ dktX0_areApart_2
def dkwX0_areApart_0 : List UInt8 := [4, 61, 28, 42, 180, 0, 21, 180, 0, 59, 3, 46, 162, 0, 35, 27, 28, 184, 0, 82, 153, 0, 21, 27]
abbrev dktX0_areApart_0 : List UInt8 := dkwX0_areApart_0 ++ dktX0_areApart_1
theorem dksX0_areApart_0 : cX0_areApart.data.toList.drop 0 = dktX0_areApart_0 := by decide +kernel
theorem dksX0_areApart_1 : cX0_areApart.data.toList.drop 24 = dktX0_areApart_1 := dk_seg dksX0_areApart_0 24 rfl rfl
theorem dksX0_areApart_2 : cX0_areApart.data.toList.drop 48 = dktX0_areApart_2 := dk_seg dksX0_areApart_1 24 rfl rfl
theorem dX0_areApart_0 : decode cX0_areApart 0 = .ok (.iconst 1, 1) := dk_4 (dk_at dksX0_areApart_0 0 rfl rfl)
theorem dX0_areApart_1 : decode cX0_areApart 1 = .ok (.istore_n 2, 1) := dk_61 (dk_at dksX0_areApart_0 1 rfl rfl)
theorem dX0_areApart_2 : decode cX0_areApart 2 = .ok (.iload_n 2, 1) := dk_28 (dk_at dksX0_areApart_0 2 rfl rfl)
theorem dX0_areApart_3 : decode cX0_areApart 3 = .ok (.aload_n 0, 1) := dk_42 (dk_at dksX0_areApart_0 3 rfl rfl)
theorem dX0_areApart_4 : decode cX0_areApart 4 = .ok (.getfield 21, 3) := dk_180 0 21 (dk_at dksX0_areApart_0 4 rfl rfl)
theorem dX0_areApart_7 : decode cX0_areApart 7 = .ok (.getfield 59, 3) := dk_180 0 59 (dk_at dksX0_areApart_0 7 rfl rfl)
theorem dX0_areApart_10 : decode cX0_areApart 10 = .ok (.iconst 0, 1) := dk_3 (dk_at dksX0_areApart_0 10 rfl rfl)
theorem dX0_areApart_11 : decode cX0_areApart 11 = .ok (.iaload, 1) := dk_46 (dk_at dksX0_areApart_0 11 rfl rfl)
theorem dX0_areApart_12 : decode cX0_areApart 12 = .ok (.if_icmp .ge 35, 3) := dk_162 0 35 (dk_at dksX0_areApart_0 12 rfl rfl)
theorem dX0_areApart_15 : decode cX0_areApart 15 = .ok (.iload_n 1, 1) := dk_27 (dk_at dksX0_areApart_0 15 rfl rfl)
theorem dX0_areApart_16 : decode cX0_areApart 16 = .ok (.iload_n 2, 1) := dk_28 (dk_at dksX0_areApart_0 16 rfl rfl)
theorem dX0_areApart_17 : decode cX0_areApart 17 = .ok (.invokestatic 82, 3) := dk_184 0 82 (dk_at dksX0_areApart_0 17 rfl rfl)
theorem dX0_areApart_20 : decode cX0_areApart 20 = .ok (.ifCond .eq 21, 3) := dk_153 0 21 (dk_at dksX0_areApart_0 20 rfl rfl)
theorem dX0_areApart_23 : decode cX0_areApart 23 = .ok (.iload_n 1, 1) := dk_27 (dk_at dksX0_areApart_0 23 rfl rfl)
theorem dX0_areApart_24 : decode cX0_areApart 24 = .ok (.aload_n 0, 1) := dk_42 (dk_at dksX0_areApart_1 0 rfl rfl)
theorem dX0_areApart_25 : decode cX0_areApart 25 = .ok (.getfield 21, 3) := dk_180 0 21 (dk_at dksX0_areApart_1 1 rfl rfl)
theorem dX0_areApart_28 : decode cX0_areApart 28 = .ok (.getfield 73, 3) := dk_180 0 73 (dk_at dksX0_areApart_1 4 rfl rfl)
theorem dX0_areApart_31 : decode cX0_areApart 31 = .ok (.iload_n 2, 1) := dk_28 (dk_at dksX0_areApart_1 7 rfl rfl)
theorem dX0_areApart_32 : decode cX0_areApart 32 = .ok (.iaload, 1) := dk_46 (dk_at dksX0_areApart_1 8 rfl rfl)
theorem dX0_areApart_33 : decode cX0_areApart 33 = .ok (.invokestatic 82, 3) := dk_184 0 82 (dk_at dksX0_areApart_1 9 rfl rfl)
theorem dX0_areApart_36 : decode cX0_areApart 36 = .ok (.ifCond .eq 5, 3) := dk_153 0 5 (dk_at dksX0_areApart_1 12 rfl rfl)
theorem dX0_areApart_39 : decode cX0_areApart 39 = .ok (.iconst 0, 1) := dk_3 (dk_at dksX0_areApart_1 15 rfl rfl)
theorem dX0_areApart_40 : decode cX0_areApart 40 = .ok (.ireturn, 1) := dk_172 (dk_at dksX0_areApart_1 16 rfl rfl)
theorem dX0_areApart_41 : decode cX0_areApart 41 = .ok (.iinc 2 1, 3) := dk_132 2 1 (dk_at dksX0_areApart_1 17 rfl rfl)
theorem dX0_areApart_44 : decode cX0_areApart 44 = .ok (.goto (-42), 3) := dk_167 255 214 (dk_at dksX0_areApart_1 20 rfl rfl)
theorem dX0_areApart_47 : decode cX0_areApart 47 = .ok (.iconst 1, 1) := dk_4 (dk_at dksX0_areApart_1 23 rfl rfl)
theorem dX0_areApart_48 : decode cX0_areApart 48 = .ok (.ireturn, 1) := dk_172 (dk_at dksX0_areApart_2 0 rfl rfl)
abbrev cX0_middle : ByteArray := prog_1_method_74_code
def yX0_middle : MethodName := ⟨RX0, "middle", "()I"⟩
def dkwX0_middle_1 : List UInt8 := [182, 1, 101, 42, 27, 182, 1, 101, 162, 0, 5, 28, 60, 132, 2, 1, 167, 255, 220, 27, 172]
abbrev dktX0_middle_1 : List UInt8 := dkwX0_middle_1 ++ []
def dkwX0_middle_0 : List UInt8 := [2, 60, 3, 61, 28, 42, 180, 0, 21, 180, 0, 59, 3, 46, 162, 0, 29, 27, 2, 159, 0, 16, 42, 28]
abbrev dktX0_middle_0 : List UInt8 := dkwX0_middle_0 ++ dktX0_middle_1
theorem dksX0_middle_0 : cX0_middle.data.toList.drop 0 = dktX0_middle_0 := by decide +kernel
theorem dksX0_middle_1 : cX0_middle.data.toList.drop 24 = dktX0_middle_1 := dk_seg dksX0_middle_0 24 rfl rfl
theorem dX0_middle_0 : decode cX0_middle 0 = .ok (.iconst (-1), 1) := dk_2 (dk_at dksX0_middle_0 0 rfl rfl)
theorem dX0_middle_1 : decode cX0_middle 1 = .ok (.istore_n 1, 1) := dk_60 (dk_at dksX0_middle_0 1 rfl rfl)
theorem dX0_middle_2 : decode cX0_middle 2 = .ok (.iconst 0, 1) := dk_3 (dk_at dksX0_middle_0 2 rfl rfl)
theorem dX0_middle_3 : decode cX0_middle 3 = .ok (.istore_n 2, 1) := dk_61 (dk_at dksX0_middle_0 3 rfl rfl)
theorem dX0_middle_4 : decode cX0_middle 4 = .ok (.iload_n 2, 1) := dk_28 (dk_at dksX0_middle_0 4 rfl rfl)
theorem dX0_middle_5 : decode cX0_middle 5 = .ok (.aload_n 0, 1) := dk_42 (dk_at dksX0_middle_0 5 rfl rfl)
theorem dX0_middle_6 : decode cX0_middle 6 = .ok (.getfield 21, 3) := dk_180 0 21 (dk_at dksX0_middle_0 6 rfl rfl)
theorem dX0_middle_9 : decode cX0_middle 9 = .ok (.getfield 59, 3) := dk_180 0 59 (dk_at dksX0_middle_0 9 rfl rfl)
theorem dX0_middle_12 : decode cX0_middle 12 = .ok (.iconst 0, 1) := dk_3 (dk_at dksX0_middle_0 12 rfl rfl)
theorem dX0_middle_13 : decode cX0_middle 13 = .ok (.iaload, 1) := dk_46 (dk_at dksX0_middle_0 13 rfl rfl)
theorem dX0_middle_14 : decode cX0_middle 14 = .ok (.if_icmp .ge 29, 3) := dk_162 0 29 (dk_at dksX0_middle_0 14 rfl rfl)
theorem dX0_middle_17 : decode cX0_middle 17 = .ok (.iload_n 1, 1) := dk_27 (dk_at dksX0_middle_0 17 rfl rfl)
theorem dX0_middle_18 : decode cX0_middle 18 = .ok (.iconst (-1), 1) := dk_2 (dk_at dksX0_middle_0 18 rfl rfl)
theorem dX0_middle_19 : decode cX0_middle 19 = .ok (.if_icmp .eq 16, 3) := dk_159 0 16 (dk_at dksX0_middle_0 19 rfl rfl)
theorem dX0_middle_22 : decode cX0_middle 22 = .ok (.aload_n 0, 1) := dk_42 (dk_at dksX0_middle_0 22 rfl rfl)
theorem dX0_middle_23 : decode cX0_middle 23 = .ok (.iload_n 2, 1) := dk_28 (dk_at dksX0_middle_0 23 rfl rfl)
theorem dX0_middle_24 : decode cX0_middle 24 = .ok (.invokevirtual 357, 3) := dk_182 1 101 (dk_at dksX0_middle_1 0 rfl rfl)
theorem dX0_middle_27 : decode cX0_middle 27 = .ok (.aload_n 0, 1) := dk_42 (dk_at dksX0_middle_1 3 rfl rfl)
theorem dX0_middle_28 : decode cX0_middle 28 = .ok (.iload_n 1, 1) := dk_27 (dk_at dksX0_middle_1 4 rfl rfl)
theorem dX0_middle_29 : decode cX0_middle 29 = .ok (.invokevirtual 357, 3) := dk_182 1 101 (dk_at dksX0_middle_1 5 rfl rfl)
theorem dX0_middle_32 : decode cX0_middle 32 = .ok (.if_icmp .ge 5, 3) := dk_162 0 5 (dk_at dksX0_middle_1 8 rfl rfl)
theorem dX0_middle_35 : decode cX0_middle 35 = .ok (.iload_n 2, 1) := dk_28 (dk_at dksX0_middle_1 11 rfl rfl)
theorem dX0_middle_36 : decode cX0_middle 36 = .ok (.istore_n 1, 1) := dk_60 (dk_at dksX0_middle_1 12 rfl rfl)
theorem dX0_middle_37 : decode cX0_middle 37 = .ok (.iinc 2 1, 3) := dk_132 2 1 (dk_at dksX0_middle_1 13 rfl rfl)
theorem dX0_middle_40 : decode cX0_middle 40 = .ok (.goto (-36), 3) := dk_167 255 220 (dk_at dksX0_middle_1 16 rfl rfl)
theorem dX0_middle_43 : decode cX0_middle 43 = .ok (.iload_n 1, 1) := dk_27 (dk_at dksX0_middle_1 19 rfl rfl)
theorem dX0_middle_44 : decode cX0_middle 44 = .ok (.ireturn, 1) := dk_172 (dk_at dksX0_middle_1 20 rfl rfl)
abbrev cX0_allStepsOf : ByteArray := prog_1_method_73_code
def yX0_allStepsOf : MethodName := ⟨RX0, "allStepsOf", "(I)I"⟩
def dkwX0_allStepsOf_1 : List UInt8 := [96, 61, 132, 3, 1, 167, 255, 231, 28, 172]
abbrev dktX0_allStepsOf_1 : List UInt8 := dkwX0_allStepsOf_1 ++ []
def dkwX0_allStepsOf_0 : List UInt8 := [3, 61, 3, 62, 29, 42, 180, 0, 21, 180, 0, 59, 3, 46, 162, 0, 18, 28, 42, 27, 29, 182, 1, 48]
abbrev dktX0_allStepsOf_0 : List UInt8 := dkwX0_allStepsOf_0 ++ dktX0_allStepsOf_1
theorem dksX0_allStepsOf_0 : cX0_allStepsOf.data.toList.drop 0 = dktX0_allStepsOf_0 := by decide +kernel
theorem dksX0_allStepsOf_1 : cX0_allStepsOf.data.toList.drop 24 = dktX0_allStepsOf_1 := dk_seg dksX0_allStepsOf_0 24 rfl rfl
theorem dX0_allStepsOf_0 : decode cX0_allStepsOf 0 = .ok (.iconst 0, 1) := dk_3 (dk_at dksX0_allStepsOf_0 0 rfl rfl)
theorem dX0_allStepsOf_1 : decode cX0_allStepsOf 1 = .ok (.istore_n 2, 1) := dk_61 (dk_at dksX0_allStepsOf_0 1 rfl rfl)
theorem dX0_allStepsOf_2 : decode cX0_allStepsOf 2 = .ok (.iconst 0, 1) := dk_3 (dk_at dksX0_allStepsOf_0 2 rfl rfl)
theorem dX0_allStepsOf_3 : decode cX0_allStepsOf 3 = .ok (.istore_n 3, 1) := dk_62 (dk_at dksX0_allStepsOf_0 3 rfl rfl)
theorem dX0_allStepsOf_4 : decode cX0_allStepsOf 4 = .ok (.iload_n 3, 1) := dk_29 (dk_at dksX0_allStepsOf_0 4 rfl rfl)
theorem dX0_allStepsOf_5 : decode cX0_allStepsOf 5 = .ok (.aload_n 0, 1) := dk_42 (dk_at dksX0_allStepsOf_0 5 rfl rfl)
theorem dX0_allStepsOf_6 : decode cX0_allStepsOf 6 = .ok (.getfield 21, 3) := dk_180 0 21 (dk_at dksX0_allStepsOf_0 6 rfl rfl)
theorem dX0_allStepsOf_9 : decode cX0_allStepsOf 9 = .ok (.getfield 59, 3) := dk_180 0 59 (dk_at dksX0_allStepsOf_0 9 rfl rfl)
theorem dX0_allStepsOf_12 : decode cX0_allStepsOf 12 = .ok (.iconst 0, 1) := dk_3 (dk_at dksX0_allStepsOf_0 12 rfl rfl)
theorem dX0_allStepsOf_13 : decode cX0_allStepsOf 13 = .ok (.iaload, 1) := dk_46 (dk_at dksX0_allStepsOf_0 13 rfl rfl)
theorem dX0_allStepsOf_14 : decode cX0_allStepsOf 14 = .ok (.if_icmp .ge 18, 3) := dk_162 0 18 (dk_at dksX0_allStepsOf_0 14 rfl rfl)
theorem dX0_allStepsOf_17 : decode cX0_allStepsOf 17 = .ok (.iload_n 2, 1) := dk_28 (dk_at dksX0_allStepsOf_0 17 rfl rfl)
theorem dX0_allStepsOf_18 : decode cX0_allStepsOf 18 = .ok (.aload_n 0, 1) := dk_42 (dk_at dksX0_allStepsOf_0 18 rfl rfl)
theorem dX0_allStepsOf_19 : decode cX0_allStepsOf 19 = .ok (.iload_n 1, 1) := dk_27 (dk_at dksX0_allStepsOf_0 19 rfl rfl)
theorem dX0_allStepsOf_20 : decode cX0_allStepsOf 20 = .ok (.iload_n 3, 1) := dk_29 (dk_at dksX0_allStepsOf_0 20 rfl rfl)
theorem dX0_allStepsOf_21 : decode cX0_allStepsOf 21 = .ok (.invokevirtual 304, 3) := dk_182 1 48 (dk_at dksX0_allStepsOf_0 21 rfl rfl)
theorem dX0_allStepsOf_24 : decode cX0_allStepsOf 24 = .ok (.iadd, 1) := dk_96 (dk_at dksX0_allStepsOf_1 0 rfl rfl)
theorem dX0_allStepsOf_25 : decode cX0_allStepsOf 25 = .ok (.istore_n 2, 1) := dk_61 (dk_at dksX0_allStepsOf_1 1 rfl rfl)
theorem dX0_allStepsOf_26 : decode cX0_allStepsOf 26 = .ok (.iinc 3 1, 3) := dk_132 3 1 (dk_at dksX0_allStepsOf_1 2 rfl rfl)
theorem dX0_allStepsOf_29 : decode cX0_allStepsOf 29 = .ok (.goto (-25), 3) := dk_167 255 231 (dk_at dksX0_allStepsOf_1 5 rfl rfl)
theorem dX0_allStepsOf_32 : decode cX0_allStepsOf 32 = .ok (.iload_n 2, 1) := dk_28 (dk_at dksX0_allStepsOf_1 8 rfl rfl)
theorem dX0_allStepsOf_33 : decode cX0_allStepsOf 33 = .ok (.ireturn, 1) := dk_172 (dk_at dksX0_allStepsOf_1 9 rfl rfl)
abbrev cX0_longest : ByteArray := prog_1_method_75_code
def yX0_longest : MethodName := ⟨RX0, "longest", "(Z)I"⟩
def dkwX0_longest_4 : List UInt8 := [153, 0, 7, 29, 167, 0, 4, 28, 172]
abbrev dktX0_longest_4 : List UInt8 := dkwX0_longest_4 ++ []
def dkwX0_longest_3 : List UInt8 := [21, 4, 21, 5, 182, 1, 48, 61, 21, 4, 62, 132, 5, 1, 167, 255, 212, 132, 4, 1, 167, 255, 189, 27]
abbrev dktX0_longest_3 : List UInt8 := dkwX0_longest_3 ++ dktX0_longest_4
def dkwX0_longest_2 : List UInt8 := [180, 0, 59, 3, 46, 162, 0, 36, 42, 21, 4, 21, 5, 182, 1, 48, 28, 163, 0, 6, 167, 0, 15, 42]
abbrev dktX0_longest_2 : List UInt8 := dkwX0_longest_2 ++ dktX0_longest_3
def dkwX0_longest_1 : List UInt8 := [21, 4, 42, 180, 0, 21, 180, 0, 59, 3, 46, 162, 0, 59, 3, 54, 5, 21, 5, 42, 180, 0, 21]
abbrev dktX0_longest_1 : List UInt8 := dkwX0_longest_1 ++ dktX0_longest_2
def dkwX0_longest_0 : List UInt8 := [3, 61, 42, 180, 0, 21, 180, 0, 59, 3, 46, 154, 0, 7, 2, 167, 0, 4, 3, 62, 3, 54, 4]
abbrev dktX0_longest_0 : List UInt8 := dkwX0_longest_0 ++ dktX0_longest_1
theorem dksX0_longest_0 : cX0_longest.data.toList.drop 0 = dktX0_longest_0 := by decide +kernel
theorem dksX0_longest_1 : cX0_longest.data.toList.drop 23 = dktX0_longest_1 := dk_seg dksX0_longest_0 23 rfl rfl
theorem dksX0_longest_2 : cX0_longest.data.toList.drop 46 = dktX0_longest_2 := dk_seg dksX0_longest_1 23 rfl rfl
theorem dksX0_longest_3 : cX0_longest.data.toList.drop 70 = dktX0_longest_3 := dk_seg dksX0_longest_2 24 rfl rfl
theorem dksX0_longest_4 : cX0_longest.data.toList.drop 94 = dktX0_longest_4 := dk_seg dksX0_longest_3 24 rfl rfl
theorem dX0_longest_0 : decode cX0_longest 0 = .ok (.iconst 0, 1) := dk_3 (dk_at dksX0_longest_0 0 rfl rfl)
theorem dX0_longest_1 : decode cX0_longest 1 = .ok (.istore_n 2, 1) := dk_61 (dk_at dksX0_longest_0 1 rfl rfl)
theorem dX0_longest_2 : decode cX0_longest 2 = .ok (.aload_n 0, 1) := dk_42 (dk_at dksX0_longest_0 2 rfl rfl)
theorem dX0_longest_3 : decode cX0_longest 3 = .ok (.getfield 21, 3) := dk_180 0 21 (dk_at dksX0_longest_0 3 rfl rfl)
theorem dX0_longest_6 : decode cX0_longest 6 = .ok (.getfield 59, 3) := dk_180 0 59 (dk_at dksX0_longest_0 6 rfl rfl)
theorem dX0_longest_9 : decode cX0_longest 9 = .ok (.iconst 0, 1) := dk_3 (dk_at dksX0_longest_0 9 rfl rfl)
theorem dX0_longest_10 : decode cX0_longest 10 = .ok (.iaload, 1) := dk_46 (dk_at dksX0_longest_0 10 rfl rfl)
theorem dX0_longest_11 : decode cX0_longest 11 = .ok (.ifCond .ne 7, 3) := dk_154 0 7 (dk_at dksX0_longest_0 11 rfl rfl)
theorem dX0_longest_14 : decode cX0_longest 14 = .ok (.iconst (-1), 1) := dk_2 (dk_at dksX0_longest_0 14 rfl rfl)
theorem dX0_longest_15 : decode cX0_longest 15 = .ok (.goto 4, 3) := dk_167 0 4 (dk_at dksX0_longest_0 15 rfl rfl)
theorem dX0_longest_18 : decode cX0_longest 18 = .ok (.iconst 0, 1) := dk_3 (dk_at dksX0_longest_0 18 rfl rfl)
theorem dX0_longest_19 : decode cX0_longest 19 = .ok (.istore_n 3, 1) := dk_62 (dk_at dksX0_longest_0 19 rfl rfl)
theorem dX0_longest_20 : decode cX0_longest 20 = .ok (.iconst 0, 1) := dk_3 (dk_at dksX0_longest_0 20 rfl rfl)
theorem dX0_longest_21 : decode cX0_longest 21 = .ok (.istore 4, 2) := dk_54 4 (dk_at dksX0_longest_0 21 rfl rfl)
theorem dX0_longest_23 : decode cX0_longest 23 = .ok (.iload 4, 2) := dk_21 4 (dk_at dksX0_longest_1 0 rfl rfl)
theorem dX0_longest_25 : decode cX0_longest 25 = .ok (.aload_n 0, 1) := dk_42 (dk_at dksX0_longest_1 2 rfl rfl)
theorem dX0_longest_26 : decode cX0_longest 26 = .ok (.getfield 21, 3) := dk_180 0 21 (dk_at dksX0_longest_1 3 rfl rfl)
theorem dX0_longest_29 : decode cX0_longest 29 = .ok (.getfield 59, 3) := dk_180 0 59 (dk_at dksX0_longest_1 6 rfl rfl)
theorem dX0_longest_32 : decode cX0_longest 32 = .ok (.iconst 0, 1) := dk_3 (dk_at dksX0_longest_1 9 rfl rfl)
theorem dX0_longest_33 : decode cX0_longest 33 = .ok (.iaload, 1) := dk_46 (dk_at dksX0_longest_1 10 rfl rfl)
theorem dX0_longest_34 : decode cX0_longest 34 = .ok (.if_icmp .ge 59, 3) := dk_162 0 59 (dk_at dksX0_longest_1 11 rfl rfl)
theorem dX0_longest_37 : decode cX0_longest 37 = .ok (.iconst 0, 1) := dk_3 (dk_at dksX0_longest_1 14 rfl rfl)
theorem dX0_longest_38 : decode cX0_longest 38 = .ok (.istore 5, 2) := dk_54 5 (dk_at dksX0_longest_1 15 rfl rfl)
theorem dX0_longest_40 : decode cX0_longest 40 = .ok (.iload 5, 2) := dk_21 5 (dk_at dksX0_longest_1 17 rfl rfl)
theorem dX0_longest_42 : decode cX0_longest 42 = .ok (.aload_n 0, 1) := dk_42 (dk_at dksX0_longest_1 19 rfl rfl)
theorem dX0_longest_43 : decode cX0_longest 43 = .ok (.getfield 21, 3) := dk_180 0 21 (dk_at dksX0_longest_1 20 rfl rfl)
theorem dX0_longest_46 : decode cX0_longest 46 = .ok (.getfield 59, 3) := dk_180 0 59 (dk_at dksX0_longest_2 0 rfl rfl)
theorem dX0_longest_49 : decode cX0_longest 49 = .ok (.iconst 0, 1) := dk_3 (dk_at dksX0_longest_2 3 rfl rfl)
theorem dX0_longest_50 : decode cX0_longest 50 = .ok (.iaload, 1) := dk_46 (dk_at dksX0_longest_2 4 rfl rfl)
theorem dX0_longest_51 : decode cX0_longest 51 = .ok (.if_icmp .ge 36, 3) := dk_162 0 36 (dk_at dksX0_longest_2 5 rfl rfl)
theorem dX0_longest_54 : decode cX0_longest 54 = .ok (.aload_n 0, 1) := dk_42 (dk_at dksX0_longest_2 8 rfl rfl)
theorem dX0_longest_55 : decode cX0_longest 55 = .ok (.iload 4, 2) := dk_21 4 (dk_at dksX0_longest_2 9 rfl rfl)
theorem dX0_longest_57 : decode cX0_longest 57 = .ok (.iload 5, 2) := dk_21 5 (dk_at dksX0_longest_2 11 rfl rfl)
theorem dX0_longest_59 : decode cX0_longest 59 = .ok (.invokevirtual 304, 3) := dk_182 1 48 (dk_at dksX0_longest_2 13 rfl rfl)
theorem dX0_longest_62 : decode cX0_longest 62 = .ok (.iload_n 2, 1) := dk_28 (dk_at dksX0_longest_2 16 rfl rfl)
theorem dX0_longest_63 : decode cX0_longest 63 = .ok (.if_icmp .gt 6, 3) := dk_163 0 6 (dk_at dksX0_longest_2 17 rfl rfl)
theorem dX0_longest_66 : decode cX0_longest 66 = .ok (.goto 15, 3) := dk_167 0 15 (dk_at dksX0_longest_2 20 rfl rfl)
theorem dX0_longest_69 : decode cX0_longest 69 = .ok (.aload_n 0, 1) := dk_42 (dk_at dksX0_longest_2 23 rfl rfl)
theorem dX0_longest_70 : decode cX0_longest 70 = .ok (.iload 4, 2) := dk_21 4 (dk_at dksX0_longest_3 0 rfl rfl)
theorem dX0_longest_72 : decode cX0_longest 72 = .ok (.iload 5, 2) := dk_21 5 (dk_at dksX0_longest_3 2 rfl rfl)
theorem dX0_longest_74 : decode cX0_longest 74 = .ok (.invokevirtual 304, 3) := dk_182 1 48 (dk_at dksX0_longest_3 4 rfl rfl)
theorem dX0_longest_77 : decode cX0_longest 77 = .ok (.istore_n 2, 1) := dk_61 (dk_at dksX0_longest_3 7 rfl rfl)
theorem dX0_longest_78 : decode cX0_longest 78 = .ok (.iload 4, 2) := dk_21 4 (dk_at dksX0_longest_3 8 rfl rfl)
theorem dX0_longest_80 : decode cX0_longest 80 = .ok (.istore_n 3, 1) := dk_62 (dk_at dksX0_longest_3 10 rfl rfl)
theorem dX0_longest_81 : decode cX0_longest 81 = .ok (.iinc 5 1, 3) := dk_132 5 1 (dk_at dksX0_longest_3 11 rfl rfl)
theorem dX0_longest_84 : decode cX0_longest 84 = .ok (.goto (-44), 3) := dk_167 255 212 (dk_at dksX0_longest_3 14 rfl rfl)
theorem dX0_longest_87 : decode cX0_longest 87 = .ok (.iinc 4 1, 3) := dk_132 4 1 (dk_at dksX0_longest_3 17 rfl rfl)
theorem dX0_longest_90 : decode cX0_longest 90 = .ok (.goto (-67), 3) := dk_167 255 189 (dk_at dksX0_longest_3 20 rfl rfl)
theorem dX0_longest_93 : decode cX0_longest 93 = .ok (.iload_n 1, 1) := dk_27 (dk_at dksX0_longest_3 23 rfl rfl)
theorem dX0_longest_94 : decode cX0_longest 94 = .ok (.ifCond .eq 7, 3) := dk_153 0 7 (dk_at dksX0_longest_4 0 rfl rfl)
theorem dX0_longest_97 : decode cX0_longest 97 = .ok (.iload_n 3, 1) := dk_29 (dk_at dksX0_longest_4 3 rfl rfl)
theorem dX0_longest_98 : decode cX0_longest 98 = .ok (.goto 4, 3) := dk_167 0 4 (dk_at dksX0_longest_4 4 rfl rfl)
theorem dX0_longest_101 : decode cX0_longest 101 = .ok (.iload_n 2, 1) := dk_28 (dk_at dksX0_longest_4 7 rfl rfl)
theorem dX0_longest_102 : decode cX0_longest 102 = .ok (.ireturn, 1) := dk_172 (dk_at dksX0_longest_4 8 rfl rfl)
abbrev cX0_parts : ByteArray := prog_1_method_76_code
def yX0_parts : MethodName := ⟨RX0, "parts", "(I)I"⟩
def dkwX0_parts_3 : List UInt8 := [28, 61, 132, 3, 1, 167, 255, 210, 28, 172]
abbrev dktX0_parts_3 : List UInt8 := dkwX0_parts_3 ++ []
def dkwX0_parts_2 : List UInt8 := [180, 0, 73, 29, 46, 27, 160, 0, 18, 28, 42, 29, 182, 1, 42, 184, 1, 84, 184, 0, 186, 167, 0, 4]
abbrev dktX0_parts_2 : List UInt8 := dkwX0_parts_2 ++ dktX0_parts_3
def dkwX0_parts_1 : List UInt8 := [184, 1, 84, 100, 61, 4, 62, 29, 42, 180, 0, 21, 180, 0, 59, 3, 46, 162, 0, 39, 42, 180, 0, 21]
abbrev dktX0_parts_1 : List UInt8 := dkwX0_parts_1 ++ dktX0_parts_2
def dkwX0_parts_0 : List UInt8 := [42, 27, 182, 0, 69, 154, 0, 5, 2, 172, 42, 180, 0, 21, 180, 0, 59, 3, 46, 42, 27, 182, 1, 42]
abbrev dktX0_parts_0 : List UInt8 := dkwX0_parts_0 ++ dktX0_parts_1
theorem dksX0_parts_0 : cX0_parts.data.toList.drop 0 = dktX0_parts_0 := by decide +kernel
theorem dksX0_parts_1 : cX0_parts.data.toList.drop 24 = dktX0_parts_1 := dk_seg dksX0_parts_0 24 rfl rfl
theorem dksX0_parts_2 : cX0_parts.data.toList.drop 48 = dktX0_parts_2 := dk_seg dksX0_parts_1 24 rfl rfl
theorem dksX0_parts_3 : cX0_parts.data.toList.drop 72 = dktX0_parts_3 := dk_seg dksX0_parts_2 24 rfl rfl
theorem dX0_parts_0 : decode cX0_parts 0 = .ok (.aload_n 0, 1) := dk_42 (dk_at dksX0_parts_0 0 rfl rfl)
theorem dX0_parts_1 : decode cX0_parts 1 = .ok (.iload_n 1, 1) := dk_27 (dk_at dksX0_parts_0 1 rfl rfl)
theorem dX0_parts_2 : decode cX0_parts 2 = .ok (.invokevirtual 69, 3) := dk_182 0 69 (dk_at dksX0_parts_0 2 rfl rfl)
theorem dX0_parts_5 : decode cX0_parts 5 = .ok (.ifCond .ne 5, 3) := dk_154 0 5 (dk_at dksX0_parts_0 5 rfl rfl)
theorem dX0_parts_8 : decode cX0_parts 8 = .ok (.iconst (-1), 1) := dk_2 (dk_at dksX0_parts_0 8 rfl rfl)
theorem dX0_parts_9 : decode cX0_parts 9 = .ok (.ireturn, 1) := dk_172 (dk_at dksX0_parts_0 9 rfl rfl)
theorem dX0_parts_10 : decode cX0_parts 10 = .ok (.aload_n 0, 1) := dk_42 (dk_at dksX0_parts_0 10 rfl rfl)
theorem dX0_parts_11 : decode cX0_parts 11 = .ok (.getfield 21, 3) := dk_180 0 21 (dk_at dksX0_parts_0 11 rfl rfl)
theorem dX0_parts_14 : decode cX0_parts 14 = .ok (.getfield 59, 3) := dk_180 0 59 (dk_at dksX0_parts_0 14 rfl rfl)
theorem dX0_parts_17 : decode cX0_parts 17 = .ok (.iconst 0, 1) := dk_3 (dk_at dksX0_parts_0 17 rfl rfl)
theorem dX0_parts_18 : decode cX0_parts 18 = .ok (.iaload, 1) := dk_46 (dk_at dksX0_parts_0 18 rfl rfl)
theorem dX0_parts_19 : decode cX0_parts 19 = .ok (.aload_n 0, 1) := dk_42 (dk_at dksX0_parts_0 19 rfl rfl)
theorem dX0_parts_20 : decode cX0_parts 20 = .ok (.iload_n 1, 1) := dk_27 (dk_at dksX0_parts_0 20 rfl rfl)
theorem dX0_parts_21 : decode cX0_parts 21 = .ok (.invokevirtual 298, 3) := dk_182 1 42 (dk_at dksX0_parts_0 21 rfl rfl)
theorem dX0_parts_24 : decode cX0_parts 24 = .ok (.invokestatic 340, 3) := dk_184 1 84 (dk_at dksX0_parts_1 0 rfl rfl)
theorem dX0_parts_27 : decode cX0_parts 27 = .ok (.isub, 1) := dk_100 (dk_at dksX0_parts_1 3 rfl rfl)
theorem dX0_parts_28 : decode cX0_parts 28 = .ok (.istore_n 2, 1) := dk_61 (dk_at dksX0_parts_1 4 rfl rfl)
theorem dX0_parts_29 : decode cX0_parts 29 = .ok (.iconst 1, 1) := dk_4 (dk_at dksX0_parts_1 5 rfl rfl)
theorem dX0_parts_30 : decode cX0_parts 30 = .ok (.istore_n 3, 1) := dk_62 (dk_at dksX0_parts_1 6 rfl rfl)
theorem dX0_parts_31 : decode cX0_parts 31 = .ok (.iload_n 3, 1) := dk_29 (dk_at dksX0_parts_1 7 rfl rfl)
theorem dX0_parts_32 : decode cX0_parts 32 = .ok (.aload_n 0, 1) := dk_42 (dk_at dksX0_parts_1 8 rfl rfl)
theorem dX0_parts_33 : decode cX0_parts 33 = .ok (.getfield 21, 3) := dk_180 0 21 (dk_at dksX0_parts_1 9 rfl rfl)
theorem dX0_parts_36 : decode cX0_parts 36 = .ok (.getfield 59, 3) := dk_180 0 59 (dk_at dksX0_parts_1 12 rfl rfl)
theorem dX0_parts_39 : decode cX0_parts 39 = .ok (.iconst 0, 1) := dk_3 (dk_at dksX0_parts_1 15 rfl rfl)
theorem dX0_parts_40 : decode cX0_parts 40 = .ok (.iaload, 1) := dk_46 (dk_at dksX0_parts_1 16 rfl rfl)
theorem dX0_parts_41 : decode cX0_parts 41 = .ok (.if_icmp .ge 39, 3) := dk_162 0 39 (dk_at dksX0_parts_1 17 rfl rfl)
theorem dX0_parts_44 : decode cX0_parts 44 = .ok (.aload_n 0, 1) := dk_42 (dk_at dksX0_parts_1 20 rfl rfl)
theorem dX0_parts_45 : decode cX0_parts 45 = .ok (.getfield 21, 3) := dk_180 0 21 (dk_at dksX0_parts_1 21 rfl rfl)
theorem dX0_parts_48 : decode cX0_parts 48 = .ok (.getfield 73, 3) := dk_180 0 73 (dk_at dksX0_parts_2 0 rfl rfl)
theorem dX0_parts_51 : decode cX0_parts 51 = .ok (.iload_n 3, 1) := dk_29 (dk_at dksX0_parts_2 3 rfl rfl)
theorem dX0_parts_52 : decode cX0_parts 52 = .ok (.iaload, 1) := dk_46 (dk_at dksX0_parts_2 4 rfl rfl)
theorem dX0_parts_53 : decode cX0_parts 53 = .ok (.iload_n 1, 1) := dk_27 (dk_at dksX0_parts_2 5 rfl rfl)
theorem dX0_parts_54 : decode cX0_parts 54 = .ok (.if_icmp .ne 18, 3) := dk_160 0 18 (dk_at dksX0_parts_2 6 rfl rfl)
theorem dX0_parts_57 : decode cX0_parts 57 = .ok (.iload_n 2, 1) := dk_28 (dk_at dksX0_parts_2 9 rfl rfl)
theorem dX0_parts_58 : decode cX0_parts 58 = .ok (.aload_n 0, 1) := dk_42 (dk_at dksX0_parts_2 10 rfl rfl)
theorem dX0_parts_59 : decode cX0_parts 59 = .ok (.iload_n 3, 1) := dk_29 (dk_at dksX0_parts_2 11 rfl rfl)
theorem dX0_parts_60 : decode cX0_parts 60 = .ok (.invokevirtual 298, 3) := dk_182 1 42 (dk_at dksX0_parts_2 12 rfl rfl)
theorem dX0_parts_63 : decode cX0_parts 63 = .ok (.invokestatic 340, 3) := dk_184 1 84 (dk_at dksX0_parts_2 15 rfl rfl)
theorem dX0_parts_66 : decode cX0_parts 66 = .ok (.invokestatic 186, 3) := dk_184 0 186 (dk_at dksX0_parts_2 18 rfl rfl)
theorem dX0_parts_69 : decode cX0_parts 69 = .ok (.goto 4, 3) := dk_167 0 4 (dk_at dksX0_parts_2 21 rfl rfl)
theorem dX0_parts_72 : decode cX0_parts 72 = .ok (.iload_n 2, 1) := dk_28 (dk_at dksX0_parts_3 0 rfl rfl)
theorem dX0_parts_73 : decode cX0_parts 73 = .ok (.istore_n 2, 1) := dk_61 (dk_at dksX0_parts_3 1 rfl rfl)
theorem dX0_parts_74 : decode cX0_parts 74 = .ok (.iinc 3 1, 3) := dk_132 3 1 (dk_at dksX0_parts_3 2 rfl rfl)
theorem dX0_parts_77 : decode cX0_parts 77 = .ok (.goto (-46), 3) := dk_167 255 210 (dk_at dksX0_parts_3 5 rfl rfl)
theorem dX0_parts_80 : decode cX0_parts 80 = .ok (.iload_n 2, 1) := dk_28 (dk_at dksX0_parts_3 8 rfl rfl)
theorem dX0_parts_81 : decode cX0_parts 81 = .ok (.ireturn, 1) := dk_172 (dk_at dksX0_parts_3 9 rfl rfl)
abbrev cX0_deputies : ByteArray := prog_1_method_78_code
def yX0_deputies : MethodName := ⟨RX0, "deputies", "()I"⟩
def dkwX0_deputies_4 : List UInt8 := [132, 3, 255, 167, 255, 180, 28, 172]
abbrev dktX0_deputies_4 : List UInt8 := dkwX0_deputies_4 ++ []
def dkwX0_deputies_3 : List UInt8 := [167, 255, 215, 21, 4, 27, 160, 0, 16, 29, 184, 1, 84, 28, 184, 1, 84, 163, 0, 5, 29, 61]
abbrev dktX0_deputies_3 : List UInt8 := dkwX0_deputies_3 ++ dktX0_deputies_4
def dkwX0_deputies_2 : List UInt8 := [184, 0, 82, 153, 0, 12, 42, 21, 5, 182, 1, 104, 167, 0, 4, 3, 128, 54, 4, 132, 5, 1]
abbrev dktX0_deputies_2 : List UInt8 := dkwX0_deputies_2 ++ dktX0_deputies_3
def dkwX0_deputies_1 : List UInt8 := [54, 4, 3, 54, 5, 21, 5, 42, 180, 0, 21, 180, 0, 59, 3, 46, 162, 0, 33, 21, 4, 29, 21, 5]
abbrev dktX0_deputies_1 : List UInt8 := dkwX0_deputies_1 ++ dktX0_deputies_2
def dkwX0_deputies_0 : List UInt8 := [4, 42, 180, 0, 21, 180, 0, 59, 3, 46, 120, 4, 100, 60, 27, 61, 27, 62, 29, 155, 0, 78, 3]
abbrev dktX0_deputies_0 : List UInt8 := dkwX0_deputies_0 ++ dktX0_deputies_1
theorem dksX0_deputies_0 : cX0_deputies.data.toList.drop 0 = dktX0_deputies_0 := by decide +kernel
theorem dksX0_deputies_1 : cX0_deputies.data.toList.drop 23 = dktX0_deputies_1 := dk_seg dksX0_deputies_0 23 rfl rfl
theorem dksX0_deputies_2 : cX0_deputies.data.toList.drop 47 = dktX0_deputies_2 := dk_seg dksX0_deputies_1 24 rfl rfl
theorem dksX0_deputies_3 : cX0_deputies.data.toList.drop 69 = dktX0_deputies_3 := dk_seg dksX0_deputies_2 22 rfl rfl
theorem dksX0_deputies_4 : cX0_deputies.data.toList.drop 91 = dktX0_deputies_4 := dk_seg dksX0_deputies_3 22 rfl rfl
theorem dX0_deputies_0 : decode cX0_deputies 0 = .ok (.iconst 1, 1) := dk_4 (dk_at dksX0_deputies_0 0 rfl rfl)
theorem dX0_deputies_1 : decode cX0_deputies 1 = .ok (.aload_n 0, 1) := dk_42 (dk_at dksX0_deputies_0 1 rfl rfl)
theorem dX0_deputies_2 : decode cX0_deputies 2 = .ok (.getfield 21, 3) := dk_180 0 21 (dk_at dksX0_deputies_0 2 rfl rfl)
theorem dX0_deputies_5 : decode cX0_deputies 5 = .ok (.getfield 59, 3) := dk_180 0 59 (dk_at dksX0_deputies_0 5 rfl rfl)
theorem dX0_deputies_8 : decode cX0_deputies 8 = .ok (.iconst 0, 1) := dk_3 (dk_at dksX0_deputies_0 8 rfl rfl)
theorem dX0_deputies_9 : decode cX0_deputies 9 = .ok (.iaload, 1) := dk_46 (dk_at dksX0_deputies_0 9 rfl rfl)
theorem dX0_deputies_10 : decode cX0_deputies 10 = .ok (.ishl, 1) := dk_120 (dk_at dksX0_deputies_0 10 rfl rfl)
theorem dX0_deputies_11 : decode cX0_deputies 11 = .ok (.iconst 1, 1) := dk_4 (dk_at dksX0_deputies_0 11 rfl rfl)
theorem dX0_deputies_12 : decode cX0_deputies 12 = .ok (.isub, 1) := dk_100 (dk_at dksX0_deputies_0 12 rfl rfl)
theorem dX0_deputies_13 : decode cX0_deputies 13 = .ok (.istore_n 1, 1) := dk_60 (dk_at dksX0_deputies_0 13 rfl rfl)
theorem dX0_deputies_14 : decode cX0_deputies 14 = .ok (.iload_n 1, 1) := dk_27 (dk_at dksX0_deputies_0 14 rfl rfl)
theorem dX0_deputies_15 : decode cX0_deputies 15 = .ok (.istore_n 2, 1) := dk_61 (dk_at dksX0_deputies_0 15 rfl rfl)
theorem dX0_deputies_16 : decode cX0_deputies 16 = .ok (.iload_n 1, 1) := dk_27 (dk_at dksX0_deputies_0 16 rfl rfl)
theorem dX0_deputies_17 : decode cX0_deputies 17 = .ok (.istore_n 3, 1) := dk_62 (dk_at dksX0_deputies_0 17 rfl rfl)
theorem dX0_deputies_18 : decode cX0_deputies 18 = .ok (.iload_n 3, 1) := dk_29 (dk_at dksX0_deputies_0 18 rfl rfl)
theorem dX0_deputies_19 : decode cX0_deputies 19 = .ok (.ifCond .lt 78, 3) := dk_155 0 78 (dk_at dksX0_deputies_0 19 rfl rfl)
theorem dX0_deputies_22 : decode cX0_deputies 22 = .ok (.iconst 0, 1) := dk_3 (dk_at dksX0_deputies_0 22 rfl rfl)
theorem dX0_deputies_23 : decode cX0_deputies 23 = .ok (.istore 4, 2) := dk_54 4 (dk_at dksX0_deputies_1 0 rfl rfl)
theorem dX0_deputies_25 : decode cX0_deputies 25 = .ok (.iconst 0, 1) := dk_3 (dk_at dksX0_deputies_1 2 rfl rfl)
theorem dX0_deputies_26 : decode cX0_deputies 26 = .ok (.istore 5, 2) := dk_54 5 (dk_at dksX0_deputies_1 3 rfl rfl)
theorem dX0_deputies_28 : decode cX0_deputies 28 = .ok (.iload 5, 2) := dk_21 5 (dk_at dksX0_deputies_1 5 rfl rfl)
theorem dX0_deputies_30 : decode cX0_deputies 30 = .ok (.aload_n 0, 1) := dk_42 (dk_at dksX0_deputies_1 7 rfl rfl)
theorem dX0_deputies_31 : decode cX0_deputies 31 = .ok (.getfield 21, 3) := dk_180 0 21 (dk_at dksX0_deputies_1 8 rfl rfl)
theorem dX0_deputies_34 : decode cX0_deputies 34 = .ok (.getfield 59, 3) := dk_180 0 59 (dk_at dksX0_deputies_1 11 rfl rfl)
theorem dX0_deputies_37 : decode cX0_deputies 37 = .ok (.iconst 0, 1) := dk_3 (dk_at dksX0_deputies_1 14 rfl rfl)
theorem dX0_deputies_38 : decode cX0_deputies 38 = .ok (.iaload, 1) := dk_46 (dk_at dksX0_deputies_1 15 rfl rfl)
theorem dX0_deputies_39 : decode cX0_deputies 39 = .ok (.if_icmp .ge 33, 3) := dk_162 0 33 (dk_at dksX0_deputies_1 16 rfl rfl)
theorem dX0_deputies_42 : decode cX0_deputies 42 = .ok (.iload 4, 2) := dk_21 4 (dk_at dksX0_deputies_1 19 rfl rfl)
theorem dX0_deputies_44 : decode cX0_deputies 44 = .ok (.iload_n 3, 1) := dk_29 (dk_at dksX0_deputies_1 21 rfl rfl)
theorem dX0_deputies_45 : decode cX0_deputies 45 = .ok (.iload 5, 2) := dk_21 5 (dk_at dksX0_deputies_1 22 rfl rfl)
theorem dX0_deputies_47 : decode cX0_deputies 47 = .ok (.invokestatic 82, 3) := dk_184 0 82 (dk_at dksX0_deputies_2 0 rfl rfl)
theorem dX0_deputies_50 : decode cX0_deputies 50 = .ok (.ifCond .eq 12, 3) := dk_153 0 12 (dk_at dksX0_deputies_2 3 rfl rfl)
theorem dX0_deputies_53 : decode cX0_deputies 53 = .ok (.aload_n 0, 1) := dk_42 (dk_at dksX0_deputies_2 6 rfl rfl)
theorem dX0_deputies_54 : decode cX0_deputies 54 = .ok (.iload 5, 2) := dk_21 5 (dk_at dksX0_deputies_2 7 rfl rfl)
theorem dX0_deputies_56 : decode cX0_deputies 56 = .ok (.invokevirtual 360, 3) := dk_182 1 104 (dk_at dksX0_deputies_2 9 rfl rfl)
theorem dX0_deputies_59 : decode cX0_deputies 59 = .ok (.goto 4, 3) := dk_167 0 4 (dk_at dksX0_deputies_2 12 rfl rfl)
theorem dX0_deputies_62 : decode cX0_deputies 62 = .ok (.iconst 0, 1) := dk_3 (dk_at dksX0_deputies_2 15 rfl rfl)
theorem dX0_deputies_63 : decode cX0_deputies 63 = .ok (.ior, 1) := dk_128 (dk_at dksX0_deputies_2 16 rfl rfl)
theorem dX0_deputies_64 : decode cX0_deputies 64 = .ok (.istore 4, 2) := dk_54 4 (dk_at dksX0_deputies_2 17 rfl rfl)
theorem dX0_deputies_66 : decode cX0_deputies 66 = .ok (.iinc 5 1, 3) := dk_132 5 1 (dk_at dksX0_deputies_2 19 rfl rfl)
theorem dX0_deputies_69 : decode cX0_deputies 69 = .ok (.goto (-41), 3) := dk_167 255 215 (dk_at dksX0_deputies_3 0 rfl rfl)
theorem dX0_deputies_72 : decode cX0_deputies 72 = .ok (.iload 4, 2) := dk_21 4 (dk_at dksX0_deputies_3 3 rfl rfl)
theorem dX0_deputies_74 : decode cX0_deputies 74 = .ok (.iload_n 1, 1) := dk_27 (dk_at dksX0_deputies_3 5 rfl rfl)
theorem dX0_deputies_75 : decode cX0_deputies 75 = .ok (.if_icmp .ne 16, 3) := dk_160 0 16 (dk_at dksX0_deputies_3 6 rfl rfl)
theorem dX0_deputies_78 : decode cX0_deputies 78 = .ok (.iload_n 3, 1) := dk_29 (dk_at dksX0_deputies_3 9 rfl rfl)
theorem dX0_deputies_79 : decode cX0_deputies 79 = .ok (.invokestatic 340, 3) := dk_184 1 84 (dk_at dksX0_deputies_3 10 rfl rfl)
theorem dX0_deputies_82 : decode cX0_deputies 82 = .ok (.iload_n 2, 1) := dk_28 (dk_at dksX0_deputies_3 13 rfl rfl)
theorem dX0_deputies_83 : decode cX0_deputies 83 = .ok (.invokestatic 340, 3) := dk_184 1 84 (dk_at dksX0_deputies_3 14 rfl rfl)
theorem dX0_deputies_86 : decode cX0_deputies 86 = .ok (.if_icmp .gt 5, 3) := dk_163 0 5 (dk_at dksX0_deputies_3 17 rfl rfl)
theorem dX0_deputies_89 : decode cX0_deputies 89 = .ok (.iload_n 3, 1) := dk_29 (dk_at dksX0_deputies_3 20 rfl rfl)
theorem dX0_deputies_90 : decode cX0_deputies 90 = .ok (.istore_n 2, 1) := dk_61 (dk_at dksX0_deputies_3 21 rfl rfl)
theorem dX0_deputies_91 : decode cX0_deputies 91 = .ok (.iinc 3 (-1), 3) := dk_132 3 255 (dk_at dksX0_deputies_4 0 rfl rfl)
theorem dX0_deputies_94 : decode cX0_deputies 94 = .ok (.goto (-76), 3) := dk_167 255 180 (dk_at dksX0_deputies_4 3 rfl rfl)
theorem dX0_deputies_97 : decode cX0_deputies 97 = .ok (.iload_n 2, 1) := dk_28 (dk_at dksX0_deputies_4 6 rfl rfl)
theorem dX0_deputies_98 : decode cX0_deputies 98 = .ok (.ireturn, 1) := dk_172 (dk_at dksX0_deputies_4 7 rfl rfl)
abbrev cX0_near : ByteArray := prog_1_method_77_code
def yX0_near : MethodName := ⟨RX0, "near", "(I)I"⟩
def dkwX0_near_2 : List UInt8 := [120, 167, 0, 4, 3, 128, 61, 132, 3, 1, 167, 255, 204, 28, 172]
abbrev dktX0_near_2 : List UInt8 := dkwX0_near_2 ++ []
def dkwX0_near_1 : List UInt8 := [180, 0, 73, 29, 46, 27, 159, 0, 16, 42, 180, 0, 21, 180, 0, 73, 27, 46, 29, 160, 0, 9, 4, 29]
abbrev dktX0_near_1 : List UInt8 := dkwX0_near_1 ++ dktX0_near_2
def dkwX0_near_0 : List UInt8 := [4, 27, 120, 61, 3, 62, 29, 42, 180, 0, 21, 180, 0, 59, 3, 46, 162, 0, 45, 28, 42, 180, 0, 21]
abbrev dktX0_near_0 : List UInt8 := dkwX0_near_0 ++ dktX0_near_1
theorem dksX0_near_0 : cX0_near.data.toList.drop 0 = dktX0_near_0 := by decide +kernel
theorem dksX0_near_1 : cX0_near.data.toList.drop 24 = dktX0_near_1 := dk_seg dksX0_near_0 24 rfl rfl
theorem dksX0_near_2 : cX0_near.data.toList.drop 48 = dktX0_near_2 := dk_seg dksX0_near_1 24 rfl rfl
theorem dX0_near_0 : decode cX0_near 0 = .ok (.iconst 1, 1) := dk_4 (dk_at dksX0_near_0 0 rfl rfl)
theorem dX0_near_1 : decode cX0_near 1 = .ok (.iload_n 1, 1) := dk_27 (dk_at dksX0_near_0 1 rfl rfl)
theorem dX0_near_2 : decode cX0_near 2 = .ok (.ishl, 1) := dk_120 (dk_at dksX0_near_0 2 rfl rfl)
theorem dX0_near_3 : decode cX0_near 3 = .ok (.istore_n 2, 1) := dk_61 (dk_at dksX0_near_0 3 rfl rfl)
theorem dX0_near_4 : decode cX0_near 4 = .ok (.iconst 0, 1) := dk_3 (dk_at dksX0_near_0 4 rfl rfl)
theorem dX0_near_5 : decode cX0_near 5 = .ok (.istore_n 3, 1) := dk_62 (dk_at dksX0_near_0 5 rfl rfl)
theorem dX0_near_6 : decode cX0_near 6 = .ok (.iload_n 3, 1) := dk_29 (dk_at dksX0_near_0 6 rfl rfl)
theorem dX0_near_7 : decode cX0_near 7 = .ok (.aload_n 0, 1) := dk_42 (dk_at dksX0_near_0 7 rfl rfl)
theorem dX0_near_8 : decode cX0_near 8 = .ok (.getfield 21, 3) := dk_180 0 21 (dk_at dksX0_near_0 8 rfl rfl)
theorem dX0_near_11 : decode cX0_near 11 = .ok (.getfield 59, 3) := dk_180 0 59 (dk_at dksX0_near_0 11 rfl rfl)
theorem dX0_near_14 : decode cX0_near 14 = .ok (.iconst 0, 1) := dk_3 (dk_at dksX0_near_0 14 rfl rfl)
theorem dX0_near_15 : decode cX0_near 15 = .ok (.iaload, 1) := dk_46 (dk_at dksX0_near_0 15 rfl rfl)
theorem dX0_near_16 : decode cX0_near 16 = .ok (.if_icmp .ge 45, 3) := dk_162 0 45 (dk_at dksX0_near_0 16 rfl rfl)
theorem dX0_near_19 : decode cX0_near 19 = .ok (.iload_n 2, 1) := dk_28 (dk_at dksX0_near_0 19 rfl rfl)
theorem dX0_near_20 : decode cX0_near 20 = .ok (.aload_n 0, 1) := dk_42 (dk_at dksX0_near_0 20 rfl rfl)
theorem dX0_near_21 : decode cX0_near 21 = .ok (.getfield 21, 3) := dk_180 0 21 (dk_at dksX0_near_0 21 rfl rfl)
theorem dX0_near_24 : decode cX0_near 24 = .ok (.getfield 73, 3) := dk_180 0 73 (dk_at dksX0_near_1 0 rfl rfl)
theorem dX0_near_27 : decode cX0_near 27 = .ok (.iload_n 3, 1) := dk_29 (dk_at dksX0_near_1 3 rfl rfl)
theorem dX0_near_28 : decode cX0_near 28 = .ok (.iaload, 1) := dk_46 (dk_at dksX0_near_1 4 rfl rfl)
theorem dX0_near_29 : decode cX0_near 29 = .ok (.iload_n 1, 1) := dk_27 (dk_at dksX0_near_1 5 rfl rfl)
theorem dX0_near_30 : decode cX0_near 30 = .ok (.if_icmp .eq 16, 3) := dk_159 0 16 (dk_at dksX0_near_1 6 rfl rfl)
theorem dX0_near_33 : decode cX0_near 33 = .ok (.aload_n 0, 1) := dk_42 (dk_at dksX0_near_1 9 rfl rfl)
theorem dX0_near_34 : decode cX0_near 34 = .ok (.getfield 21, 3) := dk_180 0 21 (dk_at dksX0_near_1 10 rfl rfl)
theorem dX0_near_37 : decode cX0_near 37 = .ok (.getfield 73, 3) := dk_180 0 73 (dk_at dksX0_near_1 13 rfl rfl)
theorem dX0_near_40 : decode cX0_near 40 = .ok (.iload_n 1, 1) := dk_27 (dk_at dksX0_near_1 16 rfl rfl)
theorem dX0_near_41 : decode cX0_near 41 = .ok (.iaload, 1) := dk_46 (dk_at dksX0_near_1 17 rfl rfl)
theorem dX0_near_42 : decode cX0_near 42 = .ok (.iload_n 3, 1) := dk_29 (dk_at dksX0_near_1 18 rfl rfl)
theorem dX0_near_43 : decode cX0_near 43 = .ok (.if_icmp .ne 9, 3) := dk_160 0 9 (dk_at dksX0_near_1 19 rfl rfl)
theorem dX0_near_46 : decode cX0_near 46 = .ok (.iconst 1, 1) := dk_4 (dk_at dksX0_near_1 22 rfl rfl)
theorem dX0_near_47 : decode cX0_near 47 = .ok (.iload_n 3, 1) := dk_29 (dk_at dksX0_near_1 23 rfl rfl)
theorem dX0_near_48 : decode cX0_near 48 = .ok (.ishl, 1) := dk_120 (dk_at dksX0_near_2 0 rfl rfl)
theorem dX0_near_49 : decode cX0_near 49 = .ok (.goto 4, 3) := dk_167 0 4 (dk_at dksX0_near_2 1 rfl rfl)
theorem dX0_near_52 : decode cX0_near 52 = .ok (.iconst 0, 1) := dk_3 (dk_at dksX0_near_2 4 rfl rfl)
theorem dX0_near_53 : decode cX0_near 53 = .ok (.ior, 1) := dk_128 (dk_at dksX0_near_2 5 rfl rfl)
theorem dX0_near_54 : decode cX0_near 54 = .ok (.istore_n 2, 1) := dk_61 (dk_at dksX0_near_2 6 rfl rfl)
theorem dX0_near_55 : decode cX0_near 55 = .ok (.iinc 3 1, 3) := dk_132 3 1 (dk_at dksX0_near_2 7 rfl rfl)
theorem dX0_near_58 : decode cX0_near 58 = .ok (.goto (-52), 3) := dk_167 255 204 (dk_at dksX0_near_2 10 rfl rfl)
theorem dX0_near_61 : decode cX0_near 61 = .ok (.iload_n 2, 1) := dk_28 (dk_at dksX0_near_2 13 rfl rfl)
theorem dX0_near_62 : decode cX0_near 62 = .ok (.ireturn, 1) := dk_172 (dk_at dksX0_near_2 14 rfl rfl)
abbrev cX0_ranked : ByteArray := prog_1_method_79_code
def yX0_ranked : MethodName := ⟨RX0, "ranked", "(IZ)I"⟩
def dkwX0_ranked_6 : List UInt8 := [153, 0, 8, 21, 4, 167, 0, 4, 29, 172]
abbrev dktX0_ranked_6 : List UInt8 := dkwX0_ranked_6 ++ []
def dkwX0_ranked_5 : List UInt8 := [184, 0, 149, 46, 167, 0, 4, 3, 96, 54, 4, 132, 6, 1, 167, 255, 179, 132, 5, 1, 167, 255, 140, 28]
abbrev dktX0_ranked_5 : List UInt8 := dkwX0_ranked_5 ++ dktX0_ranked_6
def dkwX0_ranked_4 : List UInt8 := [21, 6, 5, 184, 0, 149, 46, 21, 5, 160, 0, 20, 42, 180, 0, 21, 180, 0, 66, 21, 6, 6]
abbrev dktX0_ranked_4 : List UInt8 := dkwX0_ranked_4 ++ dktX0_ranked_5
def dkwX0_ranked_3 : List UInt8 := [180, 0, 21, 180, 0, 66, 21, 6, 7, 184, 0, 149, 46, 5, 159, 0, 39, 42, 180, 0, 21, 180, 0, 66]
abbrev dktX0_ranked_3 : List UInt8 := dkwX0_ranked_3 ++ dktX0_ranked_4
def dkwX0_ranked_2 : List UInt8 := [132, 3, 1, 3, 54, 6, 21, 6, 42, 180, 0, 21, 180, 0, 66, 5, 46, 162, 0, 69, 21, 4, 42]
abbrev dktX0_ranked_2 : List UInt8 := dkwX0_ranked_2 ++ dktX0_ranked_3
def dkwX0_ranked_1 : List UInt8 := [180, 0, 21, 180, 0, 59, 3, 46, 162, 0, 108, 42, 21, 5, 182, 0, 138, 27, 159, 0, 6, 167, 0, 89]
abbrev dktX0_ranked_1 : List UInt8 := dkwX0_ranked_1 ++ dktX0_ranked_2
def dkwX0_ranked_0 : List UInt8 := [27, 3, 16, 9, 184, 0, 62, 154, 0, 5, 2, 172, 3, 62, 3, 54, 4, 3, 54, 5, 21, 5, 42]
abbrev dktX0_ranked_0 : List UInt8 := dkwX0_ranked_0 ++ dktX0_ranked_1
theorem dksX0_ranked_0 : cX0_ranked.data.toList.drop 0 = dktX0_ranked_0 := by decide +kernel
theorem dksX0_ranked_1 : cX0_ranked.data.toList.drop 23 = dktX0_ranked_1 := dk_seg dksX0_ranked_0 23 rfl rfl
theorem dksX0_ranked_2 : cX0_ranked.data.toList.drop 47 = dktX0_ranked_2 := dk_seg dksX0_ranked_1 24 rfl rfl
theorem dksX0_ranked_3 : cX0_ranked.data.toList.drop 70 = dktX0_ranked_3 := dk_seg dksX0_ranked_2 23 rfl rfl
theorem dksX0_ranked_4 : cX0_ranked.data.toList.drop 94 = dktX0_ranked_4 := dk_seg dksX0_ranked_3 24 rfl rfl
theorem dksX0_ranked_5 : cX0_ranked.data.toList.drop 116 = dktX0_ranked_5 := dk_seg dksX0_ranked_4 22 rfl rfl
theorem dksX0_ranked_6 : cX0_ranked.data.toList.drop 140 = dktX0_ranked_6 := dk_seg dksX0_ranked_5 24 rfl rfl
theorem dX0_ranked_0 : decode cX0_ranked 0 = .ok (.iload_n 1, 1) := dk_27 (dk_at dksX0_ranked_0 0 rfl rfl)
theorem dX0_ranked_1 : decode cX0_ranked 1 = .ok (.iconst 0, 1) := dk_3 (dk_at dksX0_ranked_0 1 rfl rfl)
theorem dX0_ranked_2 : decode cX0_ranked 2 = .ok (.bipush 9, 2) := dk_16 9 (dk_at dksX0_ranked_0 2 rfl rfl)
theorem dX0_ranked_4 : decode cX0_ranked 4 = .ok (.invokestatic 62, 3) := dk_184 0 62 (dk_at dksX0_ranked_0 4 rfl rfl)
theorem dX0_ranked_7 : decode cX0_ranked 7 = .ok (.ifCond .ne 5, 3) := dk_154 0 5 (dk_at dksX0_ranked_0 7 rfl rfl)
theorem dX0_ranked_10 : decode cX0_ranked 10 = .ok (.iconst (-1), 1) := dk_2 (dk_at dksX0_ranked_0 10 rfl rfl)
theorem dX0_ranked_11 : decode cX0_ranked 11 = .ok (.ireturn, 1) := dk_172 (dk_at dksX0_ranked_0 11 rfl rfl)
theorem dX0_ranked_12 : decode cX0_ranked 12 = .ok (.iconst 0, 1) := dk_3 (dk_at dksX0_ranked_0 12 rfl rfl)
theorem dX0_ranked_13 : decode cX0_ranked 13 = .ok (.istore_n 3, 1) := dk_62 (dk_at dksX0_ranked_0 13 rfl rfl)
theorem dX0_ranked_14 : decode cX0_ranked 14 = .ok (.iconst 0, 1) := dk_3 (dk_at dksX0_ranked_0 14 rfl rfl)
theorem dX0_ranked_15 : decode cX0_ranked 15 = .ok (.istore 4, 2) := dk_54 4 (dk_at dksX0_ranked_0 15 rfl rfl)
theorem dX0_ranked_17 : decode cX0_ranked 17 = .ok (.iconst 0, 1) := dk_3 (dk_at dksX0_ranked_0 17 rfl rfl)
theorem dX0_ranked_18 : decode cX0_ranked 18 = .ok (.istore 5, 2) := dk_54 5 (dk_at dksX0_ranked_0 18 rfl rfl)
theorem dX0_ranked_20 : decode cX0_ranked 20 = .ok (.iload 5, 2) := dk_21 5 (dk_at dksX0_ranked_0 20 rfl rfl)
theorem dX0_ranked_22 : decode cX0_ranked 22 = .ok (.aload_n 0, 1) := dk_42 (dk_at dksX0_ranked_0 22 rfl rfl)
theorem dX0_ranked_23 : decode cX0_ranked 23 = .ok (.getfield 21, 3) := dk_180 0 21 (dk_at dksX0_ranked_1 0 rfl rfl)
theorem dX0_ranked_26 : decode cX0_ranked 26 = .ok (.getfield 59, 3) := dk_180 0 59 (dk_at dksX0_ranked_1 3 rfl rfl)
theorem dX0_ranked_29 : decode cX0_ranked 29 = .ok (.iconst 0, 1) := dk_3 (dk_at dksX0_ranked_1 6 rfl rfl)
theorem dX0_ranked_30 : decode cX0_ranked 30 = .ok (.iaload, 1) := dk_46 (dk_at dksX0_ranked_1 7 rfl rfl)
theorem dX0_ranked_31 : decode cX0_ranked 31 = .ok (.if_icmp .ge 108, 3) := dk_162 0 108 (dk_at dksX0_ranked_1 8 rfl rfl)
theorem dX0_ranked_34 : decode cX0_ranked 34 = .ok (.aload_n 0, 1) := dk_42 (dk_at dksX0_ranked_1 11 rfl rfl)
theorem dX0_ranked_35 : decode cX0_ranked 35 = .ok (.iload 5, 2) := dk_21 5 (dk_at dksX0_ranked_1 12 rfl rfl)
theorem dX0_ranked_37 : decode cX0_ranked 37 = .ok (.invokevirtual 138, 3) := dk_182 0 138 (dk_at dksX0_ranked_1 14 rfl rfl)
theorem dX0_ranked_40 : decode cX0_ranked 40 = .ok (.iload_n 1, 1) := dk_27 (dk_at dksX0_ranked_1 17 rfl rfl)
theorem dX0_ranked_41 : decode cX0_ranked 41 = .ok (.if_icmp .eq 6, 3) := dk_159 0 6 (dk_at dksX0_ranked_1 18 rfl rfl)
theorem dX0_ranked_44 : decode cX0_ranked 44 = .ok (.goto 89, 3) := dk_167 0 89 (dk_at dksX0_ranked_1 21 rfl rfl)
theorem dX0_ranked_47 : decode cX0_ranked 47 = .ok (.iinc 3 1, 3) := dk_132 3 1 (dk_at dksX0_ranked_2 0 rfl rfl)
theorem dX0_ranked_50 : decode cX0_ranked 50 = .ok (.iconst 0, 1) := dk_3 (dk_at dksX0_ranked_2 3 rfl rfl)
theorem dX0_ranked_51 : decode cX0_ranked 51 = .ok (.istore 6, 2) := dk_54 6 (dk_at dksX0_ranked_2 4 rfl rfl)
theorem dX0_ranked_53 : decode cX0_ranked 53 = .ok (.iload 6, 2) := dk_21 6 (dk_at dksX0_ranked_2 6 rfl rfl)
theorem dX0_ranked_55 : decode cX0_ranked 55 = .ok (.aload_n 0, 1) := dk_42 (dk_at dksX0_ranked_2 8 rfl rfl)
theorem dX0_ranked_56 : decode cX0_ranked 56 = .ok (.getfield 21, 3) := dk_180 0 21 (dk_at dksX0_ranked_2 9 rfl rfl)
theorem dX0_ranked_59 : decode cX0_ranked 59 = .ok (.getfield 66, 3) := dk_180 0 66 (dk_at dksX0_ranked_2 12 rfl rfl)
theorem dX0_ranked_62 : decode cX0_ranked 62 = .ok (.iconst 2, 1) := dk_5 (dk_at dksX0_ranked_2 15 rfl rfl)
theorem dX0_ranked_63 : decode cX0_ranked 63 = .ok (.iaload, 1) := dk_46 (dk_at dksX0_ranked_2 16 rfl rfl)
theorem dX0_ranked_64 : decode cX0_ranked 64 = .ok (.if_icmp .ge 69, 3) := dk_162 0 69 (dk_at dksX0_ranked_2 17 rfl rfl)
theorem dX0_ranked_67 : decode cX0_ranked 67 = .ok (.iload 4, 2) := dk_21 4 (dk_at dksX0_ranked_2 20 rfl rfl)
theorem dX0_ranked_69 : decode cX0_ranked 69 = .ok (.aload_n 0, 1) := dk_42 (dk_at dksX0_ranked_2 22 rfl rfl)
theorem dX0_ranked_70 : decode cX0_ranked 70 = .ok (.getfield 21, 3) := dk_180 0 21 (dk_at dksX0_ranked_3 0 rfl rfl)
theorem dX0_ranked_73 : decode cX0_ranked 73 = .ok (.getfield 66, 3) := dk_180 0 66 (dk_at dksX0_ranked_3 3 rfl rfl)
theorem dX0_ranked_76 : decode cX0_ranked 76 = .ok (.iload 6, 2) := dk_21 6 (dk_at dksX0_ranked_3 6 rfl rfl)
theorem dX0_ranked_78 : decode cX0_ranked 78 = .ok (.iconst 4, 1) := dk_7 (dk_at dksX0_ranked_3 8 rfl rfl)
theorem dX0_ranked_79 : decode cX0_ranked 79 = .ok (.invokestatic 149, 3) := dk_184 0 149 (dk_at dksX0_ranked_3 9 rfl rfl)
theorem dX0_ranked_82 : decode cX0_ranked 82 = .ok (.iaload, 1) := dk_46 (dk_at dksX0_ranked_3 12 rfl rfl)
theorem dX0_ranked_83 : decode cX0_ranked 83 = .ok (.iconst 2, 1) := dk_5 (dk_at dksX0_ranked_3 13 rfl rfl)
theorem dX0_ranked_84 : decode cX0_ranked 84 = .ok (.if_icmp .eq 39, 3) := dk_159 0 39 (dk_at dksX0_ranked_3 14 rfl rfl)
theorem dX0_ranked_87 : decode cX0_ranked 87 = .ok (.aload_n 0, 1) := dk_42 (dk_at dksX0_ranked_3 17 rfl rfl)
theorem dX0_ranked_88 : decode cX0_ranked 88 = .ok (.getfield 21, 3) := dk_180 0 21 (dk_at dksX0_ranked_3 18 rfl rfl)
theorem dX0_ranked_91 : decode cX0_ranked 91 = .ok (.getfield 66, 3) := dk_180 0 66 (dk_at dksX0_ranked_3 21 rfl rfl)
theorem dX0_ranked_94 : decode cX0_ranked 94 = .ok (.iload 6, 2) := dk_21 6 (dk_at dksX0_ranked_4 0 rfl rfl)
theorem dX0_ranked_96 : decode cX0_ranked 96 = .ok (.iconst 2, 1) := dk_5 (dk_at dksX0_ranked_4 2 rfl rfl)
theorem dX0_ranked_97 : decode cX0_ranked 97 = .ok (.invokestatic 149, 3) := dk_184 0 149 (dk_at dksX0_ranked_4 3 rfl rfl)
theorem dX0_ranked_100 : decode cX0_ranked 100 = .ok (.iaload, 1) := dk_46 (dk_at dksX0_ranked_4 6 rfl rfl)
theorem dX0_ranked_101 : decode cX0_ranked 101 = .ok (.iload 5, 2) := dk_21 5 (dk_at dksX0_ranked_4 7 rfl rfl)
theorem dX0_ranked_103 : decode cX0_ranked 103 = .ok (.if_icmp .ne 20, 3) := dk_160 0 20 (dk_at dksX0_ranked_4 9 rfl rfl)
theorem dX0_ranked_106 : decode cX0_ranked 106 = .ok (.aload_n 0, 1) := dk_42 (dk_at dksX0_ranked_4 12 rfl rfl)
theorem dX0_ranked_107 : decode cX0_ranked 107 = .ok (.getfield 21, 3) := dk_180 0 21 (dk_at dksX0_ranked_4 13 rfl rfl)
theorem dX0_ranked_110 : decode cX0_ranked 110 = .ok (.getfield 66, 3) := dk_180 0 66 (dk_at dksX0_ranked_4 16 rfl rfl)
theorem dX0_ranked_113 : decode cX0_ranked 113 = .ok (.iload 6, 2) := dk_21 6 (dk_at dksX0_ranked_4 19 rfl rfl)
theorem dX0_ranked_115 : decode cX0_ranked 115 = .ok (.iconst 3, 1) := dk_6 (dk_at dksX0_ranked_4 21 rfl rfl)
theorem dX0_ranked_116 : decode cX0_ranked 116 = .ok (.invokestatic 149, 3) := dk_184 0 149 (dk_at dksX0_ranked_5 0 rfl rfl)
theorem dX0_ranked_119 : decode cX0_ranked 119 = .ok (.iaload, 1) := dk_46 (dk_at dksX0_ranked_5 3 rfl rfl)
theorem dX0_ranked_120 : decode cX0_ranked 120 = .ok (.goto 4, 3) := dk_167 0 4 (dk_at dksX0_ranked_5 4 rfl rfl)
theorem dX0_ranked_123 : decode cX0_ranked 123 = .ok (.iconst 0, 1) := dk_3 (dk_at dksX0_ranked_5 7 rfl rfl)
theorem dX0_ranked_124 : decode cX0_ranked 124 = .ok (.iadd, 1) := dk_96 (dk_at dksX0_ranked_5 8 rfl rfl)
theorem dX0_ranked_125 : decode cX0_ranked 125 = .ok (.istore 4, 2) := dk_54 4 (dk_at dksX0_ranked_5 9 rfl rfl)
theorem dX0_ranked_127 : decode cX0_ranked 127 = .ok (.iinc 6 1, 3) := dk_132 6 1 (dk_at dksX0_ranked_5 11 rfl rfl)
theorem dX0_ranked_130 : decode cX0_ranked 130 = .ok (.goto (-77), 3) := dk_167 255 179 (dk_at dksX0_ranked_5 14 rfl rfl)
theorem dX0_ranked_133 : decode cX0_ranked 133 = .ok (.iinc 5 1, 3) := dk_132 5 1 (dk_at dksX0_ranked_5 17 rfl rfl)
theorem dX0_ranked_136 : decode cX0_ranked 136 = .ok (.goto (-116), 3) := dk_167 255 140 (dk_at dksX0_ranked_5 20 rfl rfl)
theorem dX0_ranked_139 : decode cX0_ranked 139 = .ok (.iload_n 2, 1) := dk_28 (dk_at dksX0_ranked_5 23 rfl rfl)
theorem dX0_ranked_140 : decode cX0_ranked 140 = .ok (.ifCond .eq 8, 3) := dk_153 0 8 (dk_at dksX0_ranked_6 0 rfl rfl)
theorem dX0_ranked_143 : decode cX0_ranked 143 = .ok (.iload 4, 2) := dk_21 4 (dk_at dksX0_ranked_6 3 rfl rfl)
theorem dX0_ranked_145 : decode cX0_ranked 145 = .ok (.goto 4, 3) := dk_167 0 4 (dk_at dksX0_ranked_6 5 rfl rfl)
theorem dX0_ranked_148 : decode cX0_ranked 148 = .ok (.iload_n 3, 1) := dk_29 (dk_at dksX0_ranked_6 8 rfl rfl)
theorem dX0_ranked_149 : decode cX0_ranked 149 = .ok (.ireturn, 1) := dk_172 (dk_at dksX0_ranked_6 9 rfl rfl)
abbrev cX0_owes : ByteArray := prog_1_method_80_code
def yX0_owes : MethodName := ⟨RX0, "owes", "(III)Z"⟩
def dkwX0_owes_1 : List UInt8 := [184, 0, 62, 154, 0, 5, 3, 172, 42, 180, 0, 21, 180, 1, 107, 27, 50, 28, 29, 79, 4, 172]
abbrev dktX0_owes_1 : List UInt8 := dkwX0_owes_1 ++ []
def dkwX0_owes_0 : List UInt8 := [27, 3, 4, 184, 0, 62, 153, 0, 22, 28, 3, 7, 184, 0, 62, 153, 0, 13, 29, 3, 16, 99]
abbrev dktX0_owes_0 : List UInt8 := dkwX0_owes_0 ++ dktX0_owes_1
theorem dksX0_owes_0 : cX0_owes.data.toList.drop 0 = dktX0_owes_0 := by decide +kernel
theorem dksX0_owes_1 : cX0_owes.data.toList.drop 22 = dktX0_owes_1 := dk_seg dksX0_owes_0 22 rfl rfl
theorem dX0_owes_0 : decode cX0_owes 0 = .ok (.iload_n 1, 1) := dk_27 (dk_at dksX0_owes_0 0 rfl rfl)
theorem dX0_owes_1 : decode cX0_owes 1 = .ok (.iconst 0, 1) := dk_3 (dk_at dksX0_owes_0 1 rfl rfl)
theorem dX0_owes_2 : decode cX0_owes 2 = .ok (.iconst 1, 1) := dk_4 (dk_at dksX0_owes_0 2 rfl rfl)
theorem dX0_owes_3 : decode cX0_owes 3 = .ok (.invokestatic 62, 3) := dk_184 0 62 (dk_at dksX0_owes_0 3 rfl rfl)
theorem dX0_owes_6 : decode cX0_owes 6 = .ok (.ifCond .eq 22, 3) := dk_153 0 22 (dk_at dksX0_owes_0 6 rfl rfl)
theorem dX0_owes_9 : decode cX0_owes 9 = .ok (.iload_n 2, 1) := dk_28 (dk_at dksX0_owes_0 9 rfl rfl)
theorem dX0_owes_10 : decode cX0_owes 10 = .ok (.iconst 0, 1) := dk_3 (dk_at dksX0_owes_0 10 rfl rfl)
theorem dX0_owes_11 : decode cX0_owes 11 = .ok (.iconst 4, 1) := dk_7 (dk_at dksX0_owes_0 11 rfl rfl)
theorem dX0_owes_12 : decode cX0_owes 12 = .ok (.invokestatic 62, 3) := dk_184 0 62 (dk_at dksX0_owes_0 12 rfl rfl)
theorem dX0_owes_15 : decode cX0_owes 15 = .ok (.ifCond .eq 13, 3) := dk_153 0 13 (dk_at dksX0_owes_0 15 rfl rfl)
theorem dX0_owes_18 : decode cX0_owes 18 = .ok (.iload_n 3, 1) := dk_29 (dk_at dksX0_owes_0 18 rfl rfl)
theorem dX0_owes_19 : decode cX0_owes 19 = .ok (.iconst 0, 1) := dk_3 (dk_at dksX0_owes_0 19 rfl rfl)
theorem dX0_owes_20 : decode cX0_owes 20 = .ok (.bipush 99, 2) := dk_16 99 (dk_at dksX0_owes_0 20 rfl rfl)
theorem dX0_owes_22 : decode cX0_owes 22 = .ok (.invokestatic 62, 3) := dk_184 0 62 (dk_at dksX0_owes_1 0 rfl rfl)
theorem dX0_owes_25 : decode cX0_owes 25 = .ok (.ifCond .ne 5, 3) := dk_154 0 5 (dk_at dksX0_owes_1 3 rfl rfl)
theorem dX0_owes_28 : decode cX0_owes 28 = .ok (.iconst 0, 1) := dk_3 (dk_at dksX0_owes_1 6 rfl rfl)
theorem dX0_owes_29 : decode cX0_owes 29 = .ok (.ireturn, 1) := dk_172 (dk_at dksX0_owes_1 7 rfl rfl)
theorem dX0_owes_30 : decode cX0_owes 30 = .ok (.aload_n 0, 1) := dk_42 (dk_at dksX0_owes_1 8 rfl rfl)
theorem dX0_owes_31 : decode cX0_owes 31 = .ok (.getfield 21, 3) := dk_180 0 21 (dk_at dksX0_owes_1 9 rfl rfl)
theorem dX0_owes_34 : decode cX0_owes 34 = .ok (.getfield 363, 3) := dk_180 1 107 (dk_at dksX0_owes_1 12 rfl rfl)
theorem dX0_owes_37 : decode cX0_owes 37 = .ok (.iload_n 1, 1) := dk_27 (dk_at dksX0_owes_1 15 rfl rfl)
theorem dX0_owes_38 : decode cX0_owes 38 = .ok (.aaload, 1) := dk_50 (dk_at dksX0_owes_1 16 rfl rfl)
theorem dX0_owes_39 : decode cX0_owes 39 = .ok (.iload_n 2, 1) := dk_28 (dk_at dksX0_owes_1 17 rfl rfl)
theorem dX0_owes_40 : decode cX0_owes 40 = .ok (.iload_n 3, 1) := dk_29 (dk_at dksX0_owes_1 18 rfl rfl)
theorem dX0_owes_41 : decode cX0_owes 41 = .ok (.iastore, 1) := dk_79 (dk_at dksX0_owes_1 19 rfl rfl)
theorem dX0_owes_42 : decode cX0_owes 42 = .ok (.iconst 1, 1) := dk_4 (dk_at dksX0_owes_1 20 rfl rfl)
theorem dX0_owes_43 : decode cX0_owes 43 = .ok (.ireturn, 1) := dk_172 (dk_at dksX0_owes_1 21 rfl rfl)
abbrev cX0_play : ByteArray := prog_1_method_81_code
def yX0_play : MethodName := ⟨RX0, "play", "(IZ)I"⟩
def dkwX0_play_4 : List UInt8 := [79, 45, 4, 21, 6, 100, 3, 79, 21, 6, 54, 4, 132, 5, 255, 167, 255, 186, 21, 4, 172]
abbrev dktX0_play_4 : List UInt8 := dkwX0_play_4 ++ []
def dkwX0_play_3 : List UInt8 := [21, 5, 5, 108, 46, 54, 7, 21, 7, 45, 21, 6, 46, 164, 0, 6, 167, 0, 20, 45, 21, 6, 21, 7]
abbrev dktX0_play_3 : List UInt8 := dkwX0_play_3 ++ dktX0_play_4
def dkwX0_play_2 : List UInt8 := [112, 154, 0, 7, 27, 167, 0, 6, 4, 27, 100, 54, 6, 42, 180, 0, 21, 180, 1, 107, 21, 6, 50]
abbrev dktX0_play_2 : List UInt8 := dkwX0_play_2 ++ dktX0_play_3
def dkwX0_play_1 : List UInt8 := [167, 0, 6, 4, 27, 100, 16, 99, 79, 2, 54, 4, 16, 8, 54, 5, 21, 5, 155, 0, 71, 21, 5, 5]
abbrev dktX0_play_1 : List UInt8 := dkwX0_play_1 ++ dktX0_play_2
def dkwX0_play_0 : List UInt8 := [27, 3, 4, 184, 0, 62, 154, 0, 6, 16, 254, 172, 5, 188, 10, 78, 45, 28, 153, 0, 7, 27]
abbrev dktX0_play_0 : List UInt8 := dkwX0_play_0 ++ dktX0_play_1
theorem dksX0_play_0 : cX0_play.data.toList.drop 0 = dktX0_play_0 := by decide +kernel
theorem dksX0_play_1 : cX0_play.data.toList.drop 22 = dktX0_play_1 := dk_seg dksX0_play_0 22 rfl rfl
theorem dksX0_play_2 : cX0_play.data.toList.drop 46 = dktX0_play_2 := dk_seg dksX0_play_1 24 rfl rfl
theorem dksX0_play_3 : cX0_play.data.toList.drop 69 = dktX0_play_3 := dk_seg dksX0_play_2 23 rfl rfl
theorem dksX0_play_4 : cX0_play.data.toList.drop 93 = dktX0_play_4 := dk_seg dksX0_play_3 24 rfl rfl
theorem dX0_play_0 : decode cX0_play 0 = .ok (.iload_n 1, 1) := dk_27 (dk_at dksX0_play_0 0 rfl rfl)
theorem dX0_play_1 : decode cX0_play 1 = .ok (.iconst 0, 1) := dk_3 (dk_at dksX0_play_0 1 rfl rfl)
theorem dX0_play_2 : decode cX0_play 2 = .ok (.iconst 1, 1) := dk_4 (dk_at dksX0_play_0 2 rfl rfl)
theorem dX0_play_3 : decode cX0_play 3 = .ok (.invokestatic 62, 3) := dk_184 0 62 (dk_at dksX0_play_0 3 rfl rfl)
theorem dX0_play_6 : decode cX0_play 6 = .ok (.ifCond .ne 6, 3) := dk_154 0 6 (dk_at dksX0_play_0 6 rfl rfl)
theorem dX0_play_9 : decode cX0_play 9 = .ok (.bipush (-2), 2) := dk_16 254 (dk_at dksX0_play_0 9 rfl rfl)
theorem dX0_play_11 : decode cX0_play 11 = .ok (.ireturn, 1) := dk_172 (dk_at dksX0_play_0 11 rfl rfl)
theorem dX0_play_12 : decode cX0_play 12 = .ok (.iconst 2, 1) := dk_5 (dk_at dksX0_play_0 12 rfl rfl)
theorem dX0_play_13 : decode cX0_play 13 = .ok (.newarray .int, 2) := dk_188_10 (dk_at dksX0_play_0 13 rfl rfl)
theorem dX0_play_15 : decode cX0_play 15 = .ok (.astore_n 3, 1) := dk_78 (dk_at dksX0_play_0 15 rfl rfl)
theorem dX0_play_16 : decode cX0_play 16 = .ok (.aload_n 3, 1) := dk_45 (dk_at dksX0_play_0 16 rfl rfl)
theorem dX0_play_17 : decode cX0_play 17 = .ok (.iload_n 2, 1) := dk_28 (dk_at dksX0_play_0 17 rfl rfl)
theorem dX0_play_18 : decode cX0_play 18 = .ok (.ifCond .eq 7, 3) := dk_153 0 7 (dk_at dksX0_play_0 18 rfl rfl)
theorem dX0_play_21 : decode cX0_play 21 = .ok (.iload_n 1, 1) := dk_27 (dk_at dksX0_play_0 21 rfl rfl)
theorem dX0_play_22 : decode cX0_play 22 = .ok (.goto 6, 3) := dk_167 0 6 (dk_at dksX0_play_1 0 rfl rfl)
theorem dX0_play_25 : decode cX0_play 25 = .ok (.iconst 1, 1) := dk_4 (dk_at dksX0_play_1 3 rfl rfl)
theorem dX0_play_26 : decode cX0_play 26 = .ok (.iload_n 1, 1) := dk_27 (dk_at dksX0_play_1 4 rfl rfl)
theorem dX0_play_27 : decode cX0_play 27 = .ok (.isub, 1) := dk_100 (dk_at dksX0_play_1 5 rfl rfl)
theorem dX0_play_28 : decode cX0_play 28 = .ok (.bipush 99, 2) := dk_16 99 (dk_at dksX0_play_1 6 rfl rfl)
theorem dX0_play_30 : decode cX0_play 30 = .ok (.iastore, 1) := dk_79 (dk_at dksX0_play_1 8 rfl rfl)
theorem dX0_play_31 : decode cX0_play 31 = .ok (.iconst (-1), 1) := dk_2 (dk_at dksX0_play_1 9 rfl rfl)
theorem dX0_play_32 : decode cX0_play 32 = .ok (.istore 4, 2) := dk_54 4 (dk_at dksX0_play_1 10 rfl rfl)
theorem dX0_play_34 : decode cX0_play 34 = .ok (.bipush 8, 2) := dk_16 8 (dk_at dksX0_play_1 12 rfl rfl)
theorem dX0_play_36 : decode cX0_play 36 = .ok (.istore 5, 2) := dk_54 5 (dk_at dksX0_play_1 14 rfl rfl)
theorem dX0_play_38 : decode cX0_play 38 = .ok (.iload 5, 2) := dk_21 5 (dk_at dksX0_play_1 16 rfl rfl)
theorem dX0_play_40 : decode cX0_play 40 = .ok (.ifCond .lt 71, 3) := dk_155 0 71 (dk_at dksX0_play_1 18 rfl rfl)
theorem dX0_play_43 : decode cX0_play 43 = .ok (.iload 5, 2) := dk_21 5 (dk_at dksX0_play_1 21 rfl rfl)
theorem dX0_play_45 : decode cX0_play 45 = .ok (.iconst 2, 1) := dk_5 (dk_at dksX0_play_1 23 rfl rfl)
theorem dX0_play_46 : decode cX0_play 46 = .ok (.irem, 1) := dk_112 (dk_at dksX0_play_2 0 rfl rfl)
theorem dX0_play_47 : decode cX0_play 47 = .ok (.ifCond .ne 7, 3) := dk_154 0 7 (dk_at dksX0_play_2 1 rfl rfl)
theorem dX0_play_50 : decode cX0_play 50 = .ok (.iload_n 1, 1) := dk_27 (dk_at dksX0_play_2 4 rfl rfl)
theorem dX0_play_51 : decode cX0_play 51 = .ok (.goto 6, 3) := dk_167 0 6 (dk_at dksX0_play_2 5 rfl rfl)
theorem dX0_play_54 : decode cX0_play 54 = .ok (.iconst 1, 1) := dk_4 (dk_at dksX0_play_2 8 rfl rfl)
theorem dX0_play_55 : decode cX0_play 55 = .ok (.iload_n 1, 1) := dk_27 (dk_at dksX0_play_2 9 rfl rfl)
theorem dX0_play_56 : decode cX0_play 56 = .ok (.isub, 1) := dk_100 (dk_at dksX0_play_2 10 rfl rfl)
theorem dX0_play_57 : decode cX0_play 57 = .ok (.istore 6, 2) := dk_54 6 (dk_at dksX0_play_2 11 rfl rfl)
theorem dX0_play_59 : decode cX0_play 59 = .ok (.aload_n 0, 1) := dk_42 (dk_at dksX0_play_2 13 rfl rfl)
theorem dX0_play_60 : decode cX0_play 60 = .ok (.getfield 21, 3) := dk_180 0 21 (dk_at dksX0_play_2 14 rfl rfl)
theorem dX0_play_63 : decode cX0_play 63 = .ok (.getfield 363, 3) := dk_180 1 107 (dk_at dksX0_play_2 17 rfl rfl)
theorem dX0_play_66 : decode cX0_play 66 = .ok (.iload 6, 2) := dk_21 6 (dk_at dksX0_play_2 20 rfl rfl)
theorem dX0_play_68 : decode cX0_play 68 = .ok (.aaload, 1) := dk_50 (dk_at dksX0_play_2 22 rfl rfl)
theorem dX0_play_69 : decode cX0_play 69 = .ok (.iload 5, 2) := dk_21 5 (dk_at dksX0_play_3 0 rfl rfl)
theorem dX0_play_71 : decode cX0_play 71 = .ok (.iconst 2, 1) := dk_5 (dk_at dksX0_play_3 2 rfl rfl)
theorem dX0_play_72 : decode cX0_play 72 = .ok (.idiv, 1) := dk_108 (dk_at dksX0_play_3 3 rfl rfl)
theorem dX0_play_73 : decode cX0_play 73 = .ok (.iaload, 1) := dk_46 (dk_at dksX0_play_3 4 rfl rfl)
theorem dX0_play_74 : decode cX0_play 74 = .ok (.istore 7, 2) := dk_54 7 (dk_at dksX0_play_3 5 rfl rfl)
theorem dX0_play_76 : decode cX0_play 76 = .ok (.iload 7, 2) := dk_21 7 (dk_at dksX0_play_3 7 rfl rfl)
theorem dX0_play_78 : decode cX0_play 78 = .ok (.aload_n 3, 1) := dk_45 (dk_at dksX0_play_3 9 rfl rfl)
theorem dX0_play_79 : decode cX0_play 79 = .ok (.iload 6, 2) := dk_21 6 (dk_at dksX0_play_3 10 rfl rfl)
theorem dX0_play_81 : decode cX0_play 81 = .ok (.iaload, 1) := dk_46 (dk_at dksX0_play_3 12 rfl rfl)
theorem dX0_play_82 : decode cX0_play 82 = .ok (.if_icmp .le 6, 3) := dk_164 0 6 (dk_at dksX0_play_3 13 rfl rfl)
theorem dX0_play_85 : decode cX0_play 85 = .ok (.goto 20, 3) := dk_167 0 20 (dk_at dksX0_play_3 16 rfl rfl)
theorem dX0_play_88 : decode cX0_play 88 = .ok (.aload_n 3, 1) := dk_45 (dk_at dksX0_play_3 19 rfl rfl)
theorem dX0_play_89 : decode cX0_play 89 = .ok (.iload 6, 2) := dk_21 6 (dk_at dksX0_play_3 20 rfl rfl)
theorem dX0_play_91 : decode cX0_play 91 = .ok (.iload 7, 2) := dk_21 7 (dk_at dksX0_play_3 22 rfl rfl)
theorem dX0_play_93 : decode cX0_play 93 = .ok (.iastore, 1) := dk_79 (dk_at dksX0_play_4 0 rfl rfl)
theorem dX0_play_94 : decode cX0_play 94 = .ok (.aload_n 3, 1) := dk_45 (dk_at dksX0_play_4 1 rfl rfl)
theorem dX0_play_95 : decode cX0_play 95 = .ok (.iconst 1, 1) := dk_4 (dk_at dksX0_play_4 2 rfl rfl)
theorem dX0_play_96 : decode cX0_play 96 = .ok (.iload 6, 2) := dk_21 6 (dk_at dksX0_play_4 3 rfl rfl)
theorem dX0_play_98 : decode cX0_play 98 = .ok (.isub, 1) := dk_100 (dk_at dksX0_play_4 5 rfl rfl)
theorem dX0_play_99 : decode cX0_play 99 = .ok (.iconst 0, 1) := dk_3 (dk_at dksX0_play_4 6 rfl rfl)
theorem dX0_play_100 : decode cX0_play 100 = .ok (.iastore, 1) := dk_79 (dk_at dksX0_play_4 7 rfl rfl)
theorem dX0_play_101 : decode cX0_play 101 = .ok (.iload 6, 2) := dk_21 6 (dk_at dksX0_play_4 8 rfl rfl)
theorem dX0_play_103 : decode cX0_play 103 = .ok (.istore 4, 2) := dk_54 4 (dk_at dksX0_play_4 10 rfl rfl)
theorem dX0_play_105 : decode cX0_play 105 = .ok (.iinc 5 (-1), 3) := dk_132 5 255 (dk_at dksX0_play_4 12 rfl rfl)
theorem dX0_play_108 : decode cX0_play 108 = .ok (.goto (-70), 3) := dk_167 255 186 (dk_at dksX0_play_4 15 rfl rfl)
theorem dX0_play_111 : decode cX0_play 111 = .ok (.iload 4, 2) := dk_21 4 (dk_at dksX0_play_4 18 rfl rfl)
theorem dX0_play_113 : decode cX0_play 113 = .ok (.ireturn, 1) := dk_172 (dk_at dksX0_play_4 20 rfl rfl)
abbrev cX0_added : ByteArray := prog_1_method_82_code
def yX0_added : MethodName := ⟨RX0, "added", "(II)I"⟩
def dkwX0_added_4 : List UInt8 := [180, 0, 59, 8, 92, 46, 4, 96, 79, 42, 180, 0, 21, 180, 0, 59, 8, 46, 172]
abbrev dktX0_added_4 : List UInt8 := dkwX0_added_4 ++ []
def dkwX0_added_3 : List UInt8 := [180, 0, 21, 180, 1, 110, 42, 180, 0, 21, 180, 0, 59, 8, 46, 50, 4, 28, 79, 42, 180, 0, 21]
abbrev dktX0_added_3 : List UInt8 := dkwX0_added_3 ++ dktX0_added_4
def dkwX0_added_2 : List UInt8 := [16, 254, 172, 42, 180, 0, 21, 180, 1, 110, 42, 180, 0, 21, 180, 0, 59, 8, 46, 50, 3, 27, 79, 42]
abbrev dktX0_added_2 : List UInt8 := dkwX0_added_2 ++ dktX0_added_3
def dkwX0_added_1 : List UInt8 := [17, 3, 231, 184, 0, 62, 153, 0, 17, 42, 180, 0, 21, 180, 0, 59, 8, 46, 16, 8, 160, 0, 6]
abbrev dktX0_added_1 : List UInt8 := dkwX0_added_1 ++ dktX0_added_2
def dkwX0_added_0 : List UInt8 := [27, 2, 160, 0, 12, 42, 180, 0, 21, 8, 182, 1, 64, 172, 42, 27, 182, 0, 69, 153, 0, 28, 28, 3]
abbrev dktX0_added_0 : List UInt8 := dkwX0_added_0 ++ dktX0_added_1
theorem dksX0_added_0 : cX0_added.data.toList.drop 0 = dktX0_added_0 := by decide +kernel
theorem dksX0_added_1 : cX0_added.data.toList.drop 24 = dktX0_added_1 := dk_seg dksX0_added_0 24 rfl rfl
theorem dksX0_added_2 : cX0_added.data.toList.drop 47 = dktX0_added_2 := dk_seg dksX0_added_1 23 rfl rfl
theorem dksX0_added_3 : cX0_added.data.toList.drop 71 = dktX0_added_3 := dk_seg dksX0_added_2 24 rfl rfl
theorem dksX0_added_4 : cX0_added.data.toList.drop 94 = dktX0_added_4 := dk_seg dksX0_added_3 23 rfl rfl
theorem dX0_added_0 : decode cX0_added 0 = .ok (.iload_n 1, 1) := dk_27 (dk_at dksX0_added_0 0 rfl rfl)
theorem dX0_added_1 : decode cX0_added 1 = .ok (.iconst (-1), 1) := dk_2 (dk_at dksX0_added_0 1 rfl rfl)
theorem dX0_added_2 : decode cX0_added 2 = .ok (.if_icmp .ne 12, 3) := dk_160 0 12 (dk_at dksX0_added_0 2 rfl rfl)
theorem dX0_added_5 : decode cX0_added 5 = .ok (.aload_n 0, 1) := dk_42 (dk_at dksX0_added_0 5 rfl rfl)
theorem dX0_added_6 : decode cX0_added 6 = .ok (.getfield 21, 3) := dk_180 0 21 (dk_at dksX0_added_0 6 rfl rfl)
theorem dX0_added_9 : decode cX0_added 9 = .ok (.iconst 5, 1) := dk_8 (dk_at dksX0_added_0 9 rfl rfl)
theorem dX0_added_10 : decode cX0_added 10 = .ok (.invokevirtual 320, 3) := dk_182 1 64 (dk_at dksX0_added_0 10 rfl rfl)
theorem dX0_added_13 : decode cX0_added 13 = .ok (.ireturn, 1) := dk_172 (dk_at dksX0_added_0 13 rfl rfl)
theorem dX0_added_14 : decode cX0_added 14 = .ok (.aload_n 0, 1) := dk_42 (dk_at dksX0_added_0 14 rfl rfl)
theorem dX0_added_15 : decode cX0_added 15 = .ok (.iload_n 1, 1) := dk_27 (dk_at dksX0_added_0 15 rfl rfl)
theorem dX0_added_16 : decode cX0_added 16 = .ok (.invokevirtual 69, 3) := dk_182 0 69 (dk_at dksX0_added_0 16 rfl rfl)
theorem dX0_added_19 : decode cX0_added 19 = .ok (.ifCond .eq 28, 3) := dk_153 0 28 (dk_at dksX0_added_0 19 rfl rfl)
theorem dX0_added_22 : decode cX0_added 22 = .ok (.iload_n 2, 1) := dk_28 (dk_at dksX0_added_0 22 rfl rfl)
theorem dX0_added_23 : decode cX0_added 23 = .ok (.iconst 0, 1) := dk_3 (dk_at dksX0_added_0 23 rfl rfl)
theorem dX0_added_24 : decode cX0_added 24 = .ok (.sipush 999, 3) := dk_17 3 231 (dk_at dksX0_added_1 0 rfl rfl)
theorem dX0_added_27 : decode cX0_added 27 = .ok (.invokestatic 62, 3) := dk_184 0 62 (dk_at dksX0_added_1 3 rfl rfl)
theorem dX0_added_30 : decode cX0_added 30 = .ok (.ifCond .eq 17, 3) := dk_153 0 17 (dk_at dksX0_added_1 6 rfl rfl)
theorem dX0_added_33 : decode cX0_added 33 = .ok (.aload_n 0, 1) := dk_42 (dk_at dksX0_added_1 9 rfl rfl)
theorem dX0_added_34 : decode cX0_added 34 = .ok (.getfield 21, 3) := dk_180 0 21 (dk_at dksX0_added_1 10 rfl rfl)
theorem dX0_added_37 : decode cX0_added 37 = .ok (.getfield 59, 3) := dk_180 0 59 (dk_at dksX0_added_1 13 rfl rfl)
theorem dX0_added_40 : decode cX0_added 40 = .ok (.iconst 5, 1) := dk_8 (dk_at dksX0_added_1 16 rfl rfl)
theorem dX0_added_41 : decode cX0_added 41 = .ok (.iaload, 1) := dk_46 (dk_at dksX0_added_1 17 rfl rfl)
theorem dX0_added_42 : decode cX0_added 42 = .ok (.bipush 8, 2) := dk_16 8 (dk_at dksX0_added_1 18 rfl rfl)
theorem dX0_added_44 : decode cX0_added 44 = .ok (.if_icmp .ne 6, 3) := dk_160 0 6 (dk_at dksX0_added_1 20 rfl rfl)
theorem dX0_added_47 : decode cX0_added 47 = .ok (.bipush (-2), 2) := dk_16 254 (dk_at dksX0_added_2 0 rfl rfl)
theorem dX0_added_49 : decode cX0_added 49 = .ok (.ireturn, 1) := dk_172 (dk_at dksX0_added_2 2 rfl rfl)
theorem dX0_added_50 : decode cX0_added 50 = .ok (.aload_n 0, 1) := dk_42 (dk_at dksX0_added_2 3 rfl rfl)
theorem dX0_added_51 : decode cX0_added 51 = .ok (.getfield 21, 3) := dk_180 0 21 (dk_at dksX0_added_2 4 rfl rfl)
theorem dX0_added_54 : decode cX0_added 54 = .ok (.getfield 366, 3) := dk_180 1 110 (dk_at dksX0_added_2 7 rfl rfl)
theorem dX0_added_57 : decode cX0_added 57 = .ok (.aload_n 0, 1) := dk_42 (dk_at dksX0_added_2 10 rfl rfl)
theorem dX0_added_58 : decode cX0_added 58 = .ok (.getfield 21, 3) := dk_180 0 21 (dk_at dksX0_added_2 11 rfl rfl)
theorem dX0_added_61 : decode cX0_added 61 = .ok (.getfield 59, 3) := dk_180 0 59 (dk_at dksX0_added_2 14 rfl rfl)
theorem dX0_added_64 : decode cX0_added 64 = .ok (.iconst 5, 1) := dk_8 (dk_at dksX0_added_2 17 rfl rfl)
theorem dX0_added_65 : decode cX0_added 65 = .ok (.iaload, 1) := dk_46 (dk_at dksX0_added_2 18 rfl rfl)
theorem dX0_added_66 : decode cX0_added 66 = .ok (.aaload, 1) := dk_50 (dk_at dksX0_added_2 19 rfl rfl)
theorem dX0_added_67 : decode cX0_added 67 = .ok (.iconst 0, 1) := dk_3 (dk_at dksX0_added_2 20 rfl rfl)
theorem dX0_added_68 : decode cX0_added 68 = .ok (.iload_n 1, 1) := dk_27 (dk_at dksX0_added_2 21 rfl rfl)
theorem dX0_added_69 : decode cX0_added 69 = .ok (.iastore, 1) := dk_79 (dk_at dksX0_added_2 22 rfl rfl)
theorem dX0_added_70 : decode cX0_added 70 = .ok (.aload_n 0, 1) := dk_42 (dk_at dksX0_added_2 23 rfl rfl)
theorem dX0_added_71 : decode cX0_added 71 = .ok (.getfield 21, 3) := dk_180 0 21 (dk_at dksX0_added_3 0 rfl rfl)
theorem dX0_added_74 : decode cX0_added 74 = .ok (.getfield 366, 3) := dk_180 1 110 (dk_at dksX0_added_3 3 rfl rfl)
theorem dX0_added_77 : decode cX0_added 77 = .ok (.aload_n 0, 1) := dk_42 (dk_at dksX0_added_3 6 rfl rfl)
theorem dX0_added_78 : decode cX0_added 78 = .ok (.getfield 21, 3) := dk_180 0 21 (dk_at dksX0_added_3 7 rfl rfl)
theorem dX0_added_81 : decode cX0_added 81 = .ok (.getfield 59, 3) := dk_180 0 59 (dk_at dksX0_added_3 10 rfl rfl)
theorem dX0_added_84 : decode cX0_added 84 = .ok (.iconst 5, 1) := dk_8 (dk_at dksX0_added_3 13 rfl rfl)
theorem dX0_added_85 : decode cX0_added 85 = .ok (.iaload, 1) := dk_46 (dk_at dksX0_added_3 14 rfl rfl)
theorem dX0_added_86 : decode cX0_added 86 = .ok (.aaload, 1) := dk_50 (dk_at dksX0_added_3 15 rfl rfl)
theorem dX0_added_87 : decode cX0_added 87 = .ok (.iconst 1, 1) := dk_4 (dk_at dksX0_added_3 16 rfl rfl)
theorem dX0_added_88 : decode cX0_added 88 = .ok (.iload_n 2, 1) := dk_28 (dk_at dksX0_added_3 17 rfl rfl)
theorem dX0_added_89 : decode cX0_added 89 = .ok (.iastore, 1) := dk_79 (dk_at dksX0_added_3 18 rfl rfl)
theorem dX0_added_90 : decode cX0_added 90 = .ok (.aload_n 0, 1) := dk_42 (dk_at dksX0_added_3 19 rfl rfl)
theorem dX0_added_91 : decode cX0_added 91 = .ok (.getfield 21, 3) := dk_180 0 21 (dk_at dksX0_added_3 20 rfl rfl)
theorem dX0_added_94 : decode cX0_added 94 = .ok (.getfield 59, 3) := dk_180 0 59 (dk_at dksX0_added_4 0 rfl rfl)
theorem dX0_added_97 : decode cX0_added 97 = .ok (.iconst 5, 1) := dk_8 (dk_at dksX0_added_4 3 rfl rfl)
theorem dX0_added_98 : decode cX0_added 98 = .ok (.dup2, 1) := dk_92 (dk_at dksX0_added_4 4 rfl rfl)
theorem dX0_added_99 : decode cX0_added 99 = .ok (.iaload, 1) := dk_46 (dk_at dksX0_added_4 5 rfl rfl)
theorem dX0_added_100 : decode cX0_added 100 = .ok (.iconst 1, 1) := dk_4 (dk_at dksX0_added_4 6 rfl rfl)
theorem dX0_added_101 : decode cX0_added 101 = .ok (.iadd, 1) := dk_96 (dk_at dksX0_added_4 7 rfl rfl)
theorem dX0_added_102 : decode cX0_added 102 = .ok (.iastore, 1) := dk_79 (dk_at dksX0_added_4 8 rfl rfl)
theorem dX0_added_103 : decode cX0_added 103 = .ok (.aload_n 0, 1) := dk_42 (dk_at dksX0_added_4 9 rfl rfl)
theorem dX0_added_104 : decode cX0_added 104 = .ok (.getfield 21, 3) := dk_180 0 21 (dk_at dksX0_added_4 10 rfl rfl)
theorem dX0_added_107 : decode cX0_added 107 = .ok (.getfield 59, 3) := dk_180 0 59 (dk_at dksX0_added_4 13 rfl rfl)
theorem dX0_added_110 : decode cX0_added 110 = .ok (.iconst 5, 1) := dk_8 (dk_at dksX0_added_4 16 rfl rfl)
theorem dX0_added_111 : decode cX0_added 111 = .ok (.iaload, 1) := dk_46 (dk_at dksX0_added_4 17 rfl rfl)
theorem dX0_added_112 : decode cX0_added 112 = .ok (.ireturn, 1) := dk_172 (dk_at dksX0_added_4 18 rfl rfl)
abbrev cX0_whose : ByteArray := prog_1_method_84_code
def yX0_whose : MethodName := ⟨RX0, "whose", "()I"⟩
def dkwX0_whose_2 : List UInt8 := [167, 255, 214, 27, 172]
abbrev dktX0_whose_2 : List UInt8 := dkwX0_whose_2 ++ []
def dkwX0_whose_1 : List UInt8 := [180, 0, 96, 28, 50, 182, 1, 113, 153, 0, 9, 4, 28, 120, 167, 0, 4, 3, 128, 60, 132, 2, 1]
abbrev dktX0_whose_1 : List UInt8 := dkwX0_whose_1 ++ dktX0_whose_2
def dkwX0_whose_0 : List UInt8 := [3, 60, 3, 61, 28, 42, 180, 0, 21, 180, 0, 59, 4, 46, 162, 0, 35, 27, 42, 42, 180, 0, 21]
abbrev dktX0_whose_0 : List UInt8 := dkwX0_whose_0 ++ dktX0_whose_1
theorem dksX0_whose_0 : cX0_whose.data.toList.drop 0 = dktX0_whose_0 := by decide +kernel
theorem dksX0_whose_1 : cX0_whose.data.toList.drop 23 = dktX0_whose_1 := dk_seg dksX0_whose_0 23 rfl rfl
theorem dksX0_whose_2 : cX0_whose.data.toList.drop 46 = dktX0_whose_2 := dk_seg dksX0_whose_1 23 rfl rfl
theorem dX0_whose_0 : decode cX0_whose 0 = .ok (.iconst 0, 1) := dk_3 (dk_at dksX0_whose_0 0 rfl rfl)
theorem dX0_whose_1 : decode cX0_whose 1 = .ok (.istore_n 1, 1) := dk_60 (dk_at dksX0_whose_0 1 rfl rfl)
theorem dX0_whose_2 : decode cX0_whose 2 = .ok (.iconst 0, 1) := dk_3 (dk_at dksX0_whose_0 2 rfl rfl)
theorem dX0_whose_3 : decode cX0_whose 3 = .ok (.istore_n 2, 1) := dk_61 (dk_at dksX0_whose_0 3 rfl rfl)
theorem dX0_whose_4 : decode cX0_whose 4 = .ok (.iload_n 2, 1) := dk_28 (dk_at dksX0_whose_0 4 rfl rfl)
theorem dX0_whose_5 : decode cX0_whose 5 = .ok (.aload_n 0, 1) := dk_42 (dk_at dksX0_whose_0 5 rfl rfl)
theorem dX0_whose_6 : decode cX0_whose 6 = .ok (.getfield 21, 3) := dk_180 0 21 (dk_at dksX0_whose_0 6 rfl rfl)
theorem dX0_whose_9 : decode cX0_whose 9 = .ok (.getfield 59, 3) := dk_180 0 59 (dk_at dksX0_whose_0 9 rfl rfl)
theorem dX0_whose_12 : decode cX0_whose 12 = .ok (.iconst 1, 1) := dk_4 (dk_at dksX0_whose_0 12 rfl rfl)
theorem dX0_whose_13 : decode cX0_whose 13 = .ok (.iaload, 1) := dk_46 (dk_at dksX0_whose_0 13 rfl rfl)
theorem dX0_whose_14 : decode cX0_whose 14 = .ok (.if_icmp .ge 35, 3) := dk_162 0 35 (dk_at dksX0_whose_0 14 rfl rfl)
theorem dX0_whose_17 : decode cX0_whose 17 = .ok (.iload_n 1, 1) := dk_27 (dk_at dksX0_whose_0 17 rfl rfl)
theorem dX0_whose_18 : decode cX0_whose 18 = .ok (.aload_n 0, 1) := dk_42 (dk_at dksX0_whose_0 18 rfl rfl)
theorem dX0_whose_19 : decode cX0_whose 19 = .ok (.aload_n 0, 1) := dk_42 (dk_at dksX0_whose_0 19 rfl rfl)
theorem dX0_whose_20 : decode cX0_whose 20 = .ok (.getfield 21, 3) := dk_180 0 21 (dk_at dksX0_whose_0 20 rfl rfl)
theorem dX0_whose_23 : decode cX0_whose 23 = .ok (.getfield 96, 3) := dk_180 0 96 (dk_at dksX0_whose_1 0 rfl rfl)
theorem dX0_whose_26 : decode cX0_whose 26 = .ok (.iload_n 2, 1) := dk_28 (dk_at dksX0_whose_1 3 rfl rfl)
theorem dX0_whose_27 : decode cX0_whose 27 = .ok (.aaload, 1) := dk_50 (dk_at dksX0_whose_1 4 rfl rfl)
theorem dX0_whose_28 : decode cX0_whose 28 = .ok (.invokevirtual 369, 3) := dk_182 1 113 (dk_at dksX0_whose_1 5 rfl rfl)
theorem dX0_whose_31 : decode cX0_whose 31 = .ok (.ifCond .eq 9, 3) := dk_153 0 9 (dk_at dksX0_whose_1 8 rfl rfl)
theorem dX0_whose_34 : decode cX0_whose 34 = .ok (.iconst 1, 1) := dk_4 (dk_at dksX0_whose_1 11 rfl rfl)
theorem dX0_whose_35 : decode cX0_whose 35 = .ok (.iload_n 2, 1) := dk_28 (dk_at dksX0_whose_1 12 rfl rfl)
theorem dX0_whose_36 : decode cX0_whose 36 = .ok (.ishl, 1) := dk_120 (dk_at dksX0_whose_1 13 rfl rfl)
theorem dX0_whose_37 : decode cX0_whose 37 = .ok (.goto 4, 3) := dk_167 0 4 (dk_at dksX0_whose_1 14 rfl rfl)
theorem dX0_whose_40 : decode cX0_whose 40 = .ok (.iconst 0, 1) := dk_3 (dk_at dksX0_whose_1 17 rfl rfl)
theorem dX0_whose_41 : decode cX0_whose 41 = .ok (.ior, 1) := dk_128 (dk_at dksX0_whose_1 18 rfl rfl)
theorem dX0_whose_42 : decode cX0_whose 42 = .ok (.istore_n 1, 1) := dk_60 (dk_at dksX0_whose_1 19 rfl rfl)
theorem dX0_whose_43 : decode cX0_whose 43 = .ok (.iinc 2 1, 3) := dk_132 2 1 (dk_at dksX0_whose_1 20 rfl rfl)
theorem dX0_whose_46 : decode cX0_whose 46 = .ok (.goto (-42), 3) := dk_167 255 214 (dk_at dksX0_whose_2 0 rfl rfl)
theorem dX0_whose_49 : decode cX0_whose 49 = .ok (.iload_n 1, 1) := dk_27 (dk_at dksX0_whose_2 3 rfl rfl)
theorem dX0_whose_50 : decode cX0_whose 50 = .ok (.ireturn, 1) := dk_172 (dk_at dksX0_whose_2 4 rfl rfl)
abbrev cX0_isLaw : ByteArray := prog_1_method_83_code
def yX0_isLaw : MethodName := ⟨RX0, "isLaw", "(LApologyUp$Text;)Z"⟩
def dkwX0_isLaw_2 : List UInt8 := [180, 0, 21, 180, 1, 110, 28, 50, 4, 46, 159, 0, 5, 3, 172, 132, 2, 1, 167, 255, 194, 4, 172]
abbrev dktX0_isLaw_2 : List UInt8 := dkwX0_isLaw_2 ++ []
def dkwX0_isLaw_1 : List UInt8 := [28, 50, 3, 46, 16, 10, 42, 180, 0, 21, 180, 1, 110, 28, 50, 3, 46, 3, 182, 1, 36, 42]
abbrev dktX0_isLaw_1 : List UInt8 := dkwX0_isLaw_1 ++ dktX0_isLaw_2
def dkwX0_isLaw_0 : List UInt8 := [3, 61, 28, 42, 180, 0, 21, 180, 0, 59, 8, 46, 162, 0, 55, 42, 43, 42, 180, 0, 21, 180, 1, 110]
abbrev dktX0_isLaw_0 : List UInt8 := dkwX0_isLaw_0 ++ dktX0_isLaw_1
theorem dksX0_isLaw_0 : cX0_isLaw.data.toList.drop 0 = dktX0_isLaw_0 := by decide +kernel
theorem dksX0_isLaw_1 : cX0_isLaw.data.toList.drop 24 = dktX0_isLaw_1 := dk_seg dksX0_isLaw_0 24 rfl rfl
theorem dksX0_isLaw_2 : cX0_isLaw.data.toList.drop 46 = dktX0_isLaw_2 := dk_seg dksX0_isLaw_1 22 rfl rfl
theorem dX0_isLaw_0 : decode cX0_isLaw 0 = .ok (.iconst 0, 1) := dk_3 (dk_at dksX0_isLaw_0 0 rfl rfl)
theorem dX0_isLaw_1 : decode cX0_isLaw 1 = .ok (.istore_n 2, 1) := dk_61 (dk_at dksX0_isLaw_0 1 rfl rfl)
theorem dX0_isLaw_2 : decode cX0_isLaw 2 = .ok (.iload_n 2, 1) := dk_28 (dk_at dksX0_isLaw_0 2 rfl rfl)
theorem dX0_isLaw_3 : decode cX0_isLaw 3 = .ok (.aload_n 0, 1) := dk_42 (dk_at dksX0_isLaw_0 3 rfl rfl)
theorem dX0_isLaw_4 : decode cX0_isLaw 4 = .ok (.getfield 21, 3) := dk_180 0 21 (dk_at dksX0_isLaw_0 4 rfl rfl)
theorem dX0_isLaw_7 : decode cX0_isLaw 7 = .ok (.getfield 59, 3) := dk_180 0 59 (dk_at dksX0_isLaw_0 7 rfl rfl)
theorem dX0_isLaw_10 : decode cX0_isLaw 10 = .ok (.iconst 5, 1) := dk_8 (dk_at dksX0_isLaw_0 10 rfl rfl)
theorem dX0_isLaw_11 : decode cX0_isLaw 11 = .ok (.iaload, 1) := dk_46 (dk_at dksX0_isLaw_0 11 rfl rfl)
theorem dX0_isLaw_12 : decode cX0_isLaw 12 = .ok (.if_icmp .ge 55, 3) := dk_162 0 55 (dk_at dksX0_isLaw_0 12 rfl rfl)
theorem dX0_isLaw_15 : decode cX0_isLaw 15 = .ok (.aload_n 0, 1) := dk_42 (dk_at dksX0_isLaw_0 15 rfl rfl)
theorem dX0_isLaw_16 : decode cX0_isLaw 16 = .ok (.aload_n 1, 1) := dk_43 (dk_at dksX0_isLaw_0 16 rfl rfl)
theorem dX0_isLaw_17 : decode cX0_isLaw 17 = .ok (.aload_n 0, 1) := dk_42 (dk_at dksX0_isLaw_0 17 rfl rfl)
theorem dX0_isLaw_18 : decode cX0_isLaw 18 = .ok (.getfield 21, 3) := dk_180 0 21 (dk_at dksX0_isLaw_0 18 rfl rfl)
theorem dX0_isLaw_21 : decode cX0_isLaw 21 = .ok (.getfield 366, 3) := dk_180 1 110 (dk_at dksX0_isLaw_0 21 rfl rfl)
theorem dX0_isLaw_24 : decode cX0_isLaw 24 = .ok (.iload_n 2, 1) := dk_28 (dk_at dksX0_isLaw_1 0 rfl rfl)
theorem dX0_isLaw_25 : decode cX0_isLaw 25 = .ok (.aaload, 1) := dk_50 (dk_at dksX0_isLaw_1 1 rfl rfl)
theorem dX0_isLaw_26 : decode cX0_isLaw 26 = .ok (.iconst 0, 1) := dk_3 (dk_at dksX0_isLaw_1 2 rfl rfl)
theorem dX0_isLaw_27 : decode cX0_isLaw 27 = .ok (.iaload, 1) := dk_46 (dk_at dksX0_isLaw_1 3 rfl rfl)
theorem dX0_isLaw_28 : decode cX0_isLaw 28 = .ok (.bipush 10, 2) := dk_16 10 (dk_at dksX0_isLaw_1 4 rfl rfl)
theorem dX0_isLaw_30 : decode cX0_isLaw 30 = .ok (.aload_n 0, 1) := dk_42 (dk_at dksX0_isLaw_1 6 rfl rfl)
theorem dX0_isLaw_31 : decode cX0_isLaw 31 = .ok (.getfield 21, 3) := dk_180 0 21 (dk_at dksX0_isLaw_1 7 rfl rfl)
theorem dX0_isLaw_34 : decode cX0_isLaw 34 = .ok (.getfield 366, 3) := dk_180 1 110 (dk_at dksX0_isLaw_1 10 rfl rfl)
theorem dX0_isLaw_37 : decode cX0_isLaw 37 = .ok (.iload_n 2, 1) := dk_28 (dk_at dksX0_isLaw_1 13 rfl rfl)
theorem dX0_isLaw_38 : decode cX0_isLaw 38 = .ok (.aaload, 1) := dk_50 (dk_at dksX0_isLaw_1 14 rfl rfl)
theorem dX0_isLaw_39 : decode cX0_isLaw 39 = .ok (.iconst 0, 1) := dk_3 (dk_at dksX0_isLaw_1 15 rfl rfl)
theorem dX0_isLaw_40 : decode cX0_isLaw 40 = .ok (.iaload, 1) := dk_46 (dk_at dksX0_isLaw_1 16 rfl rfl)
theorem dX0_isLaw_41 : decode cX0_isLaw 41 = .ok (.iconst 0, 1) := dk_3 (dk_at dksX0_isLaw_1 17 rfl rfl)
theorem dX0_isLaw_42 : decode cX0_isLaw 42 = .ok (.invokevirtual 292, 3) := dk_182 1 36 (dk_at dksX0_isLaw_1 18 rfl rfl)
theorem dX0_isLaw_45 : decode cX0_isLaw 45 = .ok (.aload_n 0, 1) := dk_42 (dk_at dksX0_isLaw_1 21 rfl rfl)
theorem dX0_isLaw_46 : decode cX0_isLaw 46 = .ok (.getfield 21, 3) := dk_180 0 21 (dk_at dksX0_isLaw_2 0 rfl rfl)
theorem dX0_isLaw_49 : decode cX0_isLaw 49 = .ok (.getfield 366, 3) := dk_180 1 110 (dk_at dksX0_isLaw_2 3 rfl rfl)
theorem dX0_isLaw_52 : decode cX0_isLaw 52 = .ok (.iload_n 2, 1) := dk_28 (dk_at dksX0_isLaw_2 6 rfl rfl)
theorem dX0_isLaw_53 : decode cX0_isLaw 53 = .ok (.aaload, 1) := dk_50 (dk_at dksX0_isLaw_2 7 rfl rfl)
theorem dX0_isLaw_54 : decode cX0_isLaw 54 = .ok (.iconst 1, 1) := dk_4 (dk_at dksX0_isLaw_2 8 rfl rfl)
theorem dX0_isLaw_55 : decode cX0_isLaw 55 = .ok (.iaload, 1) := dk_46 (dk_at dksX0_isLaw_2 9 rfl rfl)
theorem dX0_isLaw_56 : decode cX0_isLaw 56 = .ok (.if_icmp .eq 5, 3) := dk_159 0 5 (dk_at dksX0_isLaw_2 10 rfl rfl)
theorem dX0_isLaw_59 : decode cX0_isLaw 59 = .ok (.iconst 0, 1) := dk_3 (dk_at dksX0_isLaw_2 13 rfl rfl)
theorem dX0_isLaw_60 : decode cX0_isLaw 60 = .ok (.ireturn, 1) := dk_172 (dk_at dksX0_isLaw_2 14 rfl rfl)
theorem dX0_isLaw_61 : decode cX0_isLaw 61 = .ok (.iinc 2 1, 3) := dk_132 2 1 (dk_at dksX0_isLaw_2 15 rfl rfl)
theorem dX0_isLaw_64 : decode cX0_isLaw 64 = .ok (.goto (-62), 3) := dk_167 255 194 (dk_at dksX0_isLaw_2 18 rfl rfl)
theorem dX0_isLaw_67 : decode cX0_isLaw 67 = .ok (.iconst 1, 1) := dk_4 (dk_at dksX0_isLaw_2 21 rfl rfl)
theorem dX0_isLaw_68 : decode cX0_isLaw 68 = .ok (.ireturn, 1) := dk_172 (dk_at dksX0_isLaw_2 22 rfl rfl)
abbrev cX0_stuck : ByteArray := prog_1_method_85_code
def yX0_stuck : MethodName := ⟨RX0, "stuck", "()I"⟩
def dkwX0_stuck_2 : List UInt8 := [172]
abbrev dktX0_stuck_2 : List UInt8 := dkwX0_stuck_2 ++ []
def dkwX0_stuck_1 : List UInt8 := [160, 0, 7, 3, 167, 0, 8, 42, 27, 182, 1, 39, 164, 0, 5, 28, 60, 132, 2, 1, 167, 255, 216, 27]
abbrev dktX0_stuck_1 : List UInt8 := dkwX0_stuck_1 ++ dktX0_stuck_2
def dkwX0_stuck_0 : List UInt8 := [2, 60, 3, 61, 28, 42, 180, 0, 21, 180, 0, 59, 3, 46, 162, 0, 33, 42, 28, 182, 1, 39, 27, 2]
abbrev dktX0_stuck_0 : List UInt8 := dkwX0_stuck_0 ++ dktX0_stuck_1
theorem dksX0_stuck_0 : cX0_stuck.data.toList.drop 0 = dktX0_stuck_0 := by decide +kernel
theorem dksX0_stuck_1 : cX0_stuck.data.toList.drop 24 = dktX0_stuck_1 := dk_seg dksX0_stuck_0 24 rfl rfl
theorem dksX0_stuck_2 : cX0_stuck.data.toList.drop 48 = dktX0_stuck_2 := dk_seg dksX0_stuck_1 24 rfl rfl
theorem dX0_stuck_0 : decode cX0_stuck 0 = .ok (.iconst (-1), 1) := dk_2 (dk_at dksX0_stuck_0 0 rfl rfl)
theorem dX0_stuck_1 : decode cX0_stuck 1 = .ok (.istore_n 1, 1) := dk_60 (dk_at dksX0_stuck_0 1 rfl rfl)
theorem dX0_stuck_2 : decode cX0_stuck 2 = .ok (.iconst 0, 1) := dk_3 (dk_at dksX0_stuck_0 2 rfl rfl)
theorem dX0_stuck_3 : decode cX0_stuck 3 = .ok (.istore_n 2, 1) := dk_61 (dk_at dksX0_stuck_0 3 rfl rfl)
theorem dX0_stuck_4 : decode cX0_stuck 4 = .ok (.iload_n 2, 1) := dk_28 (dk_at dksX0_stuck_0 4 rfl rfl)
theorem dX0_stuck_5 : decode cX0_stuck 5 = .ok (.aload_n 0, 1) := dk_42 (dk_at dksX0_stuck_0 5 rfl rfl)
theorem dX0_stuck_6 : decode cX0_stuck 6 = .ok (.getfield 21, 3) := dk_180 0 21 (dk_at dksX0_stuck_0 6 rfl rfl)
theorem dX0_stuck_9 : decode cX0_stuck 9 = .ok (.getfield 59, 3) := dk_180 0 59 (dk_at dksX0_stuck_0 9 rfl rfl)
theorem dX0_stuck_12 : decode cX0_stuck 12 = .ok (.iconst 0, 1) := dk_3 (dk_at dksX0_stuck_0 12 rfl rfl)
theorem dX0_stuck_13 : decode cX0_stuck 13 = .ok (.iaload, 1) := dk_46 (dk_at dksX0_stuck_0 13 rfl rfl)
theorem dX0_stuck_14 : decode cX0_stuck 14 = .ok (.if_icmp .ge 33, 3) := dk_162 0 33 (dk_at dksX0_stuck_0 14 rfl rfl)
theorem dX0_stuck_17 : decode cX0_stuck 17 = .ok (.aload_n 0, 1) := dk_42 (dk_at dksX0_stuck_0 17 rfl rfl)
theorem dX0_stuck_18 : decode cX0_stuck 18 = .ok (.iload_n 2, 1) := dk_28 (dk_at dksX0_stuck_0 18 rfl rfl)
theorem dX0_stuck_19 : decode cX0_stuck 19 = .ok (.invokevirtual 295, 3) := dk_182 1 39 (dk_at dksX0_stuck_0 19 rfl rfl)
theorem dX0_stuck_22 : decode cX0_stuck 22 = .ok (.iload_n 1, 1) := dk_27 (dk_at dksX0_stuck_0 22 rfl rfl)
theorem dX0_stuck_23 : decode cX0_stuck 23 = .ok (.iconst (-1), 1) := dk_2 (dk_at dksX0_stuck_0 23 rfl rfl)
theorem dX0_stuck_24 : decode cX0_stuck 24 = .ok (.if_icmp .ne 7, 3) := dk_160 0 7 (dk_at dksX0_stuck_1 0 rfl rfl)
theorem dX0_stuck_27 : decode cX0_stuck 27 = .ok (.iconst 0, 1) := dk_3 (dk_at dksX0_stuck_1 3 rfl rfl)
theorem dX0_stuck_28 : decode cX0_stuck 28 = .ok (.goto 8, 3) := dk_167 0 8 (dk_at dksX0_stuck_1 4 rfl rfl)
theorem dX0_stuck_31 : decode cX0_stuck 31 = .ok (.aload_n 0, 1) := dk_42 (dk_at dksX0_stuck_1 7 rfl rfl)
theorem dX0_stuck_32 : decode cX0_stuck 32 = .ok (.iload_n 1, 1) := dk_27 (dk_at dksX0_stuck_1 8 rfl rfl)
theorem dX0_stuck_33 : decode cX0_stuck 33 = .ok (.invokevirtual 295, 3) := dk_182 1 39 (dk_at dksX0_stuck_1 9 rfl rfl)
theorem dX0_stuck_36 : decode cX0_stuck 36 = .ok (.if_icmp .le 5, 3) := dk_164 0 5 (dk_at dksX0_stuck_1 12 rfl rfl)
theorem dX0_stuck_39 : decode cX0_stuck 39 = .ok (.iload_n 2, 1) := dk_28 (dk_at dksX0_stuck_1 15 rfl rfl)
theorem dX0_stuck_40 : decode cX0_stuck 40 = .ok (.istore_n 1, 1) := dk_60 (dk_at dksX0_stuck_1 16 rfl rfl)
theorem dX0_stuck_41 : decode cX0_stuck 41 = .ok (.iinc 2 1, 3) := dk_132 2 1 (dk_at dksX0_stuck_1 17 rfl rfl)
theorem dX0_stuck_44 : decode cX0_stuck 44 = .ok (.goto (-40), 3) := dk_167 255 216 (dk_at dksX0_stuck_1 20 rfl rfl)
theorem dX0_stuck_47 : decode cX0_stuck 47 = .ok (.iload_n 1, 1) := dk_27 (dk_at dksX0_stuck_1 23 rfl rfl)
theorem dX0_stuck_48 : decode cX0_stuck 48 = .ok (.ireturn, 1) := dk_172 (dk_at dksX0_stuck_2 0 rfl rfl)
abbrev cX0_eldest : ByteArray := prog_1_method_86_code
def yX0_eldest : MethodName := ⟨RX0, "eldest", "()I"⟩
def dkwX0_eldest_3 : List UInt8 := [132, 2, 1, 167, 255, 187, 27, 172]
abbrev dktX0_eldest_3 : List UInt8 := dkwX0_eldest_3 ++ []
def dkwX0_eldest_2 : List UInt8 := [184, 0, 149, 46, 42, 180, 0, 21, 180, 0, 66, 27, 8, 184, 0, 149, 46, 162, 0, 5, 28, 60]
abbrev dktX0_eldest_2 : List UInt8 := dkwX0_eldest_2 ++ dktX0_eldest_3
def dkwX0_eldest_1 : List UInt8 := [28, 7, 184, 0, 149, 46, 5, 159, 0, 39, 27, 2, 159, 0, 32, 42, 180, 0, 21, 180, 0, 66, 28, 8]
abbrev dktX0_eldest_1 : List UInt8 := dkwX0_eldest_1 ++ dktX0_eldest_2
def dkwX0_eldest_0 : List UInt8 := [2, 60, 3, 61, 28, 42, 180, 0, 21, 180, 0, 66, 5, 46, 162, 0, 62, 42, 180, 0, 21, 180, 0, 66]
abbrev dktX0_eldest_0 : List UInt8 := dkwX0_eldest_0 ++ dktX0_eldest_1
theorem dksX0_eldest_0 : cX0_eldest.data.toList.drop 0 = dktX0_eldest_0 := by decide +kernel
theorem dksX0_eldest_1 : cX0_eldest.data.toList.drop 24 = dktX0_eldest_1 := dk_seg dksX0_eldest_0 24 rfl rfl
theorem dksX0_eldest_2 : cX0_eldest.data.toList.drop 48 = dktX0_eldest_2 := dk_seg dksX0_eldest_1 24 rfl rfl
theorem dksX0_eldest_3 : cX0_eldest.data.toList.drop 70 = dktX0_eldest_3 := dk_seg dksX0_eldest_2 22 rfl rfl
theorem dX0_eldest_0 : decode cX0_eldest 0 = .ok (.iconst (-1), 1) := dk_2 (dk_at dksX0_eldest_0 0 rfl rfl)
theorem dX0_eldest_1 : decode cX0_eldest 1 = .ok (.istore_n 1, 1) := dk_60 (dk_at dksX0_eldest_0 1 rfl rfl)
theorem dX0_eldest_2 : decode cX0_eldest 2 = .ok (.iconst 0, 1) := dk_3 (dk_at dksX0_eldest_0 2 rfl rfl)
theorem dX0_eldest_3 : decode cX0_eldest 3 = .ok (.istore_n 2, 1) := dk_61 (dk_at dksX0_eldest_0 3 rfl rfl)
theorem dX0_eldest_4 : decode cX0_eldest 4 = .ok (.iload_n 2, 1) := dk_28 (dk_at dksX0_eldest_0 4 rfl rfl)
theorem dX0_eldest_5 : decode cX0_eldest 5 = .ok (.aload_n 0, 1) := dk_42 (dk_at dksX0_eldest_0 5 rfl rfl)
theorem dX0_eldest_6 : decode cX0_eldest 6 = .ok (.getfield 21, 3) := dk_180 0 21 (dk_at dksX0_eldest_0 6 rfl rfl)
theorem dX0_eldest_9 : decode cX0_eldest 9 = .ok (.getfield 66, 3) := dk_180 0 66 (dk_at dksX0_eldest_0 9 rfl rfl)
theorem dX0_eldest_12 : decode cX0_eldest 12 = .ok (.iconst 2, 1) := dk_5 (dk_at dksX0_eldest_0 12 rfl rfl)
theorem dX0_eldest_13 : decode cX0_eldest 13 = .ok (.iaload, 1) := dk_46 (dk_at dksX0_eldest_0 13 rfl rfl)
theorem dX0_eldest_14 : decode cX0_eldest 14 = .ok (.if_icmp .ge 62, 3) := dk_162 0 62 (dk_at dksX0_eldest_0 14 rfl rfl)
theorem dX0_eldest_17 : decode cX0_eldest 17 = .ok (.aload_n 0, 1) := dk_42 (dk_at dksX0_eldest_0 17 rfl rfl)
theorem dX0_eldest_18 : decode cX0_eldest 18 = .ok (.getfield 21, 3) := dk_180 0 21 (dk_at dksX0_eldest_0 18 rfl rfl)
theorem dX0_eldest_21 : decode cX0_eldest 21 = .ok (.getfield 66, 3) := dk_180 0 66 (dk_at dksX0_eldest_0 21 rfl rfl)
theorem dX0_eldest_24 : decode cX0_eldest 24 = .ok (.iload_n 2, 1) := dk_28 (dk_at dksX0_eldest_1 0 rfl rfl)
theorem dX0_eldest_25 : decode cX0_eldest 25 = .ok (.iconst 4, 1) := dk_7 (dk_at dksX0_eldest_1 1 rfl rfl)
theorem dX0_eldest_26 : decode cX0_eldest 26 = .ok (.invokestatic 149, 3) := dk_184 0 149 (dk_at dksX0_eldest_1 2 rfl rfl)
theorem dX0_eldest_29 : decode cX0_eldest 29 = .ok (.iaload, 1) := dk_46 (dk_at dksX0_eldest_1 5 rfl rfl)
theorem dX0_eldest_30 : decode cX0_eldest 30 = .ok (.iconst 2, 1) := dk_5 (dk_at dksX0_eldest_1 6 rfl rfl)
theorem dX0_eldest_31 : decode cX0_eldest 31 = .ok (.if_icmp .eq 39, 3) := dk_159 0 39 (dk_at dksX0_eldest_1 7 rfl rfl)
theorem dX0_eldest_34 : decode cX0_eldest 34 = .ok (.iload_n 1, 1) := dk_27 (dk_at dksX0_eldest_1 10 rfl rfl)
theorem dX0_eldest_35 : decode cX0_eldest 35 = .ok (.iconst (-1), 1) := dk_2 (dk_at dksX0_eldest_1 11 rfl rfl)
theorem dX0_eldest_36 : decode cX0_eldest 36 = .ok (.if_icmp .eq 32, 3) := dk_159 0 32 (dk_at dksX0_eldest_1 12 rfl rfl)
theorem dX0_eldest_39 : decode cX0_eldest 39 = .ok (.aload_n 0, 1) := dk_42 (dk_at dksX0_eldest_1 15 rfl rfl)
theorem dX0_eldest_40 : decode cX0_eldest 40 = .ok (.getfield 21, 3) := dk_180 0 21 (dk_at dksX0_eldest_1 16 rfl rfl)
theorem dX0_eldest_43 : decode cX0_eldest 43 = .ok (.getfield 66, 3) := dk_180 0 66 (dk_at dksX0_eldest_1 19 rfl rfl)
theorem dX0_eldest_46 : decode cX0_eldest 46 = .ok (.iload_n 2, 1) := dk_28 (dk_at dksX0_eldest_1 22 rfl rfl)
theorem dX0_eldest_47 : decode cX0_eldest 47 = .ok (.iconst 5, 1) := dk_8 (dk_at dksX0_eldest_1 23 rfl rfl)
theorem dX0_eldest_48 : decode cX0_eldest 48 = .ok (.invokestatic 149, 3) := dk_184 0 149 (dk_at dksX0_eldest_2 0 rfl rfl)
theorem dX0_eldest_51 : decode cX0_eldest 51 = .ok (.iaload, 1) := dk_46 (dk_at dksX0_eldest_2 3 rfl rfl)
theorem dX0_eldest_52 : decode cX0_eldest 52 = .ok (.aload_n 0, 1) := dk_42 (dk_at dksX0_eldest_2 4 rfl rfl)
theorem dX0_eldest_53 : decode cX0_eldest 53 = .ok (.getfield 21, 3) := dk_180 0 21 (dk_at dksX0_eldest_2 5 rfl rfl)
theorem dX0_eldest_56 : decode cX0_eldest 56 = .ok (.getfield 66, 3) := dk_180 0 66 (dk_at dksX0_eldest_2 8 rfl rfl)
theorem dX0_eldest_59 : decode cX0_eldest 59 = .ok (.iload_n 1, 1) := dk_27 (dk_at dksX0_eldest_2 11 rfl rfl)
theorem dX0_eldest_60 : decode cX0_eldest 60 = .ok (.iconst 5, 1) := dk_8 (dk_at dksX0_eldest_2 12 rfl rfl)
theorem dX0_eldest_61 : decode cX0_eldest 61 = .ok (.invokestatic 149, 3) := dk_184 0 149 (dk_at dksX0_eldest_2 13 rfl rfl)
theorem dX0_eldest_64 : decode cX0_eldest 64 = .ok (.iaload, 1) := dk_46 (dk_at dksX0_eldest_2 16 rfl rfl)
theorem dX0_eldest_65 : decode cX0_eldest 65 = .ok (.if_icmp .ge 5, 3) := dk_162 0 5 (dk_at dksX0_eldest_2 17 rfl rfl)
theorem dX0_eldest_68 : decode cX0_eldest 68 = .ok (.iload_n 2, 1) := dk_28 (dk_at dksX0_eldest_2 20 rfl rfl)
theorem dX0_eldest_69 : decode cX0_eldest 69 = .ok (.istore_n 1, 1) := dk_60 (dk_at dksX0_eldest_2 21 rfl rfl)
theorem dX0_eldest_70 : decode cX0_eldest 70 = .ok (.iinc 2 1, 3) := dk_132 2 1 (dk_at dksX0_eldest_3 0 rfl rfl)
theorem dX0_eldest_73 : decode cX0_eldest 73 = .ok (.goto (-69), 3) := dk_167 255 187 (dk_at dksX0_eldest_3 3 rfl rfl)
theorem dX0_eldest_76 : decode cX0_eldest 76 = .ok (.iload_n 1, 1) := dk_27 (dk_at dksX0_eldest_3 6 rfl rfl)
theorem dX0_eldest_77 : decode cX0_eldest 77 = .ok (.ireturn, 1) := dk_172 (dk_at dksX0_eldest_3 7 rfl rfl)
abbrev cX0_sorry : ByteArray := prog_1_method_87_code
def yX0_sorry : MethodName := ⟨RX0, "sorry", "(I)I"⟩
def dkwX0_sorry_4 : List UInt8 := [132, 3, 1, 167, 255, 181, 28, 172]
abbrev dktX0_sorry_4 : List UInt8 := dkwX0_sorry_4 ++ []
def dkwX0_sorry_3 : List UInt8 := [160, 0, 19, 42, 180, 0, 21, 180, 0, 66, 29, 6, 184, 0, 149, 46, 167, 0, 4, 3, 96, 61]
abbrev dktX0_sorry_3 : List UInt8 := dkwX0_sorry_3 ++ dktX0_sorry_4
def dkwX0_sorry_2 : List UInt8 := [46, 5, 159, 0, 41, 27, 2, 159, 0, 20, 42, 180, 0, 21, 180, 0, 66, 29, 3, 184, 0, 149, 46, 27]
abbrev dktX0_sorry_2 : List UInt8 := dkwX0_sorry_2 ++ dktX0_sorry_3
def dkwX0_sorry_1 : List UInt8 := [180, 0, 21, 180, 0, 66, 5, 46, 162, 0, 68, 28, 42, 180, 0, 21, 180, 0, 66, 29, 7, 184, 0, 149]
abbrev dktX0_sorry_1 : List UInt8 := dkwX0_sorry_1 ++ dktX0_sorry_2
def dkwX0_sorry_0 : List UInt8 := [27, 2, 159, 0, 14, 42, 27, 182, 0, 69, 154, 0, 6, 16, 254, 172, 3, 61, 3, 62, 29, 42]
abbrev dktX0_sorry_0 : List UInt8 := dkwX0_sorry_0 ++ dktX0_sorry_1
theorem dksX0_sorry_0 : cX0_sorry.data.toList.drop 0 = dktX0_sorry_0 := by decide +kernel
theorem dksX0_sorry_1 : cX0_sorry.data.toList.drop 22 = dktX0_sorry_1 := dk_seg dksX0_sorry_0 22 rfl rfl
theorem dksX0_sorry_2 : cX0_sorry.data.toList.drop 46 = dktX0_sorry_2 := dk_seg dksX0_sorry_1 24 rfl rfl
theorem dksX0_sorry_3 : cX0_sorry.data.toList.drop 70 = dktX0_sorry_3 := dk_seg dksX0_sorry_2 24 rfl rfl
theorem dksX0_sorry_4 : cX0_sorry.data.toList.drop 92 = dktX0_sorry_4 := dk_seg dksX0_sorry_3 22 rfl rfl
theorem dX0_sorry_0 : decode cX0_sorry 0 = .ok (.iload_n 1, 1) := dk_27 (dk_at dksX0_sorry_0 0 rfl rfl)
theorem dX0_sorry_1 : decode cX0_sorry 1 = .ok (.iconst (-1), 1) := dk_2 (dk_at dksX0_sorry_0 1 rfl rfl)
theorem dX0_sorry_2 : decode cX0_sorry 2 = .ok (.if_icmp .eq 14, 3) := dk_159 0 14 (dk_at dksX0_sorry_0 2 rfl rfl)
theorem dX0_sorry_5 : decode cX0_sorry 5 = .ok (.aload_n 0, 1) := dk_42 (dk_at dksX0_sorry_0 5 rfl rfl)
theorem dX0_sorry_6 : decode cX0_sorry 6 = .ok (.iload_n 1, 1) := dk_27 (dk_at dksX0_sorry_0 6 rfl rfl)
theorem dX0_sorry_7 : decode cX0_sorry 7 = .ok (.invokevirtual 69, 3) := dk_182 0 69 (dk_at dksX0_sorry_0 7 rfl rfl)
theorem dX0_sorry_10 : decode cX0_sorry 10 = .ok (.ifCond .ne 6, 3) := dk_154 0 6 (dk_at dksX0_sorry_0 10 rfl rfl)
theorem dX0_sorry_13 : decode cX0_sorry 13 = .ok (.bipush (-2), 2) := dk_16 254 (dk_at dksX0_sorry_0 13 rfl rfl)
theorem dX0_sorry_15 : decode cX0_sorry 15 = .ok (.ireturn, 1) := dk_172 (dk_at dksX0_sorry_0 15 rfl rfl)
theorem dX0_sorry_16 : decode cX0_sorry 16 = .ok (.iconst 0, 1) := dk_3 (dk_at dksX0_sorry_0 16 rfl rfl)
theorem dX0_sorry_17 : decode cX0_sorry 17 = .ok (.istore_n 2, 1) := dk_61 (dk_at dksX0_sorry_0 17 rfl rfl)
theorem dX0_sorry_18 : decode cX0_sorry 18 = .ok (.iconst 0, 1) := dk_3 (dk_at dksX0_sorry_0 18 rfl rfl)
theorem dX0_sorry_19 : decode cX0_sorry 19 = .ok (.istore_n 3, 1) := dk_62 (dk_at dksX0_sorry_0 19 rfl rfl)
theorem dX0_sorry_20 : decode cX0_sorry 20 = .ok (.iload_n 3, 1) := dk_29 (dk_at dksX0_sorry_0 20 rfl rfl)
theorem dX0_sorry_21 : decode cX0_sorry 21 = .ok (.aload_n 0, 1) := dk_42 (dk_at dksX0_sorry_0 21 rfl rfl)
theorem dX0_sorry_22 : decode cX0_sorry 22 = .ok (.getfield 21, 3) := dk_180 0 21 (dk_at dksX0_sorry_1 0 rfl rfl)
theorem dX0_sorry_25 : decode cX0_sorry 25 = .ok (.getfield 66, 3) := dk_180 0 66 (dk_at dksX0_sorry_1 3 rfl rfl)
theorem dX0_sorry_28 : decode cX0_sorry 28 = .ok (.iconst 2, 1) := dk_5 (dk_at dksX0_sorry_1 6 rfl rfl)
theorem dX0_sorry_29 : decode cX0_sorry 29 = .ok (.iaload, 1) := dk_46 (dk_at dksX0_sorry_1 7 rfl rfl)
theorem dX0_sorry_30 : decode cX0_sorry 30 = .ok (.if_icmp .ge 68, 3) := dk_162 0 68 (dk_at dksX0_sorry_1 8 rfl rfl)
theorem dX0_sorry_33 : decode cX0_sorry 33 = .ok (.iload_n 2, 1) := dk_28 (dk_at dksX0_sorry_1 11 rfl rfl)
theorem dX0_sorry_34 : decode cX0_sorry 34 = .ok (.aload_n 0, 1) := dk_42 (dk_at dksX0_sorry_1 12 rfl rfl)
theorem dX0_sorry_35 : decode cX0_sorry 35 = .ok (.getfield 21, 3) := dk_180 0 21 (dk_at dksX0_sorry_1 13 rfl rfl)
theorem dX0_sorry_38 : decode cX0_sorry 38 = .ok (.getfield 66, 3) := dk_180 0 66 (dk_at dksX0_sorry_1 16 rfl rfl)
theorem dX0_sorry_41 : decode cX0_sorry 41 = .ok (.iload_n 3, 1) := dk_29 (dk_at dksX0_sorry_1 19 rfl rfl)
theorem dX0_sorry_42 : decode cX0_sorry 42 = .ok (.iconst 4, 1) := dk_7 (dk_at dksX0_sorry_1 20 rfl rfl)
theorem dX0_sorry_43 : decode cX0_sorry 43 = .ok (.invokestatic 149, 3) := dk_184 0 149 (dk_at dksX0_sorry_1 21 rfl rfl)
theorem dX0_sorry_46 : decode cX0_sorry 46 = .ok (.iaload, 1) := dk_46 (dk_at dksX0_sorry_2 0 rfl rfl)
theorem dX0_sorry_47 : decode cX0_sorry 47 = .ok (.iconst 2, 1) := dk_5 (dk_at dksX0_sorry_2 1 rfl rfl)
theorem dX0_sorry_48 : decode cX0_sorry 48 = .ok (.if_icmp .eq 41, 3) := dk_159 0 41 (dk_at dksX0_sorry_2 2 rfl rfl)
theorem dX0_sorry_51 : decode cX0_sorry 51 = .ok (.iload_n 1, 1) := dk_27 (dk_at dksX0_sorry_2 5 rfl rfl)
theorem dX0_sorry_52 : decode cX0_sorry 52 = .ok (.iconst (-1), 1) := dk_2 (dk_at dksX0_sorry_2 6 rfl rfl)
theorem dX0_sorry_53 : decode cX0_sorry 53 = .ok (.if_icmp .eq 20, 3) := dk_159 0 20 (dk_at dksX0_sorry_2 7 rfl rfl)
theorem dX0_sorry_56 : decode cX0_sorry 56 = .ok (.aload_n 0, 1) := dk_42 (dk_at dksX0_sorry_2 10 rfl rfl)
theorem dX0_sorry_57 : decode cX0_sorry 57 = .ok (.getfield 21, 3) := dk_180 0 21 (dk_at dksX0_sorry_2 11 rfl rfl)
theorem dX0_sorry_60 : decode cX0_sorry 60 = .ok (.getfield 66, 3) := dk_180 0 66 (dk_at dksX0_sorry_2 14 rfl rfl)
theorem dX0_sorry_63 : decode cX0_sorry 63 = .ok (.iload_n 3, 1) := dk_29 (dk_at dksX0_sorry_2 17 rfl rfl)
theorem dX0_sorry_64 : decode cX0_sorry 64 = .ok (.iconst 0, 1) := dk_3 (dk_at dksX0_sorry_2 18 rfl rfl)
theorem dX0_sorry_65 : decode cX0_sorry 65 = .ok (.invokestatic 149, 3) := dk_184 0 149 (dk_at dksX0_sorry_2 19 rfl rfl)
theorem dX0_sorry_68 : decode cX0_sorry 68 = .ok (.iaload, 1) := dk_46 (dk_at dksX0_sorry_2 22 rfl rfl)
theorem dX0_sorry_69 : decode cX0_sorry 69 = .ok (.iload_n 1, 1) := dk_27 (dk_at dksX0_sorry_2 23 rfl rfl)
theorem dX0_sorry_70 : decode cX0_sorry 70 = .ok (.if_icmp .ne 19, 3) := dk_160 0 19 (dk_at dksX0_sorry_3 0 rfl rfl)
theorem dX0_sorry_73 : decode cX0_sorry 73 = .ok (.aload_n 0, 1) := dk_42 (dk_at dksX0_sorry_3 3 rfl rfl)
theorem dX0_sorry_74 : decode cX0_sorry 74 = .ok (.getfield 21, 3) := dk_180 0 21 (dk_at dksX0_sorry_3 4 rfl rfl)
theorem dX0_sorry_77 : decode cX0_sorry 77 = .ok (.getfield 66, 3) := dk_180 0 66 (dk_at dksX0_sorry_3 7 rfl rfl)
theorem dX0_sorry_80 : decode cX0_sorry 80 = .ok (.iload_n 3, 1) := dk_29 (dk_at dksX0_sorry_3 10 rfl rfl)
theorem dX0_sorry_81 : decode cX0_sorry 81 = .ok (.iconst 3, 1) := dk_6 (dk_at dksX0_sorry_3 11 rfl rfl)
theorem dX0_sorry_82 : decode cX0_sorry 82 = .ok (.invokestatic 149, 3) := dk_184 0 149 (dk_at dksX0_sorry_3 12 rfl rfl)
theorem dX0_sorry_85 : decode cX0_sorry 85 = .ok (.iaload, 1) := dk_46 (dk_at dksX0_sorry_3 15 rfl rfl)
theorem dX0_sorry_86 : decode cX0_sorry 86 = .ok (.goto 4, 3) := dk_167 0 4 (dk_at dksX0_sorry_3 16 rfl rfl)
theorem dX0_sorry_89 : decode cX0_sorry 89 = .ok (.iconst 0, 1) := dk_3 (dk_at dksX0_sorry_3 19 rfl rfl)
theorem dX0_sorry_90 : decode cX0_sorry 90 = .ok (.iadd, 1) := dk_96 (dk_at dksX0_sorry_3 20 rfl rfl)
theorem dX0_sorry_91 : decode cX0_sorry 91 = .ok (.istore_n 2, 1) := dk_61 (dk_at dksX0_sorry_3 21 rfl rfl)
theorem dX0_sorry_92 : decode cX0_sorry 92 = .ok (.iinc 3 1, 3) := dk_132 3 1 (dk_at dksX0_sorry_4 0 rfl rfl)
theorem dX0_sorry_95 : decode cX0_sorry 95 = .ok (.goto (-75), 3) := dk_167 255 181 (dk_at dksX0_sorry_4 3 rfl rfl)
theorem dX0_sorry_98 : decode cX0_sorry 98 = .ok (.iload_n 2, 1) := dk_28 (dk_at dksX0_sorry_4 6 rfl rfl)
theorem dX0_sorry_99 : decode cX0_sorry 99 = .ok (.ireturn, 1) := dk_172 (dk_at dksX0_sorry_4 7 rfl rfl)
abbrev cX0_befell : ByteArray := prog_1_method_88_code
def yX0_befell : MethodName := ⟨RX0, "befell", "(I)I"⟩
def dkwX0_befell_2 : List UInt8 := [160, 0, 7, 4, 167, 0, 4, 3, 96, 61, 132, 3, 1, 167, 255, 211, 28, 172]
abbrev dktX0_befell_2 : List UInt8 := dkwX0_befell_2 ++ []
def dkwX0_befell_1 : List UInt8 := [16, 83, 46, 162, 0, 37, 28, 42, 180, 0, 21, 180, 0, 66, 16, 84, 7, 29, 104, 96, 5, 96, 46, 27]
abbrev dktX0_befell_1 : List UInt8 := dkwX0_befell_1 ++ dktX0_befell_2
def dkwX0_befell_0 : List UInt8 := [27, 3, 6, 184, 0, 62, 154, 0, 6, 16, 254, 172, 3, 61, 3, 62, 29, 42, 180, 0, 21, 180, 0, 66]
abbrev dktX0_befell_0 : List UInt8 := dkwX0_befell_0 ++ dktX0_befell_1
theorem dksX0_befell_0 : cX0_befell.data.toList.drop 0 = dktX0_befell_0 := by decide +kernel
theorem dksX0_befell_1 : cX0_befell.data.toList.drop 24 = dktX0_befell_1 := dk_seg dksX0_befell_0 24 rfl rfl
theorem dksX0_befell_2 : cX0_befell.data.toList.drop 48 = dktX0_befell_2 := dk_seg dksX0_befell_1 24 rfl rfl
theorem dX0_befell_0 : decode cX0_befell 0 = .ok (.iload_n 1, 1) := dk_27 (dk_at dksX0_befell_0 0 rfl rfl)
theorem dX0_befell_1 : decode cX0_befell 1 = .ok (.iconst 0, 1) := dk_3 (dk_at dksX0_befell_0 1 rfl rfl)
theorem dX0_befell_2 : decode cX0_befell 2 = .ok (.iconst 3, 1) := dk_6 (dk_at dksX0_befell_0 2 rfl rfl)
theorem dX0_befell_3 : decode cX0_befell 3 = .ok (.invokestatic 62, 3) := dk_184 0 62 (dk_at dksX0_befell_0 3 rfl rfl)
theorem dX0_befell_6 : decode cX0_befell 6 = .ok (.ifCond .ne 6, 3) := dk_154 0 6 (dk_at dksX0_befell_0 6 rfl rfl)
theorem dX0_befell_9 : decode cX0_befell 9 = .ok (.bipush (-2), 2) := dk_16 254 (dk_at dksX0_befell_0 9 rfl rfl)
theorem dX0_befell_11 : decode cX0_befell 11 = .ok (.ireturn, 1) := dk_172 (dk_at dksX0_befell_0 11 rfl rfl)
theorem dX0_befell_12 : decode cX0_befell 12 = .ok (.iconst 0, 1) := dk_3 (dk_at dksX0_befell_0 12 rfl rfl)
theorem dX0_befell_13 : decode cX0_befell 13 = .ok (.istore_n 2, 1) := dk_61 (dk_at dksX0_befell_0 13 rfl rfl)
theorem dX0_befell_14 : decode cX0_befell 14 = .ok (.iconst 0, 1) := dk_3 (dk_at dksX0_befell_0 14 rfl rfl)
theorem dX0_befell_15 : decode cX0_befell 15 = .ok (.istore_n 3, 1) := dk_62 (dk_at dksX0_befell_0 15 rfl rfl)
theorem dX0_befell_16 : decode cX0_befell 16 = .ok (.iload_n 3, 1) := dk_29 (dk_at dksX0_befell_0 16 rfl rfl)
theorem dX0_befell_17 : decode cX0_befell 17 = .ok (.aload_n 0, 1) := dk_42 (dk_at dksX0_befell_0 17 rfl rfl)
theorem dX0_befell_18 : decode cX0_befell 18 = .ok (.getfield 21, 3) := dk_180 0 21 (dk_at dksX0_befell_0 18 rfl rfl)
theorem dX0_befell_21 : decode cX0_befell 21 = .ok (.getfield 66, 3) := dk_180 0 66 (dk_at dksX0_befell_0 21 rfl rfl)
theorem dX0_befell_24 : decode cX0_befell 24 = .ok (.bipush 83, 2) := dk_16 83 (dk_at dksX0_befell_1 0 rfl rfl)
theorem dX0_befell_26 : decode cX0_befell 26 = .ok (.iaload, 1) := dk_46 (dk_at dksX0_befell_1 2 rfl rfl)
theorem dX0_befell_27 : decode cX0_befell 27 = .ok (.if_icmp .ge 37, 3) := dk_162 0 37 (dk_at dksX0_befell_1 3 rfl rfl)
theorem dX0_befell_30 : decode cX0_befell 30 = .ok (.iload_n 2, 1) := dk_28 (dk_at dksX0_befell_1 6 rfl rfl)
theorem dX0_befell_31 : decode cX0_befell 31 = .ok (.aload_n 0, 1) := dk_42 (dk_at dksX0_befell_1 7 rfl rfl)
theorem dX0_befell_32 : decode cX0_befell 32 = .ok (.getfield 21, 3) := dk_180 0 21 (dk_at dksX0_befell_1 8 rfl rfl)
theorem dX0_befell_35 : decode cX0_befell 35 = .ok (.getfield 66, 3) := dk_180 0 66 (dk_at dksX0_befell_1 11 rfl rfl)
theorem dX0_befell_38 : decode cX0_befell 38 = .ok (.bipush 84, 2) := dk_16 84 (dk_at dksX0_befell_1 14 rfl rfl)
theorem dX0_befell_40 : decode cX0_befell 40 = .ok (.iconst 4, 1) := dk_7 (dk_at dksX0_befell_1 16 rfl rfl)
theorem dX0_befell_41 : decode cX0_befell 41 = .ok (.iload_n 3, 1) := dk_29 (dk_at dksX0_befell_1 17 rfl rfl)
theorem dX0_befell_42 : decode cX0_befell 42 = .ok (.imul, 1) := dk_104 (dk_at dksX0_befell_1 18 rfl rfl)
theorem dX0_befell_43 : decode cX0_befell 43 = .ok (.iadd, 1) := dk_96 (dk_at dksX0_befell_1 19 rfl rfl)
theorem dX0_befell_44 : decode cX0_befell 44 = .ok (.iconst 2, 1) := dk_5 (dk_at dksX0_befell_1 20 rfl rfl)
theorem dX0_befell_45 : decode cX0_befell 45 = .ok (.iadd, 1) := dk_96 (dk_at dksX0_befell_1 21 rfl rfl)
theorem dX0_befell_46 : decode cX0_befell 46 = .ok (.iaload, 1) := dk_46 (dk_at dksX0_befell_1 22 rfl rfl)
theorem dX0_befell_47 : decode cX0_befell 47 = .ok (.iload_n 1, 1) := dk_27 (dk_at dksX0_befell_1 23 rfl rfl)
theorem dX0_befell_48 : decode cX0_befell 48 = .ok (.if_icmp .ne 7, 3) := dk_160 0 7 (dk_at dksX0_befell_2 0 rfl rfl)
theorem dX0_befell_51 : decode cX0_befell 51 = .ok (.iconst 1, 1) := dk_4 (dk_at dksX0_befell_2 3 rfl rfl)
theorem dX0_befell_52 : decode cX0_befell 52 = .ok (.goto 4, 3) := dk_167 0 4 (dk_at dksX0_befell_2 4 rfl rfl)
theorem dX0_befell_55 : decode cX0_befell 55 = .ok (.iconst 0, 1) := dk_3 (dk_at dksX0_befell_2 7 rfl rfl)
theorem dX0_befell_56 : decode cX0_befell 56 = .ok (.iadd, 1) := dk_96 (dk_at dksX0_befell_2 8 rfl rfl)
theorem dX0_befell_57 : decode cX0_befell 57 = .ok (.istore_n 2, 1) := dk_61 (dk_at dksX0_befell_2 9 rfl rfl)
theorem dX0_befell_58 : decode cX0_befell 58 = .ok (.iinc 3 1, 3) := dk_132 3 1 (dk_at dksX0_befell_2 10 rfl rfl)
theorem dX0_befell_61 : decode cX0_befell 61 = .ok (.goto (-45), 3) := dk_167 255 211 (dk_at dksX0_befell_2 13 rfl rfl)
theorem dX0_befell_64 : decode cX0_befell 64 = .ok (.iload_n 2, 1) := dk_28 (dk_at dksX0_befell_2 16 rfl rfl)
theorem dX0_befell_65 : decode cX0_befell 65 = .ok (.ireturn, 1) := dk_172 (dk_at dksX0_befell_2 17 rfl rfl)
abbrev cX0_image : ByteArray := prog_1_method_89_code
def yX0_image : MethodName := ⟨RX0, "image", "()I"⟩
def dkwX0_image_0 : List UInt8 := [42, 180, 0, 25, 42, 180, 0, 21, 182, 0, 55, 42, 180, 0, 21, 180, 0, 66, 3, 46, 172]
abbrev dktX0_image_0 : List UInt8 := dkwX0_image_0 ++ []
theorem dksX0_image_0 : cX0_image.data.toList.drop 0 = dktX0_image_0 := by decide +kernel
theorem dX0_image_0 : decode cX0_image 0 = .ok (.aload_n 0, 1) := dk_42 (dk_at dksX0_image_0 0 rfl rfl)
theorem dX0_image_1 : decode cX0_image 1 = .ok (.getfield 25, 3) := dk_180 0 25 (dk_at dksX0_image_0 1 rfl rfl)
theorem dX0_image_4 : decode cX0_image 4 = .ok (.aload_n 0, 1) := dk_42 (dk_at dksX0_image_0 4 rfl rfl)
theorem dX0_image_5 : decode cX0_image 5 = .ok (.getfield 21, 3) := dk_180 0 21 (dk_at dksX0_image_0 5 rfl rfl)
theorem dX0_image_8 : decode cX0_image 8 = .ok (.invokevirtual 55, 3) := dk_182 0 55 (dk_at dksX0_image_0 8 rfl rfl)
theorem dX0_image_11 : decode cX0_image 11 = .ok (.aload_n 0, 1) := dk_42 (dk_at dksX0_image_0 11 rfl rfl)
theorem dX0_image_12 : decode cX0_image 12 = .ok (.getfield 21, 3) := dk_180 0 21 (dk_at dksX0_image_0 12 rfl rfl)
theorem dX0_image_15 : decode cX0_image 15 = .ok (.getfield 66, 3) := dk_180 0 66 (dk_at dksX0_image_0 15 rfl rfl)
theorem dX0_image_18 : decode cX0_image 18 = .ok (.iconst 0, 1) := dk_3 (dk_at dksX0_image_0 18 rfl rfl)
theorem dX0_image_19 : decode cX0_image 19 = .ok (.iaload, 1) := dk_46 (dk_at dksX0_image_0 19 rfl rfl)
theorem dX0_image_20 : decode cX0_image 20 = .ok (.ireturn, 1) := dk_172 (dk_at dksX0_image_0 20 rfl rfl)
abbrev cX0_back : ByteArray := prog_1_method_90_code
def yX0_back : MethodName := ⟨RX0, "back", "()I"⟩
def dkwX0_back_0 : List UInt8 := [42, 180, 0, 21, 42, 180, 0, 25, 182, 0, 55, 42, 180, 0, 21, 180, 0, 66, 3, 46, 172]
abbrev dktX0_back_0 : List UInt8 := dkwX0_back_0 ++ []
theorem dksX0_back_0 : cX0_back.data.toList.drop 0 = dktX0_back_0 := by decide +kernel
theorem dX0_back_0 : decode cX0_back 0 = .ok (.aload_n 0, 1) := dk_42 (dk_at dksX0_back_0 0 rfl rfl)
theorem dX0_back_1 : decode cX0_back 1 = .ok (.getfield 21, 3) := dk_180 0 21 (dk_at dksX0_back_0 1 rfl rfl)
theorem dX0_back_4 : decode cX0_back 4 = .ok (.aload_n 0, 1) := dk_42 (dk_at dksX0_back_0 4 rfl rfl)
theorem dX0_back_5 : decode cX0_back 5 = .ok (.getfield 25, 3) := dk_180 0 25 (dk_at dksX0_back_0 5 rfl rfl)
theorem dX0_back_8 : decode cX0_back 8 = .ok (.invokevirtual 55, 3) := dk_182 0 55 (dk_at dksX0_back_0 8 rfl rfl)
theorem dX0_back_11 : decode cX0_back 11 = .ok (.aload_n 0, 1) := dk_42 (dk_at dksX0_back_0 11 rfl rfl)
theorem dX0_back_12 : decode cX0_back 12 = .ok (.getfield 21, 3) := dk_180 0 21 (dk_at dksX0_back_0 12 rfl rfl)
theorem dX0_back_15 : decode cX0_back 15 = .ok (.getfield 66, 3) := dk_180 0 66 (dk_at dksX0_back_0 15 rfl rfl)
theorem dX0_back_18 : decode cX0_back 18 = .ok (.iconst 0, 1) := dk_3 (dk_at dksX0_back_0 18 rfl rfl)
theorem dX0_back_19 : decode cX0_back 19 = .ok (.iaload, 1) := dk_46 (dk_at dksX0_back_0 19 rfl rfl)
theorem dX0_back_20 : decode cX0_back 20 = .ok (.ireturn, 1) := dk_172 (dk_at dksX0_back_0 20 rfl rfl)
abbrev cX0_about : ByteArray := prog_1_method_91_code
def yX0_about : MethodName := ⟨RX0, "about", "(I)I"⟩
def dkwX0_about_4 : List UInt8 := [46, 172, 42, 180, 0, 21, 180, 0, 59, 8, 46, 172, 42, 180, 0, 89, 172, 16, 254, 172]
abbrev dktX0_about_4 : List UInt8 := dkwX0_about_4 ++ []
def dkwX0_about_3 : List UInt8 := [180, 0, 59, 5, 46, 172, 42, 180, 0, 21, 180, 0, 59, 6, 46, 172, 42, 180, 0, 21, 180, 0, 59, 7]
abbrev dktX0_about_3 : List UInt8 := dkwX0_about_3 ++ dktX0_about_4
def dkwX0_about_2 : List UInt8 := [42, 180, 0, 21, 180, 0, 59, 3, 46, 172, 42, 180, 0, 21, 180, 0, 59, 4, 46, 172, 42, 180, 0, 21]
abbrev dktX0_about_2 : List UInt8 := dkwX0_about_2 ++ dktX0_about_3
def dkwX0_about_1 : List UInt8 := [170, 0, 0, 0, 0, 0, 108, 0, 0, 0, 0, 0, 0, 0, 6, 0, 0, 0, 43, 0, 0, 0, 53, 0, 0, 0, 63, 0, 0, 0, 73, 0, 0, 0, 83, 0, 0, 0, 93, 0, 0, 0, 103]
abbrev dktX0_about_1 : List UInt8 := dkwX0_about_1 ++ dktX0_about_2
def dkwX0_about_0 : List UInt8 := [27]
abbrev dktX0_about_0 : List UInt8 := dkwX0_about_0 ++ dktX0_about_1
theorem dksX0_about_0 : cX0_about.data.toList.drop 0 = dktX0_about_0 := by decide +kernel
theorem dksX0_about_1 : cX0_about.data.toList.drop 1 = dktX0_about_1 := dk_seg dksX0_about_0 1 rfl rfl
theorem dksX0_about_2 : cX0_about.data.toList.drop 44 = dktX0_about_2 := dk_seg dksX0_about_1 43 rfl rfl
theorem dksX0_about_3 : cX0_about.data.toList.drop 68 = dktX0_about_3 := dk_seg dksX0_about_2 24 rfl rfl
theorem dksX0_about_4 : cX0_about.data.toList.drop 92 = dktX0_about_4 := dk_seg dksX0_about_3 24 rfl rfl
theorem dX0_about_0 : decode cX0_about 0 = .ok (.iload_n 1, 1) := dk_27 (dk_at dksX0_about_0 0 rfl rfl)
theorem dX0_about_1 : decode cX0_about 1 = .ok (.tableswitch 108 0 6 #[43, 53, 63, 73, 83, 93, 103], 43) := by decide +kernel
theorem dX0_about_44 : decode cX0_about 44 = .ok (.aload_n 0, 1) := dk_42 (dk_at dksX0_about_2 0 rfl rfl)
theorem dX0_about_45 : decode cX0_about 45 = .ok (.getfield 21, 3) := dk_180 0 21 (dk_at dksX0_about_2 1 rfl rfl)
theorem dX0_about_48 : decode cX0_about 48 = .ok (.getfield 59, 3) := dk_180 0 59 (dk_at dksX0_about_2 4 rfl rfl)
theorem dX0_about_51 : decode cX0_about 51 = .ok (.iconst 0, 1) := dk_3 (dk_at dksX0_about_2 7 rfl rfl)
theorem dX0_about_52 : decode cX0_about 52 = .ok (.iaload, 1) := dk_46 (dk_at dksX0_about_2 8 rfl rfl)
theorem dX0_about_53 : decode cX0_about 53 = .ok (.ireturn, 1) := dk_172 (dk_at dksX0_about_2 9 rfl rfl)
theorem dX0_about_54 : decode cX0_about 54 = .ok (.aload_n 0, 1) := dk_42 (dk_at dksX0_about_2 10 rfl rfl)
theorem dX0_about_55 : decode cX0_about 55 = .ok (.getfield 21, 3) := dk_180 0 21 (dk_at dksX0_about_2 11 rfl rfl)
theorem dX0_about_58 : decode cX0_about 58 = .ok (.getfield 59, 3) := dk_180 0 59 (dk_at dksX0_about_2 14 rfl rfl)
theorem dX0_about_61 : decode cX0_about 61 = .ok (.iconst 1, 1) := dk_4 (dk_at dksX0_about_2 17 rfl rfl)
theorem dX0_about_62 : decode cX0_about 62 = .ok (.iaload, 1) := dk_46 (dk_at dksX0_about_2 18 rfl rfl)
theorem dX0_about_63 : decode cX0_about 63 = .ok (.ireturn, 1) := dk_172 (dk_at dksX0_about_2 19 rfl rfl)
theorem dX0_about_64 : decode cX0_about 64 = .ok (.aload_n 0, 1) := dk_42 (dk_at dksX0_about_2 20 rfl rfl)
theorem dX0_about_65 : decode cX0_about 65 = .ok (.getfield 21, 3) := dk_180 0 21 (dk_at dksX0_about_2 21 rfl rfl)
theorem dX0_about_68 : decode cX0_about 68 = .ok (.getfield 59, 3) := dk_180 0 59 (dk_at dksX0_about_3 0 rfl rfl)
theorem dX0_about_71 : decode cX0_about 71 = .ok (.iconst 2, 1) := dk_5 (dk_at dksX0_about_3 3 rfl rfl)
theorem dX0_about_72 : decode cX0_about 72 = .ok (.iaload, 1) := dk_46 (dk_at dksX0_about_3 4 rfl rfl)
theorem dX0_about_73 : decode cX0_about 73 = .ok (.ireturn, 1) := dk_172 (dk_at dksX0_about_3 5 rfl rfl)
theorem dX0_about_74 : decode cX0_about 74 = .ok (.aload_n 0, 1) := dk_42 (dk_at dksX0_about_3 6 rfl rfl)
theorem dX0_about_75 : decode cX0_about 75 = .ok (.getfield 21, 3) := dk_180 0 21 (dk_at dksX0_about_3 7 rfl rfl)
theorem dX0_about_78 : decode cX0_about 78 = .ok (.getfield 59, 3) := dk_180 0 59 (dk_at dksX0_about_3 10 rfl rfl)
theorem dX0_about_81 : decode cX0_about 81 = .ok (.iconst 3, 1) := dk_6 (dk_at dksX0_about_3 13 rfl rfl)
theorem dX0_about_82 : decode cX0_about 82 = .ok (.iaload, 1) := dk_46 (dk_at dksX0_about_3 14 rfl rfl)
theorem dX0_about_83 : decode cX0_about 83 = .ok (.ireturn, 1) := dk_172 (dk_at dksX0_about_3 15 rfl rfl)
theorem dX0_about_84 : decode cX0_about 84 = .ok (.aload_n 0, 1) := dk_42 (dk_at dksX0_about_3 16 rfl rfl)
theorem dX0_about_85 : decode cX0_about 85 = .ok (.getfield 21, 3) := dk_180 0 21 (dk_at dksX0_about_3 17 rfl rfl)
theorem dX0_about_88 : decode cX0_about 88 = .ok (.getfield 59, 3) := dk_180 0 59 (dk_at dksX0_about_3 20 rfl rfl)
theorem dX0_about_91 : decode cX0_about 91 = .ok (.iconst 4, 1) := dk_7 (dk_at dksX0_about_3 23 rfl rfl)
theorem dX0_about_92 : decode cX0_about 92 = .ok (.iaload, 1) := dk_46 (dk_at dksX0_about_4 0 rfl rfl)
theorem dX0_about_93 : decode cX0_about 93 = .ok (.ireturn, 1) := dk_172 (dk_at dksX0_about_4 1 rfl rfl)
theorem dX0_about_94 : decode cX0_about 94 = .ok (.aload_n 0, 1) := dk_42 (dk_at dksX0_about_4 2 rfl rfl)
theorem dX0_about_95 : decode cX0_about 95 = .ok (.getfield 21, 3) := dk_180 0 21 (dk_at dksX0_about_4 3 rfl rfl)
theorem dX0_about_98 : decode cX0_about 98 = .ok (.getfield 59, 3) := dk_180 0 59 (dk_at dksX0_about_4 6 rfl rfl)
theorem dX0_about_101 : decode cX0_about 101 = .ok (.iconst 5, 1) := dk_8 (dk_at dksX0_about_4 9 rfl rfl)
theorem dX0_about_102 : decode cX0_about 102 = .ok (.iaload, 1) := dk_46 (dk_at dksX0_about_4 10 rfl rfl)
theorem dX0_about_103 : decode cX0_about 103 = .ok (.ireturn, 1) := dk_172 (dk_at dksX0_about_4 11 rfl rfl)
theorem dX0_about_104 : decode cX0_about 104 = .ok (.aload_n 0, 1) := dk_42 (dk_at dksX0_about_4 12 rfl rfl)
theorem dX0_about_105 : decode cX0_about 105 = .ok (.getfield 89, 3) := dk_180 0 89 (dk_at dksX0_about_4 13 rfl rfl)
theorem dX0_about_108 : decode cX0_about 108 = .ok (.ireturn, 1) := dk_172 (dk_at dksX0_about_4 16 rfl rfl)
theorem dX0_about_109 : decode cX0_about 109 = .ok (.bipush (-2), 2) := dk_16 254 (dk_at dksX0_about_4 17 rfl rfl)
theorem dX0_about_111 : decode cX0_about 111 = .ok (.ireturn, 1) := dk_172 (dk_at dksX0_about_4 19 rfl rfl)
theorem q130 : (Jvm.Cond.initialized "ApologyUp") ∈ lw_all := lw_g (lw_at lw_m1 1 rfl) rfl
theorem q166 : (Jvm.Cond.instantiable "ApologyUp" (15 : Nat)) ∈ lw_all := lw_g (lw_at lw_m1 37 rfl) rfl
theorem q168 : (Jvm.Cond.instanceMethod ({ cls := "ApologyUp", name := "<init>", desc := "()V" } : Jvm.MethodName)) ∈ lw_all := lw_g (lw_at lw_m1 39 rfl) rfl
theorem q169 : (Jvm.Cond.code ({ cls := "ApologyUp", name := "<init>", desc := "()V" } : Jvm.MethodName) prog_1_method_4_code (1 : Nat) (Option.none : Option Jvm.ClassFile.FieldType)) ∈ lw_all := lw_g (lw_at lw_m1 40 rfl) rfl
theorem q170 : (Jvm.Cond.methodLink "ApologyUp" (12 : Nat) ({ cls := "java/lang/Object", name := "<init>", desc := "()V" } : Jvm.MethodName)) ∈ lw_all := lw_g (lw_at lw_m1 41 rfl) rfl
theorem q173 : (Jvm.Cond.classLink "ApologyUp" (18 : Nat) "ApologyUp$State") ∈ lw_all := lw_g (lw_at lw_m1 44 rfl) rfl
theorem q175 : (Jvm.Cond.methodLink "ApologyUp" (20 : Nat) ({ cls := "ApologyUp$State", name := "<init>", desc := "()V" } : Jvm.MethodName)) ∈ lw_all := lw_g (lw_at lw_m1 46 rfl) rfl
theorem q187 : (Jvm.Cond.fieldLinkNest "ApologyUp" (59 : Nat) "ApologyUp$State" "n" "[I" "ApologyUp") ∈ lw_tbl := lw_at lw_m1 58 rfl
theorem q189 : (Jvm.Cond.fieldLinkNest "ApologyUp" (66 : Nat) "ApologyUp$State" "row" "[I" "ApologyUp") ∈ lw_tbl := lw_at lw_m1 60 rfl
theorem q191 : (Jvm.Cond.fieldLinkNest "ApologyUp" (73 : Nat) "ApologyUp$State" "boss" "[I" "ApologyUp") ∈ lw_tbl := lw_at lw_m1 62 rfl
theorem q193 : (Jvm.Cond.fieldLinkNest "ApologyUp" (76 : Nat) "ApologyUp$State" "pride" "[I" "ApologyUp") ∈ lw_tbl := lw_at lw_m1 64 rfl
theorem q195 : (Jvm.Cond.fieldLinkNest "ApologyUp" (79 : Nat) "ApologyUp$State" "cousin" "[I" "ApologyUp") ∈ lw_tbl := lw_at lw_m1 66 rfl
theorem q197 : (Jvm.Cond.fieldLinkNest "ApologyUp" (348 : Nat) "ApologyUp$State" "weight" "[I" "ApologyUp") ∈ lw_tbl := lw_at lw_m1 68 rfl
theorem q199 : (Jvm.Cond.fieldLinkNest "ApologyUp" (323 : Nat) "ApologyUp$State" "pile" "[I" "ApologyUp") ∈ lw_tbl := lw_at lw_m1 70 rfl
theorem q201 : (Jvm.Cond.fieldLinkNest "ApologyUp" (363 : Nat) "ApologyUp$State" "turn" "[[I" "ApologyUp") ∈ lw_tbl := lw_at lw_m1 72 rfl
theorem q203 : (Jvm.Cond.fieldLinkNest "ApologyUp" (366 : Nat) "ApologyUp$State" "added" "[[I" "ApologyUp") ∈ lw_tbl := lw_at lw_m1 74 rfl
theorem q205 : (Jvm.Cond.fieldLinkNest "ApologyUp" (284 : Nat) "ApologyUp$State" "step" "[[I" "ApologyUp") ∈ lw_tbl := lw_at lw_m1 76 rfl
theorem q207 : (Jvm.Cond.fieldLinkNest "ApologyUp" (96 : Nat) "ApologyUp$State" "text" "[LApologyUp$Text;" "ApologyUp") ∈ lw_tbl := lw_at lw_m1 78 rfl
theorem q232 : (Jvm.Cond.methodLink "ApologyUp" (55 : Nat) ({ cls := "ApologyUp$State", name := "be", desc := "(LApologyUp$State;)V" } : Jvm.MethodName)) ∈ lw_all := lw_g (lw_at lw_m1 103 rfl) rfl
theorem q245 : (Jvm.Cond.fieldLink "ApologyUp" (21 : Nat) "ApologyUp" "now" "LApologyUp$State;") ∈ lw_all := lw_g (lw_at lw_m1 116 rfl) rfl
theorem q246 : (Jvm.Cond.fieldLink "ApologyUp" (25 : Nat) "ApologyUp" "image" "LApologyUp$State;") ∈ lw_all := lw_g (lw_at lw_m1 117 rfl) rfl
theorem q247 : (Jvm.Cond.fieldLink "ApologyUp" (28 : Nat) "ApologyUp" "tape" "[B") ∈ lw_all := lw_g (lw_at lw_m1 118 rfl) rfl
theorem q248 : (Jvm.Cond.fieldLink "ApologyUp" (89 : Nat) "ApologyUp" "taped" "I") ∈ lw_all := lw_g (lw_at lw_m1 119 rfl) rfl
theorem q249 : (Jvm.Cond.fieldLink "ApologyUp" (32 : Nat) "ApologyUp" "fault" "I") ∈ lw_all := lw_g (lw_at lw_m1 120 rfl) rfl
theorem q250 : (Jvm.Cond.fieldLink "ApologyUp" (36 : Nat) "ApologyUp" "faultAt" "I") ∈ lw_all := lw_g (lw_at lw_m1 121 rfl) rfl
theorem q251 : (Jvm.Cond.fieldLink "ApologyUp" (39 : Nat) "ApologyUp" "names" "[I") ∈ lw_all := lw_g (lw_at lw_m1 122 rfl) rfl
theorem q252 : (Jvm.Cond.fieldLink "ApologyUp" (43 : Nat) "ApologyUp" "tried" "[I") ∈ lw_all := lw_g (lw_at lw_m1 123 rfl) rfl
theorem q253 : (Jvm.Cond.fieldLink "ApologyUp" (46 : Nat) "ApologyUp" "way" "[I") ∈ lw_all := lw_g (lw_at lw_m1 124 rfl) rfl
theorem q254 : (Jvm.Cond.fieldLink "ApologyUp" (49 : Nat) "ApologyUp" "bestWay" "[I") ∈ lw_all := lw_g (lw_at lw_m1 125 rfl) rfl
theorem q255 : (Jvm.Cond.fieldLink "ApologyUp" (307 : Nat) "ApologyUp" "bestDays" "I") ∈ lw_all := lw_g (lw_at lw_m1 126 rfl) rfl
theorem q256 : (Jvm.Cond.fieldLink "ApologyUp" (310 : Nat) "ApologyUp" "bestSize" "I") ∈ lw_all := lw_g (lw_at lw_m1 127 rfl) rfl
theorem q257 : (Jvm.Cond.fieldLink "ApologyUp" (313 : Nat) "ApologyUp" "bestLong" "I") ∈ lw_all := lw_g (lw_at lw_m1 128 rfl) rfl
theorem q258 : (Jvm.Cond.fieldLink "ApologyUp" (52 : Nat) "ApologyUp" "with" "[I") ∈ lw_all := lw_g (lw_at lw_m1 129 rfl) rfl
theorem q259 : (Jvm.Cond.fieldLink "ApologyUp" (331 : Nat) "ApologyUp" "all" "I") ∈ lw_all := lw_g (lw_at lw_m1 130 rfl) rfl
theorem q260 : (Jvm.Cond.laysFinal "ApologyUp" "ApologyUp" "now" "LApologyUp$State;") ∈ lw_all := lw_g (lw_at lw_m1 131 rfl) rfl
theorem q261 : (Jvm.Cond.soleField "ApologyUp" "now") ∈ lw_all := lw_g (lw_at lw_m1 132 rfl) rfl
theorem q262 : (Jvm.Cond.laysFinal "ApologyUp" "ApologyUp" "image" "LApologyUp$State;") ∈ lw_all := lw_g (lw_at lw_m1 133 rfl) rfl
theorem q263 : (Jvm.Cond.soleField "ApologyUp" "image") ∈ lw_all := lw_g (lw_at lw_m1 134 rfl) rfl
theorem q264 : (Jvm.Cond.laysFinal "ApologyUp" "ApologyUp" "tape" "[B") ∈ lw_all := lw_g (lw_at lw_m1 135 rfl) rfl
theorem q265 : (Jvm.Cond.soleField "ApologyUp" "tape") ∈ lw_all := lw_g (lw_at lw_m1 136 rfl) rfl
theorem q266 : (Jvm.Cond.lays "ApologyUp" "ApologyUp" "taped" "I") ∈ lw_all := lw_g (lw_at lw_m1 137 rfl) rfl
theorem q267 : (Jvm.Cond.soleField "ApologyUp" "taped") ∈ lw_all := lw_g (lw_at lw_m1 138 rfl) rfl
theorem q268 : (Jvm.Cond.lays "ApologyUp" "ApologyUp" "fault" "I") ∈ lw_all := lw_g (lw_at lw_m1 139 rfl) rfl
theorem q269 : (Jvm.Cond.soleField "ApologyUp" "fault") ∈ lw_all := lw_g (lw_at lw_m1 140 rfl) rfl
theorem q270 : (Jvm.Cond.lays "ApologyUp" "ApologyUp" "faultAt" "I") ∈ lw_all := lw_g (lw_at lw_m1 141 rfl) rfl
theorem q271 : (Jvm.Cond.soleField "ApologyUp" "faultAt") ∈ lw_all := lw_g (lw_at lw_m1 142 rfl) rfl
theorem q272 : (Jvm.Cond.laysFinal "ApologyUp" "ApologyUp" "names" "[I") ∈ lw_all := lw_g (lw_at lw_m1 143 rfl) rfl
theorem q273 : (Jvm.Cond.soleField "ApologyUp" "names") ∈ lw_all := lw_g (lw_at lw_m1 144 rfl) rfl
theorem q274 : (Jvm.Cond.laysFinal "ApologyUp" "ApologyUp" "tried" "[I") ∈ lw_all := lw_g (lw_at lw_m1 145 rfl) rfl
theorem q275 : (Jvm.Cond.soleField "ApologyUp" "tried") ∈ lw_all := lw_g (lw_at lw_m1 146 rfl) rfl
theorem q276 : (Jvm.Cond.laysFinal "ApologyUp" "ApologyUp" "way" "[I") ∈ lw_all := lw_g (lw_at lw_m1 147 rfl) rfl
theorem q277 : (Jvm.Cond.soleField "ApologyUp" "way") ∈ lw_all := lw_g (lw_at lw_m1 148 rfl) rfl
theorem q278 : (Jvm.Cond.laysFinal "ApologyUp" "ApologyUp" "bestWay" "[I") ∈ lw_all := lw_g (lw_at lw_m1 149 rfl) rfl
theorem q279 : (Jvm.Cond.soleField "ApologyUp" "bestWay") ∈ lw_all := lw_g (lw_at lw_m1 150 rfl) rfl
theorem q280 : (Jvm.Cond.lays "ApologyUp" "ApologyUp" "bestDays" "I") ∈ lw_all := lw_g (lw_at lw_m1 151 rfl) rfl
theorem q281 : (Jvm.Cond.soleField "ApologyUp" "bestDays") ∈ lw_all := lw_g (lw_at lw_m1 152 rfl) rfl
theorem q282 : (Jvm.Cond.lays "ApologyUp" "ApologyUp" "bestSize" "I") ∈ lw_all := lw_g (lw_at lw_m1 153 rfl) rfl
theorem q283 : (Jvm.Cond.soleField "ApologyUp" "bestSize") ∈ lw_all := lw_g (lw_at lw_m1 154 rfl) rfl
theorem q284 : (Jvm.Cond.lays "ApologyUp" "ApologyUp" "bestLong" "I") ∈ lw_all := lw_g (lw_at lw_m1 155 rfl) rfl
theorem q285 : (Jvm.Cond.soleField "ApologyUp" "bestLong") ∈ lw_all := lw_g (lw_at lw_m1 156 rfl) rfl
theorem q286 : (Jvm.Cond.laysFinal "ApologyUp" "ApologyUp" "with" "[I") ∈ lw_all := lw_g (lw_at lw_m1 157 rfl) rfl
theorem q287 : (Jvm.Cond.soleField "ApologyUp" "with") ∈ lw_all := lw_g (lw_at lw_m1 158 rfl) rfl
theorem q288 : (Jvm.Cond.lays "ApologyUp" "ApologyUp" "all" "I") ∈ lw_all := lw_g (lw_at lw_m1 159 rfl) rfl
theorem q289 : (Jvm.Cond.soleField "ApologyUp" "all") ∈ lw_all := lw_g (lw_at lw_m1 160 rfl) rfl
theorem q290 : (Jvm.Cond.superclass "ApologyUp" "java/lang/Object") ∈ lw_all := lw_g (lw_at lw_m1 161 rfl) rfl
theorem q293 : (Jvm.Cond.instanceMethod ({ cls := "ApologyUp", name := "officer", desc := "(II)I" } : Jvm.MethodName)) ∈ lw_all := lw_g (lw_at lw_m1 164 rfl) rfl
theorem q294 : (Jvm.Cond.selects "ApologyUp" ({ cls := "ApologyUp", name := "officer", desc := "(II)I" } : Jvm.MethodName) ({ cls := "ApologyUp", name := "officer", desc := "(II)I" } : Jvm.MethodName)) ∈ lw_all := lw_g (lw_at lw_m1 165 rfl) rfl
theorem q295 : (Jvm.Cond.code ({ cls := "ApologyUp", name := "officer", desc := "(II)I" } : Jvm.MethodName) prog_1_method_8_code (4 : Nat) (Option.some Jvm.ClassFile.FieldType.int)) ∈ lw_all := lw_g (lw_at lw_m1 166 rfl) rfl
theorem q296 : (Jvm.Cond.methodLink "ApologyUp" (69 : Nat) ({ cls := "ApologyUp", name := "isOfficer", desc := "(I)Z" } : Jvm.MethodName)) ∈ lw_all := lw_g (lw_at lw_m1 167 rfl) rfl
theorem q297 : (Jvm.Cond.privateMethod ({ cls := "ApologyUp", name := "isOfficer", desc := "(I)Z" } : Jvm.MethodName)) ∈ lw_tbl := lw_at lw_m1 168 rfl
theorem q298 : (Jvm.Cond.instanceMethod ({ cls := "ApologyUp", name := "isOfficer", desc := "(I)Z" } : Jvm.MethodName)) ∈ lw_all := lw_g (lw_at lw_m1 169 rfl) rfl
theorem q299 : (Jvm.Cond.code ({ cls := "ApologyUp", name := "isOfficer", desc := "(I)Z" } : Jvm.MethodName) prog_1_method_5_code (2 : Nat) (Option.some Jvm.ClassFile.FieldType.boolean)) ∈ lw_all := lw_g (lw_at lw_m1 170 rfl) rfl
theorem q300 : (Jvm.Cond.methodLink "ApologyUp" (62 : Nat) ({ cls := "ApologyUp", name := "in", desc := "(III)Z" } : Jvm.MethodName)) ∈ lw_all := lw_g (lw_at lw_m1 171 rfl) rfl
theorem q301 : (Jvm.Cond.static ({ cls := "ApologyUp", name := "in", desc := "(III)Z" } : Jvm.MethodName)) ∈ lw_all := lw_g (lw_at lw_m1 172 rfl) rfl
theorem q302 : (Jvm.Cond.code ({ cls := "ApologyUp", name := "in", desc := "(III)Z" } : Jvm.MethodName) prog_1_method_1_code (3 : Nat) (Option.some Jvm.ClassFile.FieldType.boolean)) ∈ lw_all := lw_g (lw_at lw_m1 173 rfl) rfl
theorem q304 : (Jvm.Cond.instanceMethod ({ cls := "ApologyUp", name := "cousin", desc := "(II)Z" } : Jvm.MethodName)) ∈ lw_all := lw_g (lw_at lw_m1 175 rfl) rfl
theorem q305 : (Jvm.Cond.selects "ApologyUp" ({ cls := "ApologyUp", name := "cousin", desc := "(II)Z" } : Jvm.MethodName) ({ cls := "ApologyUp", name := "cousin", desc := "(II)Z" } : Jvm.MethodName)) ∈ lw_all := lw_g (lw_at lw_m1 176 rfl) rfl
theorem q306 : (Jvm.Cond.code ({ cls := "ApologyUp", name := "cousin", desc := "(II)Z" } : Jvm.MethodName) prog_1_method_9_code (3 : Nat) (Option.some Jvm.ClassFile.FieldType.boolean)) ∈ lw_all := lw_g (lw_at lw_m1 177 rfl) rfl
theorem q307 : (Jvm.Cond.methodLink "ApologyUp" (82 : Nat) ({ cls := "ApologyUp", name := "has", desc := "(II)Z" } : Jvm.MethodName)) ∈ lw_all := lw_g (lw_at lw_m1 178 rfl) rfl
theorem q308 : (Jvm.Cond.static ({ cls := "ApologyUp", name := "has", desc := "(II)Z" } : Jvm.MethodName)) ∈ lw_all := lw_g (lw_at lw_m1 179 rfl) rfl
theorem q309 : (Jvm.Cond.code ({ cls := "ApologyUp", name := "has", desc := "(II)Z" } : Jvm.MethodName) prog_1_method_2_code (2 : Nat) (Option.some Jvm.ClassFile.FieldType.boolean)) ∈ lw_all := lw_g (lw_at lw_m1 180 rfl) rfl
theorem q311 : (Jvm.Cond.instanceMethod ({ cls := "ApologyUp", name := "feed", desc := "(IIIII)I" } : Jvm.MethodName)) ∈ lw_all := lw_g (lw_at lw_m1 182 rfl) rfl
theorem q312 : (Jvm.Cond.selects "ApologyUp" ({ cls := "ApologyUp", name := "feed", desc := "(IIIII)I" } : Jvm.MethodName) ({ cls := "ApologyUp", name := "feed", desc := "(IIIII)I" } : Jvm.MethodName)) ∈ lw_all := lw_g (lw_at lw_m1 183 rfl) rfl
theorem q313 : (Jvm.Cond.code ({ cls := "ApologyUp", name := "feed", desc := "(IIIII)I" } : Jvm.MethodName) prog_1_method_15_code (6 : Nat) (Option.some Jvm.ClassFile.FieldType.int)) ∈ lw_all := lw_g (lw_at lw_m1 184 rfl) rfl
theorem q314 : (Jvm.Cond.methodLink "ApologyUp" (92 : Nat) ({ cls := "ApologyUp", name := "put", desc := "(I)V" } : Jvm.MethodName)) ∈ lw_all := lw_g (lw_at lw_m1 185 rfl) rfl
theorem q315 : (Jvm.Cond.privateMethod ({ cls := "ApologyUp", name := "put", desc := "(I)V" } : Jvm.MethodName)) ∈ lw_tbl := lw_at lw_m1 186 rfl
theorem q316 : (Jvm.Cond.instanceMethod ({ cls := "ApologyUp", name := "put", desc := "(I)V" } : Jvm.MethodName)) ∈ lw_all := lw_g (lw_at lw_m1 187 rfl) rfl
theorem q317 : (Jvm.Cond.code ({ cls := "ApologyUp", name := "put", desc := "(I)V" } : Jvm.MethodName) prog_1_method_14_code (3 : Nat) (Option.none : Option Jvm.ClassFile.FieldType)) ∈ lw_all := lw_g (lw_at lw_m1 188 rfl) rfl
theorem q319 : (Jvm.Cond.instanceMethod ({ cls := "ApologyUp", name := "end", desc := "(I)I" } : Jvm.MethodName)) ∈ lw_all := lw_g (lw_at lw_m1 190 rfl) rfl
theorem q320 : (Jvm.Cond.selects "ApologyUp" ({ cls := "ApologyUp", name := "end", desc := "(I)I" } : Jvm.MethodName) ({ cls := "ApologyUp", name := "end", desc := "(I)I" } : Jvm.MethodName)) ∈ lw_all := lw_g (lw_at lw_m1 191 rfl) rfl
theorem q321 : (Jvm.Cond.code ({ cls := "ApologyUp", name := "end", desc := "(I)I" } : Jvm.MethodName) prog_1_method_16_code (2 : Nat) (Option.some Jvm.ClassFile.FieldType.int)) ∈ lw_all := lw_g (lw_at lw_m1 192 rfl) rfl
theorem q323 : (Jvm.Cond.instanceMethod ({ cls := "ApologyUp", name := "text", desc := "()I" } : Jvm.MethodName)) ∈ lw_all := lw_g (lw_at lw_m1 194 rfl) rfl
theorem q324 : (Jvm.Cond.selects "ApologyUp" ({ cls := "ApologyUp", name := "text", desc := "()I" } : Jvm.MethodName) ({ cls := "ApologyUp", name := "text", desc := "()I" } : Jvm.MethodName)) ∈ lw_all := lw_g (lw_at lw_m1 195 rfl) rfl
theorem q325 : (Jvm.Cond.codeWith ({ cls := "ApologyUp", name := "text", desc := "()I" } : Jvm.MethodName) prog_1_method_17_code (5 : Nat) (Option.some Jvm.ClassFile.FieldType.int) [((30 : Nat), (62 : Nat), (70 : Nat), (109 : Nat)), ((30 : Nat), (62 : Nat), (96 : Nat), (0 : Nat)), ((70 : Nat), (89 : Nat), (96 : Nat), (0 : Nat)), ((96 : Nat), (98 : Nat), (96 : Nat), (0 : Nat))]) ∈ lw_all := lw_g (lw_at lw_m1 196 rfl) rfl
theorem q326 : (Jvm.Cond.classLink "ApologyUp" (109 : Nat) "ApologyUp$Wrong") ∈ lw_all := lw_g (lw_at lw_m1 197 rfl) rfl
theorem q327 : (Jvm.Cond.classLink "ApologyUp" (100 : Nat) "ApologyUp$Tokens") ∈ lw_all := lw_g (lw_at lw_m1 198 rfl) rfl
theorem q329 : (Jvm.Cond.methodLink "ApologyUp" (102 : Nat) ({ cls := "ApologyUp$Tokens", name := "<init>", desc := "([BI)V" } : Jvm.MethodName)) ∈ lw_all := lw_g (lw_at lw_m1 200 rfl) rfl
theorem q358 : (Jvm.Cond.methodLink "ApologyUp" (105 : Nat) ({ cls := "ApologyUp$Tokens", name := "read", desc := "()LApologyUp$Text;" } : Jvm.MethodName)) ∈ lw_all := lw_g (lw_at lw_m1 229 rfl) rfl
theorem q398 : (Jvm.Cond.fieldLinkNest "ApologyUp" (122 : Nat) "ApologyUp$Text" "law" "[LApologyUp$Sum;" "ApologyUp") ∈ lw_tbl := lw_at lw_m2 29 rfl
theorem q402 : (Jvm.Cond.fieldLinkNest "ApologyUp" (261 : Nat) "ApologyUp$Text" "doings" "Ljava/util/ArrayList;" "ApologyUp") ∈ lw_tbl := lw_at lw_m2 33 rfl
theorem q528 : (Jvm.Cond.fieldLinkNest "ApologyUp" (111 : Nat) "ApologyUp$Wrong" "fault" "I" "ApologyUp") ∈ lw_tbl := lw_at lw_m2 159 rfl
theorem q530 : (Jvm.Cond.fieldLinkNest "ApologyUp" (112 : Nat) "ApologyUp$Wrong" "place" "I" "ApologyUp") ∈ lw_tbl := lw_at lw_m2 161 rfl
theorem q658 : (Jvm.Cond.selects "ApologyUp" ({ cls := "java/lang/Object", name := "getClass", desc := "()Ljava/lang/Class;" } : Jvm.MethodName) ({ cls := "java/lang/Object", name := "getClass", desc := "()Ljava/lang/Class;" } : Jvm.MethodName)) ∈ lw_all := lw_g (lw_at lw_m3 49 rfl) rfl
theorem q875 : (Jvm.Cond.instanceMethod ({ cls := "ApologyUp", name := "fault", desc := "(I)I" } : Jvm.MethodName)) ∈ lw_all := lw_g (lw_at lw_m4 26 rfl) rfl
theorem q876 : (Jvm.Cond.selects "ApologyUp" ({ cls := "ApologyUp", name := "fault", desc := "(I)I" } : Jvm.MethodName) ({ cls := "ApologyUp", name := "fault", desc := "(I)I" } : Jvm.MethodName)) ∈ lw_all := lw_g (lw_at lw_m4 27 rfl) rfl
theorem q877 : (Jvm.Cond.code ({ cls := "ApologyUp", name := "fault", desc := "(I)I" } : Jvm.MethodName) prog_1_method_18_code (2 : Nat) (Option.some Jvm.ClassFile.FieldType.int)) ∈ lw_all := lw_g (lw_at lw_m4 28 rfl) rfl
theorem q879 : (Jvm.Cond.instanceMethod ({ cls := "ApologyUp", name := "by", desc := "(I)Z" } : Jvm.MethodName)) ∈ lw_all := lw_g (lw_at lw_m4 30 rfl) rfl
theorem q880 : (Jvm.Cond.selects "ApologyUp" ({ cls := "ApologyUp", name := "by", desc := "(I)Z" } : Jvm.MethodName) ({ cls := "ApologyUp", name := "by", desc := "(I)Z" } : Jvm.MethodName)) ∈ lw_all := lw_g (lw_at lw_m4 31 rfl) rfl
theorem q881 : (Jvm.Cond.code ({ cls := "ApologyUp", name := "by", desc := "(I)Z" } : Jvm.MethodName) prog_1_method_20_code (2 : Nat) (Option.some Jvm.ClassFile.FieldType.boolean)) ∈ lw_all := lw_g (lw_at lw_m4 32 rfl) rfl
theorem q882 : (Jvm.Cond.methodLink "ApologyUp" (115 : Nat) ({ cls := "ApologyUp", name := "isText", desc := "(I)Z" } : Jvm.MethodName)) ∈ lw_all := lw_g (lw_at lw_m4 33 rfl) rfl
theorem q883 : (Jvm.Cond.privateMethod ({ cls := "ApologyUp", name := "isText", desc := "(I)Z" } : Jvm.MethodName)) ∈ lw_tbl := lw_at lw_m4 34 rfl
theorem q884 : (Jvm.Cond.instanceMethod ({ cls := "ApologyUp", name := "isText", desc := "(I)Z" } : Jvm.MethodName)) ∈ lw_all := lw_g (lw_at lw_m4 35 rfl) rfl
theorem q885 : (Jvm.Cond.code ({ cls := "ApologyUp", name := "isText", desc := "(I)Z" } : Jvm.MethodName) prog_1_method_19_code (2 : Nat) (Option.some Jvm.ClassFile.FieldType.boolean)) ∈ lw_all := lw_g (lw_at lw_m4 36 rfl) rfl
theorem q887 : (Jvm.Cond.instanceMethod ({ cls := "ApologyUp", name := "day", desc := "(I)I" } : Jvm.MethodName)) ∈ lw_all := lw_g (lw_at lw_m4 38 rfl) rfl
theorem q888 : (Jvm.Cond.selects "ApologyUp" ({ cls := "ApologyUp", name := "day", desc := "(I)I" } : Jvm.MethodName) ({ cls := "ApologyUp", name := "day", desc := "(I)I" } : Jvm.MethodName)) ∈ lw_all := lw_g (lw_at lw_m4 39 rfl) rfl
theorem q889 : (Jvm.Cond.code ({ cls := "ApologyUp", name := "day", desc := "(I)I" } : Jvm.MethodName) prog_1_method_36_code (4 : Nat) (Option.some Jvm.ClassFile.FieldType.int)) ∈ lw_all := lw_g (lw_at lw_m4 40 rfl) rfl
theorem q890 : (Jvm.Cond.methodLink "ApologyUp" (205 : Nat) ({ cls := "ApologyUp$State", name := "keeps", desc := "()V" } : Jvm.MethodName)) ∈ lw_all := lw_g (lw_at lw_m4 41 rfl) rfl
theorem q894 : (Jvm.Cond.methodLink "ApologyUp" (208 : Nat) ({ cls := "ApologyUp", name := "passes", desc := "([I)I" } : Jvm.MethodName)) ∈ lw_all := lw_g (lw_at lw_m4 45 rfl) rfl
theorem q895 : (Jvm.Cond.privateMethod ({ cls := "ApologyUp", name := "passes", desc := "([I)I" } : Jvm.MethodName)) ∈ lw_tbl := lw_at lw_m4 46 rfl
theorem q896 : (Jvm.Cond.instanceMethod ({ cls := "ApologyUp", name := "passes", desc := "([I)I" } : Jvm.MethodName)) ∈ lw_all := lw_g (lw_at lw_m4 47 rfl) rfl
theorem q897 : (Jvm.Cond.code ({ cls := "ApologyUp", name := "passes", desc := "([I)I" } : Jvm.MethodName) prog_1_method_35_code (5 : Nat) (Option.some Jvm.ClassFile.FieldType.int)) ∈ lw_all := lw_g (lw_at lw_m4 48 rfl) rfl
theorem q898 : (Jvm.Cond.methodLink "ApologyUp" (149 : Nat) ({ cls := "ApologyUp", name := "at", desc := "(II)I" } : Jvm.MethodName)) ∈ lw_all := lw_g (lw_at lw_m4 49 rfl) rfl
theorem q899 : (Jvm.Cond.static ({ cls := "ApologyUp", name := "at", desc := "(II)I" } : Jvm.MethodName)) ∈ lw_all := lw_g (lw_at lw_m4 50 rfl) rfl
theorem q900 : (Jvm.Cond.code ({ cls := "ApologyUp", name := "at", desc := "(II)I" } : Jvm.MethodName) prog_1_method_7_code (2 : Nat) (Option.some Jvm.ClassFile.FieldType.int)) ∈ lw_all := lw_g (lw_at lw_m4 51 rfl) rfl
theorem q901 : (Jvm.Cond.methodLink "ApologyUp" (188 : Nat) ({ cls := "ApologyUp", name := "waits", desc := "([II)Z" } : Jvm.MethodName)) ∈ lw_all := lw_g (lw_at lw_m4 52 rfl) rfl
theorem q902 : (Jvm.Cond.static ({ cls := "ApologyUp", name := "waits", desc := "([II)Z" } : Jvm.MethodName)) ∈ lw_all := lw_g (lw_at lw_m4 53 rfl) rfl
theorem q903 : (Jvm.Cond.code ({ cls := "ApologyUp", name := "waits", desc := "([II)Z" } : Jvm.MethodName) prog_1_method_34_code (2 : Nat) (Option.some Jvm.ClassFile.FieldType.boolean)) ∈ lw_all := lw_g (lw_at lw_m4 54 rfl) rfl
theorem q904 : (Jvm.Cond.methodLink "ApologyUp" (192 : Nat) ({ cls := "ApologyUp", name := "goesUp", desc := "([II)V" } : Jvm.MethodName)) ∈ lw_all := lw_g (lw_at lw_m4 55 rfl) rfl
theorem q905 : (Jvm.Cond.privateMethod ({ cls := "ApologyUp", name := "goesUp", desc := "([II)V" } : Jvm.MethodName)) ∈ lw_tbl := lw_at lw_m4 56 rfl
theorem q906 : (Jvm.Cond.instanceMethod ({ cls := "ApologyUp", name := "goesUp", desc := "([II)V" } : Jvm.MethodName)) ∈ lw_all := lw_g (lw_at lw_m4 57 rfl) rfl
theorem q907 : (Jvm.Cond.code ({ cls := "ApologyUp", name := "goesUp", desc := "([II)V" } : Jvm.MethodName) prog_1_method_30_code (5 : Nat) (Option.none : Option Jvm.ClassFile.FieldType)) ∈ lw_all := lw_g (lw_at lw_m4 58 rfl) rfl
theorem q908 : (Jvm.Cond.methodLink "ApologyUp" (164 : Nat) ({ cls := "ApologyUp", name := "lawOf", desc := "([IIII)I" } : Jvm.MethodName)) ∈ lw_all := lw_g (lw_at lw_m4 59 rfl) rfl
theorem q909 : (Jvm.Cond.privateMethod ({ cls := "ApologyUp", name := "lawOf", desc := "([IIII)I" } : Jvm.MethodName)) ∈ lw_tbl := lw_at lw_m4 60 rfl
theorem q910 : (Jvm.Cond.instanceMethod ({ cls := "ApologyUp", name := "lawOf", desc := "([IIII)I" } : Jvm.MethodName)) ∈ lw_all := lw_g (lw_at lw_m4 61 rfl) rfl
theorem q911 : (Jvm.Cond.code ({ cls := "ApologyUp", name := "lawOf", desc := "([IIII)I" } : Jvm.MethodName) prog_1_method_25_code (6 : Nat) (Option.some Jvm.ClassFile.FieldType.int)) ∈ lw_all := lw_g (lw_at lw_m4 62 rfl) rfl
theorem q912 : (Jvm.Cond.methodLink "ApologyUp" (142 : Nat) ({ cls := "ApologyUp", name := "namesOf", desc := "(IIIII)V" } : Jvm.MethodName)) ∈ lw_all := lw_g (lw_at lw_m4 63 rfl) rfl
theorem q913 : (Jvm.Cond.privateMethod ({ cls := "ApologyUp", name := "namesOf", desc := "(IIIII)V" } : Jvm.MethodName)) ∈ lw_tbl := lw_at lw_m4 64 rfl
theorem q914 : (Jvm.Cond.instanceMethod ({ cls := "ApologyUp", name := "namesOf", desc := "(IIIII)V" } : Jvm.MethodName)) ∈ lw_all := lw_g (lw_at lw_m4 65 rfl) rfl
theorem q915 : (Jvm.Cond.code ({ cls := "ApologyUp", name := "namesOf", desc := "(IIIII)V" } : Jvm.MethodName) prog_1_method_23_code (7 : Nat) (Option.none : Option Jvm.ClassFile.FieldType)) ∈ lw_all := lw_g (lw_at lw_m4 66 rfl) rfl
theorem q916 : (Jvm.Cond.methodLink "ApologyUp" (138 : Nat) ({ cls := "ApologyUp", name := "rankOf", desc := "(I)I" } : Jvm.MethodName)) ∈ lw_all := lw_g (lw_at lw_m4 67 rfl) rfl
theorem q917 : (Jvm.Cond.privateMethod ({ cls := "ApologyUp", name := "rankOf", desc := "(I)I" } : Jvm.MethodName)) ∈ lw_tbl := lw_at lw_m4 68 rfl
theorem q918 : (Jvm.Cond.instanceMethod ({ cls := "ApologyUp", name := "rankOf", desc := "(I)I" } : Jvm.MethodName)) ∈ lw_all := lw_g (lw_at lw_m4 69 rfl) rfl
theorem q919 : (Jvm.Cond.code ({ cls := "ApologyUp", name := "rankOf", desc := "(I)I" } : Jvm.MethodName) prog_1_method_10_code (4 : Nat) (Option.some Jvm.ClassFile.FieldType.int)) ∈ lw_all := lw_g (lw_at lw_m4 70 rfl) rfl
theorem q920 : (Jvm.Cond.methodLink "ApologyUp" (153 : Nat) ({ cls := "ApologyUp", name := "rules", desc := "()LApologyUp$Text;" } : Jvm.MethodName)) ∈ lw_all := lw_g (lw_at lw_m4 71 rfl) rfl
theorem q921 : (Jvm.Cond.privateMethod ({ cls := "ApologyUp", name := "rules", desc := "()LApologyUp$Text;" } : Jvm.MethodName)) ∈ lw_tbl := lw_at lw_m4 72 rfl
theorem q922 : (Jvm.Cond.instanceMethod ({ cls := "ApologyUp", name := "rules", desc := "()LApologyUp$Text;" } : Jvm.MethodName)) ∈ lw_all := lw_g (lw_at lw_m4 73 rfl) rfl
theorem q923 : (Jvm.Cond.code ({ cls := "ApologyUp", name := "rules", desc := "()LApologyUp$Text;" } : Jvm.MethodName) prog_1_method_21_code (1 : Nat) (Option.some (Jvm.ClassFile.FieldType.object "ApologyUp$Text"))) ∈ lw_all := lw_g (lw_at lw_m4 74 rfl) rfl
theorem q924 : (Jvm.Cond.fieldLink "ApologyUp" (118 : Nat) "ApologyUp" "NOTHING" "LApologyUp$Text;") ∈ lw_all := lw_g (lw_at lw_m4 75 rfl) rfl
theorem q925 : (Jvm.Cond.laysStatic "ApologyUp" "NOTHING" "LApologyUp$Text;") ∈ lw_tbl := lw_at lw_m4 76 rfl
theorem q926 : (Jvm.Cond.methodLink "ApologyUp" (146 : Nat) ({ cls := "ApologyUp", name := "law", desc := "(LApologyUp$Text;IIII)I" } : Jvm.MethodName)) ∈ lw_all := lw_g (lw_at lw_m4 77 rfl) rfl
theorem q927 : (Jvm.Cond.privateMethod ({ cls := "ApologyUp", name := "law", desc := "(LApologyUp$Text;IIII)I" } : Jvm.MethodName)) ∈ lw_tbl := lw_at lw_m4 78 rfl
theorem q928 : (Jvm.Cond.instanceMethod ({ cls := "ApologyUp", name := "law", desc := "(LApologyUp$Text;IIII)I" } : Jvm.MethodName)) ∈ lw_all := lw_g (lw_at lw_m4 79 rfl) rfl
theorem q929 : (Jvm.Cond.code ({ cls := "ApologyUp", name := "law", desc := "(LApologyUp$Text;IIII)I" } : Jvm.MethodName) prog_1_method_22_code (6 : Nat) (Option.some Jvm.ClassFile.FieldType.int)) ∈ lw_all := lw_g (lw_at lw_m4 80 rfl) rfl
theorem q930 : (Jvm.Cond.interfaceEntry "ApologyUp" (128 : Nat)) ∈ lw_tbl := lw_at lw_m4 81 rfl
theorem q931 : (Jvm.Cond.methodLink "ApologyUp" (128 : Nat) ({ cls := "ApologyUp$Sum", name := "of", desc := "([I)J" } : Jvm.MethodName)) ∈ lw_all := lw_g (lw_at lw_m4 82 rfl) rfl
theorem q1035 : (Jvm.Cond.methodLink "ApologyUp" (134 : Nat) ({ cls := "ApologyUp", name := "held", desc := "(JII)I" } : Jvm.MethodName)) ∈ lw_all := lw_g (lw_at lw_m4 186 rfl) rfl
theorem q1036 : (Jvm.Cond.static ({ cls := "ApologyUp", name := "held", desc := "(JII)I" } : Jvm.MethodName)) ∈ lw_all := lw_g (lw_at lw_m4 187 rfl) rfl
theorem q1037 : (Jvm.Cond.code ({ cls := "ApologyUp", name := "held", desc := "(JII)I" } : Jvm.MethodName) prog_1_method_3_code (4 : Nat) (Option.some Jvm.ClassFile.FieldType.int)) ∈ lw_all := lw_g (lw_at lw_m4 188 rfl) rfl
theorem q1038 : (Jvm.Cond.methodLink "ApologyUp" (3 : Nat) ({ cls := "java/lang/Math", name := "min", desc := "(JJ)J" } : Jvm.MethodName)) ∈ lw_all := lw_g (lw_at lw_m4 189 rfl) rfl
theorem q1039 : (Jvm.Cond.methodLink "ApologyUp" (9 : Nat) ({ cls := "java/lang/Math", name := "max", desc := "(JJ)J" } : Jvm.MethodName)) ∈ lw_all := lw_g (lw_at lw_m4 190 rfl) rfl
theorem q1040 : (Jvm.Cond.methodLink "ApologyUp" (172 : Nat) ({ cls := "ApologyUp", name := "grows", desc := "([III)V" } : Jvm.MethodName)) ∈ lw_all := lw_g (lw_at lw_m4 191 rfl) rfl
theorem q1041 : (Jvm.Cond.static ({ cls := "ApologyUp", name := "grows", desc := "([III)V" } : Jvm.MethodName)) ∈ lw_all := lw_g (lw_at lw_m4 192 rfl) rfl
theorem q1042 : (Jvm.Cond.code ({ cls := "ApologyUp", name := "grows", desc := "([III)V" } : Jvm.MethodName) prog_1_method_28_code (3 : Nat) (Option.none : Option Jvm.ClassFile.FieldType)) ∈ lw_all := lw_g (lw_at lw_m4 193 rfl) rfl
theorem q1043 : (Jvm.Cond.methodLink "ApologyUp" (162 : Nat) ({ cls := "java/lang/Math", name := "min", desc := "(II)I" } : Jvm.MethodName)) ∈ lw_all := lw_g (lw_at lw_m4 194 rfl) rfl
theorem q1044 : (Jvm.Cond.methodLink "ApologyUp" (179 : Nat) ({ cls := "ApologyUp", name := "judged", desc := "([II)V" } : Jvm.MethodName)) ∈ lw_all := lw_g (lw_at lw_m4 195 rfl) rfl
theorem q1045 : (Jvm.Cond.privateMethod ({ cls := "ApologyUp", name := "judged", desc := "([II)V" } : Jvm.MethodName)) ∈ lw_tbl := lw_at lw_m4 196 rfl
theorem q1046 : (Jvm.Cond.instanceMethod ({ cls := "ApologyUp", name := "judged", desc := "([II)V" } : Jvm.MethodName)) ∈ lw_all := lw_g (lw_at lw_m4 197 rfl) rfl
theorem q1047 : (Jvm.Cond.code ({ cls := "ApologyUp", name := "judged", desc := "([II)V" } : Jvm.MethodName) prog_1_method_29_code (4 : Nat) (Option.none : Option Jvm.ClassFile.FieldType)) ∈ lw_all := lw_g (lw_at lw_m4 198 rfl) rfl
theorem q1048 : (Jvm.Cond.methodLink "ApologyUp" (168 : Nat) ({ cls := "ApologyUp", name := "draws", desc := "([I)V" } : Jvm.MethodName)) ∈ lw_all := lw_g (lw_at lw_m4 199 rfl) rfl
theorem q1049 : (Jvm.Cond.static ({ cls := "ApologyUp", name := "draws", desc := "([I)V" } : Jvm.MethodName)) ∈ lw_all := lw_g (lw_at lw_m4 200 rfl) rfl
theorem q1050 : (Jvm.Cond.code ({ cls := "ApologyUp", name := "draws", desc := "([I)V" } : Jvm.MethodName) prog_1_method_27_code (1 : Nat) (Option.none : Option Jvm.ClassFile.FieldType)) ∈ lw_all := lw_g (lw_at lw_m4 201 rfl) rfl
theorem q1051 : (Jvm.Cond.methodLink "ApologyUp" (176 : Nat) ({ cls := "ApologyUp", name := "writes", desc := "([III)V" } : Jvm.MethodName)) ∈ lw_all := lw_g (lw_at lw_m4 202 rfl) rfl
theorem q1052 : (Jvm.Cond.static ({ cls := "ApologyUp", name := "writes", desc := "([III)V" } : Jvm.MethodName)) ∈ lw_all := lw_g (lw_at lw_m4 203 rfl) rfl
theorem q1053 : (Jvm.Cond.code ({ cls := "ApologyUp", name := "writes", desc := "([III)V" } : Jvm.MethodName) prog_1_method_26_code (4 : Nat) (Option.none : Option Jvm.ClassFile.FieldType)) ∈ lw_all := lw_g (lw_at lw_m4 204 rfl) rfl
theorem q1054 : (Jvm.Cond.methodLink "ApologyUp" (156 : Nat) ({ cls := "java/lang/System", name := "arraycopy", desc := "(Ljava/lang/Object;ILjava/lang/Object;II)V" } : Jvm.MethodName)) ∈ lw_all := lw_g (lw_at lw_m4 205 rfl) rfl
theorem q1055 : (Jvm.Cond.methodLink "ApologyUp" (195 : Nat) ({ cls := "ApologyUp", name := "comesDown", desc := "([II)Z" } : Jvm.MethodName)) ∈ lw_all := lw_g (lw_at lw_m4 206 rfl) rfl
theorem q1056 : (Jvm.Cond.privateMethod ({ cls := "ApologyUp", name := "comesDown", desc := "([II)Z" } : Jvm.MethodName)) ∈ lw_tbl := lw_at lw_m4 207 rfl
theorem q1057 : (Jvm.Cond.instanceMethod ({ cls := "ApologyUp", name := "comesDown", desc := "([II)Z" } : Jvm.MethodName)) ∈ lw_all := lw_g (lw_at lw_m4 208 rfl) rfl
theorem q1058 : (Jvm.Cond.code ({ cls := "ApologyUp", name := "comesDown", desc := "([II)Z" } : Jvm.MethodName) prog_1_method_31_code (5 : Nat) (Option.some Jvm.ClassFile.FieldType.boolean)) ∈ lw_all := lw_g (lw_at lw_m4 209 rfl) rfl
theorem q1059 : (Jvm.Cond.methodLink "ApologyUp" (183 : Nat) ({ cls := "ApologyUp", name := "towards", desc := "(II)I" } : Jvm.MethodName)) ∈ lw_all := lw_g (lw_at lw_m4 210 rfl) rfl
theorem q1060 : (Jvm.Cond.privateMethod ({ cls := "ApologyUp", name := "towards", desc := "(II)I" } : Jvm.MethodName)) ∈ lw_tbl := lw_at lw_m4 211 rfl
theorem q1061 : (Jvm.Cond.instanceMethod ({ cls := "ApologyUp", name := "towards", desc := "(II)I" } : Jvm.MethodName)) ∈ lw_all := lw_g (lw_at lw_m4 212 rfl) rfl
theorem q1062 : (Jvm.Cond.code ({ cls := "ApologyUp", name := "towards", desc := "(II)I" } : Jvm.MethodName) prog_1_method_13_code (4 : Nat) (Option.some Jvm.ClassFile.FieldType.int)) ∈ lw_all := lw_g (lw_at lw_m4 213 rfl) rfl
theorem q1063 : (Jvm.Cond.methodLink "ApologyUp" (198 : Nat) ({ cls := "ApologyUp", name := "doMeet", desc := "([III)Z" } : Jvm.MethodName)) ∈ lw_all := lw_g (lw_at lw_m4 214 rfl) rfl
theorem q1064 : (Jvm.Cond.static ({ cls := "ApologyUp", name := "doMeet", desc := "([III)Z" } : Jvm.MethodName)) ∈ lw_all := lw_g (lw_at lw_m4 215 rfl) rfl
theorem q1065 : (Jvm.Cond.code ({ cls := "ApologyUp", name := "doMeet", desc := "([III)Z" } : Jvm.MethodName) prog_1_method_32_code (3 : Nat) (Option.some Jvm.ClassFile.FieldType.boolean)) ∈ lw_all := lw_g (lw_at lw_m4 216 rfl) rfl
theorem q1066 : (Jvm.Cond.methodLink "ApologyUp" (202 : Nat) ({ cls := "ApologyUp", name := "merges", desc := "([III)V" } : Jvm.MethodName)) ∈ lw_all := lw_g (lw_at lw_m4 217 rfl) rfl
theorem q1067 : (Jvm.Cond.static ({ cls := "ApologyUp", name := "merges", desc := "([III)V" } : Jvm.MethodName)) ∈ lw_all := lw_g (lw_at lw_m4 218 rfl) rfl
theorem q1068 : (Jvm.Cond.code ({ cls := "ApologyUp", name := "merges", desc := "([III)V" } : Jvm.MethodName) prog_1_method_33_code (5 : Nat) (Option.none : Option Jvm.ClassFile.FieldType)) ∈ lw_all := lw_g (lw_at lw_m4 219 rfl) rfl
theorem q1069 : (Jvm.Cond.methodLink "ApologyUp" (186 : Nat) ({ cls := "java/lang/Math", name := "max", desc := "(II)I" } : Jvm.MethodName)) ∈ lw_all := lw_g (lw_at lw_m4 220 rfl) rfl
theorem q1071 : (Jvm.Cond.instanceMethod ({ cls := "ApologyUp", name := "wrong", desc := "(III)I" } : Jvm.MethodName)) ∈ lw_all := lw_g (lw_at lw_m4 222 rfl) rfl
theorem q1072 : (Jvm.Cond.selects "ApologyUp" ({ cls := "ApologyUp", name := "wrong", desc := "(III)I" } : Jvm.MethodName) ({ cls := "ApologyUp", name := "wrong", desc := "(III)I" } : Jvm.MethodName)) ∈ lw_all := lw_g (lw_at lw_m4 223 rfl) rfl
theorem q1073 : (Jvm.Cond.code ({ cls := "ApologyUp", name := "wrong", desc := "(III)I" } : Jvm.MethodName) prog_1_method_39_code (4 : Nat) (Option.some Jvm.ClassFile.FieldType.int)) ∈ lw_all := lw_g (lw_at lw_m4 224 rfl) rfl
theorem q1074 : (Jvm.Cond.methodLink "ApologyUp" (212 : Nat) ({ cls := "ApologyUp", name := "canWrong", desc := "(II)Z" } : Jvm.MethodName)) ∈ lw_all := lw_g (lw_at lw_m4 225 rfl) rfl
theorem q1075 : (Jvm.Cond.privateMethod ({ cls := "ApologyUp", name := "canWrong", desc := "(II)Z" } : Jvm.MethodName)) ∈ lw_tbl := lw_at lw_m4 226 rfl
theorem q1076 : (Jvm.Cond.instanceMethod ({ cls := "ApologyUp", name := "canWrong", desc := "(II)Z" } : Jvm.MethodName)) ∈ lw_all := lw_g (lw_at lw_m4 227 rfl) rfl
theorem q1077 : (Jvm.Cond.code ({ cls := "ApologyUp", name := "canWrong", desc := "(II)Z" } : Jvm.MethodName) prog_1_method_37_code (3 : Nat) (Option.some Jvm.ClassFile.FieldType.boolean)) ∈ lw_all := lw_g (lw_at lw_m4 228 rfl) rfl
theorem q1078 : (Jvm.Cond.methodLink "ApologyUp" (86 : Nat) ({ cls := "ApologyUp", name := "isBelow", desc := "(II)Z" } : Jvm.MethodName)) ∈ lw_all := lw_g (lw_at lw_m4 229 rfl) rfl
theorem q1079 : (Jvm.Cond.privateMethod ({ cls := "ApologyUp", name := "isBelow", desc := "(II)Z" } : Jvm.MethodName)) ∈ lw_tbl := lw_at lw_m4 230 rfl
theorem q1080 : (Jvm.Cond.instanceMethod ({ cls := "ApologyUp", name := "isBelow", desc := "(II)Z" } : Jvm.MethodName)) ∈ lw_all := lw_g (lw_at lw_m4 231 rfl) rfl
theorem q1081 : (Jvm.Cond.code ({ cls := "ApologyUp", name := "isBelow", desc := "(II)Z" } : Jvm.MethodName) prog_1_method_11_code (4 : Nat) (Option.some Jvm.ClassFile.FieldType.boolean)) ∈ lw_all := lw_g (lw_at lw_m4 232 rfl) rfl
theorem q1082 : (Jvm.Cond.methodLink "ApologyUp" (215 : Nat) ({ cls := "ApologyUp", name := "wrongs", desc := "(III)I" } : Jvm.MethodName)) ∈ lw_all := lw_g (lw_at lw_m4 233 rfl) rfl
theorem q1083 : (Jvm.Cond.privateMethod ({ cls := "ApologyUp", name := "wrongs", desc := "(III)I" } : Jvm.MethodName)) ∈ lw_tbl := lw_at lw_m4 234 rfl
theorem q1084 : (Jvm.Cond.instanceMethod ({ cls := "ApologyUp", name := "wrongs", desc := "(III)I" } : Jvm.MethodName)) ∈ lw_all := lw_g (lw_at lw_m4 235 rfl) rfl
theorem q1085 : (Jvm.Cond.code ({ cls := "ApologyUp", name := "wrongs", desc := "(III)I" } : Jvm.MethodName) prog_1_method_38_code (6 : Nat) (Option.some Jvm.ClassFile.FieldType.int)) ∈ lw_all := lw_g (lw_at lw_m4 236 rfl) rfl
theorem q1087 : (Jvm.Cond.instanceMethod ({ cls := "ApologyUp", name := "away", desc := "(II)Z" } : Jvm.MethodName)) ∈ lw_all := lw_g (lw_at lw_m4 238 rfl) rfl
theorem q1088 : (Jvm.Cond.selects "ApologyUp" ({ cls := "ApologyUp", name := "away", desc := "(II)Z" } : Jvm.MethodName) ({ cls := "ApologyUp", name := "away", desc := "(II)Z" } : Jvm.MethodName)) ∈ lw_all := lw_g (lw_at lw_m4 239 rfl) rfl
theorem q1089 : (Jvm.Cond.code ({ cls := "ApologyUp", name := "away", desc := "(II)Z" } : Jvm.MethodName) prog_1_method_41_code (3 : Nat) (Option.some Jvm.ClassFile.FieldType.boolean)) ∈ lw_all := lw_g (lw_at lw_m5 0 rfl) rfl
theorem q1090 : (Jvm.Cond.methodLink "ApologyUp" (219 : Nat) ({ cls := "ApologyUp", name := "goesAway", desc := "(II)V" } : Jvm.MethodName)) ∈ lw_all := lw_g (lw_at lw_m5 1 rfl) rfl
theorem q1091 : (Jvm.Cond.privateMethod ({ cls := "ApologyUp", name := "goesAway", desc := "(II)V" } : Jvm.MethodName)) ∈ lw_tbl := lw_at lw_m5 2 rfl
theorem q1092 : (Jvm.Cond.instanceMethod ({ cls := "ApologyUp", name := "goesAway", desc := "(II)V" } : Jvm.MethodName)) ∈ lw_all := lw_g (lw_at lw_m5 3 rfl) rfl
theorem q1093 : (Jvm.Cond.code ({ cls := "ApologyUp", name := "goesAway", desc := "(II)V" } : Jvm.MethodName) prog_1_method_40_code (3 : Nat) (Option.none : Option Jvm.ClassFile.FieldType)) ∈ lw_all := lw_g (lw_at lw_m5 4 rfl) rfl
theorem q1095 : (Jvm.Cond.instanceMethod ({ cls := "ApologyUp", name := "sideways", desc := "(II)Z" } : Jvm.MethodName)) ∈ lw_all := lw_g (lw_at lw_m5 6 rfl) rfl
theorem q1096 : (Jvm.Cond.selects "ApologyUp" ({ cls := "ApologyUp", name := "sideways", desc := "(II)Z" } : Jvm.MethodName) ({ cls := "ApologyUp", name := "sideways", desc := "(II)Z" } : Jvm.MethodName)) ∈ lw_all := lw_g (lw_at lw_m5 7 rfl) rfl
theorem q1097 : (Jvm.Cond.code ({ cls := "ApologyUp", name := "sideways", desc := "(II)Z" } : Jvm.MethodName) prog_1_method_42_code (4 : Nat) (Option.some Jvm.ClassFile.FieldType.boolean)) ∈ lw_all := lw_g (lw_at lw_m5 8 rfl) rfl
theorem q1098 : (Jvm.Cond.methodLink "ApologyUp" (223 : Nat) ({ cls := "ApologyUp", name := "isApology", desc := "(I)Z" } : Jvm.MethodName)) ∈ lw_all := lw_g (lw_at lw_m5 9 rfl) rfl
theorem q1099 : (Jvm.Cond.privateMethod ({ cls := "ApologyUp", name := "isApology", desc := "(I)Z" } : Jvm.MethodName)) ∈ lw_tbl := lw_at lw_m5 10 rfl
theorem q1100 : (Jvm.Cond.instanceMethod ({ cls := "ApologyUp", name := "isApology", desc := "(I)Z" } : Jvm.MethodName)) ∈ lw_all := lw_g (lw_at lw_m5 11 rfl) rfl
theorem q1101 : (Jvm.Cond.code ({ cls := "ApologyUp", name := "isApology", desc := "(I)Z" } : Jvm.MethodName) prog_1_method_6_code (2 : Nat) (Option.some Jvm.ClassFile.FieldType.boolean)) ∈ lw_all := lw_g (lw_at lw_m5 12 rfl) rfl
theorem q1103 : (Jvm.Cond.instanceMethod ({ cls := "ApologyUp", name := "played", desc := "(I)I" } : Jvm.MethodName)) ∈ lw_all := lw_g (lw_at lw_m5 14 rfl) rfl
theorem q1104 : (Jvm.Cond.selects "ApologyUp" ({ cls := "ApologyUp", name := "played", desc := "(I)I" } : Jvm.MethodName) ({ cls := "ApologyUp", name := "played", desc := "(I)I" } : Jvm.MethodName)) ∈ lw_all := lw_g (lw_at lw_m5 15 rfl) rfl
theorem q1105 : (Jvm.Cond.code ({ cls := "ApologyUp", name := "played", desc := "(I)I" } : Jvm.MethodName) prog_1_method_45_code (4 : Nat) (Option.some Jvm.ClassFile.FieldType.int)) ∈ lw_all := lw_g (lw_at lw_m5 16 rfl) rfl
theorem q1106 : (Jvm.Cond.methodLink "ApologyUp" (265 : Nat) ({ cls := "java/util/ArrayList", name := "size", desc := "()I" } : Jvm.MethodName)) ∈ lw_all := lw_g (lw_at lw_m5 17 rfl) rfl
theorem q1107 : (Jvm.Cond.methodLink "ApologyUp" (270 : Nat) ({ cls := "java/util/ArrayList", name := "get", desc := "(I)Ljava/lang/Object;" } : Jvm.MethodName)) ∈ lw_all := lw_g (lw_at lw_m5 18 rfl) rfl
theorem q1108 : (Jvm.Cond.classLink "ApologyUp" (230 : Nat) "ApologyUp$Doing") ∈ lw_all := lw_g (lw_at lw_m5 19 rfl) rfl
theorem q1109 : (Jvm.Cond.methodLink "ApologyUp" (274 : Nat) ({ cls := "ApologyUp", name := "does", desc := "(LApologyUp$Doing;)Z" } : Jvm.MethodName)) ∈ lw_all := lw_g (lw_at lw_m5 20 rfl) rfl
theorem q1110 : (Jvm.Cond.privateMethod ({ cls := "ApologyUp", name := "does", desc := "(LApologyUp$Doing;)Z" } : Jvm.MethodName)) ∈ lw_tbl := lw_at lw_m5 21 rfl
theorem q1111 : (Jvm.Cond.instanceMethod ({ cls := "ApologyUp", name := "does", desc := "(LApologyUp$Doing;)Z" } : Jvm.MethodName)) ∈ lw_all := lw_g (lw_at lw_m5 22 rfl) rfl
theorem q1112 : (Jvm.Cond.code ({ cls := "ApologyUp", name := "does", desc := "(LApologyUp$Doing;)Z" } : Jvm.MethodName) prog_1_method_44_code (2 : Nat) (Option.some Jvm.ClassFile.FieldType.boolean)) ∈ lw_all := lw_g (lw_at lw_m5 23 rfl) rfl
theorem q1113 : (Jvm.Cond.methodLink "ApologyUp" (229 : Nat) ({ cls := "ApologyUp$Doing", name := "sort", desc := "()I" } : Jvm.MethodName)) ∈ lw_all := lw_g (lw_at lw_m5 24 rfl) rfl
theorem q1117 : (Jvm.Cond.methodLink "ApologyUp" (235 : Nat) ({ cls := "ApologyUp$Doing", name := "b", desc := "()I" } : Jvm.MethodName)) ∈ lw_all := lw_g (lw_at lw_m5 28 rfl) rfl
theorem q1121 : (Jvm.Cond.methodLink "ApologyUp" (238 : Nat) ({ cls := "ApologyUp$Doing", name := "a", desc := "()I" } : Jvm.MethodName)) ∈ lw_all := lw_g (lw_at lw_m5 32 rfl) rfl
theorem q1125 : (Jvm.Cond.methodLink "ApologyUp" (241 : Nat) ({ cls := "ApologyUp", name := "officer", desc := "(II)I" } : Jvm.MethodName)) ∈ lw_all := lw_g (lw_at lw_m5 36 rfl) rfl
theorem q1126 : (Jvm.Cond.methodLink "ApologyUp" (244 : Nat) ({ cls := "ApologyUp", name := "cousin", desc := "(II)Z" } : Jvm.MethodName)) ∈ lw_all := lw_g (lw_at lw_m5 37 rfl) rfl
theorem q1127 : (Jvm.Cond.methodLink "ApologyUp" (246 : Nat) ({ cls := "ApologyUp$Doing", name := "c", desc := "()I" } : Jvm.MethodName)) ∈ lw_all := lw_g (lw_at lw_m5 38 rfl) rfl
theorem q1131 : (Jvm.Cond.methodLink "ApologyUp" (249 : Nat) ({ cls := "ApologyUp", name := "wrong", desc := "(III)I" } : Jvm.MethodName)) ∈ lw_all := lw_g (lw_at lw_m5 42 rfl) rfl
theorem q1132 : (Jvm.Cond.methodLink "ApologyUp" (252 : Nat) ({ cls := "ApologyUp", name := "away", desc := "(II)Z" } : Jvm.MethodName)) ∈ lw_all := lw_g (lw_at lw_m5 43 rfl) rfl
theorem q1133 : (Jvm.Cond.methodLink "ApologyUp" (255 : Nat) ({ cls := "ApologyUp", name := "sideways", desc := "(II)Z" } : Jvm.MethodName)) ∈ lw_all := lw_g (lw_at lw_m5 44 rfl) rfl
theorem q1134 : (Jvm.Cond.methodLink "ApologyUp" (258 : Nat) ({ cls := "ApologyUp", name := "passesAll", desc := "(I)Z" } : Jvm.MethodName)) ∈ lw_all := lw_g (lw_at lw_m5 45 rfl) rfl
theorem q1135 : (Jvm.Cond.privateMethod ({ cls := "ApologyUp", name := "passesAll", desc := "(I)Z" } : Jvm.MethodName)) ∈ lw_tbl := lw_at lw_m5 46 rfl
theorem q1136 : (Jvm.Cond.instanceMethod ({ cls := "ApologyUp", name := "passesAll", desc := "(I)Z" } : Jvm.MethodName)) ∈ lw_all := lw_g (lw_at lw_m5 47 rfl) rfl
theorem q1137 : (Jvm.Cond.code ({ cls := "ApologyUp", name := "passesAll", desc := "(I)Z" } : Jvm.MethodName) prog_1_method_43_code (3 : Nat) (Option.some Jvm.ClassFile.FieldType.boolean)) ∈ lw_all := lw_g (lw_at lw_m5 48 rfl) rfl
theorem q1138 : (Jvm.Cond.methodLink "ApologyUp" (226 : Nat) ({ cls := "ApologyUp", name := "day", desc := "(I)I" } : Jvm.MethodName)) ∈ lw_all := lw_g (lw_at lw_m5 49 rfl) rfl
theorem q1139 : (Jvm.Cond.methodLink "ApologyUp" (278 : Nat) ({ cls := "ApologyUp$Doing", name := "number", desc := "()I" } : Jvm.MethodName)) ∈ lw_all := lw_g (lw_at lw_m5 50 rfl) rfl
theorem q1144 : (Jvm.Cond.instanceMethod ({ cls := "ApologyUp", name := "years", desc := "(II)I" } : Jvm.MethodName)) ∈ lw_all := lw_g (lw_at lw_m5 55 rfl) rfl
theorem q1145 : (Jvm.Cond.selects "ApologyUp" ({ cls := "ApologyUp", name := "years", desc := "(II)I" } : Jvm.MethodName) ({ cls := "ApologyUp", name := "years", desc := "(II)I" } : Jvm.MethodName)) ∈ lw_all := lw_g (lw_at lw_m5 56 rfl) rfl
theorem q1146 : (Jvm.Cond.code ({ cls := "ApologyUp", name := "years", desc := "(II)I" } : Jvm.MethodName) prog_1_method_47_code (5 : Nat) (Option.some Jvm.ClassFile.FieldType.int)) ∈ lw_all := lw_g (lw_at lw_m5 57 rfl) rfl
theorem q1147 : (Jvm.Cond.methodLink "ApologyUp" (281 : Nat) ({ cls := "ApologyUp", name := "happens", desc := "(I)V" } : Jvm.MethodName)) ∈ lw_all := lw_g (lw_at lw_m5 58 rfl) rfl
theorem q1148 : (Jvm.Cond.privateMethod ({ cls := "ApologyUp", name := "happens", desc := "(I)V" } : Jvm.MethodName)) ∈ lw_tbl := lw_at lw_m5 59 rfl
theorem q1149 : (Jvm.Cond.instanceMethod ({ cls := "ApologyUp", name := "happens", desc := "(I)V" } : Jvm.MethodName)) ∈ lw_all := lw_g (lw_at lw_m5 60 rfl) rfl
theorem q1150 : (Jvm.Cond.code ({ cls := "ApologyUp", name := "happens", desc := "(I)V" } : Jvm.MethodName) prog_1_method_46_code (4 : Nat) (Option.none : Option Jvm.ClassFile.FieldType)) ∈ lw_all := lw_g (lw_at lw_m5 61 rfl) rfl
theorem q1152 : (Jvm.Cond.instanceMethod ({ cls := "ApologyUp", name := "undo", desc := "()I" } : Jvm.MethodName)) ∈ lw_all := lw_g (lw_at lw_m5 63 rfl) rfl
theorem q1153 : (Jvm.Cond.selects "ApologyUp" ({ cls := "ApologyUp", name := "undo", desc := "()I" } : Jvm.MethodName) ({ cls := "ApologyUp", name := "undo", desc := "()I" } : Jvm.MethodName)) ∈ lw_all := lw_g (lw_at lw_m5 64 rfl) rfl
theorem q1154 : (Jvm.Cond.code ({ cls := "ApologyUp", name := "undo", desc := "()I" } : Jvm.MethodName) prog_1_method_48_code (1 : Nat) (Option.some Jvm.ClassFile.FieldType.int)) ∈ lw_all := lw_g (lw_at lw_m5 65 rfl) rfl
theorem q1155 : (Jvm.Cond.methodLinkNest "ApologyUp" (288 : Nat) ({ cls := "ApologyUp$State", name := "copy", desc := "([I[I)V" } : Jvm.MethodName) "ApologyUp") ∈ lw_tbl := lw_at lw_m5 66 rfl
theorem q1157 : (Jvm.Cond.instanceMethod ({ cls := "ApologyUp", name := "of", desc := "(II)I" } : Jvm.MethodName)) ∈ lw_all := lw_g (lw_at lw_m5 68 rfl) rfl
theorem q1158 : (Jvm.Cond.selects "ApologyUp" ({ cls := "ApologyUp", name := "of", desc := "(II)I" } : Jvm.MethodName) ({ cls := "ApologyUp", name := "of", desc := "(II)I" } : Jvm.MethodName)) ∈ lw_all := lw_g (lw_at lw_m5 69 rfl) rfl
theorem q1159 : (Jvm.Cond.code ({ cls := "ApologyUp", name := "of", desc := "(II)I" } : Jvm.MethodName) prog_1_method_50_code (3 : Nat) (Option.some Jvm.ClassFile.FieldType.int)) ∈ lw_all := lw_g (lw_at lw_m5 70 rfl) rfl
theorem q1160 : (Jvm.Cond.methodLink "ApologyUp" (292 : Nat) ({ cls := "ApologyUp", name := "addsBy", desc := "(LApologyUp$Text;IIII)I" } : Jvm.MethodName)) ∈ lw_all := lw_g (lw_at lw_m5 71 rfl) rfl
theorem q1161 : (Jvm.Cond.privateMethod ({ cls := "ApologyUp", name := "addsBy", desc := "(LApologyUp$Text;IIII)I" } : Jvm.MethodName)) ∈ lw_tbl := lw_at lw_m5 72 rfl
theorem q1162 : (Jvm.Cond.instanceMethod ({ cls := "ApologyUp", name := "addsBy", desc := "(LApologyUp$Text;IIII)I" } : Jvm.MethodName)) ∈ lw_all := lw_g (lw_at lw_m5 73 rfl) rfl
theorem q1163 : (Jvm.Cond.code ({ cls := "ApologyUp", name := "addsBy", desc := "(LApologyUp$Text;IIII)I" } : Jvm.MethodName) prog_1_method_24_code (6 : Nat) (Option.some Jvm.ClassFile.FieldType.int)) ∈ lw_all := lw_g (lw_at lw_m5 74 rfl) rfl
theorem q1164 : (Jvm.Cond.methodLink "ApologyUp" (295 : Nat) ({ cls := "ApologyUp", name := "deskOf", desc := "(I)I" } : Jvm.MethodName)) ∈ lw_all := lw_g (lw_at lw_m5 75 rfl) rfl
theorem q1165 : (Jvm.Cond.privateMethod ({ cls := "ApologyUp", name := "deskOf", desc := "(I)I" } : Jvm.MethodName)) ∈ lw_tbl := lw_at lw_m5 76 rfl
theorem q1166 : (Jvm.Cond.instanceMethod ({ cls := "ApologyUp", name := "deskOf", desc := "(I)I" } : Jvm.MethodName)) ∈ lw_all := lw_g (lw_at lw_m5 77 rfl) rfl
theorem q1167 : (Jvm.Cond.code ({ cls := "ApologyUp", name := "deskOf", desc := "(I)I" } : Jvm.MethodName) prog_1_method_49_code (4 : Nat) (Option.some Jvm.ClassFile.FieldType.int)) ∈ lw_all := lw_g (lw_at lw_m5 78 rfl) rfl
theorem q1168 : (Jvm.Cond.methodLink "ApologyUp" (298 : Nat) ({ cls := "ApologyUp", name := "under", desc := "(I)I" } : Jvm.MethodName)) ∈ lw_all := lw_g (lw_at lw_m5 79 rfl) rfl
theorem q1169 : (Jvm.Cond.privateMethod ({ cls := "ApologyUp", name := "under", desc := "(I)I" } : Jvm.MethodName)) ∈ lw_tbl := lw_at lw_m5 80 rfl
theorem q1170 : (Jvm.Cond.instanceMethod ({ cls := "ApologyUp", name := "under", desc := "(I)I" } : Jvm.MethodName)) ∈ lw_all := lw_g (lw_at lw_m5 81 rfl) rfl
theorem q1171 : (Jvm.Cond.code ({ cls := "ApologyUp", name := "under", desc := "(I)I" } : Jvm.MethodName) prog_1_method_12_code (4 : Nat) (Option.some Jvm.ClassFile.FieldType.int)) ∈ lw_all := lw_g (lw_at lw_m5 82 rfl) rfl
theorem q1173 : (Jvm.Cond.instanceMethod ({ cls := "ApologyUp", name := "ofApology", desc := "(II)I" } : Jvm.MethodName)) ∈ lw_all := lw_g (lw_at lw_m5 84 rfl) rfl
theorem q1174 : (Jvm.Cond.selects "ApologyUp" ({ cls := "ApologyUp", name := "ofApology", desc := "(II)I" } : Jvm.MethodName) ({ cls := "ApologyUp", name := "ofApology", desc := "(II)I" } : Jvm.MethodName)) ∈ lw_all := lw_g (lw_at lw_m5 85 rfl) rfl
theorem q1175 : (Jvm.Cond.code ({ cls := "ApologyUp", name := "ofApology", desc := "(II)I" } : Jvm.MethodName) prog_1_method_51_code (3 : Nat) (Option.some Jvm.ClassFile.FieldType.int)) ∈ lw_all := lw_g (lw_at lw_m5 86 rfl) rfl
theorem q1177 : (Jvm.Cond.instanceMethod ({ cls := "ApologyUp", name := "is", desc := "(I)I" } : Jvm.MethodName)) ∈ lw_all := lw_g (lw_at lw_m5 88 rfl) rfl
theorem q1178 : (Jvm.Cond.selects "ApologyUp" ({ cls := "ApologyUp", name := "is", desc := "(I)I" } : Jvm.MethodName) ({ cls := "ApologyUp", name := "is", desc := "(I)I" } : Jvm.MethodName)) ∈ lw_all := lw_g (lw_at lw_m5 89 rfl) rfl
theorem q1179 : (Jvm.Cond.code ({ cls := "ApologyUp", name := "is", desc := "(I)I" } : Jvm.MethodName) prog_1_method_52_code (2 : Nat) (Option.some Jvm.ClassFile.FieldType.int)) ∈ lw_all := lw_g (lw_at lw_m5 90 rfl) rfl
theorem q1181 : (Jvm.Cond.instanceMethod ({ cls := "ApologyUp", name := "book", desc := "(II)I" } : Jvm.MethodName)) ∈ lw_all := lw_g (lw_at lw_m5 92 rfl) rfl
theorem q1182 : (Jvm.Cond.selects "ApologyUp" ({ cls := "ApologyUp", name := "book", desc := "(II)I" } : Jvm.MethodName) ({ cls := "ApologyUp", name := "book", desc := "(II)I" } : Jvm.MethodName)) ∈ lw_all := lw_g (lw_at lw_m5 93 rfl) rfl
theorem q1183 : (Jvm.Cond.code ({ cls := "ApologyUp", name := "book", desc := "(II)I" } : Jvm.MethodName) prog_1_method_53_code (3 : Nat) (Option.some Jvm.ClassFile.FieldType.int)) ∈ lw_all := lw_g (lw_at lw_m5 94 rfl) rfl
theorem q1185 : (Jvm.Cond.instanceMethod ({ cls := "ApologyUp", name := "foretold", desc := "(III)I" } : Jvm.MethodName)) ∈ lw_all := lw_g (lw_at lw_m5 96 rfl) rfl
theorem q1186 : (Jvm.Cond.selects "ApologyUp" ({ cls := "ApologyUp", name := "foretold", desc := "(III)I" } : Jvm.MethodName) ({ cls := "ApologyUp", name := "foretold", desc := "(III)I" } : Jvm.MethodName)) ∈ lw_all := lw_g (lw_at lw_m5 97 rfl) rfl
theorem q1187 : (Jvm.Cond.code ({ cls := "ApologyUp", name := "foretold", desc := "(III)I" } : Jvm.MethodName) prog_1_method_54_code (6 : Nat) (Option.some Jvm.ClassFile.FieldType.int)) ∈ lw_all := lw_g (lw_at lw_m5 98 rfl) rfl
theorem q1189 : (Jvm.Cond.instanceMethod ({ cls := "ApologyUp", name := "pardoned", desc := "(I)I" } : Jvm.MethodName)) ∈ lw_all := lw_g (lw_at lw_m5 100 rfl) rfl
theorem q1190 : (Jvm.Cond.selects "ApologyUp" ({ cls := "ApologyUp", name := "pardoned", desc := "(I)I" } : Jvm.MethodName) ({ cls := "ApologyUp", name := "pardoned", desc := "(I)I" } : Jvm.MethodName)) ∈ lw_all := lw_g (lw_at lw_m5 101 rfl) rfl
theorem q1191 : (Jvm.Cond.code ({ cls := "ApologyUp", name := "pardoned", desc := "(I)I" } : Jvm.MethodName) prog_1_method_55_code (4 : Nat) (Option.some Jvm.ClassFile.FieldType.int)) ∈ lw_all := lw_g (lw_at lw_m5 102 rfl) rfl
theorem q1193 : (Jvm.Cond.instanceMethod ({ cls := "ApologyUp", name := "meets", desc := "(II)I" } : Jvm.MethodName)) ∈ lw_all := lw_g (lw_at lw_m5 104 rfl) rfl
theorem q1194 : (Jvm.Cond.selects "ApologyUp" ({ cls := "ApologyUp", name := "meets", desc := "(II)I" } : Jvm.MethodName) ({ cls := "ApologyUp", name := "meets", desc := "(II)I" } : Jvm.MethodName)) ∈ lw_all := lw_g (lw_at lw_m5 105 rfl) rfl
theorem q1195 : (Jvm.Cond.code ({ cls := "ApologyUp", name := "meets", desc := "(II)I" } : Jvm.MethodName) prog_1_method_57_code (3 : Nat) (Option.some Jvm.ClassFile.FieldType.int)) ∈ lw_all := lw_g (lw_at lw_m5 106 rfl) rfl
theorem q1196 : (Jvm.Cond.methodLink "ApologyUp" (301 : Nat) ({ cls := "ApologyUp", name := "meetOf", desc := "(II)I" } : Jvm.MethodName)) ∈ lw_all := lw_g (lw_at lw_m5 107 rfl) rfl
theorem q1197 : (Jvm.Cond.privateMethod ({ cls := "ApologyUp", name := "meetOf", desc := "(II)I" } : Jvm.MethodName)) ∈ lw_tbl := lw_at lw_m5 108 rfl
theorem q1198 : (Jvm.Cond.instanceMethod ({ cls := "ApologyUp", name := "meetOf", desc := "(II)I" } : Jvm.MethodName)) ∈ lw_all := lw_g (lw_at lw_m5 109 rfl) rfl
theorem q1199 : (Jvm.Cond.code ({ cls := "ApologyUp", name := "meetOf", desc := "(II)I" } : Jvm.MethodName) prog_1_method_56_code (4 : Nat) (Option.some Jvm.ClassFile.FieldType.int)) ∈ lw_all := lw_g (lw_at lw_m5 110 rfl) rfl
theorem q1201 : (Jvm.Cond.instanceMethod ({ cls := "ApologyUp", name := "steps", desc := "(II)I" } : Jvm.MethodName)) ∈ lw_all := lw_g (lw_at lw_m5 112 rfl) rfl
theorem q1202 : (Jvm.Cond.selects "ApologyUp" ({ cls := "ApologyUp", name := "steps", desc := "(II)I" } : Jvm.MethodName) ({ cls := "ApologyUp", name := "steps", desc := "(II)I" } : Jvm.MethodName)) ∈ lw_all := lw_g (lw_at lw_m5 113 rfl) rfl
theorem q1203 : (Jvm.Cond.code ({ cls := "ApologyUp", name := "steps", desc := "(II)I" } : Jvm.MethodName) prog_1_method_59_code (3 : Nat) (Option.some Jvm.ClassFile.FieldType.int)) ∈ lw_all := lw_g (lw_at lw_m5 114 rfl) rfl
theorem q1204 : (Jvm.Cond.methodLink "ApologyUp" (304 : Nat) ({ cls := "ApologyUp", name := "stepsOf", desc := "(II)I" } : Jvm.MethodName)) ∈ lw_all := lw_g (lw_at lw_m5 115 rfl) rfl
theorem q1205 : (Jvm.Cond.privateMethod ({ cls := "ApologyUp", name := "stepsOf", desc := "(II)I" } : Jvm.MethodName)) ∈ lw_tbl := lw_at lw_m5 116 rfl
theorem q1206 : (Jvm.Cond.instanceMethod ({ cls := "ApologyUp", name := "stepsOf", desc := "(II)I" } : Jvm.MethodName)) ∈ lw_all := lw_g (lw_at lw_m5 117 rfl) rfl
theorem q1207 : (Jvm.Cond.code ({ cls := "ApologyUp", name := "stepsOf", desc := "(II)I" } : Jvm.MethodName) prog_1_method_58_code (3 : Nat) (Option.some Jvm.ClassFile.FieldType.int)) ∈ lw_all := lw_g (lw_at lw_m5 118 rfl) rfl
theorem q1209 : (Jvm.Cond.instanceMethod ({ cls := "ApologyUp", name := "route", desc := "(III)I" } : Jvm.MethodName)) ∈ lw_all := lw_g (lw_at lw_m5 120 rfl) rfl
theorem q1210 : (Jvm.Cond.selects "ApologyUp" ({ cls := "ApologyUp", name := "route", desc := "(III)I" } : Jvm.MethodName) ({ cls := "ApologyUp", name := "route", desc := "(III)I" } : Jvm.MethodName)) ∈ lw_all := lw_g (lw_at lw_m5 121 rfl) rfl
theorem q1211 : (Jvm.Cond.code ({ cls := "ApologyUp", name := "route", desc := "(III)I" } : Jvm.MethodName) prog_1_method_61_code (4 : Nat) (Option.some Jvm.ClassFile.FieldType.int)) ∈ lw_all := lw_g (lw_at lw_m5 122 rfl) rfl
theorem q1212 : (Jvm.Cond.methodLink "ApologyUp" (316 : Nat) ({ cls := "ApologyUp", name := "wanders", desc := "(IIIIIII)V" } : Jvm.MethodName)) ∈ lw_all := lw_g (lw_at lw_m5 123 rfl) rfl
theorem q1213 : (Jvm.Cond.privateMethod ({ cls := "ApologyUp", name := "wanders", desc := "(IIIIIII)V" } : Jvm.MethodName)) ∈ lw_tbl := lw_at lw_m5 124 rfl
theorem q1214 : (Jvm.Cond.instanceMethod ({ cls := "ApologyUp", name := "wanders", desc := "(IIIIIII)V" } : Jvm.MethodName)) ∈ lw_all := lw_g (lw_at lw_m5 125 rfl) rfl
theorem q1215 : (Jvm.Cond.code ({ cls := "ApologyUp", name := "wanders", desc := "(IIIIIII)V" } : Jvm.MethodName) prog_1_method_60_code (10 : Nat) (Option.none : Option Jvm.ClassFile.FieldType)) ∈ lw_all := lw_g (lw_at lw_m5 126 rfl) rfl
theorem q1217 : (Jvm.Cond.instanceMethod ({ cls := "ApologyUp", name := "pile", desc := "(I)I" } : Jvm.MethodName)) ∈ lw_all := lw_g (lw_at lw_m5 128 rfl) rfl
theorem q1218 : (Jvm.Cond.selects "ApologyUp" ({ cls := "ApologyUp", name := "pile", desc := "(I)I" } : Jvm.MethodName) ({ cls := "ApologyUp", name := "pile", desc := "(I)I" } : Jvm.MethodName)) ∈ lw_all := lw_g (lw_at lw_m5 129 rfl) rfl
theorem q1219 : (Jvm.Cond.code ({ cls := "ApologyUp", name := "pile", desc := "(I)I" } : Jvm.MethodName) prog_1_method_62_code (2 : Nat) (Option.some Jvm.ClassFile.FieldType.int)) ∈ lw_all := lw_g (lw_at lw_m5 130 rfl) rfl
theorem q1220 : (Jvm.Cond.methodLink "ApologyUp" (320 : Nat) ({ cls := "ApologyUp$State", name := "clears", desc := "(I)I" } : Jvm.MethodName)) ∈ lw_all := lw_g (lw_at lw_m5 131 rfl) rfl
theorem q1225 : (Jvm.Cond.instanceMethod ({ cls := "ApologyUp", name := "piles", desc := "(II)I" } : Jvm.MethodName)) ∈ lw_all := lw_g (lw_at lw_m5 136 rfl) rfl
theorem q1226 : (Jvm.Cond.selects "ApologyUp" ({ cls := "ApologyUp", name := "piles", desc := "(II)I" } : Jvm.MethodName) ({ cls := "ApologyUp", name := "piles", desc := "(II)I" } : Jvm.MethodName)) ∈ lw_all := lw_g (lw_at lw_m5 137 rfl) rfl
theorem q1227 : (Jvm.Cond.code ({ cls := "ApologyUp", name := "piles", desc := "(II)I" } : Jvm.MethodName) prog_1_method_64_code (5 : Nat) (Option.some Jvm.ClassFile.FieldType.int)) ∈ lw_all := lw_g (lw_at lw_m5 138 rfl) rfl
theorem q1228 : (Jvm.Cond.methodLink "ApologyUp" (334 : Nat) ({ cls := "ApologyUp", name := "laysPiles", desc := "(I)V" } : Jvm.MethodName)) ∈ lw_all := lw_g (lw_at lw_m5 139 rfl) rfl
theorem q1229 : (Jvm.Cond.privateMethod ({ cls := "ApologyUp", name := "laysPiles", desc := "(I)V" } : Jvm.MethodName)) ∈ lw_tbl := lw_at lw_m5 140 rfl
theorem q1230 : (Jvm.Cond.instanceMethod ({ cls := "ApologyUp", name := "laysPiles", desc := "(I)V" } : Jvm.MethodName)) ∈ lw_all := lw_g (lw_at lw_m5 141 rfl) rfl
theorem q1231 : (Jvm.Cond.code ({ cls := "ApologyUp", name := "laysPiles", desc := "(I)V" } : Jvm.MethodName) prog_1_method_63_code (5 : Nat) (Option.none : Option Jvm.ClassFile.FieldType)) ∈ lw_all := lw_g (lw_at lw_m5 142 rfl) rfl
theorem q1232 : (Jvm.Cond.methodLink "ApologyUp" (326 : Nat) ({ cls := "java/util/Arrays", name := "fill", desc := "([II)V" } : Jvm.MethodName)) ∈ lw_all := lw_g (lw_at lw_m5 143 rfl) rfl
theorem q1234 : (Jvm.Cond.instanceMethod ({ cls := "ApologyUp", name := "ask", desc := "(I)I" } : Jvm.MethodName)) ∈ lw_all := lw_g (lw_at lw_m5 145 rfl) rfl
theorem q1235 : (Jvm.Cond.selects "ApologyUp" ({ cls := "ApologyUp", name := "ask", desc := "(I)I" } : Jvm.MethodName) ({ cls := "ApologyUp", name := "ask", desc := "(I)I" } : Jvm.MethodName)) ∈ lw_all := lw_g (lw_at lw_m5 146 rfl) rfl
theorem q1236 : (Jvm.Cond.code ({ cls := "ApologyUp", name := "ask", desc := "(I)I" } : Jvm.MethodName) prog_1_method_65_code (5 : Nat) (Option.some Jvm.ClassFile.FieldType.int)) ∈ lw_all := lw_g (lw_at lw_m5 147 rfl) rfl
theorem q1237 : (Jvm.Cond.methodLink "ApologyUp" (337 : Nat) ({ cls := "java/lang/Math", name := "abs", desc := "(I)I" } : Jvm.MethodName)) ∈ lw_all := lw_g (lw_at lw_m5 148 rfl) rfl
theorem q1241 : (Jvm.Cond.instanceMethod ({ cls := "ApologyUp", name := "orders", desc := "()J" } : Jvm.MethodName)) ∈ lw_all := lw_g (lw_at lw_m5 152 rfl) rfl
theorem q1242 : (Jvm.Cond.selects "ApologyUp" ({ cls := "ApologyUp", name := "orders", desc := "()J" } : Jvm.MethodName) ({ cls := "ApologyUp", name := "orders", desc := "()J" } : Jvm.MethodName)) ∈ lw_all := lw_g (lw_at lw_m5 153 rfl) rfl
theorem q1243 : (Jvm.Cond.code ({ cls := "ApologyUp", name := "orders", desc := "()J" } : Jvm.MethodName) prog_1_method_66_code (6 : Nat) (Option.some Jvm.ClassFile.FieldType.long)) ∈ lw_all := lw_g (lw_at lw_m5 154 rfl) rfl
theorem q1244 : (Jvm.Cond.methodLink "ApologyUp" (340 : Nat) ({ cls := "java/lang/Integer", name := "bitCount", desc := "(I)I" } : Jvm.MethodName)) ∈ lw_all := lw_g (lw_at lw_m5 155 rfl) rfl
theorem q1251 : (Jvm.Cond.instanceMethod ({ cls := "ApologyUp", name := "first", desc := "(I)I" } : Jvm.MethodName)) ∈ lw_all := lw_g (lw_at lw_m5 162 rfl) rfl
theorem q1252 : (Jvm.Cond.selects "ApologyUp" ({ cls := "ApologyUp", name := "first", desc := "(I)I" } : Jvm.MethodName) ({ cls := "ApologyUp", name := "first", desc := "(I)I" } : Jvm.MethodName)) ∈ lw_all := lw_g (lw_at lw_m5 163 rfl) rfl
theorem q1253 : (Jvm.Cond.code ({ cls := "ApologyUp", name := "first", desc := "(I)I" } : Jvm.MethodName) prog_1_method_68_code (4 : Nat) (Option.some Jvm.ClassFile.FieldType.int)) ∈ lw_all := lw_g (lw_at lw_m5 164 rfl) rfl
theorem q1254 : (Jvm.Cond.methodLink "ApologyUp" (345 : Nat) ({ cls := "ApologyUp", name := "nextBehind", desc := "(I)I" } : Jvm.MethodName)) ∈ lw_all := lw_g (lw_at lw_m5 165 rfl) rfl
theorem q1255 : (Jvm.Cond.privateMethod ({ cls := "ApologyUp", name := "nextBehind", desc := "(I)I" } : Jvm.MethodName)) ∈ lw_tbl := lw_at lw_m5 166 rfl
theorem q1256 : (Jvm.Cond.instanceMethod ({ cls := "ApologyUp", name := "nextBehind", desc := "(I)I" } : Jvm.MethodName)) ∈ lw_all := lw_g (lw_at lw_m5 167 rfl) rfl
theorem q1257 : (Jvm.Cond.code ({ cls := "ApologyUp", name := "nextBehind", desc := "(I)I" } : Jvm.MethodName) prog_1_method_67_code (5 : Nat) (Option.some Jvm.ClassFile.FieldType.int)) ∈ lw_all := lw_g (lw_at lw_m5 168 rfl) rfl
theorem q1259 : (Jvm.Cond.instanceMethod ({ cls := "ApologyUp", name := "weigh", desc := "(II)Z" } : Jvm.MethodName)) ∈ lw_all := lw_g (lw_at lw_m5 170 rfl) rfl
theorem q1260 : (Jvm.Cond.selects "ApologyUp" ({ cls := "ApologyUp", name := "weigh", desc := "(II)Z" } : Jvm.MethodName) ({ cls := "ApologyUp", name := "weigh", desc := "(II)Z" } : Jvm.MethodName)) ∈ lw_all := lw_g (lw_at lw_m5 171 rfl) rfl
theorem q1261 : (Jvm.Cond.code ({ cls := "ApologyUp", name := "weigh", desc := "(II)Z" } : Jvm.MethodName) prog_1_method_69_code (3 : Nat) (Option.some Jvm.ClassFile.FieldType.boolean)) ∈ lw_all := lw_g (lw_at lw_m5 172 rfl) rfl
theorem q1263 : (Jvm.Cond.instanceMethod ({ cls := "ApologyUp", name := "apart", desc := "(Z)I" } : Jvm.MethodName)) ∈ lw_all := lw_g (lw_at lw_m5 174 rfl) rfl
theorem q1264 : (Jvm.Cond.selects "ApologyUp" ({ cls := "ApologyUp", name := "apart", desc := "(Z)I" } : Jvm.MethodName) ({ cls := "ApologyUp", name := "apart", desc := "(Z)I" } : Jvm.MethodName)) ∈ lw_all := lw_g (lw_at lw_m5 175 rfl) rfl
theorem q1265 : (Jvm.Cond.code ({ cls := "ApologyUp", name := "apart", desc := "(Z)I" } : Jvm.MethodName) prog_1_method_72_code (4 : Nat) (Option.some Jvm.ClassFile.FieldType.int)) ∈ lw_all := lw_g (lw_at lw_m5 176 rfl) rfl
theorem q1266 : (Jvm.Cond.methodLink "ApologyUp" (351 : Nat) ({ cls := "ApologyUp", name := "weightOf", desc := "(I)I" } : Jvm.MethodName)) ∈ lw_all := lw_g (lw_at lw_m5 177 rfl) rfl
theorem q1267 : (Jvm.Cond.privateMethod ({ cls := "ApologyUp", name := "weightOf", desc := "(I)I" } : Jvm.MethodName)) ∈ lw_tbl := lw_at lw_m5 178 rfl
theorem q1268 : (Jvm.Cond.instanceMethod ({ cls := "ApologyUp", name := "weightOf", desc := "(I)I" } : Jvm.MethodName)) ∈ lw_all := lw_g (lw_at lw_m5 179 rfl) rfl
theorem q1269 : (Jvm.Cond.code ({ cls := "ApologyUp", name := "weightOf", desc := "(I)I" } : Jvm.MethodName) prog_1_method_71_code (4 : Nat) (Option.some Jvm.ClassFile.FieldType.int)) ∈ lw_all := lw_g (lw_at lw_m5 180 rfl) rfl
theorem q1270 : (Jvm.Cond.methodLink "ApologyUp" (354 : Nat) ({ cls := "ApologyUp", name := "areApart", desc := "(I)Z" } : Jvm.MethodName)) ∈ lw_all := lw_g (lw_at lw_m5 181 rfl) rfl
theorem q1271 : (Jvm.Cond.privateMethod ({ cls := "ApologyUp", name := "areApart", desc := "(I)Z" } : Jvm.MethodName)) ∈ lw_tbl := lw_at lw_m5 182 rfl
theorem q1272 : (Jvm.Cond.instanceMethod ({ cls := "ApologyUp", name := "areApart", desc := "(I)Z" } : Jvm.MethodName)) ∈ lw_all := lw_g (lw_at lw_m5 183 rfl) rfl
theorem q1273 : (Jvm.Cond.code ({ cls := "ApologyUp", name := "areApart", desc := "(I)Z" } : Jvm.MethodName) prog_1_method_70_code (3 : Nat) (Option.some Jvm.ClassFile.FieldType.boolean)) ∈ lw_all := lw_g (lw_at lw_m5 184 rfl) rfl
theorem q1275 : (Jvm.Cond.instanceMethod ({ cls := "ApologyUp", name := "middle", desc := "()I" } : Jvm.MethodName)) ∈ lw_all := lw_g (lw_at lw_m5 186 rfl) rfl
theorem q1276 : (Jvm.Cond.selects "ApologyUp" ({ cls := "ApologyUp", name := "middle", desc := "()I" } : Jvm.MethodName) ({ cls := "ApologyUp", name := "middle", desc := "()I" } : Jvm.MethodName)) ∈ lw_all := lw_g (lw_at lw_m5 187 rfl) rfl
theorem q1277 : (Jvm.Cond.code ({ cls := "ApologyUp", name := "middle", desc := "()I" } : Jvm.MethodName) prog_1_method_74_code (3 : Nat) (Option.some Jvm.ClassFile.FieldType.int)) ∈ lw_all := lw_g (lw_at lw_m5 188 rfl) rfl
theorem q1278 : (Jvm.Cond.methodLink "ApologyUp" (357 : Nat) ({ cls := "ApologyUp", name := "allStepsOf", desc := "(I)I" } : Jvm.MethodName)) ∈ lw_all := lw_g (lw_at lw_m5 189 rfl) rfl
theorem q1279 : (Jvm.Cond.privateMethod ({ cls := "ApologyUp", name := "allStepsOf", desc := "(I)I" } : Jvm.MethodName)) ∈ lw_tbl := lw_at lw_m5 190 rfl
theorem q1280 : (Jvm.Cond.instanceMethod ({ cls := "ApologyUp", name := "allStepsOf", desc := "(I)I" } : Jvm.MethodName)) ∈ lw_all := lw_g (lw_at lw_m5 191 rfl) rfl
theorem q1281 : (Jvm.Cond.code ({ cls := "ApologyUp", name := "allStepsOf", desc := "(I)I" } : Jvm.MethodName) prog_1_method_73_code (4 : Nat) (Option.some Jvm.ClassFile.FieldType.int)) ∈ lw_all := lw_g (lw_at lw_m5 192 rfl) rfl
theorem q1283 : (Jvm.Cond.instanceMethod ({ cls := "ApologyUp", name := "longest", desc := "(Z)I" } : Jvm.MethodName)) ∈ lw_all := lw_g (lw_at lw_m5 194 rfl) rfl
theorem q1284 : (Jvm.Cond.selects "ApologyUp" ({ cls := "ApologyUp", name := "longest", desc := "(Z)I" } : Jvm.MethodName) ({ cls := "ApologyUp", name := "longest", desc := "(Z)I" } : Jvm.MethodName)) ∈ lw_all := lw_g (lw_at lw_m5 195 rfl) rfl
theorem q1285 : (Jvm.Cond.code ({ cls := "ApologyUp", name := "longest", desc := "(Z)I" } : Jvm.MethodName) prog_1_method_75_code (6 : Nat) (Option.some Jvm.ClassFile.FieldType.int)) ∈ lw_all := lw_g (lw_at lw_m5 196 rfl) rfl
theorem q1287 : (Jvm.Cond.instanceMethod ({ cls := "ApologyUp", name := "parts", desc := "(I)I" } : Jvm.MethodName)) ∈ lw_all := lw_g (lw_at lw_m5 198 rfl) rfl
theorem q1288 : (Jvm.Cond.selects "ApologyUp" ({ cls := "ApologyUp", name := "parts", desc := "(I)I" } : Jvm.MethodName) ({ cls := "ApologyUp", name := "parts", desc := "(I)I" } : Jvm.MethodName)) ∈ lw_all := lw_g (lw_at lw_m5 199 rfl) rfl
theorem q1289 : (Jvm.Cond.code ({ cls := "ApologyUp", name := "parts", desc := "(I)I" } : Jvm.MethodName) prog_1_method_76_code (4 : Nat) (Option.some Jvm.ClassFile.FieldType.int)) ∈ lw_all := lw_g (lw_at lw_m5 200 rfl) rfl
theorem q1291 : (Jvm.Cond.instanceMethod ({ cls := "ApologyUp", name := "deputies", desc := "()I" } : Jvm.MethodName)) ∈ lw_all := lw_g (lw_at lw_m5 202 rfl) rfl
theorem q1292 : (Jvm.Cond.selects "ApologyUp" ({ cls := "ApologyUp", name := "deputies", desc := "()I" } : Jvm.MethodName) ({ cls := "ApologyUp", name := "deputies", desc := "()I" } : Jvm.MethodName)) ∈ lw_all := lw_g (lw_at lw_m5 203 rfl) rfl
theorem q1293 : (Jvm.Cond.code ({ cls := "ApologyUp", name := "deputies", desc := "()I" } : Jvm.MethodName) prog_1_method_78_code (6 : Nat) (Option.some Jvm.ClassFile.FieldType.int)) ∈ lw_all := lw_g (lw_at lw_m5 204 rfl) rfl
theorem q1294 : (Jvm.Cond.methodLink "ApologyUp" (360 : Nat) ({ cls := "ApologyUp", name := "near", desc := "(I)I" } : Jvm.MethodName)) ∈ lw_all := lw_g (lw_at lw_m5 205 rfl) rfl
theorem q1295 : (Jvm.Cond.privateMethod ({ cls := "ApologyUp", name := "near", desc := "(I)I" } : Jvm.MethodName)) ∈ lw_tbl := lw_at lw_m5 206 rfl
theorem q1296 : (Jvm.Cond.instanceMethod ({ cls := "ApologyUp", name := "near", desc := "(I)I" } : Jvm.MethodName)) ∈ lw_all := lw_g (lw_at lw_m5 207 rfl) rfl
theorem q1297 : (Jvm.Cond.code ({ cls := "ApologyUp", name := "near", desc := "(I)I" } : Jvm.MethodName) prog_1_method_77_code (4 : Nat) (Option.some Jvm.ClassFile.FieldType.int)) ∈ lw_all := lw_g (lw_at lw_m5 208 rfl) rfl
theorem q1299 : (Jvm.Cond.instanceMethod ({ cls := "ApologyUp", name := "ranked", desc := "(IZ)I" } : Jvm.MethodName)) ∈ lw_all := lw_g (lw_at lw_m5 210 rfl) rfl
theorem q1300 : (Jvm.Cond.selects "ApologyUp" ({ cls := "ApologyUp", name := "ranked", desc := "(IZ)I" } : Jvm.MethodName) ({ cls := "ApologyUp", name := "ranked", desc := "(IZ)I" } : Jvm.MethodName)) ∈ lw_all := lw_g (lw_at lw_m5 211 rfl) rfl
theorem q1301 : (Jvm.Cond.code ({ cls := "ApologyUp", name := "ranked", desc := "(IZ)I" } : Jvm.MethodName) prog_1_method_79_code (7 : Nat) (Option.some Jvm.ClassFile.FieldType.int)) ∈ lw_all := lw_g (lw_at lw_m5 212 rfl) rfl
theorem q1303 : (Jvm.Cond.instanceMethod ({ cls := "ApologyUp", name := "owes", desc := "(III)Z" } : Jvm.MethodName)) ∈ lw_all := lw_g (lw_at lw_m5 214 rfl) rfl
theorem q1304 : (Jvm.Cond.selects "ApologyUp" ({ cls := "ApologyUp", name := "owes", desc := "(III)Z" } : Jvm.MethodName) ({ cls := "ApologyUp", name := "owes", desc := "(III)Z" } : Jvm.MethodName)) ∈ lw_all := lw_g (lw_at lw_m5 215 rfl) rfl
theorem q1305 : (Jvm.Cond.code ({ cls := "ApologyUp", name := "owes", desc := "(III)Z" } : Jvm.MethodName) prog_1_method_80_code (4 : Nat) (Option.some Jvm.ClassFile.FieldType.boolean)) ∈ lw_all := lw_g (lw_at lw_m5 216 rfl) rfl
theorem q1307 : (Jvm.Cond.instanceMethod ({ cls := "ApologyUp", name := "play", desc := "(IZ)I" } : Jvm.MethodName)) ∈ lw_all := lw_g (lw_at lw_m5 218 rfl) rfl
theorem q1308 : (Jvm.Cond.selects "ApologyUp" ({ cls := "ApologyUp", name := "play", desc := "(IZ)I" } : Jvm.MethodName) ({ cls := "ApologyUp", name := "play", desc := "(IZ)I" } : Jvm.MethodName)) ∈ lw_all := lw_g (lw_at lw_m5 219 rfl) rfl
theorem q1309 : (Jvm.Cond.code ({ cls := "ApologyUp", name := "play", desc := "(IZ)I" } : Jvm.MethodName) prog_1_method_81_code (8 : Nat) (Option.some Jvm.ClassFile.FieldType.int)) ∈ lw_all := lw_g (lw_at lw_m5 220 rfl) rfl
theorem q1311 : (Jvm.Cond.instanceMethod ({ cls := "ApologyUp", name := "added", desc := "(II)I" } : Jvm.MethodName)) ∈ lw_all := lw_g (lw_at lw_m5 222 rfl) rfl
theorem q1312 : (Jvm.Cond.selects "ApologyUp" ({ cls := "ApologyUp", name := "added", desc := "(II)I" } : Jvm.MethodName) ({ cls := "ApologyUp", name := "added", desc := "(II)I" } : Jvm.MethodName)) ∈ lw_all := lw_g (lw_at lw_m5 223 rfl) rfl
theorem q1313 : (Jvm.Cond.code ({ cls := "ApologyUp", name := "added", desc := "(II)I" } : Jvm.MethodName) prog_1_method_82_code (3 : Nat) (Option.some Jvm.ClassFile.FieldType.int)) ∈ lw_all := lw_g (lw_at lw_m5 224 rfl) rfl
theorem q1315 : (Jvm.Cond.instanceMethod ({ cls := "ApologyUp", name := "whose", desc := "()I" } : Jvm.MethodName)) ∈ lw_all := lw_g (lw_at lw_m5 226 rfl) rfl
theorem q1316 : (Jvm.Cond.selects "ApologyUp" ({ cls := "ApologyUp", name := "whose", desc := "()I" } : Jvm.MethodName) ({ cls := "ApologyUp", name := "whose", desc := "()I" } : Jvm.MethodName)) ∈ lw_all := lw_g (lw_at lw_m5 227 rfl) rfl
theorem q1317 : (Jvm.Cond.code ({ cls := "ApologyUp", name := "whose", desc := "()I" } : Jvm.MethodName) prog_1_method_84_code (3 : Nat) (Option.some Jvm.ClassFile.FieldType.int)) ∈ lw_all := lw_g (lw_at lw_m5 228 rfl) rfl
theorem q1318 : (Jvm.Cond.methodLink "ApologyUp" (369 : Nat) ({ cls := "ApologyUp", name := "isLaw", desc := "(LApologyUp$Text;)Z" } : Jvm.MethodName)) ∈ lw_all := lw_g (lw_at lw_m5 229 rfl) rfl
theorem q1319 : (Jvm.Cond.privateMethod ({ cls := "ApologyUp", name := "isLaw", desc := "(LApologyUp$Text;)Z" } : Jvm.MethodName)) ∈ lw_tbl := lw_at lw_m5 230 rfl
theorem q1320 : (Jvm.Cond.instanceMethod ({ cls := "ApologyUp", name := "isLaw", desc := "(LApologyUp$Text;)Z" } : Jvm.MethodName)) ∈ lw_all := lw_g (lw_at lw_m5 231 rfl) rfl
theorem q1321 : (Jvm.Cond.code ({ cls := "ApologyUp", name := "isLaw", desc := "(LApologyUp$Text;)Z" } : Jvm.MethodName) prog_1_method_83_code (3 : Nat) (Option.some Jvm.ClassFile.FieldType.boolean)) ∈ lw_all := lw_g (lw_at lw_m5 232 rfl) rfl
theorem q1323 : (Jvm.Cond.instanceMethod ({ cls := "ApologyUp", name := "stuck", desc := "()I" } : Jvm.MethodName)) ∈ lw_all := lw_g (lw_at lw_m5 234 rfl) rfl
theorem q1324 : (Jvm.Cond.selects "ApologyUp" ({ cls := "ApologyUp", name := "stuck", desc := "()I" } : Jvm.MethodName) ({ cls := "ApologyUp", name := "stuck", desc := "()I" } : Jvm.MethodName)) ∈ lw_all := lw_g (lw_at lw_m5 235 rfl) rfl
theorem q1325 : (Jvm.Cond.code ({ cls := "ApologyUp", name := "stuck", desc := "()I" } : Jvm.MethodName) prog_1_method_85_code (3 : Nat) (Option.some Jvm.ClassFile.FieldType.int)) ∈ lw_all := lw_g (lw_at lw_m5 236 rfl) rfl
theorem q1327 : (Jvm.Cond.instanceMethod ({ cls := "ApologyUp", name := "eldest", desc := "()I" } : Jvm.MethodName)) ∈ lw_all := lw_g (lw_at lw_m5 238 rfl) rfl
theorem q1328 : (Jvm.Cond.selects "ApologyUp" ({ cls := "ApologyUp", name := "eldest", desc := "()I" } : Jvm.MethodName) ({ cls := "ApologyUp", name := "eldest", desc := "()I" } : Jvm.MethodName)) ∈ lw_all := lw_g (lw_at lw_m5 239 rfl) rfl
theorem q1329 : (Jvm.Cond.code ({ cls := "ApologyUp", name := "eldest", desc := "()I" } : Jvm.MethodName) prog_1_method_86_code (3 : Nat) (Option.some Jvm.ClassFile.FieldType.int)) ∈ lw_all := lw_g (lw_at lw_m6 0 rfl) rfl
theorem q1331 : (Jvm.Cond.instanceMethod ({ cls := "ApologyUp", name := "sorry", desc := "(I)I" } : Jvm.MethodName)) ∈ lw_all := lw_g (lw_at lw_m6 2 rfl) rfl
theorem q1332 : (Jvm.Cond.selects "ApologyUp" ({ cls := "ApologyUp", name := "sorry", desc := "(I)I" } : Jvm.MethodName) ({ cls := "ApologyUp", name := "sorry", desc := "(I)I" } : Jvm.MethodName)) ∈ lw_all := lw_g (lw_at lw_m6 3 rfl) rfl
theorem q1333 : (Jvm.Cond.code ({ cls := "ApologyUp", name := "sorry", desc := "(I)I" } : Jvm.MethodName) prog_1_method_87_code (4 : Nat) (Option.some Jvm.ClassFile.FieldType.int)) ∈ lw_all := lw_g (lw_at lw_m6 4 rfl) rfl
theorem q1335 : (Jvm.Cond.instanceMethod ({ cls := "ApologyUp", name := "befell", desc := "(I)I" } : Jvm.MethodName)) ∈ lw_all := lw_g (lw_at lw_m6 6 rfl) rfl
theorem q1336 : (Jvm.Cond.selects "ApologyUp" ({ cls := "ApologyUp", name := "befell", desc := "(I)I" } : Jvm.MethodName) ({ cls := "ApologyUp", name := "befell", desc := "(I)I" } : Jvm.MethodName)) ∈ lw_all := lw_g (lw_at lw_m6 7 rfl) rfl
theorem q1337 : (Jvm.Cond.code ({ cls := "ApologyUp", name := "befell", desc := "(I)I" } : Jvm.MethodName) prog_1_method_88_code (4 : Nat) (Option.some Jvm.ClassFile.FieldType.int)) ∈ lw_all := lw_g (lw_at lw_m6 8 rfl) rfl
theorem q1339 : (Jvm.Cond.instanceMethod ({ cls := "ApologyUp", name := "image", desc := "()I" } : Jvm.MethodName)) ∈ lw_all := lw_g (lw_at lw_m6 10 rfl) rfl
theorem q1340 : (Jvm.Cond.selects "ApologyUp" ({ cls := "ApologyUp", name := "image", desc := "()I" } : Jvm.MethodName) ({ cls := "ApologyUp", name := "image", desc := "()I" } : Jvm.MethodName)) ∈ lw_all := lw_g (lw_at lw_m6 11 rfl) rfl
theorem q1341 : (Jvm.Cond.code ({ cls := "ApologyUp", name := "image", desc := "()I" } : Jvm.MethodName) prog_1_method_89_code (1 : Nat) (Option.some Jvm.ClassFile.FieldType.int)) ∈ lw_all := lw_g (lw_at lw_m6 12 rfl) rfl
theorem q1343 : (Jvm.Cond.instanceMethod ({ cls := "ApologyUp", name := "back", desc := "()I" } : Jvm.MethodName)) ∈ lw_all := lw_g (lw_at lw_m6 14 rfl) rfl
theorem q1344 : (Jvm.Cond.selects "ApologyUp" ({ cls := "ApologyUp", name := "back", desc := "()I" } : Jvm.MethodName) ({ cls := "ApologyUp", name := "back", desc := "()I" } : Jvm.MethodName)) ∈ lw_all := lw_g (lw_at lw_m6 15 rfl) rfl
theorem q1345 : (Jvm.Cond.code ({ cls := "ApologyUp", name := "back", desc := "()I" } : Jvm.MethodName) prog_1_method_90_code (1 : Nat) (Option.some Jvm.ClassFile.FieldType.int)) ∈ lw_all := lw_g (lw_at lw_m6 16 rfl) rfl
theorem q1347 : (Jvm.Cond.instanceMethod ({ cls := "ApologyUp", name := "about", desc := "(I)I" } : Jvm.MethodName)) ∈ lw_all := lw_g (lw_at lw_m6 18 rfl) rfl
theorem q1348 : (Jvm.Cond.selects "ApologyUp" ({ cls := "ApologyUp", name := "about", desc := "(I)I" } : Jvm.MethodName) ({ cls := "ApologyUp", name := "about", desc := "(I)I" } : Jvm.MethodName)) ∈ lw_all := lw_g (lw_at lw_m6 19 rfl) rfl
theorem q1349 : (Jvm.Cond.code ({ cls := "ApologyUp", name := "about", desc := "(I)I" } : Jvm.MethodName) prog_1_method_91_code (2 : Nat) (Option.some Jvm.ClassFile.FieldType.int)) ∈ lw_all := lw_g (lw_at lw_m6 20 rfl) rfl
theorem q2018 : (Jvm.Cond.castable "ApologyUp" "java/lang/Object") ∈ lw_tbl := lw_at lw_m8 209 rfl
theorem in_X0 : ∀ w ∈ wsX00, w ∈ lw_all := lw_in wsX00 [260, 262, 264, 266, 268, 270, 272, 274, 276, 278, 280, 282, 284, 286, 288] (by decide +kernel) (by decide +kernel)
